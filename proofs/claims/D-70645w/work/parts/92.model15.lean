set_option maxRecDepth 100000
set_option maxHeartbeats 4000000 in
theorem ct_X7_luck (l : Launch) (G : GG) (h : Nat) (ad : Nat → Nat) (i : Nat → Int32) (f : Nat → Int32) (N : Nat) (v : Int32) (c : Int32) (y : Int32) (n : Nat) (hN : i 1 = nI N) (hN5 : N ≤ 5) (hpl : okPl f n) : Ct l G yX7_luck (ws_ yX7_luck cX7_luck 4 (some .long)) ({ frames := 5, cells := 0, slots := 0, locals := 125 } : Room) [.ref h, .int v, .int c, .int y] [mO h ad i, (ad 0, .inl (G.2 0, 402, .inl f))] (fun u : (Nat → Int32) × (Nat → Int32) => some (.long (a_luck f N n v c y))) (fun u => Qf f u.1 ∧ Qi i u.2) (fun u => [mO h ad u.2, (ad 0, .inl (G.2 0, 402, .inl u.1))]) := by
  refine Ct.of rfl rfl ?_
  intro M el eG hnL C T
  subst el
  subst eG
  have C : Cx M cX7_luck "ClockWardModel" ({ frames := 5, cells := 0, slots := 0, locals := 125 } : Room) := C
  refine V.lvs [0, 1, 2, 3] (lv2 := [(0, .ref h), (1, .int v), (2, .int c), (3, .int y)]) rfl ?_
  refine V.iload_n (pc' := 1) C 1 dX7_luck_0 rfl rfl ?_
  refine V.i2l (pc' := 2) C dX7_luck_1 rfl ?_
  refine V.lconst (pc' := 3) C dX7_luck_2 rfl kcl_0 ?_
  refine V.ldc2 (pc' := 6) C dX7_luck_3 rfl q1229 ?_
  refine V.callS (pc' := 9) (wr := [mO h ad i, (ad 0, .inl (M.G.2 0, 402, .inl f))]) C (ct_X7_in M.l M.G v 0 10 ) dX7_luck_6 rfl (lw_S q1032 q1033 q71 q1034) hys_X7_in rfl rfl [] [0, 1] [0, 1] rfl rfl rfl (fun _ => [mO h ad i, (ad 0, .inl (M.G.2 0, 402, .inl f))]) (fun _ => rfl) rfl 0 0 rfl rfl (fun _ => [.int (bI (inI v 0 10))]) (fun _ => rfl) (fun _ _ => ?_)
  refine V.if_eqB (pc' := 12) C 40 dX7_luck_9 rfl rfl (fun h1 => ?_) (fun h1 => ?_)
  · refine V.ldc2 (pc' := 43) C dX7_luck_40 rfl q1266 ?_
    exact V.lret C T dX7_luck_43 (f, i) rfl (if_neg (fun z => h1 z.1)).symm ⟨Qf.rf _, Qi.rf _⟩ rfl rfl rfl
  · obtain ⟨vv, hvv, rfl⟩ := in_nat (m := 10) (by decide) h1
    refine V.aload_n (pc' := 13) C 0 dX7_luck_12 rfl rfl ?_
    refine V.iload_n (pc' := 14) C 2 dX7_luck_13 rfl rfl ?_
    refine V.callV (pc' := 17) (wr := [(ad 0, .inl (M.G.2 0, 402, .inl f))]) C (ct_X7_isClock M.l M.G h ad i N c hN hN5) dX7_luck_14 rfl (lw_V q1100 q1102 qs43 q71 q1103) hyv_X7_isClock rfl rfl 0 rfl rfl [0] [1] [1, 0] rfl rfl rfl (fun _ => [mO h ad i, (ad 0, .inl (M.G.2 0, 402, .inl f))]) (fun _ => rfl) rfl 0 0 rfl rfl (fun _ => [.int (bI (isC N c))]) (fun _ => rfl) (fun _ _ => ?_)
    refine V.if_eqB (pc' := 20) C 40 dX7_luck_17 rfl rfl (fun h2 => ?_) (fun h2 => ?_)
    · refine V.ldc2 (pc' := 43) C dX7_luck_40 rfl q1266 ?_
      exact V.lret C T dX7_luck_43 (f, i) rfl (if_neg (fun z => h2 z.2.1)).symm ⟨Qf.rf _, Qi.rf _⟩ rfl rfl rfl
    · obtain ⟨cc, hcc, rfl⟩ := isC_nat hN5 h2
      refine V.iload_n (pc' := 21) C 3 dX7_luck_20 rfl rfl ?_
      refine V.i2l (pc' := 22) C dX7_luck_21 rfl ?_
      refine V.lconst (pc' := 23) C dX7_luck_22 rfl kcl_0 ?_
      refine V.lconst (pc' := 24) C dX7_luck_23 rfl kcl_1 ?_
      refine V.callS (pc' := 27) (wr := [mO h ad i, (ad 0, .inl (M.G.2 0, 402, .inl f))]) C (ct_X7_in M.l M.G y 0 1 ) dX7_luck_24 rfl (lw_S q1032 q1033 q71 q1034) hys_X7_in rfl rfl [] [0, 1] [0, 1] rfl rfl rfl (fun _ => [mO h ad i, (ad 0, .inl (M.G.2 0, 402, .inl f))]) (fun _ => rfl) rfl 0 0 rfl rfl (fun _ => [.int (bI (inI y 0 1))]) (fun _ => rfl) (fun _ _ => ?_)
      refine V.if_eqB (pc' := 30) C 40 dX7_luck_27 rfl rfl (fun h3 => ?_) (fun h3 => ?_)
      · refine V.ldc2 (pc' := 43) C dX7_luck_40 rfl q1266 ?_
        exact V.lret C T dX7_luck_43 (f, i) rfl (if_neg (fun z => h3 z.2.2)).symm ⟨Qf.rf _, Qi.rf _⟩ rfl rfl rfl
      · refine V.aload_n (pc' := 31) C 0 dX7_luck_30 rfl rfl ?_
        refine V.iload_n (pc' := 32) C 1 dX7_luck_31 rfl rfl ?_
        refine V.iload_n (pc' := 33) C 2 dX7_luck_32 rfl rfl ?_
        refine V.iload_n (pc' := 34) C 3 dX7_luck_33 rfl rfl ?_
        refine V.callV (pc' := 37) (wr := []) C (ct_X7_byRejL M.l M.G h ad i f N vv cc y n hN hN5 hpl hvv (by omega)) dX7_luck_34 rfl (lw_V q1259 q1261 qs60 q71 q1262) hyv_X7_byRejected rfl rfl 0 rfl rfl [0, 1] [] [0, 1] rfl rfl rfl (fun u4 => [mO h ad u4.2, (ad 0, .inl (M.G.2 0, 402, .inl u4.1))]) (fun _ => rfl) rfl 0 0 rfl rfl (fun u4 => [.long (lowR (odT f n vv N (wtL cc) 64) (awT f n 6) y)]) (fun _ => rfl) (fun u4 hu4 => ?_)
        refine V.goto C 43 dX7_luck_37 rfl ?_
        exact V.lret C T dX7_luck_43 (u4.1, u4.2) rfl (Eq.trans (by rw [cn_nI (by omega), cn_nI (by omega)]) (if_pos ⟨h1, h2, h3⟩).symm) hu4 rfl rfl rfl
set_option maxHeartbeats 4000000 in
theorem ct_X7_mean (l : Launch) (G : GG) (h : Nat) (ad : Nat → Nat) (i : Nat → Int32) (f : Nat → Int32) (N : Nat) (v : Int32) (y : Int32) (n : Nat) (hN : i 1 = nI N) (hN5 : N ≤ 5) (hpl : okPl f n) : Ct l G yX7_mean (ws_ yX7_mean cX7_mean 3 (some .long)) ({ frames := 5, cells := 0, slots := 0, locals := 125 } : Room) [.ref h, .int v, .int y] [mO h ad i, (ad 0, .inl (G.2 0, 402, .inl f))] (fun u : (Nat → Int32) × (Nat → Int32) => some (.long (a_mean f N n v y))) (fun u => Qf f u.1 ∧ Qi i u.2) (fun u => [mO h ad u.2, (ad 0, .inl (G.2 0, 402, .inl u.1))]) := by
  refine Ct.of rfl rfl ?_
  intro M el eG hnL C T
  subst el
  subst eG
  have C : Cx M cX7_mean "ClockWardModel" ({ frames := 5, cells := 0, slots := 0, locals := 125 } : Room) := C
  refine V.lvs [0, 1, 2] (lv2 := [(0, .ref h), (1, .int v), (2, .int y)]) rfl ?_
  refine V.iload_n (pc' := 1) C 1 dX7_mean_0 rfl rfl ?_
  refine V.i2l (pc' := 2) C dX7_mean_1 rfl ?_
  refine V.lconst (pc' := 3) C dX7_mean_2 rfl kcl_0 ?_
  refine V.ldc2 (pc' := 6) C dX7_mean_3 rfl q1229 ?_
  refine V.callS (pc' := 9) (wr := [mO h ad i, (ad 0, .inl (M.G.2 0, 402, .inl f))]) C (ct_X7_in M.l M.G v 0 10 ) dX7_mean_6 rfl (lw_S q1032 q1033 q71 q1034) hys_X7_in rfl rfl [] [0, 1] [0, 1] rfl rfl rfl (fun _ => [mO h ad i, (ad 0, .inl (M.G.2 0, 402, .inl f))]) (fun _ => rfl) rfl 0 0 rfl rfl (fun _ => [.int (bI (inI v 0 10))]) (fun _ => rfl) (fun _ _ => ?_)
  refine V.if_eqB (pc' := 12) C 33 dX7_mean_9 rfl rfl (fun h1 => ?_) (fun h1 => ?_)
  · refine V.ldc2 (pc' := 36) C dX7_mean_33 rfl q1266 ?_
    exact V.lret C T dX7_mean_36 (f, i) rfl (if_neg (fun z => h1 z.1)).symm ⟨Qf.rf _, Qi.rf _⟩ rfl rfl rfl
  · obtain ⟨vv, hvv, rfl⟩ := in_nat (m := 10) (by decide) h1
    refine V.iload_n (pc' := 13) C 2 dX7_mean_12 rfl rfl ?_
    refine V.i2l (pc' := 14) C dX7_mean_13 rfl ?_
    refine V.lconst (pc' := 15) C dX7_mean_14 rfl kcl_0 ?_
    refine V.lconst (pc' := 16) C dX7_mean_15 rfl kcl_1 ?_
    refine V.callS (pc' := 19) (wr := [mO h ad i, (ad 0, .inl (M.G.2 0, 402, .inl f))]) C (ct_X7_in M.l M.G y 0 1 ) dX7_mean_16 rfl (lw_S q1032 q1033 q71 q1034) hys_X7_in rfl rfl [] [0, 1] [0, 1] rfl rfl rfl (fun _ => [mO h ad i, (ad 0, .inl (M.G.2 0, 402, .inl f))]) (fun _ => rfl) rfl 0 0 rfl rfl (fun _ => [.int (bI (inI y 0 1))]) (fun _ => rfl) (fun _ _ => ?_)
    refine V.if_eqB (pc' := 22) C 33 dX7_mean_19 rfl rfl (fun h2 => ?_) (fun h2 => ?_)
    · refine V.ldc2 (pc' := 36) C dX7_mean_33 rfl q1266 ?_
      exact V.lret C T dX7_mean_36 (f, i) rfl (if_neg (fun z => h2 z.2)).symm ⟨Qf.rf _, Qi.rf _⟩ rfl rfl rfl
    · refine V.aload_n (pc' := 23) C 0 dX7_mean_22 rfl rfl ?_
      refine V.iload_n (pc' := 24) C 1 dX7_mean_23 rfl rfl ?_
      refine V.bipush (pc' := 26) C dX7_mean_24 rfl kcb_m4 ?_
      refine V.iload_n (pc' := 27) C 2 dX7_mean_26 rfl rfl ?_
      refine V.callV (pc' := 30) (wr := []) C (ct_X7_byRejM M.l M.G h ad i f N vv y n hN hN5 hpl hvv) dX7_mean_27 rfl (lw_V q1259 q1261 qs60 q71 q1262) hyv_X7_byRejected rfl rfl 0 rfl rfl [0, 1] [] [0, 1] rfl rfl rfl (fun u3 => [mO h ad u3.2, (ad 0, .inl (M.G.2 0, 402, .inl u3.1))]) (fun _ => rfl) rfl 0 0 rfl rfl (fun u3 => [.long (lowR (odT f n vv N wtM 64) (awT f n 6) y)]) (fun _ => rfl) (fun u3 hu3 => ?_)
      refine V.goto C 36 dX7_mean_30 rfl ?_
      exact V.lret C T dX7_mean_36 (u3.1, u3.2) rfl (Eq.trans (by rw [cn_nI (by omega)]) (if_pos ⟨h1, h2⟩).symm) hu3 rfl rfl rfl
