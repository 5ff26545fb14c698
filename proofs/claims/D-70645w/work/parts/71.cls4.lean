set_option maxRecDepth 100000
set_option maxHeartbeats 4000000 in
theorem ct_X0_forget (l : Launch) (G : GG) (ad : Nat → Nat) (i : Nat → Int32) (j : Nat → Int64) (x : Int32) (sm : Nat) (ht : i 7 = nI sm) (ht2 : sm ≤ 160) : Ct l G yX0_forget (ws_ yX0_forget cX0_forget 3 (some .int)) ({ frames := 1, cells := 0, slots := 0, locals := 25 } : Room) [.ref (ad 0), .int x] [xO ad i j] (fun _ : Unit => some (.int (a_end sm x))) (fun _ => True) (fun _ => [xO ad (upd i 7 (nI (n_end sm x))) j]) := by
  refine Ct.of rfl rfl ?_
  intro M el eG hnL C T
  subst el
  subst eG
  have C : Cx M cX0_forget "ClockWard" ({ frames := 1, cells := 0, slots := 0, locals := 25 } : Room) := C
  refine V.lvs [0, 1] (lv2 := [(0, .ref (ad 0)), (1, .int x)]) rfl ?_
  refine V.iload_n (pc' := 1) C 1 dX0_forget_0 rfl rfl ?_
  refine V.i2l (pc' := 2) C dX0_forget_1 rfl ?_
  refine V.lconst (pc' := 3) C dX0_forget_2 rfl kcl_0 ?_
  refine V.aload_n (pc' := 4) C 0 dX0_forget_3 rfl rfl ?_
  refine V.get (pc' := 7) C dX0_forget_4 rfl 0 rfl rfl in_X0 7 rfl q189 rfl ?_
  refine V.topI ht ?_
  refine V.i2l (pc' := 8) C dX0_forget_7 rfl ?_
  refine V.callS (pc' := 11) (wr := [xO ad i j]) C (ct_X0_in M.l M.G x 0 (nI sm) ) dX0_forget_8 rfl (lw_S q261 q262 q64 q263) hys_X0_in rfl rfl [] [0] [0] rfl rfl rfl (fun _ => [xO ad i j]) (fun _ => rfl) rfl 0 0 rfl rfl (fun _ => [.int (bI (inI x 0 (nI sm)))]) (fun _ => rfl) (fun _ _ => ?_)
  refine V.if_neB (pc' := 14) C 16 dX0_forget_11 rfl rfl (fun h1 => ?_) (fun h1 => ?_)
  · obtain ⟨jj, hjj, rfl⟩ := inI_nat (by omega) h1
    refine V.aload_n (pc' := 17) C 0 dX0_forget_16 rfl rfl ?_
    refine V.get (pc' := 20) C dX0_forget_17 rfl 0 rfl rfl in_X0 7 rfl q189 rfl ?_
    refine V.topI ht ?_
    refine V.istore_n (pc' := 21) C [(2, .int (nI sm)), (0, .ref (ad 0)), (1, .int (nI jj))] dX0_forget_20 rfl 3 hnL rfl rfl ?_
    refine V.aload_n (pc' := 22) C 1 dX0_forget_21 rfl rfl ?_
    refine V.iload_n (pc' := 23) C 2 dX0_forget_22 rfl rfl ?_
    refine V.put (pc' := 26) C [(ad 0, .inr (0, [.ref (ad 1), .ref (ad 6), .ref (ad 10), .ref (ad 14), .ref (ad 18), .int (i 5), .ref (ad 27), .int (nI jj), .int (i 8), .int (i 9), .ref (ad 28), .int (i 11), .int (i 12), .int (i 13), .int (i 14), .int (i 15), .ref (ad 29), .long (j 17), .long (j 18), .long (j 19), .ref (ad 30), .ref (ad 31), .ref (ad 32), .int (i 23)]))] dX0_forget_23 rfl 0 rfl rfl in_X0 tyX0_ok nmX0 7 rfl q189 rfl rfl rfl rfl rfl ?_
    refine V.iload_n (pc' := 27) C 0 dX0_forget_26 rfl rfl ?_
    exact V.iret C T dX0_forget_27 () rfl rfl (by unfold a_end; rw [if_pos h1]) rfl trivial (by unfold n_end; rw [if_pos h1, cn_nI (by omega)]; first | rfl | (rw [← ht]; rfl)) rfl rfl
  · refine V.iconst (pc' := 15) C dX0_forget_14 rfl kci_m1 ?_
    exact V.iret C T dX0_forget_15 () rfl rfl (by unfold a_end; rw [if_neg h1]) rfl trivial (by unfold n_end; rw [if_neg h1]; first | rfl | (rw [← ht]; rfl)) rfl rfl
set_option maxHeartbeats 4000000 in
theorem ct_X0_see (l : Launch) (G : GG) (ad : Nat → Nat) (i : Nat → Int32) (j : Nat → Int64) (N : Nat) (g : Pg) (sn : Nat → Int32) (x : Int32) (y : Int32) (v : Int32) (sm : Nat) (hN5 : N ≤ 5) (hs : i 7 = nI sm) (hs6 : sm ≤ 6) : Ct l G yX0_see (ws_ yX0_see cX0_see 4 (some .int)) ({ frames := 2, cells := 0, slots := 0, locals := 46 } : Room) [.ref (ad 0), .int x, .int y, .int v] [xO ad i j, wO (ad 6) (ad 7) (ad 8) (ad 9) N g, (ad 7, .inl (G.2 1, 20, .inl (wcl g))), (ad 8, .inl (G.2 0, 25, .inl (wgt g))), (ad 9, .inl (G.2 1, 18, .inl (wpl g))), (ad 27, .inl (G.2 1, 18, .inl sn))] (fun _ : Unit => some (.int (a_see N sm x y v))) (fun _ => True) (fun _ => [xO ad (upd i 7 (nI (n_see N sm x y v))) j, wO (ad 6) (ad 7) (ad 8) (ad 9) N g, (ad 7, .inl (G.2 1, 20, .inl (wcl g))), (ad 8, .inl (G.2 0, 25, .inl (wgt g))), (ad 9, .inl (G.2 1, 18, .inl (wpl g))), (ad 27, .inl (G.2 1, 18, .inl (g_see sn N sm x y v)))]) := by
  refine Ct.of rfl rfl ?_
  intro M el eG hnL C T
  subst el
  subst eG
  have C : Cx M cX0_see "ClockWard" ({ frames := 2, cells := 0, slots := 0, locals := 46 } : Room) := C
  refine V.lvs [0, 1, 2, 3] (lv2 := [(0, .ref (ad 0)), (1, .int x), (2, .int y), (3, .int v)]) rfl ?_
  refine V.aload_n (pc' := 1) C 0 dX0_see_0 rfl rfl ?_
  refine V.iload_n (pc' := 2) C 1 dX0_see_1 rfl rfl ?_
  refine V.callV (pc' := 5) (wr := [(ad 27, .inl (M.G.2 1, 18, .inl sn))]) C (ct_X0_isClock M.l M.G ad i j N g x ) dX0_see_2 rfl (lw_V q535 q537 qs13 q64 q538) hyv_X0_isClock rfl rfl 0 rfl rfl [0, 1, 2, 3, 4] [5] [1, 2, 3, 4, 5, 0] rfl rfl rfl (fun _ => [xO ad i j, wO (ad 6) (ad 7) (ad 8) (ad 9) N g, (ad 7, .inl (M.G.2 1, 20, .inl (wcl g))), (ad 8, .inl (M.G.2 0, 25, .inl (wgt g))), (ad 9, .inl (M.G.2 1, 18, .inl (wpl g))), (ad 27, .inl (M.G.2 1, 18, .inl sn))]) (fun _ => rfl) rfl 0 0 rfl rfl (fun _ => [.int (bI (isC N x))]) (fun _ => rfl) (fun _ _ => ?_)
  refine V.if_eqB (pc' := 8) C 32 dX0_see_5 rfl rfl (fun h1 => ?_) (fun h1 => ?_)
  · refine V.iconst (pc' := 33) C dX0_see_32 rfl kci_m1 ?_
    exact V.iret C T dX0_see_33 () rfl rfl (by unfold a_see; rw [if_neg (fun z => h1 z.1)]) rfl trivial (by unfold n_see g_see; rw [if_neg (fun z => h1 z.1), if_neg (fun z => h1 z.1)]; first | rfl | (rw [← hs]; rfl)) rfl rfl
  · refine V.iload_n (pc' := 9) C 2 dX0_see_8 rfl rfl ?_
    refine V.i2l (pc' := 10) C dX0_see_9 rfl ?_
    refine V.lconst (pc' := 11) C dX0_see_10 rfl kcl_0 ?_
    refine V.ldc2 (pc' := 14) C dX0_see_11 rfl q759 ?_
    refine V.callS (pc' := 17) (wr := [xO ad i j, wO (ad 6) (ad 7) (ad 8) (ad 9) N g, (ad 7, .inl (M.G.2 1, 20, .inl (wcl g))), (ad 8, .inl (M.G.2 0, 25, .inl (wgt g))), (ad 9, .inl (M.G.2 1, 18, .inl (wpl g))), (ad 27, .inl (M.G.2 1, 18, .inl sn))]) C (ct_X0_in M.l M.G y 0 20 ) dX0_see_14 rfl (lw_S q261 q262 q64 q263) hys_X0_in rfl rfl [] [0, 1, 2, 3, 4, 5] [0, 1, 2, 3, 4, 5] rfl rfl rfl (fun _ => [xO ad i j, wO (ad 6) (ad 7) (ad 8) (ad 9) N g, (ad 7, .inl (M.G.2 1, 20, .inl (wcl g))), (ad 8, .inl (M.G.2 0, 25, .inl (wgt g))), (ad 9, .inl (M.G.2 1, 18, .inl (wpl g))), (ad 27, .inl (M.G.2 1, 18, .inl sn))]) (fun _ => rfl) rfl 0 0 rfl rfl (fun _ => [.int (bI (inI y 0 20))]) (fun _ => rfl) (fun _ _ => ?_)
    refine V.if_eqB (pc' := 20) C 32 dX0_see_17 rfl rfl (fun h2 => ?_) (fun h2 => ?_)
    · refine V.iconst (pc' := 33) C dX0_see_32 rfl kci_m1 ?_
      exact V.iret C T dX0_see_33 () rfl rfl (by unfold a_see; rw [if_neg (fun z => h2 z.2.1)]) rfl trivial (by unfold n_see g_see; rw [if_neg (fun z => h2 z.2.1), if_neg (fun z => h2 z.2.1)]; first | rfl | (rw [← hs]; rfl)) rfl rfl
    · refine V.iload_n (pc' := 21) C 3 dX0_see_20 rfl rfl ?_
      refine V.i2l (pc' := 22) C dX0_see_21 rfl ?_
      refine V.lconst (pc' := 23) C dX0_see_22 rfl kcl_0 ?_
      refine V.ldc2 (pc' := 26) C dX0_see_23 rfl q760 ?_
      refine V.callS (pc' := 29) (wr := [xO ad i j, wO (ad 6) (ad 7) (ad 8) (ad 9) N g, (ad 7, .inl (M.G.2 1, 20, .inl (wcl g))), (ad 8, .inl (M.G.2 0, 25, .inl (wgt g))), (ad 9, .inl (M.G.2 1, 18, .inl (wpl g))), (ad 27, .inl (M.G.2 1, 18, .inl sn))]) C (ct_X0_in M.l M.G v 0 99 ) dX0_see_26 rfl (lw_S q261 q262 q64 q263) hys_X0_in rfl rfl [] [0, 1, 2, 3, 4, 5] [0, 1, 2, 3, 4, 5] rfl rfl rfl (fun _ => [xO ad i j, wO (ad 6) (ad 7) (ad 8) (ad 9) N g, (ad 7, .inl (M.G.2 1, 20, .inl (wcl g))), (ad 8, .inl (M.G.2 0, 25, .inl (wgt g))), (ad 9, .inl (M.G.2 1, 18, .inl (wpl g))), (ad 27, .inl (M.G.2 1, 18, .inl sn))]) (fun _ => rfl) rfl 0 0 rfl rfl (fun _ => [.int (bI (inI v 0 99))]) (fun _ => rfl) (fun _ _ => ?_)
      refine V.if_neB (pc' := 32) C 34 dX0_see_29 rfl rfl (fun h3 => ?_) (fun h3 => ?_)
      · have hf3 := in_fit (inI_up h3 (by decide))
        have hf2 := in_fit (inI_up h2 (by decide))
        have hf1 := isC_fit (by omega) h1
        refine V.aload_n (pc' := 35) C 0 dX0_see_34 rfl rfl ?_
        refine V.get (pc' := 38) C dX0_see_35 rfl 0 rfl rfl in_X0 7 rfl q189 rfl ?_
        refine V.topI hs ?_
        refine V.bipush (pc' := 40) C dX0_see_38 rfl kcb_6 ?_
        refine V.icmp_neN (pc' := 43) C sm 6 (by omega) (by omega) 46 dX0_see_40 rfl rfl (fun h4 => ?_) (fun h4 => ?_)
        · refine V.aload_n (pc' := 47) C 0 dX0_see_46 rfl rfl ?_
          refine V.get (pc' := 50) C dX0_see_47 rfl 0 rfl rfl in_X0 6 rfl q188 rfl ?_
          refine V.iconst (pc' := 51) C dX0_see_50 rfl kci_3 ?_
          refine V.aload_n (pc' := 52) C 0 dX0_see_51 rfl rfl ?_
          refine V.get (pc' := 55) C dX0_see_52 rfl 0 rfl rfl in_X0 7 rfl q189 rfl ?_
          refine V.topI hs ?_
          refine V.imulN (pc' := 56) C 3 sm dX0_see_55 rfl ?_
          refine V.iload_n (pc' := 57) C 1 dX0_see_56 rfl rfl ?_
          refine V.i2b (pc' := 58) C dX0_see_57 rfl ?_
          refine V.bast (pc' := 59) C (3 * sm) [xO ad i j, wO (ad 6) (ad 7) (ad 8) (ad 9) N g, (ad 7, .inl (M.G.2 1, 20, .inl (wcl g))), (ad 8, .inl (M.G.2 0, 25, .inl (wgt g))), (ad 9, .inl (M.G.2 1, 18, .inl (wpl g))), (ad 27, .inl (M.G.2 1, 18, .inl (upd sn (3 * sm) x)))] dX0_see_58 rfl 5 rfl (by omega) rfl x ((pk_vb _).trans hf1) rfl ?_
          refine V.aload_n (pc' := 60) C 0 dX0_see_59 rfl rfl ?_
          refine V.get (pc' := 63) C dX0_see_60 rfl 0 rfl rfl in_X0 6 rfl q188 rfl ?_
          refine V.iconst (pc' := 64) C dX0_see_63 rfl kci_3 ?_
          refine V.aload_n (pc' := 65) C 0 dX0_see_64 rfl rfl ?_
          refine V.get (pc' := 68) C dX0_see_65 rfl 0 rfl rfl in_X0 7 rfl q189 rfl ?_
          refine V.topI hs ?_
          refine V.imulN (pc' := 69) C 3 sm dX0_see_68 rfl ?_
          refine V.iconst (pc' := 70) C dX0_see_69 rfl kci_1 ?_
          refine V.iaddN (pc' := 71) C (3 * sm) 1 dX0_see_70 rfl ?_
          refine V.iload_n (pc' := 72) C 2 dX0_see_71 rfl rfl ?_
          refine V.i2b (pc' := 73) C dX0_see_72 rfl ?_
          refine V.bast (pc' := 74) C (3 * sm + 1) [xO ad i j, wO (ad 6) (ad 7) (ad 8) (ad 9) N g, (ad 7, .inl (M.G.2 1, 20, .inl (wcl g))), (ad 8, .inl (M.G.2 0, 25, .inl (wgt g))), (ad 9, .inl (M.G.2 1, 18, .inl (wpl g))), (ad 27, .inl (M.G.2 1, 18, .inl (upd (upd sn (3 * sm) x) (3 * sm + 1) y)))] dX0_see_73 rfl 5 rfl (by omega) rfl y ((pk_vb _).trans hf2) rfl ?_
          refine V.aload_n (pc' := 75) C 0 dX0_see_74 rfl rfl ?_
          refine V.get (pc' := 78) C dX0_see_75 rfl 0 rfl rfl in_X0 6 rfl q188 rfl ?_
          refine V.iconst (pc' := 79) C dX0_see_78 rfl kci_3 ?_
          refine V.aload_n (pc' := 80) C 0 dX0_see_79 rfl rfl ?_
          refine V.get (pc' := 83) C dX0_see_80 rfl 0 rfl rfl in_X0 7 rfl q189 rfl ?_
          refine V.topI hs ?_
          refine V.imulN (pc' := 84) C 3 sm dX0_see_83 rfl ?_
          refine V.iconst (pc' := 85) C dX0_see_84 rfl kci_2 ?_
          refine V.iaddN (pc' := 86) C (3 * sm) 2 dX0_see_85 rfl ?_
          refine V.iload_n (pc' := 87) C 3 dX0_see_86 rfl rfl ?_
          refine V.i2b (pc' := 88) C dX0_see_87 rfl ?_
          refine V.bast (pc' := 89) C (3 * sm + 2) [xO ad i j, wO (ad 6) (ad 7) (ad 8) (ad 9) N g, (ad 7, .inl (M.G.2 1, 20, .inl (wcl g))), (ad 8, .inl (M.G.2 0, 25, .inl (wgt g))), (ad 9, .inl (M.G.2 1, 18, .inl (wpl g))), (ad 27, .inl (M.G.2 1, 18, .inl (upd (upd (upd sn (3 * sm) x) (3 * sm + 1) y) (3 * sm + 2) v)))] dX0_see_88 rfl 5 rfl (by omega) rfl v ((pk_vb _).trans hf3) rfl ?_
          refine V.aload_n (pc' := 90) C 0 dX0_see_89 rfl rfl ?_
          refine V.dup (pc' := 91) C rfl dX0_see_90 rfl ?_
          refine V.get (pc' := 94) C dX0_see_91 rfl 0 rfl rfl in_X0 7 rfl q189 rfl ?_
          refine V.topI hs ?_
          refine V.iconst (pc' := 95) C dX0_see_94 rfl kci_1 ?_
          refine V.iaddN (pc' := 96) C sm 1 dX0_see_95 rfl ?_
          refine V.put (pc' := 99) C [(ad 0, .inr (0, [.ref (ad 1), .ref (ad 6), .ref (ad 10), .ref (ad 14), .ref (ad 18), .int (i 5), .ref (ad 27), .int (nI (sm + 1)), .int (i 8), .int (i 9), .ref (ad 28), .int (i 11), .int (i 12), .int (i 13), .int (i 14), .int (i 15), .ref (ad 29), .long (j 17), .long (j 18), .long (j 19), .ref (ad 30), .ref (ad 31), .ref (ad 32), .int (i 23)])), wO (ad 6) (ad 7) (ad 8) (ad 9) N g, (ad 7, .inl (M.G.2 1, 20, .inl (wcl g))), (ad 8, .inl (M.G.2 0, 25, .inl (wgt g))), (ad 9, .inl (M.G.2 1, 18, .inl (wpl g))), (ad 27, .inl (M.G.2 1, 18, .inl (upd (upd (upd sn (3 * sm) x) (3 * sm + 1) y) (3 * sm + 2) v)))] dX0_see_96 rfl 0 rfl rfl in_X0 tyX0_ok nmX0 7 rfl q189 rfl rfl rfl rfl rfl ?_
          refine V.aload_n (pc' := 100) C 0 dX0_see_99 rfl rfl ?_
          refine V.get (pc' := 103) C dX0_see_100 rfl 0 rfl rfl in_X0 7 rfl q189 rfl ?_
          exact V.iret C T dX0_see_103 () rfl rfl (by unfold a_see; rw [if_pos ⟨h1, h2, h3⟩, if_neg h4]) rfl trivial (by unfold n_see g_see; rw [if_pos ⟨h1, h2, h3⟩, if_neg h4, if_pos ⟨h1, h2, h3⟩, if_neg h4]; first | rfl | (rw [← hs]; rfl)) rfl rfl
        · refine V.bipush (pc' := 45) C dX0_see_43 rfl kcb_m3 ?_
          exact V.iret C T dX0_see_45 () rfl rfl (by unfold a_see; rw [if_pos ⟨h1, h2, h3⟩, if_pos h4]) rfl trivial (by unfold n_see g_see; rw [if_pos ⟨h1, h2, h3⟩, if_pos h4, if_pos ⟨h1, h2, h3⟩, if_pos h4]; first | rfl | (rw [← hs]; rfl)) rfl rfl
      · refine V.iconst (pc' := 33) C dX0_see_32 rfl kci_m1 ?_
        exact V.iret C T dX0_see_33 () rfl rfl (by unfold a_see; rw [if_neg (fun z => h3 z.2.2)]) rfl trivial (by unfold n_see g_see; rw [if_neg (fun z => h3 z.2.2), if_neg (fun z => h3 z.2.2)]; first | rfl | (rw [← hs]; rfl)) rfl rfl
