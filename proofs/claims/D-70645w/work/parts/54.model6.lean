set_option maxRecDepth 100000
set_option maxHeartbeats 4000000 in
theorem ct_X7_keep (l : Launch) (G : GG) (h : Nat) (ad : Nat → Nat) (i : Nat → Int32) (f : Nat → Int32) (ik : Nat → Int32) (x : Int32)  : Ct l G yX7_keep (ws_ yX7_keep cX7_keep 3 (some .int)) ({ frames := 1, cells := 0, slots := 0, locals := 25 } : Room) [.ref h, .int x] [mO h ad i, (ad 0, .inl (G.2 0, 402, .inl f)), (ad 27, .inl (G.2 3, 2, .inl ik))] (fun _ : Unit => some (.int (a_keep ik x))) (fun _ => True) (fun _ => [mO h ad i, (ad 0, .inl (G.2 0, 402, .inl (g_keep f x))), (ad 27, .inl (G.2 3, 2, .inl (k_keep ik x)))]) := by
  refine Ct.of rfl rfl ?_
  intro M el eG hnL C T
  subst el
  subst eG
  have C : Cx M cX7_keep "ClockWardModel" ({ frames := 1, cells := 0, slots := 0, locals := 25 } : Room) := C
  refine V.lvs [0, 1] (lv2 := [(0, .ref h), (1, .int x)]) rfl ?_
  refine V.iload_n (pc' := 1) C 1 dX7_keep_0 rfl rfl ?_
  refine V.i2l (pc' := 2) C dX7_keep_1 rfl ?_
  refine V.lconst (pc' := 3) C dX7_keep_2 rfl kcl_0 ?_
  refine V.lconst (pc' := 4) C dX7_keep_3 rfl kcl_1 ?_
  refine V.callS (pc' := 7) (wr := [mO h ad i, (ad 0, .inl (M.G.2 0, 402, .inl f)), (ad 27, .inl (M.G.2 3, 2, .inl ik))]) C (ct_X7_in M.l M.G x 0 1 ) dX7_keep_4 rfl (lw_S q1032 q1033 q71 q1034) hys_X7_in rfl rfl [] [0, 1, 2] [0, 1, 2] rfl rfl rfl (fun _ => [mO h ad i, (ad 0, .inl (M.G.2 0, 402, .inl f)), (ad 27, .inl (M.G.2 3, 2, .inl ik))]) (fun _ => rfl) rfl 0 0 rfl rfl (fun _ => [.int (bI (inI x 0 1))]) (fun _ => rfl) (fun _ _ => ?_)
  refine V.if_neB (pc' := 10) C 12 dX7_keep_7 rfl rfl (fun h1 => ?_) (fun h1 => ?_)
  · obtain ⟨k, hk, rfl⟩ := in_nat (m := 1) (by decide) h1
    refine V.aload_n (pc' := 13) C 0 dX7_keep_12 rfl rfl ?_
    refine V.iconst (pc' := 14) C dX7_keep_13 rfl kci_0 ?_
    refine V.bipush (pc' := 16) C dX7_keep_14 rfl kcb_67 ?_
    refine V.iload_n (pc' := 17) C 1 dX7_keep_16 rfl rfl ?_
    refine V.iconst (pc' := 18) C dX7_keep_17 rfl kci_1 ?_
    refine V.iaddN (pc' := 19) C k 1 dX7_keep_18 rfl ?_
    refine V.imulN (pc' := 20) C 67 (k + 1) dX7_keep_19 rfl ?_
    refine V.callV (pc' := 23) (wr := [(ad 27, .inl (M.G.2 3, 2, .inl ik))]) C (ct_X7_copies M.l M.G h ad i f 0 (67 * (k + 1)) (by omega) (by omega) (by omega)) dX7_keep_20 rfl (lw_V q1197 q1199 qs55 q71 q1200) hyv_X7_copies rfl rfl 0 rfl rfl [0, 1] [2] [1, 2, 0] rfl rfl rfl (fun _ => [mO h ad i, (ad 0, .inl (M.G.2 0, 402, .inl (va_cpy f f 0 (67 * (k + 1)) 67))), (ad 27, .inl (M.G.2 3, 2, .inl ik))]) (fun _ => rfl) rfl 0 0 rfl rfl (fun _ => []) (fun _ => rfl) (fun _ _ => ?_)
    refine V.aload_n (pc' := 24) C 0 dX7_keep_23 rfl rfl ?_
    refine V.get (pc' := 27) C dX7_keep_24 rfl 0 rfl rfl in_X7 27 rfl q956 rfl ?_
    refine V.iload_n (pc' := 28) C 1 dX7_keep_27 rfl rfl ?_
    refine V.zald (pc' := 29) C k dX7_keep_28 rfl 2 rfl (by omega) rfl ?_
    have J4 : ∀ (x3 : Int32), x3 = (if (ik k) = 0 then 0 else 1) → V M 0 0 [mO h ad i, (ad 0, .inl (M.G.2 0, 402, .inl (va_cpy f f 0 (67 * (k + 1)) 67))), (ad 27, .inl (M.G.2 3, 2, .inl ik))] [(0, .ref h), (1, .int (nI k))] [.int x3] 37 := by
      intro x3 ex3
      have ex3 : x3 = bI (¬ ((ik k) = 0)) := ex3.trans it_01
      subst ex3
      refine V.istore_n (pc' := 38) C [(2, .int (bI (¬ ((ik k) = 0)))), (0, .ref h), (1, .int (nI k))] dX7_keep_37 rfl 3 hnL rfl rfl ?_
      refine V.aload_n (pc' := 39) C 1 dX7_keep_38 rfl rfl ?_
      refine V.get (pc' := 42) C dX7_keep_39 rfl 0 rfl rfl in_X7 27 rfl q956 rfl ?_
      refine V.iload_n (pc' := 43) C 2 dX7_keep_42 rfl rfl ?_
      refine V.iconst (pc' := 44) C dX7_keep_43 rfl kci_1 ?_
      refine V.zast (pc' := 45) C k [mO h ad i, (ad 0, .inl (M.G.2 0, 402, .inl (va_cpy f f 0 (67 * (k + 1)) 67))), (ad 27, .inl (M.G.2 3, 2, .inl (upd ik k 1)))] dX7_keep_44 rfl 2 rfl (by omega) rfl 1 (by decide) rfl ?_
      refine V.iload_n (pc' := 46) C 0 dX7_keep_45 rfl rfl ?_
      exact V.iret C T dX7_keep_46 () rfl rfl (by unfold a_keep; rw [if_pos h1, cn_nI (by omega)]) rfl trivial (by unfold g_keep k_keep; rw [if_pos h1, if_pos h1, cn_nI (by omega)]) rfl rfl
    refine V.if_eq (pc' := 32) C 36 dX7_keep_29 rfl rfl (fun h2 => ?_) (fun h2 => ?_)
    · refine V.iconst (pc' := 37) C dX7_keep_36 rfl kci_0 ?_
      exact J4 _ (by rw [if_pos h2])
    · refine V.iconst (pc' := 33) C dX7_keep_32 rfl kci_1 ?_
      refine V.goto C 37 dX7_keep_33 rfl ?_
      exact J4 _ (by rw [if_neg h2])
  · refine V.iconst (pc' := 11) C dX7_keep_10 rfl kci_m1 ?_
    exact V.iret C T dX7_keep_11 () rfl rfl (by unfold a_keep; rw [if_neg h1]) rfl trivial (by unfold g_keep k_keep; rw [if_neg h1, if_neg h1]) rfl rfl
set_option maxHeartbeats 4000000 in
theorem ct_X7_back (l : Launch) (G : GG) (h : Nat) (ad : Nat → Nat) (i : Nat → Int32) (f : Nat → Int32) (ik : Nat → Int32) (x : Int32)  : Ct l G yX7_back (ws_ yX7_back cX7_back 2 (some .int)) ({ frames := 1, cells := 0, slots := 0, locals := 25 } : Room) [.ref h, .int x] [mO h ad i, (ad 0, .inl (G.2 0, 402, .inl f)), (ad 27, .inl (G.2 3, 2, .inl ik))] (fun _ : Unit => some (.int (a_back f ik x))) (fun _ => True) (fun _ => [mO h ad i, (ad 0, .inl (G.2 0, 402, .inl (g_back f ik x))), (ad 27, .inl (G.2 3, 2, .inl ik))]) := by
  refine Ct.of rfl rfl ?_
  intro M el eG hnL C T
  subst el
  subst eG
  have C : Cx M cX7_back "ClockWardModel" ({ frames := 1, cells := 0, slots := 0, locals := 25 } : Room) := C
  refine V.lvs [0, 1] (lv2 := [(0, .ref h), (1, .int x)]) rfl ?_
  refine V.iload_n (pc' := 1) C 1 dX7_back_0 rfl rfl ?_
  refine V.i2l (pc' := 2) C dX7_back_1 rfl ?_
  refine V.lconst (pc' := 3) C dX7_back_2 rfl kcl_0 ?_
  refine V.lconst (pc' := 4) C dX7_back_3 rfl kcl_1 ?_
  refine V.callS (pc' := 7) (wr := [mO h ad i, (ad 0, .inl (M.G.2 0, 402, .inl f)), (ad 27, .inl (M.G.2 3, 2, .inl ik))]) C (ct_X7_in M.l M.G x 0 1 ) dX7_back_4 rfl (lw_S q1032 q1033 q71 q1034) hys_X7_in rfl rfl [] [0, 1, 2] [0, 1, 2] rfl rfl rfl (fun _ => [mO h ad i, (ad 0, .inl (M.G.2 0, 402, .inl f)), (ad 27, .inl (M.G.2 3, 2, .inl ik))]) (fun _ => rfl) rfl 0 0 rfl rfl (fun _ => [.int (bI (inI x 0 1))]) (fun _ => rfl) (fun _ _ => ?_)
  refine V.if_neB (pc' := 10) C 12 dX7_back_7 rfl rfl (fun h1 => ?_) (fun h1 => ?_)
  · obtain ⟨k, hk, rfl⟩ := in_nat (m := 1) (by decide) h1
    refine V.aload_n (pc' := 13) C 0 dX7_back_12 rfl rfl ?_
    refine V.get (pc' := 16) C dX7_back_13 rfl 0 rfl rfl in_X7 27 rfl q956 rfl ?_
    refine V.iload_n (pc' := 17) C 1 dX7_back_16 rfl rfl ?_
    refine V.zald (pc' := 18) C k dX7_back_17 rfl 2 rfl (by omega) rfl ?_
    refine V.if_ne (pc' := 21) C 24 dX7_back_18 rfl rfl (fun h2 => ?_) (fun h2 => ?_)
    · refine V.aload_n (pc' := 25) C 0 dX7_back_24 rfl rfl ?_
      refine V.bipush (pc' := 27) C dX7_back_25 rfl kcb_67 ?_
      refine V.iload_n (pc' := 28) C 1 dX7_back_27 rfl rfl ?_
      refine V.iconst (pc' := 29) C dX7_back_28 rfl kci_1 ?_
      refine V.iaddN (pc' := 30) C k 1 dX7_back_29 rfl ?_
      refine V.imulN (pc' := 31) C 67 (k + 1) dX7_back_30 rfl ?_
      refine V.iconst (pc' := 32) C dX7_back_31 rfl kci_0 ?_
      refine V.callV (pc' := 35) (wr := [(ad 27, .inl (M.G.2 3, 2, .inl ik))]) C (ct_X7_copies M.l M.G h ad i f (67 * (k + 1)) 0 (by omega) (by omega) (by omega)) dX7_back_32 rfl (lw_V q1197 q1199 qs55 q71 q1200) hyv_X7_copies rfl rfl 0 rfl rfl [0, 1] [2] [1, 2, 0] rfl rfl rfl (fun _ => [mO h ad i, (ad 0, .inl (M.G.2 0, 402, .inl (va_cpy f f (67 * (k + 1)) 0 67))), (ad 27, .inl (M.G.2 3, 2, .inl ik))]) (fun _ => rfl) rfl 0 0 rfl rfl (fun _ => []) (fun _ => rfl) (fun _ _ => ?_)
      refine V.aload_n (pc' := 36) C 0 dX7_back_35 rfl rfl ?_
      refine V.get (pc' := 39) C dX7_back_36 rfl 0 rfl rfl in_X7 0 rfl q929 rfl ?_
      refine V.bipush (pc' := 41) C dX7_back_39 rfl kcb_21 ?_
      refine V.iald (pc' := 42) C 21 dX7_back_41 rfl 1 rfl (by omega) rfl ?_
      refine V.topI (y := f (67 * (k + 1) + 21)) cpy_21 ?_
      exact V.iret C T dX7_back_42 () rfl rfl (by unfold a_back; rw [if_pos h1, cn_nI (by omega), if_neg h2]) rfl trivial (by unfold g_back; rw [if_pos h1, cn_nI (by omega), if_neg h2]) rfl rfl
    · refine V.bipush (pc' := 23) C dX7_back_21 rfl kcb_m2 ?_
      exact V.iret C T dX7_back_23 () rfl rfl (by unfold a_back; rw [if_pos h1, cn_nI (by omega), if_pos h2]) rfl trivial (by unfold g_back; rw [if_pos h1, cn_nI (by omega), if_pos h2]) rfl rfl
  · refine V.iconst (pc' := 11) C dX7_back_10 rfl kci_m1 ?_
    exact V.iret C T dX7_back_11 () rfl rfl (by unfold a_back; rw [if_neg h1]) rfl trivial (by unfold g_back; rw [if_neg h1]) rfl rfl
set_option maxHeartbeats 4000000 in
theorem ct_X7_sheet (l : Launch) (G : GG) (h : Nat) (ad : Nat → Nat) (i : Nat → Int32) (la : Nat → Int32) (ln : Nat → Int32) (ce : Nat → Int32) (x : Int32) (y : Int32) (n : Int32)  : Ct l G yX7_sheet (ws_ yX7_sheet cX7_sheet 5 (some .int)) ({ frames := 1, cells := 0, slots := 0, locals := 25 } : Room) [.ref h, .int x, .int y, .int n] [mO h ad i, (ad 28, .inl (G.2 0, 4, .inl la)), (ad 29, .inl (G.2 0, 4, .inl ln)), (ad 30, .inl (G.2 0, 160, .inl ce))] (fun _ : Unit => some (.int (a_sheet x y n))) (fun _ => True) (fun _ => [mO h ad i, (ad 28, .inl (G.2 0, 4, .inl (l_sheet la x y n y))), (ad 29, .inl (G.2 0, 4, .inl (l_sheet ln x y n n))), (ad 30, .inl (G.2 0, 160, .inl (c_sheet ce x y n)))]) := by
  refine Ct.of rfl rfl ?_
  intro M el eG hnL C T
  subst el
  subst eG
  have C : Cx M cX7_sheet "ClockWardModel" ({ frames := 1, cells := 0, slots := 0, locals := 25 } : Room) := C
  refine V.lvs [0, 1, 2, 3] (lv2 := [(0, .ref h), (1, .int x), (2, .int y), (3, .int n)]) rfl ?_
  refine V.iload_n (pc' := 1) C 1 dX7_sheet_0 rfl rfl ?_
  refine V.i2l (pc' := 2) C dX7_sheet_1 rfl ?_
  refine V.lconst (pc' := 3) C dX7_sheet_2 rfl kcl_0 ?_
  refine V.ldc2 (pc' := 6) C dX7_sheet_3 rfl q1129 ?_
  refine V.callS (pc' := 9) (wr := [mO h ad i, (ad 28, .inl (M.G.2 0, 4, .inl la)), (ad 29, .inl (M.G.2 0, 4, .inl ln)), (ad 30, .inl (M.G.2 0, 160, .inl ce))]) C (ct_X7_in M.l M.G x 0 3 ) dX7_sheet_6 rfl (lw_S q1032 q1033 q71 q1034) hys_X7_in rfl rfl [] [0, 1, 2, 3] [0, 1, 2, 3] rfl rfl rfl (fun _ => [mO h ad i, (ad 28, .inl (M.G.2 0, 4, .inl la)), (ad 29, .inl (M.G.2 0, 4, .inl ln)), (ad 30, .inl (M.G.2 0, 160, .inl ce))]) (fun _ => rfl) rfl 0 0 rfl rfl (fun _ => [.int (bI (inI x 0 3))]) (fun _ => rfl) (fun _ _ => ?_)
  refine V.if_eqB (pc' := 12) C 30 dX7_sheet_9 rfl rfl (fun h1 => ?_) (fun h1 => ?_)
  · refine V.iconst (pc' := 31) C dX7_sheet_30 rfl kci_m1 ?_
    exact V.iret C T dX7_sheet_31 () rfl rfl (by unfold a_sheet; rw [if_neg (fun z => h1 z.1)]) rfl trivial (by unfold l_sheet c_sheet; rw [if_neg (fun z => h1 z.1), if_neg (fun z => h1 z.1), if_neg (fun z => h1 z.1)]) rfl rfl
  · obtain ⟨k, hk, rfl⟩ := in_nat (m := 3) (by decide) h1
    refine V.iload_n (pc' := 13) C 2 dX7_sheet_12 rfl rfl ?_
    refine V.i2l (pc' := 14) C dX7_sheet_13 rfl ?_
    refine V.lconst (pc' := 15) C dX7_sheet_14 rfl kcl_0 ?_
    refine V.ldc2 (pc' := 18) C dX7_sheet_15 rfl q1124 ?_
    refine V.callS (pc' := 21) (wr := [mO h ad i, (ad 28, .inl (M.G.2 0, 4, .inl la)), (ad 29, .inl (M.G.2 0, 4, .inl ln)), (ad 30, .inl (M.G.2 0, 160, .inl ce))]) C (ct_X7_in M.l M.G y 0 2 ) dX7_sheet_18 rfl (lw_S q1032 q1033 q71 q1034) hys_X7_in rfl rfl [] [0, 1, 2, 3] [0, 1, 2, 3] rfl rfl rfl (fun _ => [mO h ad i, (ad 28, .inl (M.G.2 0, 4, .inl la)), (ad 29, .inl (M.G.2 0, 4, .inl ln)), (ad 30, .inl (M.G.2 0, 160, .inl ce))]) (fun _ => rfl) rfl 0 0 rfl rfl (fun _ => [.int (bI (inI y 0 2))]) (fun _ => rfl) (fun _ _ => ?_)
    refine V.if_eqB (pc' := 24) C 30 dX7_sheet_21 rfl rfl (fun h2 => ?_) (fun h2 => ?_)
    · refine V.iconst (pc' := 31) C dX7_sheet_30 rfl kci_m1 ?_
      exact V.iret C T dX7_sheet_31 () rfl rfl (by unfold a_sheet; rw [if_neg (fun z => h2 z.2.1)]) rfl trivial (by unfold l_sheet c_sheet; rw [if_neg (fun z => h2 z.2.1), if_neg (fun z => h2 z.2.1), if_neg (fun z => h2 z.2.1)]) rfl rfl
    · refine V.iload_n (pc' := 25) C 3 dX7_sheet_24 rfl rfl ?_
      refine V.bipush (pc' := 27) C dX7_sheet_25 rfl kcb_40 ?_
      refine V.icmp_le (pc' := 30) C 32 dX7_sheet_27 rfl rfl (fun h3 => ?_) (fun h3 => ?_)
      · refine V.iload_n (pc' := 33) C 3 dX7_sheet_32 rfl rfl ?_
        refine V.if_ge (pc' := 36) C 39 dX7_sheet_33 rfl rfl (fun h4 => ?_) (fun h4 => ?_)
        · refine V.aload_n (pc' := 40) C 0 dX7_sheet_39 rfl rfl ?_
          refine V.get (pc' := 43) C dX7_sheet_40 rfl 0 rfl rfl in_X7 28 rfl q957 rfl ?_
          refine V.iload_n (pc' := 44) C 1 dX7_sheet_43 rfl rfl ?_
          refine V.iload_n (pc' := 45) C 2 dX7_sheet_44 rfl rfl ?_
          refine V.iast (pc' := 46) C k [mO h ad i, (ad 28, .inl (M.G.2 0, 4, .inl (upd la k y))), (ad 29, .inl (M.G.2 0, 4, .inl ln)), (ad 30, .inl (M.G.2 0, 160, .inl ce))] dX7_sheet_45 rfl 1 rfl (by omega) rfl y rfl rfl ?_
          refine V.aload_n (pc' := 47) C 0 dX7_sheet_46 rfl rfl ?_
          refine V.get (pc' := 50) C dX7_sheet_47 rfl 0 rfl rfl in_X7 29 rfl q958 rfl ?_
          refine V.iload_n (pc' := 51) C 1 dX7_sheet_50 rfl rfl ?_
          refine V.iload_n (pc' := 52) C 3 dX7_sheet_51 rfl rfl ?_
          refine V.iast (pc' := 53) C k [mO h ad i, (ad 28, .inl (M.G.2 0, 4, .inl (upd la k y))), (ad 29, .inl (M.G.2 0, 4, .inl (upd ln k n))), (ad 30, .inl (M.G.2 0, 160, .inl ce))] dX7_sheet_52 rfl 2 rfl (by omega) rfl n rfl rfl ?_
          refine V.iconst (pc' := 54) C dX7_sheet_53 rfl kci_0 ?_
          refine V.istore (pc' := 56) C [(4, .int 0), (0, .ref h), (1, .int (nI k)), (2, .int y), (3, .int n)] dX7_sheet_54 rfl 5 hnL rfl rfl ?_
          have L5 : ∀ j : Nat, j ≤ 40 → V M 0 0 [mO h ad i, (ad 28, .inl (M.G.2 0, 4, .inl (upd la k y))), (ad 29, .inl (M.G.2 0, 4, .inl (upd ln k n))), (ad 30, .inl (M.G.2 0, 160, .inl (zer ce (40 * k) j)))] [(0, .ref h), (1, .int (nI k)), (2, .int y), (3, .int n), (4, .int (nI j))] [] 56 := by
            refine loopN _ 40 (fun j hj ih_L5 => ?_)
            refine V.iload (pc' := 58) C 4 dX7_sheet_56 rfl rfl ?_
            refine V.bipush (pc' := 60) C dX7_sheet_58 rfl kcb_40 ?_
            refine V.icmp_geN (pc' := 63) C j 40 (by omega) (by omega) 82 dX7_sheet_60 rfl rfl (fun h6 => ?_) (fun h6 => ?_)
            · have hx7 : 40 = j := by omega
              subst hx7
              refine V.iconst (pc' := 83) C dX7_sheet_82 rfl kci_1 ?_
              exact V.iret C T dX7_sheet_83 () rfl rfl (by unfold a_sheet; rw [if_pos ⟨h1, h2, h3⟩, if_pos h4]) rfl trivial (by unfold l_sheet c_sheet; rw [if_pos ⟨h1, h2, h3⟩, if_pos h4, if_pos ⟨h1, h2, h3⟩, if_pos h4, if_pos ⟨h1, h2, h3⟩, if_pos h4, cn_nI (by omega)]) rfl rfl
            · refine V.aload_n (pc' := 64) C 0 dX7_sheet_63 rfl rfl ?_
              refine V.get (pc' := 67) C dX7_sheet_64 rfl 0 rfl rfl in_X7 30 rfl q959 rfl ?_
              refine V.bipush (pc' := 69) C dX7_sheet_67 rfl kcb_40 ?_
              refine V.iload_n (pc' := 70) C 1 dX7_sheet_69 rfl rfl ?_
              refine V.imulN (pc' := 71) C 40 k dX7_sheet_70 rfl ?_
              refine V.iload (pc' := 73) C 4 dX7_sheet_71 rfl rfl ?_
              refine V.iaddN (pc' := 74) C (40 * k) j dX7_sheet_73 rfl ?_
              refine V.iconst (pc' := 75) C dX7_sheet_74 rfl kci_0 ?_
              refine V.iast (pc' := 76) C (40 * k + j) [mO h ad i, (ad 28, .inl (M.G.2 0, 4, .inl (upd la k y))), (ad 29, .inl (M.G.2 0, 4, .inl (upd ln k n))), (ad 30, .inl (M.G.2 0, 160, .inl (upd (zer ce (40 * k) j) (40 * k + j) 0)))] dX7_sheet_75 rfl 3 rfl (by omega) rfl 0 rfl rfl ?_
              refine V.iinc (pc' := 79) C (nI (j + 1)) [(4, .int (nI (j + 1))), (0, .ref h), (1, .int (nI k)), (2, .int y), (3, .int n)] dX7_sheet_76 rfl 5 hnL rfl 4 rfl (ii_N j 1 rfl) rfl ?_
              refine V.goto C 56 dX7_sheet_79 rfl ?_
              refine V.lvs [1, 2, 3, 4, 0] (lv2 := [(0, .ref h), (1, .int (nI k)), (2, .int y), (3, .int n), (4, .int (nI (j + 1)))]) rfl ?_
              refine V.weq (ws2 := [mO h ad i, (ad 28, .inl (M.G.2 0, 4, .inl (upd la k y))), (ad 29, .inl (M.G.2 0, 4, .inl (upd ln k n))), (ad 30, .inl (M.G.2 0, 160, .inl (zer ce (40 * k) (j + 1))))]) (by rw [zer_s]) ?_
              exact ih_L5 (by omega)
          refine V.lvs [1, 2, 3, 4, 0] (lv2 := [(0, .ref h), (1, .int (nI k)), (2, .int y), (3, .int n), (4, .int (nI 0))]) rfl ?_
          refine V.weq (ws2 := [mO h ad i, (ad 28, .inl (M.G.2 0, 4, .inl (upd la k y))), (ad 29, .inl (M.G.2 0, 4, .inl (upd ln k n))), (ad 30, .inl (M.G.2 0, 160, .inl (zer ce (40 * k) 0)))]) (by rw [zer_0]) ?_
          exact L5 0 (by omega)
        · refine V.bipush (pc' := 38) C dX7_sheet_36 rfl kcb_m14 ?_
          exact V.iret C T dX7_sheet_38 () rfl rfl (by unfold a_sheet; rw [if_pos ⟨h1, h2, h3⟩, if_neg h4]) rfl trivial (by unfold l_sheet c_sheet; rw [if_pos ⟨h1, h2, h3⟩, if_neg h4, if_pos ⟨h1, h2, h3⟩, if_neg h4, if_pos ⟨h1, h2, h3⟩, if_neg h4]) rfl rfl
      · refine V.iconst (pc' := 31) C dX7_sheet_30 rfl kci_m1 ?_
        exact V.iret C T dX7_sheet_31 () rfl rfl (by unfold a_sheet; rw [if_neg (fun z => h3 z.2.2)]) rfl trivial (by unfold l_sheet c_sheet; rw [if_neg (fun z => h3 z.2.2), if_neg (fun z => h3 z.2.2), if_neg (fun z => h3 z.2.2)]) rfl rfl
set_option maxHeartbeats 4000000 in
theorem ct_X7_lay (l : Launch) (G : GG) (h : Nat) (ad : Nat → Nat) (i : Nat → Int32) (la : Nat → Int32) (ln : Nat → Int32) (ce : Nat → Int32) (x : Int32) (y : Int32) (v : Int32) (hL : okLn ln) : Ct l G yX7_lay (ws_ yX7_lay cX7_lay 4 (some .int)) ({ frames := 1, cells := 0, slots := 0, locals := 25 } : Room) [.ref h, .int x, .int y, .int v] [mO h ad i, (ad 28, .inl (G.2 0, 4, .inl la)), (ad 29, .inl (G.2 0, 4, .inl ln)), (ad 30, .inl (G.2 0, 160, .inl ce))] (fun _ : Unit => some (.int (a_lay la ln x y))) (fun _ => True) (fun _ => [mO h ad i, (ad 28, .inl (G.2 0, 4, .inl la)), (ad 29, .inl (G.2 0, 4, .inl ln)), (ad 30, .inl (G.2 0, 160, .inl (g_lay ce la ln x y v)))]) := by
  refine Ct.of rfl rfl ?_
  intro M el eG hnL C T
  subst el
  subst eG
  have C : Cx M cX7_lay "ClockWardModel" ({ frames := 1, cells := 0, slots := 0, locals := 25 } : Room) := C
  refine V.lvs [0, 1, 2, 3] (lv2 := [(0, .ref h), (1, .int x), (2, .int y), (3, .int v)]) rfl ?_
  refine V.iload_n (pc' := 1) C 1 dX7_lay_0 rfl rfl ?_
  refine V.i2l (pc' := 2) C dX7_lay_1 rfl ?_
  refine V.lconst (pc' := 3) C dX7_lay_2 rfl kcl_0 ?_
  refine V.ldc2 (pc' := 6) C dX7_lay_3 rfl q1129 ?_
  refine V.callS (pc' := 9) (wr := [mO h ad i, (ad 28, .inl (M.G.2 0, 4, .inl la)), (ad 29, .inl (M.G.2 0, 4, .inl ln)), (ad 30, .inl (M.G.2 0, 160, .inl ce))]) C (ct_X7_in M.l M.G x 0 3 ) dX7_lay_6 rfl (lw_S q1032 q1033 q71 q1034) hys_X7_in rfl rfl [] [0, 1, 2, 3] [0, 1, 2, 3] rfl rfl rfl (fun _ => [mO h ad i, (ad 28, .inl (M.G.2 0, 4, .inl la)), (ad 29, .inl (M.G.2 0, 4, .inl ln)), (ad 30, .inl (M.G.2 0, 160, .inl ce))]) (fun _ => rfl) rfl 0 0 rfl rfl (fun _ => [.int (bI (inI x 0 3))]) (fun _ => rfl) (fun _ _ => ?_)
  refine V.if_neB (pc' := 12) C 14 dX7_lay_9 rfl rfl (fun h1 => ?_) (fun h1 => ?_)
  · obtain ⟨k, hk, rfl⟩ := in_nat (m := 3) (by decide) h1
    obtain ⟨hln, hl40⟩ := hL k (by omega)
    refine V.aload_n (pc' := 15) C 0 dX7_lay_14 rfl rfl ?_
    refine V.get (pc' := 18) C dX7_lay_15 rfl 0 rfl rfl in_X7 28 rfl q957 rfl ?_
    refine V.iload_n (pc' := 19) C 1 dX7_lay_18 rfl rfl ?_
    refine V.iald (pc' := 20) C k dX7_lay_19 rfl 1 rfl (by omega) rfl ?_
    refine V.bipush (pc' := 22) C dX7_lay_20 rfl kcb_m4 ?_
    refine V.icmp_ne (pc' := 25) C 28 dX7_lay_22 rfl rfl (fun h2 => ?_) (fun h2 => ?_)
    · refine V.iload_n (pc' := 29) C 2 dX7_lay_28 rfl rfl ?_
      refine V.i2l (pc' := 30) C dX7_lay_29 rfl ?_
      refine V.lconst (pc' := 31) C dX7_lay_30 rfl kcl_0 ?_
      refine V.aload_n (pc' := 32) C 0 dX7_lay_31 rfl rfl ?_
      refine V.get (pc' := 35) C dX7_lay_32 rfl 0 rfl rfl in_X7 29 rfl q958 rfl ?_
      refine V.iload_n (pc' := 36) C 1 dX7_lay_35 rfl rfl ?_
      refine V.iald (pc' := 37) C k dX7_lay_36 rfl 2 rfl (by omega) rfl ?_
      refine V.topI hln ?_
      refine V.iconst (pc' := 38) C dX7_lay_37 rfl kci_1 ?_
      refine V.isub (pc' := 39) C dX7_lay_38 rfl ?_
      refine V.i2l (pc' := 40) C dX7_lay_39 rfl ?_
      refine V.callS (pc' := 43) (wr := [mO h ad i, (ad 28, .inl (M.G.2 0, 4, .inl la)), (ad 29, .inl (M.G.2 0, 4, .inl ln)), (ad 30, .inl (M.G.2 0, 160, .inl ce))]) C (ct_X7_in M.l M.G y 0 ((nI (pN ln k)) - 1) ) dX7_lay_40 rfl (lw_S q1032 q1033 q71 q1034) hys_X7_in rfl rfl [] [0, 1, 2, 3] [0, 1, 2, 3] rfl rfl rfl (fun _ => [mO h ad i, (ad 28, .inl (M.G.2 0, 4, .inl la)), (ad 29, .inl (M.G.2 0, 4, .inl ln)), (ad 30, .inl (M.G.2 0, 160, .inl ce))]) (fun _ => rfl) rfl 0 0 rfl rfl (fun _ => [.int (bI (inI y 0 ((nI (pN ln k)) - 1)))]) (fun _ => rfl) (fun _ _ => ?_)
      refine V.if_neB (pc' := 46) C 49 dX7_lay_43 rfl rfl (fun h3 => ?_) (fun h3 => ?_)
      · obtain ⟨j, hj, rfl⟩ := inC_nat (by omega) h3
        refine V.aload_n (pc' := 50) C 0 dX7_lay_49 rfl rfl ?_
        refine V.get (pc' := 53) C dX7_lay_50 rfl 0 rfl rfl in_X7 30 rfl q959 rfl ?_
        refine V.bipush (pc' := 55) C dX7_lay_53 rfl kcb_40 ?_
        refine V.iload_n (pc' := 56) C 1 dX7_lay_55 rfl rfl ?_
        refine V.imulN (pc' := 57) C 40 k dX7_lay_56 rfl ?_
        refine V.iload_n (pc' := 58) C 2 dX7_lay_57 rfl rfl ?_
        refine V.iaddN (pc' := 59) C (40 * k) j dX7_lay_58 rfl ?_
        refine V.aload_n (pc' := 60) C 0 dX7_lay_59 rfl rfl ?_
        refine V.get (pc' := 63) C dX7_lay_60 rfl 0 rfl rfl in_X7 28 rfl q957 rfl ?_
        refine V.iload_n (pc' := 64) C 1 dX7_lay_63 rfl rfl ?_
        refine V.iald (pc' := 65) C k dX7_lay_64 rfl 1 rfl (by omega) rfl ?_
        have J6 : ∀ (x5 : Int32), x5 = (if (la k) = 0 then (v <<< (24 &&& 31)) >>> (24 &&& 31) else if (la k) = 1 then (v <<< (16 &&& 31)) >>> (16 &&& 31) else v) → V M 0 0 [mO h ad i, (ad 28, .inl (M.G.2 0, 4, .inl la)), (ad 29, .inl (M.G.2 0, 4, .inl ln)), (ad 30, .inl (M.G.2 0, 160, .inl ce))] [(0, .ref h), (1, .int (nI k)), (2, .int (nI j)), (3, .int v)] [.int x5, .int (nI (40 * k + j)), .ref (ad 30)] 99 := by
          intro x5 ex5
          subst ex5
          refine V.iast (pc' := 100) C (40 * k + j) [mO h ad i, (ad 28, .inl (M.G.2 0, 4, .inl la)), (ad 29, .inl (M.G.2 0, 4, .inl ln)), (ad 30, .inl (M.G.2 0, 160, .inl (upd ce (40 * k + j) (if (la k) = 0 then (v <<< (24 &&& 31)) >>> (24 &&& 31) else if (la k) = 1 then (v <<< (16 &&& 31)) >>> (16 &&& 31) else v))))] dX7_lay_99 rfl 3 rfl (by omega) rfl (if (la k) = 0 then (v <<< (24 &&& 31)) >>> (24 &&& 31) else if (la k) = 1 then (v <<< (16 &&& 31)) >>> (16 &&& 31) else v) rfl rfl ?_
          refine V.iconst (pc' := 101) C dX7_lay_100 rfl kci_1 ?_
          exact V.iret C T dX7_lay_101 () rfl rfl (by unfold a_lay; rw [if_pos h1, cn_nI (by omega), if_neg h2, hln, if_pos h3]) rfl trivial (by unfold g_lay; rw [if_pos h1, cn_nI (by omega), if_neg h2, hln, if_pos h3, cn_nI (by omega)]; rfl) rfl rfl
        refine V.if_ne (pc' := 68) C 78 dX7_lay_65 rfl rfl (fun h4 => ?_) (fun h4 => ?_)
        · refine V.aload_n (pc' := 79) C 0 dX7_lay_78 rfl rfl ?_
          refine V.get (pc' := 82) C dX7_lay_79 rfl 0 rfl rfl in_X7 28 rfl q957 rfl ?_
          refine V.iload_n (pc' := 83) C 1 dX7_lay_82 rfl rfl ?_
          refine V.iald (pc' := 84) C k dX7_lay_83 rfl 1 rfl (by omega) rfl ?_
          refine V.iconst (pc' := 85) C dX7_lay_84 rfl kci_1 ?_
          refine V.icmp_ne (pc' := 88) C 98 dX7_lay_85 rfl rfl (fun h5 => ?_) (fun h5 => ?_)
          · refine V.iload_n (pc' := 99) C 3 dX7_lay_98 rfl rfl ?_
            exact J6 _ (by rw [if_neg h4, if_neg h5])
          · refine V.iload_n (pc' := 89) C 3 dX7_lay_88 rfl rfl ?_
            refine V.bipush (pc' := 91) C dX7_lay_89 rfl kcb_16 ?_
            refine V.ishl (pc' := 92) C dX7_lay_91 rfl ?_
            refine V.bipush (pc' := 94) C dX7_lay_92 rfl kcb_16 ?_
            refine V.ishr (pc' := 95) C dX7_lay_94 rfl ?_
            refine V.goto C 99 dX7_lay_95 rfl ?_
            exact J6 _ (by rw [if_neg h4, if_pos h5])
        · refine V.iload_n (pc' := 69) C 3 dX7_lay_68 rfl rfl ?_
          refine V.bipush (pc' := 71) C dX7_lay_69 rfl kcb_24 ?_
          refine V.ishl (pc' := 72) C dX7_lay_71 rfl ?_
          refine V.bipush (pc' := 74) C dX7_lay_72 rfl kcb_24 ?_
          refine V.ishr (pc' := 75) C dX7_lay_74 rfl ?_
          refine V.goto C 99 dX7_lay_75 rfl ?_
          exact J6 _ (by rw [if_pos h4])
      · refine V.bipush (pc' := 48) C dX7_lay_46 rfl kcb_m12 ?_
        exact V.iret C T dX7_lay_48 () rfl rfl (by unfold a_lay; rw [if_pos h1, cn_nI (by omega), if_neg h2, hln, if_neg h3]) rfl trivial (by unfold g_lay; rw [if_pos h1, cn_nI (by omega), if_neg h2, hln, if_neg h3]) rfl rfl
    · refine V.bipush (pc' := 27) C dX7_lay_25 rfl kcb_m11 ?_
      exact V.iret C T dX7_lay_27 () rfl rfl (by unfold a_lay; rw [if_pos h1, cn_nI (by omega), if_pos h2]) rfl trivial (by unfold g_lay; rw [if_pos h1, cn_nI (by omega), if_pos h2]) rfl rfl
  · refine V.iconst (pc' := 13) C dX7_lay_12 rfl kci_m1 ?_
    exact V.iret C T dX7_lay_13 () rfl rfl (by unfold a_lay; rw [if_neg h1]) rfl trivial (by unfold g_lay; rw [if_neg h1]) rfl rfl
set_option maxHeartbeats 4000000 in
theorem ct_X7_count (l : Launch) (G : GG) (h : Nat) (ad : Nat → Nat) (i : Nat → Int32) (f : Nat → Int32) (ik : Nat → Int32) (la : Nat → Int32) (ln : Nat → Int32) (x : Int32) (n : Nat) (hn : f 66 = nI n) (hn6 : n ≤ 6) : Ct l G yX7_count (ws_ yX7_count cX7_count 5 (some .int)) ({ frames := 0, cells := 0, slots := 0, locals := 0 } : Room) [.ref h, .int x] [mO h ad i, (ad 0, .inl (G.2 0, 402, .inl f)), (ad 27, .inl (G.2 3, 2, .inl ik)), (ad 28, .inl (G.2 0, 4, .inl la)), (ad 29, .inl (G.2 0, 4, .inl ln))] (fun _ : Unit => some (.int (a_count f ik la ln (i 25) (i 7) n x))) (fun _ => True) (fun _ => [mO h ad i, (ad 0, .inl (G.2 0, 402, .inl f)), (ad 27, .inl (G.2 3, 2, .inl ik)), (ad 28, .inl (G.2 0, 4, .inl la)), (ad 29, .inl (G.2 0, 4, .inl ln))]) := by
  refine Ct.of rfl rfl ?_
  intro M el eG hnL C T
  subst el
  subst eG
  have C : Cx M cX7_count "ClockWardModel" ({ frames := 0, cells := 0, slots := 0, locals := 0 } : Room) := C
  refine V.lvs [0, 1] (lv2 := [(0, .ref h), (1, .int x)]) rfl ?_
  refine V.iconst (pc' := 1) C dX7_count_0 rfl kci_0 ?_
  refine V.istore_n (pc' := 2) C [(2, .int 0), (0, .ref h), (1, .int x)] dX7_count_1 rfl 5 hnL rfl rfl ?_
  refine V.iconst (pc' := 3) C dX7_count_2 rfl kci_0 ?_
  refine V.istore_n (pc' := 4) C [(3, .int 0), (2, .int 0), (0, .ref h), (1, .int x)] dX7_count_3 rfl 5 hnL rfl rfl ?_
  refine V.iconst (pc' := 5) C dX7_count_4 rfl kci_0 ?_
  refine V.istore (pc' := 7) C [(4, .int 0), (3, .int 0), (2, .int 0), (0, .ref h), (1, .int x)] dX7_count_5 rfl 5 hnL rfl rfl ?_
  have L1 : ∀ k : Nat, k ≤ 25 → V M 0 0 [mO h ad i, (ad 0, .inl (M.G.2 0, 402, .inl f)), (ad 27, .inl (M.G.2 3, 2, .inl ik)), (ad 28, .inl (M.G.2 0, 4, .inl la)), (ad 29, .inl (M.G.2 0, 4, .inl ln))] [(0, .ref h), (1, .int x), (2, .int (gotTo f k)), (3, .int 0), (4, .int (nI k))] [] 7 := by
    refine loopN _ 25 (fun k hk ih_L1 => ?_)
    refine V.iload (pc' := 9) C 4 dX7_count_7 rfl rfl ?_
    refine V.bipush (pc' := 11) C dX7_count_9 rfl kcb_25 ?_
    refine V.icmp_geN (pc' := 14) C k 25 (by omega) (by omega) 33 dX7_count_11 rfl rfl (fun h2 => ?_) (fun h2 => ?_)
    · have hx3 : 25 = k := by omega
      subst hx3
      refine V.iconst (pc' := 34) C dX7_count_33 rfl kci_0 ?_
      refine V.istore (pc' := 36) C [(4, .int 0), (0, .ref h), (1, .int x), (2, .int (gotTo f 25)), (3, .int 0)] dX7_count_34 rfl 5 hnL rfl rfl ?_
      have L4 : ∀ q : Nat, q ≤ n → V M 0 0 [mO h ad i, (ad 0, .inl (M.G.2 0, 402, .inl f)), (ad 27, .inl (M.G.2 3, 2, .inl ik)), (ad 28, .inl (M.G.2 0, 4, .inl la)), (ad 29, .inl (M.G.2 0, 4, .inl ln))] [(0, .ref h), (1, .int x), (2, .int (gotTo f 25)), (3, .int (plaTo f q)), (4, .int (nI q))] [] 36 := by
        refine loopN _ n (fun q hq ih_L4 => ?_)
        refine V.iload (pc' := 38) C 4 dX7_count_36 rfl rfl ?_
        refine V.aload_n (pc' := 39) C 0 dX7_count_38 rfl rfl ?_
        refine V.get (pc' := 42) C dX7_count_39 rfl 0 rfl rfl in_X7 0 rfl q929 rfl ?_
        refine V.bipush (pc' := 44) C dX7_count_42 rfl kcb_66 ?_
        refine V.iald (pc' := 45) C 66 dX7_count_44 rfl 1 rfl (by omega) rfl ?_
        refine V.topI hn ?_
        refine V.icmp_geN (pc' := 48) C q n (by omega) (by omega) 71 dX7_count_45 rfl rfl (fun h5 => ?_) (fun h5 => ?_)
        · have hx6 : n = q := by omega
          subst hx6
          refine V.iload_n (pc' := 72) C 1 dX7_count_71 rfl rfl ?_
          by_cases h7 : x = 0
          · subst h7
            refine V.tableIn C 112 dX7_count_72 (by decide) (by decide) rfl rfl ?_
            refine V.aload_n (pc' := 113) C 0 dX7_count_112 rfl rfl ?_
            refine V.get (pc' := 116) C dX7_count_113 rfl 0 rfl rfl in_X7 25 rfl q954 rfl ?_
            exact V.iret C T dX7_count_116 () rfl rfl rfl rfl trivial rfl rfl rfl
          by_cases h8 : x = 1
          · subst h8
            refine V.tableIn C 117 dX7_count_72 (by decide) (by decide) rfl rfl ?_
            refine V.aload_n (pc' := 118) C 0 dX7_count_117 rfl rfl ?_
            refine V.get (pc' := 121) C dX7_count_118 rfl 0 rfl rfl in_X7 27 rfl q956 rfl ?_
            refine V.iconst (pc' := 122) C dX7_count_121 rfl kci_0 ?_
            refine V.zald (pc' := 123) C 0 dX7_count_122 rfl 2 rfl (by omega) rfl ?_
            have J11 : ∀ (x10 : Int32), x10 = (if (ik 0) = 0 then 0 else 1) → V M 0 0 [mO h ad i, (ad 0, .inl (M.G.2 0, 402, .inl f)), (ad 27, .inl (M.G.2 3, 2, .inl ik)), (ad 28, .inl (M.G.2 0, 4, .inl la)), (ad 29, .inl (M.G.2 0, 4, .inl ln))] [(0, .ref h), (1, .int 1), (2, .int (gotTo f 25)), (3, .int (plaTo f n)), (4, .int (nI n))] [.int x10] 131 := by
              intro x10 ex10
              have ex10 : x10 = bI (¬ ((ik 0) = 0)) := ex10.trans it_01
              subst ex10
              refine V.aload_n (pc' := 132) C 0 dX7_count_131 rfl rfl ?_
              refine V.get (pc' := 135) C dX7_count_132 rfl 0 rfl rfl in_X7 27 rfl q956 rfl ?_
              refine V.iconst (pc' := 136) C dX7_count_135 rfl kci_1 ?_
              refine V.zald (pc' := 137) C 1 dX7_count_136 rfl 2 rfl (by omega) rfl ?_
              have J14 : ∀ (x13 : Int32), x13 = (if (ik 1) = 0 then 0 else 1) → V M 0 0 [mO h ad i, (ad 0, .inl (M.G.2 0, 402, .inl f)), (ad 27, .inl (M.G.2 3, 2, .inl ik)), (ad 28, .inl (M.G.2 0, 4, .inl la)), (ad 29, .inl (M.G.2 0, 4, .inl ln))] [(0, .ref h), (1, .int 1), (2, .int (gotTo f 25)), (3, .int (plaTo f n)), (4, .int (nI n))] [.int x13, .int (bI (¬ ((ik 0) = 0)))] 145 := by
                intro x13 ex13
                have ex13 : x13 = bI (¬ ((ik 1) = 0)) := ex13.trans it_01
                subst ex13
                refine V.iadd (pc' := 146) C dX7_count_145 rfl ?_
                exact V.iret C T dX7_count_146 () rfl rfl rfl rfl trivial rfl rfl rfl
              refine V.if_eq (pc' := 140) C 144 dX7_count_137 rfl rfl (fun h12 => ?_) (fun h12 => ?_)
              · refine V.iconst (pc' := 145) C dX7_count_144 rfl kci_0 ?_
                exact J14 _ (by rw [if_pos h12])
              · refine V.iconst (pc' := 141) C dX7_count_140 rfl kci_1 ?_
                refine V.goto C 145 dX7_count_141 rfl ?_
                exact J14 _ (by rw [if_neg h12])
            refine V.if_eq (pc' := 126) C 130 dX7_count_123 rfl rfl (fun h9 => ?_) (fun h9 => ?_)
            · refine V.iconst (pc' := 131) C dX7_count_130 rfl kci_0 ?_
              exact J11 _ (by rw [if_pos h9])
            · refine V.iconst (pc' := 127) C dX7_count_126 rfl kci_1 ?_
              refine V.goto C 131 dX7_count_127 rfl ?_
              exact J11 _ (by rw [if_neg h9])
          by_cases h15 : x = 2
          · subst h15
            refine V.tableIn C 147 dX7_count_72 (by decide) (by decide) rfl rfl ?_
            refine V.aload_n (pc' := 148) C 0 dX7_count_147 rfl rfl ?_
            refine V.get (pc' := 151) C dX7_count_148 rfl 0 rfl rfl in_X7 7 rfl q936 rfl ?_
            exact V.iret C T dX7_count_151 () rfl rfl rfl rfl trivial rfl rfl rfl
          by_cases h16 : x = 3
          · subst h16
            refine V.tableIn C 152 dX7_count_72 (by decide) (by decide) rfl rfl ?_
            refine V.aload_n (pc' := 153) C 0 dX7_count_152 rfl rfl ?_
            refine V.get (pc' := 156) C dX7_count_153 rfl 0 rfl rfl in_X7 28 rfl q957 rfl ?_
            refine V.iconst (pc' := 157) C dX7_count_156 rfl kci_0 ?_
            refine V.iald (pc' := 158) C 0 dX7_count_157 rfl 3 rfl (by omega) rfl ?_
            refine V.bipush (pc' := 160) C dX7_count_158 rfl kcb_m4 ?_
            have J19 : ∀ (x18 : Int32), x18 = (if (la 0) = (-4) then (-4) else ln 0) → V M 0 0 [mO h ad i, (ad 0, .inl (M.G.2 0, 402, .inl f)), (ad 27, .inl (M.G.2 3, 2, .inl ik)), (ad 28, .inl (M.G.2 0, 4, .inl la)), (ad 29, .inl (M.G.2 0, 4, .inl ln))] [(0, .ref h), (1, .int 3), (2, .int (gotTo f 25)), (3, .int (plaTo f n)), (4, .int (nI n))] [.int x18] 174 := by
              intro x18 ex18
              subst ex18
              exact V.iret C T dX7_count_174 () rfl rfl rfl rfl trivial rfl rfl rfl
            refine V.icmp_ne (pc' := 163) C 168 dX7_count_160 rfl rfl (fun h17 => ?_) (fun h17 => ?_)
            · refine V.aload_n (pc' := 169) C 0 dX7_count_168 rfl rfl ?_
              refine V.get (pc' := 172) C dX7_count_169 rfl 0 rfl rfl in_X7 29 rfl q958 rfl ?_
              refine V.iconst (pc' := 173) C dX7_count_172 rfl kci_0 ?_
              refine V.iald (pc' := 174) C 0 dX7_count_173 rfl 4 rfl (by omega) rfl ?_
              exact J19 _ (by rw [if_neg h17])
            · refine V.bipush (pc' := 165) C dX7_count_163 rfl kcb_m4 ?_
              refine V.goto C 174 dX7_count_165 rfl ?_
              exact J19 _ (by rw [if_pos h17])
          by_cases h20 : x = 4
          · subst h20
            refine V.tableIn C 175 dX7_count_72 (by decide) (by decide) rfl rfl ?_
            refine V.iload_n (pc' := 176) C 2 dX7_count_175 rfl rfl ?_
            exact V.iret C T dX7_count_176 () rfl rfl rfl rfl trivial rfl rfl rfl
          by_cases h21 : x = 5
          · subst h21
            refine V.tableIn C 177 dX7_count_72 (by decide) (by decide) rfl rfl ?_
            refine V.iload_n (pc' := 178) C 3 dX7_count_177 rfl rfl ?_
            exact V.iret C T dX7_count_178 () rfl rfl rfl rfl trivial rfl rfl rfl
          refine V.tableOut C 179 dX7_count_72 (by have := lv_neT (a := 0) h7 (by decide); have := lv_neT (a := 1) h8 (by decide); have := lv_neT (a := 2) h15 (by decide); have := lv_neT (a := 3) h16 (by decide); have := lv_neT (a := 4) h20 (by decide); have := lv_neT (a := 5) h21 (by decide); omega) rfl ?_
          refine V.iconst (pc' := 180) C dX7_count_179 rfl kci_m1 ?_
          exact V.iret C T dX7_count_180 () rfl rfl (by unfold a_count; rw [if_neg h7, if_neg h8, if_neg h15, if_neg h16, if_neg h20, if_neg h21]) rfl trivial rfl rfl rfl
        · refine V.iload_n (pc' := 49) C 3 dX7_count_48 rfl rfl ?_
          refine V.aload_n (pc' := 50) C 0 dX7_count_49 rfl rfl ?_
          refine V.get (pc' := 53) C dX7_count_50 rfl 0 rfl rfl in_X7 0 rfl q929 rfl ?_
          refine V.bipush (pc' := 55) C dX7_count_53 rfl kcb_48 ?_
          refine V.iconst (pc' := 56) C dX7_count_55 rfl kci_3 ?_
          refine V.iload (pc' := 58) C 4 dX7_count_56 rfl rfl ?_
          refine V.imulN (pc' := 59) C 3 q dX7_count_58 rfl ?_
          refine V.iaddN (pc' := 60) C 48 (3 * q) dX7_count_59 rfl ?_
          refine V.iconst (pc' := 61) C dX7_count_60 rfl kci_2 ?_
          refine V.iaddN (pc' := 62) C (48 + 3 * q) 2 dX7_count_61 rfl ?_
          refine V.iald (pc' := 63) C (48 + 3 * q + 2) dX7_count_62 rfl 1 rfl (by omega) rfl ?_
          refine V.iadd (pc' := 64) C dX7_count_63 rfl ?_
          refine V.istore_n (pc' := 65) C [(3, .int ((plaTo f q) + (f (48 + 3 * q + 2)))), (0, .ref h), (1, .int x), (2, .int (gotTo f 25)), (4, .int (nI q))] dX7_count_64 rfl 5 hnL rfl rfl ?_
          refine V.iinc (pc' := 68) C (nI (q + 1)) [(4, .int (nI (q + 1))), (3, .int ((plaTo f q) + (f (48 + 3 * q + 2)))), (0, .ref h), (1, .int x), (2, .int (gotTo f 25))] dX7_count_65 rfl 5 hnL rfl 4 rfl (ii_N q 1 rfl) rfl ?_
          refine V.goto C 36 dX7_count_68 rfl ?_
          refine V.lvs [2, 3, 4, 1, 0] (lv2 := [(0, .ref h), (1, .int x), (2, .int (gotTo f 25)), (3, .int (plaTo f (q + 1))), (4, .int (nI (q + 1)))]) rfl ?_
          exact ih_L4 (by omega)
      refine V.lvs [1, 2, 3, 4, 0] (lv2 := [(0, .ref h), (1, .int x), (2, .int (gotTo f 25)), (3, .int (plaTo f 0)), (4, .int (nI 0))]) rfl ?_
      exact L4 0 (by omega)
    · refine V.iload_n (pc' := 15) C 2 dX7_count_14 rfl rfl ?_
      refine V.aload_n (pc' := 16) C 0 dX7_count_15 rfl rfl ?_
      refine V.get (pc' := 19) C dX7_count_16 rfl 0 rfl rfl in_X7 0 rfl q929 rfl ?_
      refine V.bipush (pc' := 21) C dX7_count_19 rfl kcb_23 ?_
      refine V.iload (pc' := 23) C 4 dX7_count_21 rfl rfl ?_
      refine V.iaddN (pc' := 24) C 23 k dX7_count_23 rfl ?_
      refine V.iald (pc' := 25) C (23 + k) dX7_count_24 rfl 1 rfl (by omega) rfl ?_
      refine V.iadd (pc' := 26) C dX7_count_25 rfl ?_
      refine V.istore_n (pc' := 27) C [(2, .int ((gotTo f k) + (f (23 + k)))), (0, .ref h), (1, .int x), (3, .int 0), (4, .int (nI k))] dX7_count_26 rfl 5 hnL rfl rfl ?_
      refine V.iinc (pc' := 30) C (nI (k + 1)) [(4, .int (nI (k + 1))), (2, .int ((gotTo f k) + (f (23 + k)))), (0, .ref h), (1, .int x), (3, .int 0)] dX7_count_27 rfl 5 hnL rfl 4 rfl (ii_N k 1 rfl) rfl ?_
      refine V.goto C 7 dX7_count_30 rfl ?_
      refine V.lvs [2, 3, 1, 4, 0] (lv2 := [(0, .ref h), (1, .int x), (2, .int (gotTo f (k + 1))), (3, .int 0), (4, .int (nI (k + 1)))]) rfl ?_
      exact ih_L1 (by omega)
  refine V.lvs [3, 4, 2, 1, 0] (lv2 := [(0, .ref h), (1, .int x), (2, .int (gotTo f 0)), (3, .int 0), (4, .int (nI 0))]) rfl ?_
  exact L1 0 (by omega)
