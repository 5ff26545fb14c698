set_option maxRecDepth 100000
set_option maxHeartbeats 4000000 in
theorem ct_X7_cure (l : Launch) (G : GG) (h : Nat) (ad : Nat → Nat) (i : Nat → Int32) (f : Nat → Int32) (N : Nat) (x : Int32) (y : Int32) (hN : i 1 = nI N) (hN5 : N ≤ 5) : Ct l G yX7_cure (ws_ yX7_cure cX7_cure 4 (some .int)) ({ frames := 5, cells := 0, slots := 0, locals := 120 } : Room) [.ref h, .int x, .int y] [mO h ad i, (ad 0, .inl (G.2 0, 402, .inl f))] (fun u : (Nat → Int32) × (Nat → Int32) × Pos => some (.int (if curOk N x y then selC u.2.2 y else -1))) (fun u => Qf f u.1 ∧ Qi i u.2.1 ∧ (curOk N x y → cuR f N (cn x) u.2.2)) (fun u => [mO h ad u.2.1, (ad 0, .inl (G.2 0, 402, .inl u.1))]) := by
  refine Ct.of rfl rfl ?_
  intro M el eG hnL C T
  subst el
  subst eG
  have C : Cx M cX7_cure "ClockWardModel" ({ frames := 5, cells := 0, slots := 0, locals := 120 } : Room) := C
  refine V.lvs [0, 1, 2] (lv2 := [(0, .ref h), (1, .int x), (2, .int y)]) rfl ?_
  refine V.aload_n (pc' := 1) C 0 dX7_cure_0 rfl rfl ?_
  refine V.iload_n (pc' := 2) C 1 dX7_cure_1 rfl rfl ?_
  refine V.callV (pc' := 5) (wr := [(ad 0, .inl (M.G.2 0, 402, .inl f))]) C (ct_X7_isClock M.l M.G h ad i N x hN hN5) dX7_cure_2 rfl (lw_V q1100 q1102 qs43 q71 q1103) hyv_X7_isClock rfl rfl 0 rfl rfl [0] [1] [1, 0] rfl rfl rfl (fun _ => [mO h ad i, (ad 0, .inl (M.G.2 0, 402, .inl f))]) (fun _ => rfl) rfl 0 0 rfl rfl (fun _ => [.int (bI (isC N x))]) (fun _ => rfl) (fun _ _ => ?_)
  refine V.if_eqB (pc' := 8) C 26 dX7_cure_5 rfl rfl (fun h1 => ?_) (fun h1 => ?_)
  · refine V.iconst (pc' := 27) C dX7_cure_26 rfl kci_m1 ?_
    exact V.iret C T dX7_cure_27 (f, i, (0, 0, 0)) rfl rfl (if_neg (fun z => h1 z.1)).symm rfl ⟨Qf.rf _, Qi.rf _, fun z => absurd z (fun z => h1 z.1)⟩ rfl rfl rfl
  · obtain ⟨c, hc, rfl⟩ := isC_nat hN5 h1
    refine V.iload_n (pc' := 9) C 2 dX7_cure_8 rfl rfl ?_
    refine V.if_eq (pc' := 12) C 28 dX7_cure_9 rfl rfl (fun h2 => ?_) (fun h2 => ?_)
    · refine V.aload_n (pc' := 29) C 0 dX7_cure_28 rfl rfl ?_
      refine V.get (pc' := 32) C dX7_cure_29 rfl 0 rfl rfl in_X7 0 rfl q929 rfl ?_
      refine V.bipush (pc' := 34) C dX7_cure_32 rfl kcb_15 ?_
      refine V.iload_n (pc' := 35) C 1 dX7_cure_34 rfl rfl ?_
      refine V.iaddN (pc' := 36) C 15 c dX7_cure_35 rfl ?_
      refine V.iald (pc' := 37) C (15 + c) dX7_cure_36 rfl 1 rfl (by omega) rfl ?_
      refine V.bipush (pc' := 39) C dX7_cure_37 rfl kcb_50 ?_
      refine V.icmp_ne (pc' := 42) C 46 dX7_cure_39 rfl rfl (fun h3 => ?_) (fun h3 => ?_)
      · refine V.aload_n (pc' := 47) C 0 dX7_cure_46 rfl rfl ?_
        refine V.iload_n (pc' := 48) C 1 dX7_cure_47 rfl rfl ?_
        refine V.iconst (pc' := 49) C dX7_cure_48 rfl kci_1 ?_
        refine V.callV (pc' := 52) (wr := []) C (ct_X7_isCured M.l M.G h ad i f N c 1 f hN hN5 (Or.inl rfl) (Qf.rf f) (by omega)) dX7_cure_49 rfl (lw_V q1247 q1249 qs59 q71 q1250) hyv_X7_isCured rfl rfl 0 rfl rfl [0, 1] [] [0, 1] rfl rfl rfl (fun u4 => [mO h ad u4.2.1, (ad 0, .inl (M.G.2 0, 402, .inl u4.1))]) (fun _ => rfl) rfl 0 0 rfl rfl (fun u4 => [.int (bI (u4.2.2.1 = 1))]) (fun _ => rfl) (fun u4 hu4 => ?_)
        have hv1 := hu4
        refine V.if_eqB (pc' := 55) C 59 dX7_cure_52 rfl rfl (fun h5 => ?_) (fun h5 => ?_)
        · have k0 := curR_f hv1.2.2 h5
          refine V.aload_n (pc' := 60) C 0 dX7_cure_59 rfl rfl ?_
          refine V.iload_n (pc' := 61) C 1 dX7_cure_60 rfl rfl ?_
          refine V.iconst (pc' := 62) C dX7_cure_61 rfl kci_2 ?_
          refine V.callV (pc' := 65) (wr := []) C (ct_X7_isCured M.l M.G h ad u4.2.1 u4.1 N c 2 f (hv1.2.1.1.trans hN) hN5 (Or.inr rfl) hv1.1 (by omega)) dX7_cure_62 rfl (lw_V q1247 q1249 qs59 q71 q1250) hyv_X7_isCured rfl rfl 0 rfl rfl [0, 1] [] [0, 1] rfl rfl rfl (fun u6 => [mO h ad u6.2.1, (ad 0, .inl (M.G.2 0, 402, .inl u6.1))]) (fun _ => rfl) rfl 0 0 rfl rfl (fun u6 => [.int (bI (u6.2.2.1 = 1))]) (fun _ => rfl) (fun u6 hu6 => ?_)
          have hv2 := hu6
          refine V.if_eqB (pc' := 68) C 72 dX7_cure_65 rfl rfl (fun h7 => ?_) (fun h7 => ?_)
          · have k3 := curR_f hv2.2.2 h7
            refine V.bipush (pc' := 74) C dX7_cure_72 rfl kcb_m4 ?_
            refine V.istore_n (pc' := 75) C [(3, .int (-4)), (0, .ref h), (1, .int (nI c)), (2, .int y)] dX7_cure_74 rfl 4 hnL rfl rfl ?_
            refine V.iload_n (pc' := 76) C 3 dX7_cure_75 rfl rfl ?_
            refine V.if_eq (pc' := 79) C 85 dX7_cure_76 rfl rfl (fun _ => ?_) (fun h8 => absurd h8 (fun z => z h2))
            refine V.iload_n (pc' := 86) C 0 dX7_cure_85 rfl rfl ?_
            refine V.goto C 119 dX7_cure_86 rfl ?_
            exact V.iret C T dX7_cure_119 (u6.1, u6.2.1, (3, 0, 0)) rfl rfl (Eq.trans (selC_3 (3, 0, 0) rfl y) (if_pos ⟨h1, Or.inl h2⟩).symm) rfl ⟨hv2.1, hv1.2.1.tr hv2.2.1, fun _ => by rw [cn_nI (by omega)]; exact Or.inr (Or.inr (Or.inr ⟨rfl, h3, k0, k3, rfl, rfl⟩))⟩ rfl rfl rfl
          · have k2 := curR_t hv2.2.2 h7
            refine V.iconst (pc' := 69) C dX7_cure_68 rfl kci_2 ?_
            refine V.goto C 74 dX7_cure_69 rfl ?_
            refine V.istore_n (pc' := 75) C [(3, .int 2), (0, .ref h), (1, .int (nI c)), (2, .int y)] dX7_cure_74 rfl 4 hnL rfl rfl ?_
            refine V.iload_n (pc' := 76) C 3 dX7_cure_75 rfl rfl ?_
            refine V.if_eq (pc' := 79) C 85 dX7_cure_76 rfl rfl (fun _ => ?_) (fun h9 => absurd h9 (fun z => z h2))
            refine V.iload_n (pc' := 86) C 0 dX7_cure_85 rfl rfl ?_
            refine V.goto C 119 dX7_cure_86 rfl ?_
            exact V.iret C T dX7_cure_119 (u6.1, u6.2.1, (2, u6.2.2.2.1, u6.2.2.2.2)) rfl rfl (Eq.trans (by rw [h2]; exact selC_0 (2, u6.2.2.2.1, u6.2.2.2.2) (show ¬ (2 : Nat) = 3 by omega)) (if_pos ⟨h1, Or.inl h2⟩).symm) rfl ⟨hv2.1, hv1.2.1.tr hv2.2.1, fun _ => by rw [cn_nI (by omega)]; exact Or.inr (Or.inr (Or.inl ⟨rfl, h3, k0, k2.1, k2.2.1⟩))⟩ rfl rfl rfl
        · have k1 := curR_t hv1.2.2 h5
          refine V.iconst (pc' := 56) C dX7_cure_55 rfl kci_1 ?_
          refine V.goto C 74 dX7_cure_56 rfl ?_
          refine V.istore_n (pc' := 75) C [(3, .int 1), (0, .ref h), (1, .int (nI c)), (2, .int y)] dX7_cure_74 rfl 4 hnL rfl rfl ?_
          refine V.iload_n (pc' := 76) C 3 dX7_cure_75 rfl rfl ?_
          refine V.if_eq (pc' := 79) C 85 dX7_cure_76 rfl rfl (fun _ => ?_) (fun h10 => absurd h10 (fun z => z h2))
          refine V.iload_n (pc' := 86) C 0 dX7_cure_85 rfl rfl ?_
          refine V.goto C 119 dX7_cure_86 rfl ?_
          exact V.iret C T dX7_cure_119 (u4.1, u4.2.1, (1, u4.2.2.2.1, u4.2.2.2.2)) rfl rfl (Eq.trans (by rw [h2]; exact selC_0 (1, u4.2.2.2.1, u4.2.2.2.2) (show ¬ (1 : Nat) = 3 by omega)) (if_pos ⟨h1, Or.inl h2⟩).symm) rfl ⟨hv1.1, hv1.2.1, fun _ => by rw [cn_nI (by omega)]; exact Or.inr (Or.inl ⟨rfl, h3, k1.1, k1.2.1⟩)⟩ rfl rfl rfl
      · refine V.iconst (pc' := 43) C dX7_cure_42 rfl kci_0 ?_
        refine V.goto C 74 dX7_cure_43 rfl ?_
        refine V.istore_n (pc' := 75) C [(3, .int 0), (0, .ref h), (1, .int (nI c)), (2, .int y)] dX7_cure_74 rfl 4 hnL rfl rfl ?_
        refine V.iload_n (pc' := 76) C 3 dX7_cure_75 rfl rfl ?_
        refine V.if_eq (pc' := 79) C 85 dX7_cure_76 rfl rfl (fun _ => ?_) (fun h11 => absurd h11 (fun z => z h2))
        refine V.iload_n (pc' := 86) C 0 dX7_cure_85 rfl rfl ?_
        refine V.goto C 119 dX7_cure_86 rfl ?_
        exact V.iret C T dX7_cure_119 (f, i, (0, 0, 0)) rfl rfl (Eq.trans (by rw [h2]; exact selC_0 (0, 0, 0) (show ¬ (0 : Nat) = 3 by omega)) (if_pos ⟨h1, Or.inl h2⟩).symm) rfl ⟨Qf.rf _, Qi.rf _, fun _ => by rw [cn_nI (by omega)]; exact Or.inl ⟨rfl, h3, rfl, rfl⟩⟩ rfl rfl rfl
    · refine V.iload_n (pc' := 13) C 2 dX7_cure_12 rfl rfl ?_
      refine V.i2l (pc' := 14) C dX7_cure_13 rfl ?_
      refine V.ldc2 (pc' := 17) C dX7_cure_14 rfl q1229 ?_
      refine V.ldc2 (pc' := 20) C dX7_cure_17 rfl q1230 ?_
      refine V.callS (pc' := 23) (wr := [mO h ad i, (ad 0, .inl (M.G.2 0, 402, .inl f))]) C (ct_X7_in M.l M.G y 10 11 ) dX7_cure_20 rfl (lw_S q1032 q1033 q71 q1034) hys_X7_in rfl rfl [] [0, 1] [0, 1] rfl rfl rfl (fun _ => [mO h ad i, (ad 0, .inl (M.G.2 0, 402, .inl f))]) (fun _ => rfl) rfl 0 0 rfl rfl (fun _ => [.int (bI (inI y 10 11))]) (fun _ => rfl) (fun _ _ => ?_)
      refine V.if_neB (pc' := 26) C 28 dX7_cure_23 rfl rfl (fun h12 => ?_) (fun h12 => ?_)
      · refine V.aload_n (pc' := 29) C 0 dX7_cure_28 rfl rfl ?_
        refine V.get (pc' := 32) C dX7_cure_29 rfl 0 rfl rfl in_X7 0 rfl q929 rfl ?_
        refine V.bipush (pc' := 34) C dX7_cure_32 rfl kcb_15 ?_
        refine V.iload_n (pc' := 35) C 1 dX7_cure_34 rfl rfl ?_
        refine V.iaddN (pc' := 36) C 15 c dX7_cure_35 rfl ?_
        refine V.iald (pc' := 37) C (15 + c) dX7_cure_36 rfl 1 rfl (by omega) rfl ?_
        refine V.bipush (pc' := 39) C dX7_cure_37 rfl kcb_50 ?_
        refine V.icmp_ne (pc' := 42) C 46 dX7_cure_39 rfl rfl (fun h13 => ?_) (fun h13 => ?_)
        · refine V.aload_n (pc' := 47) C 0 dX7_cure_46 rfl rfl ?_
          refine V.iload_n (pc' := 48) C 1 dX7_cure_47 rfl rfl ?_
          refine V.iconst (pc' := 49) C dX7_cure_48 rfl kci_1 ?_
          refine V.callV (pc' := 52) (wr := []) C (ct_X7_isCured M.l M.G h ad i f N c 1 f hN hN5 (Or.inl rfl) (Qf.rf f) (by omega)) dX7_cure_49 rfl (lw_V q1247 q1249 qs59 q71 q1250) hyv_X7_isCured rfl rfl 0 rfl rfl [0, 1] [] [0, 1] rfl rfl rfl (fun u14 => [mO h ad u14.2.1, (ad 0, .inl (M.G.2 0, 402, .inl u14.1))]) (fun _ => rfl) rfl 0 0 rfl rfl (fun u14 => [.int (bI (u14.2.2.1 = 1))]) (fun _ => rfl) (fun u14 hu14 => ?_)
          have hv1 := hu14
          refine V.if_eqB (pc' := 55) C 59 dX7_cure_52 rfl rfl (fun h15 => ?_) (fun h15 => ?_)
          · have k0 := curR_f hv1.2.2 h15
            refine V.aload_n (pc' := 60) C 0 dX7_cure_59 rfl rfl ?_
            refine V.iload_n (pc' := 61) C 1 dX7_cure_60 rfl rfl ?_
            refine V.iconst (pc' := 62) C dX7_cure_61 rfl kci_2 ?_
            refine V.callV (pc' := 65) (wr := []) C (ct_X7_isCured M.l M.G h ad u14.2.1 u14.1 N c 2 f (hv1.2.1.1.trans hN) hN5 (Or.inr rfl) hv1.1 (by omega)) dX7_cure_62 rfl (lw_V q1247 q1249 qs59 q71 q1250) hyv_X7_isCured rfl rfl 0 rfl rfl [0, 1] [] [0, 1] rfl rfl rfl (fun u16 => [mO h ad u16.2.1, (ad 0, .inl (M.G.2 0, 402, .inl u16.1))]) (fun _ => rfl) rfl 0 0 rfl rfl (fun u16 => [.int (bI (u16.2.2.1 = 1))]) (fun _ => rfl) (fun u16 hu16 => ?_)
            have hv2 := hu16
            refine V.if_eqB (pc' := 68) C 72 dX7_cure_65 rfl rfl (fun h17 => ?_) (fun h17 => ?_)
            · have k3 := curR_f hv2.2.2 h17
              refine V.bipush (pc' := 74) C dX7_cure_72 rfl kcb_m4 ?_
              refine V.istore_n (pc' := 75) C [(3, .int (-4)), (0, .ref h), (1, .int (nI c)), (2, .int y)] dX7_cure_74 rfl 4 hnL rfl rfl ?_
              refine V.iload_n (pc' := 76) C 3 dX7_cure_75 rfl rfl ?_
              refine V.if_eq (pc' := 79) C 85 dX7_cure_76 rfl rfl (fun h18 => absurd h18 h2) (fun _ => ?_)
              refine V.iload_n (pc' := 80) C 0 dX7_cure_79 rfl rfl ?_
              refine V.bipush (pc' := 82) C dX7_cure_80 rfl kcb_m4 ?_
              refine V.icmp_ne (pc' := 85) C 89 dX7_cure_82 rfl rfl (fun h19 => absurd h19 (fun z => z rfl)) (fun _ => ?_)
              refine V.iload_n (pc' := 86) C 0 dX7_cure_85 rfl rfl ?_
              refine V.goto C 119 dX7_cure_86 rfl ?_
              exact V.iret C T dX7_cure_119 (u16.1, u16.2.1, (3, 0, 0)) rfl rfl (Eq.trans (selC_3 (3, 0, 0) rfl y) (if_pos ⟨h1, Or.inr h12⟩).symm) rfl ⟨hv2.1, hv1.2.1.tr hv2.2.1, fun _ => by rw [cn_nI (by omega)]; exact Or.inr (Or.inr (Or.inr ⟨rfl, h13, k0, k3, rfl, rfl⟩))⟩ rfl rfl rfl
            · have k2 := curR_t hv2.2.2 h17
              refine V.iconst (pc' := 69) C dX7_cure_68 rfl kci_2 ?_
              refine V.goto C 74 dX7_cure_69 rfl ?_
              refine V.istore_n (pc' := 75) C [(3, .int 2), (0, .ref h), (1, .int (nI c)), (2, .int y)] dX7_cure_74 rfl 4 hnL rfl rfl ?_
              refine V.iload_n (pc' := 76) C 3 dX7_cure_75 rfl rfl ?_
              refine V.if_eq (pc' := 79) C 85 dX7_cure_76 rfl rfl (fun h20 => absurd h20 h2) (fun _ => ?_)
              refine V.iload_n (pc' := 80) C 0 dX7_cure_79 rfl rfl ?_
              refine V.bipush (pc' := 82) C dX7_cure_80 rfl kcb_m4 ?_
              refine V.icmp_ne (pc' := 85) C 89 dX7_cure_82 rfl rfl (fun _ => ?_) (fun h21 => absurd h21 (by decide))
              refine V.iload_n (pc' := 90) C 3 dX7_cure_89 rfl rfl ?_
              refine V.bipush (pc' := 92) C dX7_cure_90 rfl kcb_10 ?_
              refine V.isub (pc' := 93) C dX7_cure_92 rfl ?_
              refine V.iload_n (pc' := 94) C 0 dX7_cure_93 rfl rfl ?_
              refine V.icmp_lt (pc' := 97) C 102 dX7_cure_94 rfl rfl (fun h22 => ?_) (fun h22 => ?_)
              · refine V.iload_n (pc' := 103) C 3 dX7_cure_102 rfl rfl ?_
                refine V.bipush (pc' := 105) C dX7_cure_103 rfl kcb_10 ?_
                refine V.icmp_ne (pc' := 108) C 115 dX7_cure_105 rfl rfl (fun h23 => ?_) (fun h23 => ?_)
                · refine V.aload_n (pc' := 116) C 1 dX7_cure_115 rfl rfl ?_
                  refine V.get (pc' := 119) C dX7_cure_116 rfl 0 rfl rfl in_X7 22 rfl q951 rfl ?_
                  refine V.topI (y := nI u16.2.2.2.2) (k2.2.2.2 rfl) ?_
                  exact V.iret C T dX7_cure_119 (u16.1, u16.2.1, (2, u16.2.2.2.1, u16.2.2.2.2)) rfl rfl (Eq.trans (selC_b (s := (2, u16.2.2.2.1, u16.2.2.2.2)) (show ¬ (2 : Nat) = 3 by omega) h2 h22 h23) (if_pos ⟨h1, Or.inr h12⟩).symm) rfl ⟨hv2.1, hv1.2.1.tr hv2.2.1, fun _ => by rw [cn_nI (by omega)]; exact Or.inr (Or.inr (Or.inl ⟨rfl, h13, k0, k2.1, k2.2.1⟩))⟩ rfl rfl rfl
                · refine V.aload_n (pc' := 109) C 1 dX7_cure_108 rfl rfl ?_
                  refine V.get (pc' := 112) C dX7_cure_109 rfl 0 rfl rfl in_X7 21 rfl q950 rfl ?_
                  refine V.topI (y := nI u16.2.2.2.1) k2.2.2.1 ?_
                  refine V.goto C 119 dX7_cure_112 rfl ?_
                  exact V.iret C T dX7_cure_119 (u16.1, u16.2.1, (2, u16.2.2.2.1, u16.2.2.2.2)) rfl rfl (Eq.trans (selC_a (s := (2, u16.2.2.2.1, u16.2.2.2.2)) (show ¬ (2 : Nat) = 3 by omega) h2 h22 h23) (if_pos ⟨h1, Or.inr h12⟩).symm) rfl ⟨hv2.1, hv1.2.1.tr hv2.2.1, fun _ => by rw [cn_nI (by omega)]; exact Or.inr (Or.inr (Or.inl ⟨rfl, h13, k0, k2.1, k2.2.1⟩))⟩ rfl rfl rfl
              · refine V.bipush (pc' := 99) C dX7_cure_97 rfl kcb_m4 ?_
                refine V.goto C 119 dX7_cure_99 rfl ?_
                exact V.iret C T dX7_cure_119 (u16.1, u16.2.1, (2, u16.2.2.2.1, u16.2.2.2.2)) rfl rfl (Eq.trans (selC_n (s := (2, u16.2.2.2.1, u16.2.2.2.2)) (show ¬ (2 : Nat) = 3 by omega) h2 h22) (if_pos ⟨h1, Or.inr h12⟩).symm) rfl ⟨hv2.1, hv1.2.1.tr hv2.2.1, fun _ => by rw [cn_nI (by omega)]; exact Or.inr (Or.inr (Or.inl ⟨rfl, h13, k0, k2.1, k2.2.1⟩))⟩ rfl rfl rfl
          · have k1 := curR_t hv1.2.2 h15
            refine V.iconst (pc' := 56) C dX7_cure_55 rfl kci_1 ?_
            refine V.goto C 74 dX7_cure_56 rfl ?_
            refine V.istore_n (pc' := 75) C [(3, .int 1), (0, .ref h), (1, .int (nI c)), (2, .int y)] dX7_cure_74 rfl 4 hnL rfl rfl ?_
            refine V.iload_n (pc' := 76) C 3 dX7_cure_75 rfl rfl ?_
            refine V.if_eq (pc' := 79) C 85 dX7_cure_76 rfl rfl (fun h24 => absurd h24 h2) (fun _ => ?_)
            refine V.iload_n (pc' := 80) C 0 dX7_cure_79 rfl rfl ?_
            refine V.bipush (pc' := 82) C dX7_cure_80 rfl kcb_m4 ?_
            refine V.icmp_ne (pc' := 85) C 89 dX7_cure_82 rfl rfl (fun _ => ?_) (fun h25 => absurd h25 (by decide))
            refine V.iload_n (pc' := 90) C 3 dX7_cure_89 rfl rfl ?_
            refine V.bipush (pc' := 92) C dX7_cure_90 rfl kcb_10 ?_
            refine V.isub (pc' := 93) C dX7_cure_92 rfl ?_
            refine V.iload_n (pc' := 94) C 0 dX7_cure_93 rfl rfl ?_
            refine V.icmp_lt (pc' := 97) C 102 dX7_cure_94 rfl rfl (fun h26 => ?_) (fun h26 => ?_)
            · refine V.iload_n (pc' := 103) C 3 dX7_cure_102 rfl rfl ?_
              refine V.bipush (pc' := 105) C dX7_cure_103 rfl kcb_10 ?_
              refine V.icmp_ne (pc' := 108) C 115 dX7_cure_105 rfl rfl (fun h27 => absurd h27 (fun z => z (y10_1 h12 h26))) (fun _ => ?_)
              refine V.aload_n (pc' := 109) C 1 dX7_cure_108 rfl rfl ?_
              refine V.get (pc' := 112) C dX7_cure_109 rfl 0 rfl rfl in_X7 21 rfl q950 rfl ?_
              refine V.topI (y := nI u14.2.2.2.1) k1.2.2.1 ?_
              refine V.goto C 119 dX7_cure_112 rfl ?_
              exact V.iret C T dX7_cure_119 (u14.1, u14.2.1, (1, u14.2.2.2.1, u14.2.2.2.2)) rfl rfl (Eq.trans (selC_a (s := (1, u14.2.2.2.1, u14.2.2.2.2)) (show ¬ (1 : Nat) = 3 by omega) h2 h26 (y10_1 h12 h26)) (if_pos ⟨h1, Or.inr h12⟩).symm) rfl ⟨hv1.1, hv1.2.1, fun _ => by rw [cn_nI (by omega)]; exact Or.inr (Or.inl ⟨rfl, h13, k1.1, k1.2.1⟩)⟩ rfl rfl rfl
            · refine V.bipush (pc' := 99) C dX7_cure_97 rfl kcb_m4 ?_
              refine V.goto C 119 dX7_cure_99 rfl ?_
              exact V.iret C T dX7_cure_119 (u14.1, u14.2.1, (1, u14.2.2.2.1, u14.2.2.2.2)) rfl rfl (Eq.trans (selC_n (s := (1, u14.2.2.2.1, u14.2.2.2.2)) (show ¬ (1 : Nat) = 3 by omega) h2 h26) (if_pos ⟨h1, Or.inr h12⟩).symm) rfl ⟨hv1.1, hv1.2.1, fun _ => by rw [cn_nI (by omega)]; exact Or.inr (Or.inl ⟨rfl, h13, k1.1, k1.2.1⟩)⟩ rfl rfl rfl
        · refine V.iconst (pc' := 43) C dX7_cure_42 rfl kci_0 ?_
          refine V.goto C 74 dX7_cure_43 rfl ?_
          refine V.istore_n (pc' := 75) C [(3, .int 0), (0, .ref h), (1, .int (nI c)), (2, .int y)] dX7_cure_74 rfl 4 hnL rfl rfl ?_
          refine V.iload_n (pc' := 76) C 3 dX7_cure_75 rfl rfl ?_
          refine V.if_eq (pc' := 79) C 85 dX7_cure_76 rfl rfl (fun h28 => absurd h28 h2) (fun _ => ?_)
          refine V.iload_n (pc' := 80) C 0 dX7_cure_79 rfl rfl ?_
          refine V.bipush (pc' := 82) C dX7_cure_80 rfl kcb_m4 ?_
          refine V.icmp_ne (pc' := 85) C 89 dX7_cure_82 rfl rfl (fun _ => ?_) (fun h29 => absurd h29 (by decide))
          refine V.iload_n (pc' := 90) C 3 dX7_cure_89 rfl rfl ?_
          refine V.bipush (pc' := 92) C dX7_cure_90 rfl kcb_10 ?_
          refine V.isub (pc' := 93) C dX7_cure_92 rfl ?_
          refine V.iload_n (pc' := 94) C 0 dX7_cure_93 rfl rfl ?_
          refine V.icmp_lt (pc' := 97) C 102 dX7_cure_94 rfl rfl (fun h30 => absurd h30 (y10_0 h12)) (fun _ => ?_)
          refine V.bipush (pc' := 99) C dX7_cure_97 rfl kcb_m4 ?_
          refine V.goto C 119 dX7_cure_99 rfl ?_
          exact V.iret C T dX7_cure_119 (f, i, (0, 0, 0)) rfl rfl (Eq.trans (selC_n (s := (0, 0, 0)) (show ¬ (0 : Nat) = 3 by omega) h2 (y10_0 h12)) (if_pos ⟨h1, Or.inr h12⟩).symm) rfl ⟨Qf.rf _, Qi.rf _, fun _ => by rw [cn_nI (by omega)]; exact Or.inl ⟨rfl, h13, rfl, rfl⟩⟩ rfl rfl rfl
      · refine V.iconst (pc' := 27) C dX7_cure_26 rfl kci_m1 ?_
        exact V.iret C T dX7_cure_27 (f, i, (0, 0, 0)) rfl rfl (if_neg (fun z => z.2.elim h2 h12)).symm rfl ⟨Qf.rf _, Qi.rf _, fun z => absurd z (fun z => z.2.elim h2 h12)⟩ rfl rfl rfl
