set_option maxRecDepth 100000
set_option maxHeartbeats 4000000 in
theorem ct_X7_rowsOf (l : Launch) (G : GG) (h : Nat) (ad : Nat → Nat) (i : Nat → Int32) (f : Nat → Int32) (N : Nat) (n : Nat) (g : Nat → Int32) (s : Pos) (i0 : Nat → Int32) (hN : i0 1 = nI N) (hN5 : N ≤ 5) (hn : n = 1 ∨ n = 2) (hf : Qf g f) (hs : IsB g N (rowOk g N (n - 1)) s) (hj : jOk g N i0 i s) : Ct l G yX7_rowsOf (ws_ yX7_rowsOf cX7_rowsOf 4 none) ({ frames := 4, cells := 0, slots := 0, locals := 96 } : Room) [.ref h, .int (nI n)] [mO h ad i, (ad 0, .inl (G.2 0, 402, .inl f))] (fun u : (Nat → Int32) × (Nat → Int32) × Pos => none) (fun u => Qf g u.1 ∧ IsB g N (rowOk g N n) u.2.2 ∧ jOk g N i0 u.2.1 u.2.2) (fun u => [mO h ad u.2.1, (ad 0, .inl (G.2 0, 402, .inl u.1))]) := by
  refine Ct.of rfl rfl ?_
  intro M el eG hnL C T
  subst el
  subst eG
  have C : Cx M cX7_rowsOf "ClockWardModel" ({ frames := 4, cells := 0, slots := 0, locals := 96 } : Room) := C
  have hN0 := hN
  refine V.lvs [0, 1] (lv2 := [(0, .ref h), (1, .int (nI n))]) rfl ?_
  rcases hn with rfl | rfl
  · refine V.iconst (pc' := 1) C dX7_rowsOf_0 rfl kci_0 ?_
    refine V.istore_n (pc' := 2) C [(2, .int 0), (0, .ref h), (1, .int (nI 1))] dX7_rowsOf_1 rfl 4 hnL rfl rfl ?_
    have L1 : ∀ q : Nat, q ≤ 500 → ∀ (F : Nat → Int32), ∀ (j2 : Nat → Int32), ∀ (s2 : Pos), Qf g F → IsB g N (PM g N 1 q 0) s2 → jOk g N i0 j2 s2 → V M 0 0 [mO h ad j2, (ad 0, .inl (M.G.2 0, 402, .inl F))] [(0, .ref h), (1, .int (nI 1)), (2, .int (nI q))] [] 2 := by
      refine loopN _ 500 (fun q hq ih_L1 => ?_)
      intro F j2 s2 hF hB hJ
      have hN : j2 1 = nI N := hJ.1.1.trans hN0
      refine V.iload_n (pc' := 3) C 2 dX7_rowsOf_2 rfl rfl ?_
      refine V.sipush (pc' := 6) C dX7_rowsOf_3 rfl kcs_500 ?_
      refine V.icmp_geN (pc' := 9) C q 500 (by omega) (by omega) 105 dX7_rowsOf_6 rfl rfl (fun h2 => ?_) (fun h2 => ?_)
      · have hx3 : 500 = q := by omega
        subst hx3
        exact V.vret C T dX7_rowsOf_105 (F, j2, s2) rfl ⟨hF, hB.cg (fun d => (PM_e (Or.inl rfl) d).symm), hJ⟩ rfl rfl rfl
      · refine V.aload_n (pc' := 10) C 0 dX7_rowsOf_9 rfl rfl ?_
        refine V.iconst (pc' := 11) C dX7_rowsOf_10 rfl kci_0 ?_
        refine V.sipush (pc' := 14) C dX7_rowsOf_11 rfl kcs_335 ?_
        refine V.callV (pc' := 17) (wr := []) C (ct_X7_copies M.l M.G h ad j2 F 0 335 (by omega) (by omega) (by omega)) dX7_rowsOf_14 rfl (lw_V q1197 q1199 qs55 q71 q1200) hyv_X7_copies rfl rfl 0 rfl rfl [0, 1] [] [0, 1] rfl rfl rfl (fun _ => [mO h ad j2, (ad 0, .inl (M.G.2 0, 402, .inl (va_cpy F F 0 335 67)))]) (fun _ => rfl) rfl 0 0 rfl rfl (fun _ => []) (fun _ => rfl) (fun _ _ => ?_)
        obtain ⟨F1, eF1⟩ : ∃ z, z = va_cpy F F 0 335 67 := ⟨_, rfl⟩
        have aF1 := cp_0 hF (Q := 335) (by omega)
        rw [← eF1] at aF1
        refine V.weq (ws2 := [mO h ad j2, (ad 0, .inl (M.G.2 0, 402, .inl F1))]) (by rw [← eF1]) ?_
        refine V.aload_n (pc' := 18) C 0 dX7_rowsOf_17 rfl rfl ?_
        refine V.sipush (pc' := 21) C dX7_rowsOf_18 rfl kcs_335 ?_
        refine V.iload_n (pc' := 22) C 2 dX7_rowsOf_21 rfl rfl ?_
        refine V.callV (pc' := 25) (wr := []) C (ct_X7_givesBy M.l M.G h ad j2 F1 N 335 q hN hN5 (by omega) (by omega)) dX7_rowsOf_22 rfl (lw_V q1239 q1241 qs58 q71 q1242) hyv_X7_givesBy rfl rfl 0 rfl rfl [0, 1] [] [0, 1] rfl rfl rfl (fun _ => [mO h ad j2, (ad 0, .inl (M.G.2 0, 402, .inl (pp F1 335 (gvG F1 (pg F1 335) N q))))]) (fun _ => rfl) rfl 0 0 rfl rfl (fun _ => [.int (bI (gvP F1 (pg F1 335) N q))]) (fun _ => rfl) (fun _ _ => ?_)
        have b1 := gv_1 aF1.1 aF1.2 hN5 (c := q) (by omega)
        refine V.topI (y := bI (gvP g g N q)) (bI_iff b1.1) ?_
        obtain ⟨F2, eF2⟩ : ∃ z, z = pp F1 335 (gvG F1 (pg F1 335) N q) := ⟨_, rfl⟩
        have aF2 := b1.2
        rw [← eF2] at aF2
        refine V.weq (ws2 := [mO h ad j2, (ad 0, .inl (M.G.2 0, 402, .inl F2))]) (by rw [← eF2]) ?_
        refine V.if_eqB (pc' := 28) C 99 dX7_rowsOf_25 rfl rfl (fun h4 => ?_) (fun h4 => ?_)
        · refine V.iinc (pc' := 102) C (nI (q + 1)) [(2, .int (nI (q + 1))), (0, .ref h), (1, .int (nI 1))] dX7_rowsOf_99 rfl 4 hnL rfl 2 rfl (ii_N q 1 rfl) rfl ?_
          refine V.goto C 2 dX7_rowsOf_102 rfl ?_
          refine V.lvs [1, 2, 0] (lv2 := [(0, .ref h), (1, .int (nI 1)), (2, .int (nI (q + 1)))]) rfl ?_
          exact ih_L1 (by omega) F2 j2 s2 aF2.1 (hB.cg (PM1_f h4)) hJ
        · refine V.iload_n (pc' := 29) C 1 dX7_rowsOf_28 rfl rfl ?_
          refine V.iconst (pc' := 30) C dX7_rowsOf_29 rfl kci_1 ?_
          refine V.icmp_neN (pc' := 33) C 1 1 (by omega) (by omega) 51 dX7_rowsOf_30 rfl rfl (fun h5 => absurd h5 (fun z => z rfl)) (fun _ => ?_)
          refine V.aload_n (pc' := 34) C 0 dX7_rowsOf_33 rfl rfl ?_
          refine V.sipush (pc' := 37) C dX7_rowsOf_34 rfl kcs_335 ?_
          refine V.sipush (pc' := 40) C dX7_rowsOf_37 rfl kcs_268 ?_
          refine V.callV (pc' := 43) (wr := []) C (ct_X7_copies M.l M.G h ad j2 F2 335 268 (by omega) (by omega) (by omega)) dX7_rowsOf_40 rfl (lw_V q1197 q1199 qs55 q71 q1200) hyv_X7_copies rfl rfl 0 rfl rfl [0, 1] [] [0, 1] rfl rfl rfl (fun _ => [mO h ad j2, (ad 0, .inl (M.G.2 0, 402, .inl (va_cpy F2 F2 335 268 67)))]) (fun _ => rfl) rfl 0 0 rfl rfl (fun _ => []) (fun _ => rfl) (fun _ _ => ?_)
          obtain ⟨F3, eF3⟩ : ∃ z, z = va_cpy F2 F2 335 268 67 := ⟨_, rfl⟩
          have aF3 := cp_2 aF2.1 aF2.2
          rw [← eF3] at aF3
          refine V.weq (ws2 := [mO h ad j2, (ad 0, .inl (M.G.2 0, 402, .inl F3))]) (by rw [← eF3]) ?_
          refine V.aload_n (pc' := 44) C 0 dX7_rowsOf_43 rfl rfl ?_
          refine V.iconst (pc' := 45) C dX7_rowsOf_44 rfl kci_1 ?_
          refine V.iload_n (pc' := 46) C 2 dX7_rowsOf_45 rfl rfl ?_
          refine V.bipush (pc' := 48) C dX7_rowsOf_46 rfl kcb_m4 ?_
          refine V.callV (pc' := 51) (wr := []) C (ct_X7_compares M.l M.G h ad j2 F3 N 1 (nI q) (-4) hN hN5) dX7_rowsOf_48 rfl (lw_V q1231 q1233 qs56 q71 q1234) hyv_X7_compares rfl rfl 0 rfl rfl [0, 1] [] [0, 1] rfl rfl rfl (fun _ => [mO h ad (cmpI F3 N j2 1 (nI q) (-4)), (ad 0, .inl (M.G.2 0, 402, .inl F3))]) (fun _ => rfl) rfl 0 0 rfl rfl (fun _ => []) (fun _ => rfl) (fun _ _ => ?_)
          obtain ⟨t1, ht1, jt1⟩ := cmp_j (c := (1, q, 0)) (cf := nI q) (cs := -4) (m := 1) hJ hB (PM1_t h4 (by omega)) (PM_o (Or.inl rfl) (fun _ => rfl)) PM_2 (show (1 : Nat) ≤ 2 by omega) hN5 aF3.1 (row_1 aF3.2.2) rfl rfl rfl
          obtain ⟨n1, en1⟩ : ∃ z, z = (cmpI F3 N j2 1 (nI q) (-4)) := ⟨_, rfl⟩
          rw [← en1] at jt1
          refine V.weq (ws2 := [mO h ad n1, (ad 0, .inl (M.G.2 0, 402, .inl F3))]) (by rw [← en1]) ?_
          refine V.iconst (pc' := 52) C dX7_rowsOf_51 rfl kci_0 ?_
          refine V.istore_n (pc' := 53) C [(3, .int 0), (0, .ref h), (1, .int (nI 1)), (2, .int (nI q))] dX7_rowsOf_52 rfl 4 hnL rfl rfl ?_
          refine V.iload_n (pc' := 54) C 0 dX7_rowsOf_53 rfl rfl ?_
          refine V.sipush (pc' := 57) C dX7_rowsOf_54 rfl kcs_500 ?_
          refine V.icmp_geN (pc' := 60) C 0 500 (by omega) (by omega) 99 dX7_rowsOf_57 rfl rfl (fun h6 => absurd h6 (by decide)) (fun _ => ?_)
          refine V.iload_n (pc' := 61) C 2 dX7_rowsOf_60 rfl rfl ?_
          refine V.iconst (pc' := 62) C dX7_rowsOf_61 rfl kci_2 ?_
          refine V.icmp_neN (pc' := 65) C 1 2 (by omega) (by omega) 99 dX7_rowsOf_62 rfl rfl (fun _ => ?_) (fun h7 => absurd h7 (by decide))
          refine V.iinc (pc' := 102) C (nI (q + 1)) [(2, .int (nI (q + 1))), (3, .int 0), (0, .ref h), (1, .int (nI 1))] dX7_rowsOf_99 rfl 4 hnL rfl 3 rfl (ii_N q 1 rfl) rfl ?_
          refine V.goto C 2 dX7_rowsOf_102 rfl ?_
          refine V.lvs [2, 3, 0] (lv2 := [(0, .ref h), (1, .int (nI 1)), (2, .int (nI (q + 1)))]) rfl ?_
          exact ih_L1 (by omega) F3 n1 t1 aF3.1 ht1 jt1
    refine V.lvs [1, 2, 0] (lv2 := [(0, .ref h), (1, .int (nI 1)), (2, .int (nI 0))]) rfl ?_
    exact L1 0 (by omega) f i s hf (hs.cg (PM_0 (Or.inl rfl))) hj
  · refine V.iconst (pc' := 1) C dX7_rowsOf_0 rfl kci_0 ?_
    refine V.istore_n (pc' := 2) C [(2, .int 0), (0, .ref h), (1, .int (nI 2))] dX7_rowsOf_1 rfl 4 hnL rfl rfl ?_
    have L8 : ∀ q : Nat, q ≤ 500 → ∀ (F : Nat → Int32), ∀ (j2 : Nat → Int32), ∀ (s2 : Pos), Qf g F → IsB g N (PM g N 2 q 0) s2 → jOk g N i0 j2 s2 → V M 0 0 [mO h ad j2, (ad 0, .inl (M.G.2 0, 402, .inl F))] [(0, .ref h), (1, .int (nI 2)), (2, .int (nI q))] [] 2 := by
      refine loopN _ 500 (fun q hq ih_L8 => ?_)
      intro F j2 s2 hF hB hJ
      have hN : j2 1 = nI N := hJ.1.1.trans hN0
      refine V.iload_n (pc' := 3) C 2 dX7_rowsOf_2 rfl rfl ?_
      refine V.sipush (pc' := 6) C dX7_rowsOf_3 rfl kcs_500 ?_
      refine V.icmp_geN (pc' := 9) C q 500 (by omega) (by omega) 105 dX7_rowsOf_6 rfl rfl (fun h9 => ?_) (fun h9 => ?_)
      · have hx10 : 500 = q := by omega
        subst hx10
        exact V.vret C T dX7_rowsOf_105 (F, j2, s2) rfl ⟨hF, hB.cg (fun d => (PM_e (Or.inr rfl) d).symm), hJ⟩ rfl rfl rfl
      · refine V.aload_n (pc' := 10) C 0 dX7_rowsOf_9 rfl rfl ?_
        refine V.iconst (pc' := 11) C dX7_rowsOf_10 rfl kci_0 ?_
        refine V.sipush (pc' := 14) C dX7_rowsOf_11 rfl kcs_335 ?_
        refine V.callV (pc' := 17) (wr := []) C (ct_X7_copies M.l M.G h ad j2 F 0 335 (by omega) (by omega) (by omega)) dX7_rowsOf_14 rfl (lw_V q1197 q1199 qs55 q71 q1200) hyv_X7_copies rfl rfl 0 rfl rfl [0, 1] [] [0, 1] rfl rfl rfl (fun _ => [mO h ad j2, (ad 0, .inl (M.G.2 0, 402, .inl (va_cpy F F 0 335 67)))]) (fun _ => rfl) rfl 0 0 rfl rfl (fun _ => []) (fun _ => rfl) (fun _ _ => ?_)
        obtain ⟨F1, eF1⟩ : ∃ z, z = va_cpy F F 0 335 67 := ⟨_, rfl⟩
        have aF1 := cp_0 hF (Q := 335) (by omega)
        rw [← eF1] at aF1
        refine V.weq (ws2 := [mO h ad j2, (ad 0, .inl (M.G.2 0, 402, .inl F1))]) (by rw [← eF1]) ?_
        refine V.aload_n (pc' := 18) C 0 dX7_rowsOf_17 rfl rfl ?_
        refine V.sipush (pc' := 21) C dX7_rowsOf_18 rfl kcs_335 ?_
        refine V.iload_n (pc' := 22) C 2 dX7_rowsOf_21 rfl rfl ?_
        refine V.callV (pc' := 25) (wr := []) C (ct_X7_givesBy M.l M.G h ad j2 F1 N 335 q hN hN5 (by omega) (by omega)) dX7_rowsOf_22 rfl (lw_V q1239 q1241 qs58 q71 q1242) hyv_X7_givesBy rfl rfl 0 rfl rfl [0, 1] [] [0, 1] rfl rfl rfl (fun _ => [mO h ad j2, (ad 0, .inl (M.G.2 0, 402, .inl (pp F1 335 (gvG F1 (pg F1 335) N q))))]) (fun _ => rfl) rfl 0 0 rfl rfl (fun _ => [.int (bI (gvP F1 (pg F1 335) N q))]) (fun _ => rfl) (fun _ _ => ?_)
        have b1 := gv_1 aF1.1 aF1.2 hN5 (c := q) (by omega)
        refine V.topI (y := bI (gvP g g N q)) (bI_iff b1.1) ?_
        obtain ⟨F2, eF2⟩ : ∃ z, z = pp F1 335 (gvG F1 (pg F1 335) N q) := ⟨_, rfl⟩
        have aF2 := b1.2
        rw [← eF2] at aF2
        refine V.weq (ws2 := [mO h ad j2, (ad 0, .inl (M.G.2 0, 402, .inl F2))]) (by rw [← eF2]) ?_
        refine V.if_eqB (pc' := 28) C 99 dX7_rowsOf_25 rfl rfl (fun h11 => ?_) (fun h11 => ?_)
        · refine V.iinc (pc' := 102) C (nI (q + 1)) [(2, .int (nI (q + 1))), (0, .ref h), (1, .int (nI 2))] dX7_rowsOf_99 rfl 4 hnL rfl 2 rfl (ii_N q 1 rfl) rfl ?_
          refine V.goto C 2 dX7_rowsOf_102 rfl ?_
          refine V.lvs [1, 2, 0] (lv2 := [(0, .ref h), (1, .int (nI 2)), (2, .int (nI (q + 1)))]) rfl ?_
          exact ih_L8 (by omega) F2 j2 s2 aF2.1 (hB.cg (fun d => (PM2_x h11 d).symm)) hJ
        · refine V.iload_n (pc' := 29) C 1 dX7_rowsOf_28 rfl rfl ?_
          refine V.iconst (pc' := 30) C dX7_rowsOf_29 rfl kci_1 ?_
          refine V.icmp_neN (pc' := 33) C 2 1 (by omega) (by omega) 51 dX7_rowsOf_30 rfl rfl (fun _ => ?_) (fun h12 => absurd h12 (by decide))
          refine V.iconst (pc' := 52) C dX7_rowsOf_51 rfl kci_0 ?_
          refine V.istore_n (pc' := 53) C [(3, .int 0), (0, .ref h), (1, .int (nI 2)), (2, .int (nI q))] dX7_rowsOf_52 rfl 4 hnL rfl rfl ?_
          have L13 : ∀ r : Nat, r ≤ 500 → ∀ (Fi : Nat → Int32), ∀ (j3 : Nat → Int32), ∀ (s3 : Pos), Qf g Fi ∧ AgP (pg Fi 335) (gvG g g N q) → IsB g N (PM g N 2 q r) s3 → jOk g N i0 j3 s3 → V M 0 0 [mO h ad j3, (ad 0, .inl (M.G.2 0, 402, .inl Fi))] [(0, .ref h), (1, .int (nI 2)), (2, .int (nI q)), (3, .int (nI r))] [] 53 := by
            refine loopN _ 500 (fun r hr ih_L13 => ?_)
            intro Fi j3 s3 hFi hBi hJi
            have hN : j3 1 = nI N := hJi.1.1.trans hN0
            refine V.iload_n (pc' := 54) C 3 dX7_rowsOf_53 rfl rfl ?_
            refine V.sipush (pc' := 57) C dX7_rowsOf_54 rfl kcs_500 ?_
            refine V.icmp_geN (pc' := 60) C r 500 (by omega) (by omega) 99 dX7_rowsOf_57 rfl rfl (fun h14 => ?_) (fun h14 => ?_)
            · have hx15 : 500 = r := by omega
              subst hx15
              refine V.iinc (pc' := 102) C (nI (q + 1)) [(2, .int (nI (q + 1))), (0, .ref h), (1, .int (nI 2)), (3, .int (nI 500))] dX7_rowsOf_99 rfl 4 hnL rfl 2 rfl (ii_N q 1 rfl) rfl ?_
              refine V.goto C 2 dX7_rowsOf_102 rfl ?_
              refine V.lvs [1, 2, 0] (lv2 := [(0, .ref h), (1, .int (nI 2)), (2, .int (nI (q + 1)))]) rfl ?_
              exact ih_L8 (by omega) Fi j3 s3 hFi.1 (hBi.cg (fun d => (PM2_n d).symm)) hJi
            · refine V.iload_n (pc' := 61) C 1 dX7_rowsOf_60 rfl rfl ?_
              refine V.iconst (pc' := 62) C dX7_rowsOf_61 rfl kci_2 ?_
              refine V.icmp_neN (pc' := 65) C 2 2 (by omega) (by omega) 99 dX7_rowsOf_62 rfl rfl (fun h16 => absurd h16 (fun z => z rfl)) (fun _ => ?_)
              refine V.aload_n (pc' := 66) C 0 dX7_rowsOf_65 rfl rfl ?_
              refine V.sipush (pc' := 69) C dX7_rowsOf_66 rfl kcs_335 ?_
              refine V.sipush (pc' := 72) C dX7_rowsOf_69 rfl kcs_268 ?_
              refine V.callV (pc' := 75) (wr := []) C (ct_X7_copies M.l M.G h ad j3 Fi 335 268 (by omega) (by omega) (by omega)) dX7_rowsOf_72 rfl (lw_V q1197 q1199 qs55 q71 q1200) hyv_X7_copies rfl rfl 0 rfl rfl [0, 1] [] [0, 1] rfl rfl rfl (fun _ => [mO h ad j3, (ad 0, .inl (M.G.2 0, 402, .inl (va_cpy Fi Fi 335 268 67)))]) (fun _ => rfl) rfl 0 0 rfl rfl (fun _ => []) (fun _ => rfl) (fun _ _ => ?_)
              obtain ⟨F3, eF3⟩ : ∃ z, z = va_cpy Fi Fi 335 268 67 := ⟨_, rfl⟩
              have aF3 := cp_2 hFi.1 hFi.2
              rw [← eF3] at aF3
              refine V.weq (ws2 := [mO h ad j3, (ad 0, .inl (M.G.2 0, 402, .inl F3))]) (by rw [← eF3]) ?_
              refine V.aload_n (pc' := 76) C 0 dX7_rowsOf_75 rfl rfl ?_
              refine V.sipush (pc' := 79) C dX7_rowsOf_76 rfl kcs_268 ?_
              refine V.iload_n (pc' := 80) C 3 dX7_rowsOf_79 rfl rfl ?_
              refine V.callV (pc' := 83) (wr := []) C (ct_X7_givesBy M.l M.G h ad j3 F3 N 268 r hN hN5 (by omega) (by omega)) dX7_rowsOf_80 rfl (lw_V q1239 q1241 qs58 q71 q1242) hyv_X7_givesBy rfl rfl 0 rfl rfl [0, 1] [] [0, 1] rfl rfl rfl (fun _ => [mO h ad j3, (ad 0, .inl (M.G.2 0, 402, .inl (pp F3 268 (gvG F3 (pg F3 268) N r))))]) (fun _ => rfl) rfl 0 0 rfl rfl (fun _ => [.int (bI (gvP F3 (pg F3 268) N r))]) (fun _ => rfl) (fun _ _ => ?_)
              have b2 := gv_2 aF3.1 aF3.2.1 aF3.2.2 hN5 (c := r) (by omega)
              refine V.topI (y := bI (gvP g (gvG g g N q) N r)) (bI_iff b2.1) ?_
              obtain ⟨F4, eF4⟩ : ∃ z, z = pp F3 268 (gvG F3 (pg F3 268) N r) := ⟨_, rfl⟩
              have aF4 := b2.2
              rw [← eF4] at aF4
              refine V.weq (ws2 := [mO h ad j3, (ad 0, .inl (M.G.2 0, 402, .inl F4))]) (by rw [← eF4]) ?_
              refine V.if_eqB (pc' := 86) C 93 dX7_rowsOf_83 rfl rfl (fun h17 => ?_) (fun h17 => ?_)
              · refine V.iinc (pc' := 96) C (nI (r + 1)) [(3, .int (nI (r + 1))), (0, .ref h), (1, .int (nI 2)), (2, .int (nI q))] dX7_rowsOf_93 rfl 4 hnL rfl 3 rfl (ii_N r 1 rfl) rfl ?_
                refine V.goto C 53 dX7_rowsOf_96 rfl ?_
                refine V.lvs [1, 2, 3, 0] (lv2 := [(0, .ref h), (1, .int (nI 2)), (2, .int (nI q)), (3, .int (nI (r + 1)))]) rfl ?_
                exact ih_L13 (by omega) F4 j3 s3 (⟨aF4.1, aF4.2.1⟩) (hBi.cg (PM2_f h17)) hJi
              · refine V.aload_n (pc' := 87) C 0 dX7_rowsOf_86 rfl rfl ?_
                refine V.iconst (pc' := 88) C dX7_rowsOf_87 rfl kci_2 ?_
                refine V.iload_n (pc' := 89) C 2 dX7_rowsOf_88 rfl rfl ?_
                refine V.iload_n (pc' := 90) C 3 dX7_rowsOf_89 rfl rfl ?_
                refine V.callV (pc' := 93) (wr := []) C (ct_X7_compares M.l M.G h ad j3 F4 N 2 (nI q) (nI r) hN hN5) dX7_rowsOf_90 rfl (lw_V q1231 q1233 qs56 q71 q1234) hyv_X7_compares rfl rfl 0 rfl rfl [0, 1] [] [0, 1] rfl rfl rfl (fun _ => [mO h ad (cmpI F4 N j3 2 (nI q) (nI r)), (ad 0, .inl (M.G.2 0, 402, .inl F4))]) (fun _ => rfl) rfl 0 0 rfl rfl (fun _ => []) (fun _ => rfl) (fun _ _ => ?_)
                obtain ⟨t2, ht2, jt2⟩ := cmp_j (c := (2, q, r)) (cf := nI q) (cs := nI r) (m := 2) hJi hBi (PM2_t h11 (by omega) h17 (by omega)) (PM_o (Or.inr rfl) (fun z => absurd z (by decide))) PM_2 (show (2 : Nat) ≤ 2 by omega) hN5 aF4.1 (row_2 aF4.2.2) rfl rfl rfl
                obtain ⟨n2, en2⟩ : ∃ z, z = (cmpI F4 N j3 2 (nI q) (nI r)) := ⟨_, rfl⟩
                rw [← en2] at jt2
                refine V.weq (ws2 := [mO h ad n2, (ad 0, .inl (M.G.2 0, 402, .inl F4))]) (by rw [← en2]) ?_
                refine V.iinc (pc' := 96) C (nI (r + 1)) [(3, .int (nI (r + 1))), (0, .ref h), (1, .int (nI 2)), (2, .int (nI q))] dX7_rowsOf_93 rfl 4 hnL rfl 3 rfl (ii_N r 1 rfl) rfl ?_
                refine V.goto C 53 dX7_rowsOf_96 rfl ?_
                refine V.lvs [1, 2, 3, 0] (lv2 := [(0, .ref h), (1, .int (nI 2)), (2, .int (nI q)), (3, .int (nI (r + 1)))]) rfl ?_
                exact ih_L13 (by omega) F4 n2 t2 (⟨aF4.1, aF4.2.1⟩) ht2 jt2
          refine V.lvs [1, 2, 3, 0] (lv2 := [(0, .ref h), (1, .int (nI 2)), (2, .int (nI q)), (3, .int (nI 0))]) rfl ?_
          exact L13 0 (by omega) F2 j2 s2 aF2 hB hJ
    refine V.lvs [1, 2, 0] (lv2 := [(0, .ref h), (1, .int (nI 2)), (2, .int (nI 0))]) rfl ?_
    exact L8 0 (by omega) f i s hf (hs.cg (PM_0 (Or.inr rfl))) hj
