set_option maxRecDepth 100000
set_option maxHeartbeats 4000000 in
theorem ct_X7_isCured (l : Launch) (G : GG) (h : Nat) (ad : Nat → Nat) (i : Nat → Int32) (f : Nat → Int32) (N : Nat) (c : Nat) (n : Nat) (g : Nat → Int32) (hN : i 1 = nI N) (hN5 : N ≤ 5) (hn : n = 1 ∨ n = 2) (hf : Qf g f) (hc : c < 5) : Ct l G yX7_isCured (ws_ yX7_isCured cX7_isCured 5 (some .boolean)) ({ frames := 4, cells := 0, slots := 0, locals := 96 } : Room) [.ref h, .int (nI c), .int (nI n)] [mO h ad i, (ad 0, .inl (G.2 0, 402, .inl f))] (fun u : (Nat → Int32) × (Nat → Int32) × Pos => some (.int (bI (u.2.2.1 = 1)))) (fun u => Qf g u.1 ∧ Qi i u.2.1 ∧ curR g N c n u.2.1 u.2.2) (fun u => [mO h ad u.2.1, (ad 0, .inl (G.2 0, 402, .inl u.1))]) := by
  refine Ct.of rfl rfl ?_
  intro M el eG hnL C T
  subst el
  subst eG
  have C : Cx M cX7_isCured "ClockWardModel" ({ frames := 4, cells := 0, slots := 0, locals := 96 } : Room) := C
  have hN0 := hN
  refine V.lvs [0, 1, 2] (lv2 := [(0, .ref h), (1, .int (nI c)), (2, .int (nI n))]) rfl ?_
  rcases hn with rfl | rfl
  · refine V.iconst (pc' := 1) C dX7_isCured_0 rfl kci_0 ?_
    refine V.istore_n (pc' := 2) C [(3, .int 0), (0, .ref h), (1, .int (nI c)), (2, .int (nI 1))] dX7_isCured_1 rfl 5 hnL rfl rfl ?_
    have L1 : ∀ q : Nat, q ≤ 500 → ∀ (F : Nat → Int32), ∀ (j2 : Nat → Int32), Qf g F → nCur g N c 1 q 0 → Qi i j2 → V M 0 0 [mO h ad j2, (ad 0, .inl (M.G.2 0, 402, .inl F))] [(0, .ref h), (1, .int (nI c)), (2, .int (nI 1)), (3, .int (nI q))] [] 2 := by
      refine loopN _ 500 (fun q hq ih_L1 => ?_)
      intro F j2 hF hC hJ
      have hN : j2 1 = nI N := hJ.1.trans hN0
      refine V.iload_n (pc' := 3) C 3 dX7_isCured_2 rfl rfl ?_
      refine V.sipush (pc' := 6) C dX7_isCured_3 rfl kcs_500 ?_
      refine V.icmp_geN (pc' := 9) C q 500 (by omega) (by omega) 128 dX7_isCured_6 rfl rfl (fun h2 => ?_) (fun h2 => ?_)
      · have hx3 : 500 = q := by omega
        subst hx3
        refine V.iconst (pc' := 129) C dX7_isCured_128 rfl kci_0 ?_
        exact V.iret C T dX7_isCured_129 (F, j2, (0, 0, 0)) rfl rfl (bI_f (show ¬ (0 : Nat) = 1 by omega)).symm bI_nar ⟨hF, hJ, Or.inr ⟨rfl, hC⟩⟩ rfl rfl rfl
      · refine V.aload_n (pc' := 10) C 0 dX7_isCured_9 rfl rfl ?_
        refine V.iconst (pc' := 11) C dX7_isCured_10 rfl kci_0 ?_
        refine V.sipush (pc' := 14) C dX7_isCured_11 rfl kcs_335 ?_
        refine V.callV (pc' := 17) (wr := []) C (ct_X7_copies M.l M.G h ad j2 F 0 335 (by omega) (by omega) (by omega)) dX7_isCured_14 rfl (lw_V q1197 q1199 qs55 q71 q1200) hyv_X7_copies rfl rfl 0 rfl rfl [0, 1] [] [0, 1] rfl rfl rfl (fun _ => [mO h ad j2, (ad 0, .inl (M.G.2 0, 402, .inl (va_cpy F F 0 335 67)))]) (fun _ => rfl) rfl 0 0 rfl rfl (fun _ => []) (fun _ => rfl) (fun _ _ => ?_)
        obtain ⟨F1, eF1⟩ : ∃ z, z = va_cpy F F 0 335 67 := ⟨_, rfl⟩
        have aF1 := cp_0 hF (Q := 335) (by omega)
        rw [← eF1] at aF1
        refine V.weq (ws2 := [mO h ad j2, (ad 0, .inl (M.G.2 0, 402, .inl F1))]) (by rw [← eF1]) ?_
        refine V.aload_n (pc' := 18) C 0 dX7_isCured_17 rfl rfl ?_
        refine V.sipush (pc' := 21) C dX7_isCured_18 rfl kcs_335 ?_
        refine V.iload_n (pc' := 22) C 3 dX7_isCured_21 rfl rfl ?_
        refine V.callV (pc' := 25) (wr := []) C (ct_X7_givesBy M.l M.G h ad j2 F1 N 335 q hN hN5 (by omega) (by omega)) dX7_isCured_22 rfl (lw_V q1239 q1241 qs58 q71 q1242) hyv_X7_givesBy rfl rfl 0 rfl rfl [0, 1] [] [0, 1] rfl rfl rfl (fun _ => [mO h ad j2, (ad 0, .inl (M.G.2 0, 402, .inl (pp F1 335 (gvG F1 (pg F1 335) N q))))]) (fun _ => rfl) rfl 0 0 rfl rfl (fun _ => [.int (bI (gvP F1 (pg F1 335) N q))]) (fun _ => rfl) (fun _ _ => ?_)
        have b1 := gv_1 aF1.1 aF1.2 hN5 (c := q) (by omega)
        refine V.topI (y := bI (gvP g g N q)) (bI_iff b1.1) ?_
        obtain ⟨F2, eF2⟩ : ∃ z, z = pp F1 335 (gvG F1 (pg F1 335) N q) := ⟨_, rfl⟩
        have aF2 := b1.2
        rw [← eF2] at aF2
        refine V.weq (ws2 := [mO h ad j2, (ad 0, .inl (M.G.2 0, 402, .inl F2))]) (by rw [← eF2]) ?_
        refine V.if_eqB (pc' := 28) C 122 dX7_isCured_25 rfl rfl (fun h4 => ?_) (fun h4 => ?_)
        · refine V.iinc (pc' := 125) C (nI (q + 1)) [(3, .int (nI (q + 1))), (0, .ref h), (1, .int (nI c)), (2, .int (nI 1))] dX7_isCured_122 rfl 5 hnL rfl 3 rfl (ii_N q 1 rfl) rfl ?_
          refine V.goto C 2 dX7_isCured_125 rfl ?_
          refine V.lvs [1, 2, 3, 0] (lv2 := [(0, .ref h), (1, .int (nI c)), (2, .int (nI 1)), (3, .int (nI (q + 1)))]) rfl ?_
          exact ih_L1 (by omega) F2 j2 aF2.1 (nCur_x hC h4) hJ
        · refine V.aload_n (pc' := 29) C 0 dX7_isCured_28 rfl rfl ?_
          refine V.iload_n (pc' := 30) C 3 dX7_isCured_29 rfl rfl ?_
          refine V.put (pc' := 33) C [(h, .inr (7, [.ref (ad 0), .int (j2 1), .ref (ad 2), .int (j2 3), .int (j2 4), .int (j2 5), .ref (ad 6), .int (j2 7), .int (j2 8), .int (j2 9), .int (j2 10), .int (j2 11), .int (j2 12), .int (j2 13), .int (j2 14), .ref (ad 15), .ref (ad 16), .int (j2 17), .int (j2 18), .int (j2 19), .int (j2 20), .int (nI q), .int (j2 22), .int (j2 23), .ref (ad 24), .int (j2 25), .ref (ad 26), .ref (ad 27), .ref (ad 28), .ref (ad 29), .ref (ad 30), .int (j2 31)])), (ad 0, .inl (M.G.2 0, 402, .inl F2))] dX7_isCured_30 rfl 0 rfl rfl in_X7 tyX7_ok nmX7 21 rfl q950 rfl rfl rfl rfl rfl ?_
          obtain ⟨n1, en1⟩ : ∃ z, z = upd j2 21 (nI q) := ⟨_, rfl⟩
          have an1 : Qi i (upd j2 21 (nI q)) ∧ (upd j2 21 (nI q)) 21 = nI q := ⟨hJ.u21 _, rfl⟩
          rw [← en1] at an1
          refine V.weq (ws2 := [mO h ad n1, (ad 0, .inl (M.G.2 0, 402, .inl F2))]) (by rw [en1]; rfl) ?_
          have hN : n1 1 = nI N := an1.1.1.trans hN0
          refine V.iload_n (pc' := 34) C 2 dX7_isCured_33 rfl rfl ?_
          refine V.iconst (pc' := 35) C dX7_isCured_34 rfl kci_1 ?_
          refine V.icmp_neN (pc' := 38) C 1 1 (by omega) (by omega) 55 dX7_isCured_35 rfl rfl (fun h5 => absurd h5 (fun z => z rfl)) (fun _ => ?_)
          refine V.aload_n (pc' := 39) C 0 dX7_isCured_38 rfl rfl ?_
          refine V.get (pc' := 42) C dX7_isCured_39 rfl 0 rfl rfl in_X7 0 rfl q929 rfl ?_
          refine V.sipush (pc' := 45) C dX7_isCured_42 rfl kcs_350 ?_
          refine V.iload_n (pc' := 46) C 1 dX7_isCured_45 rfl rfl ?_
          refine V.iaddN (pc' := 47) C 350 c dX7_isCured_46 rfl ?_
          refine V.iald (pc' := 48) C (350 + c) dX7_isCured_47 rfl 1 rfl (by omega) rfl ?_
          refine V.topI (y := gvG g g N q (15 + c)) (at_335 aF2.2 hc) ?_
          refine V.bipush (pc' := 50) C dX7_isCured_48 rfl kcb_50 ?_
          refine V.icmp_ne (pc' := 53) C 55 dX7_isCured_50 rfl rfl (fun h6 => ?_) (fun h6 => ?_)
          · refine V.iconst (pc' := 56) C dX7_isCured_55 rfl kci_0 ?_
            refine V.istore (pc' := 58) C [(4, .int 0), (0, .ref h), (1, .int (nI c)), (2, .int (nI 1)), (3, .int (nI q))] dX7_isCured_56 rfl 5 hnL rfl rfl ?_
            refine V.iload (pc' := 60) C 0 dX7_isCured_58 rfl rfl ?_
            refine V.sipush (pc' := 63) C dX7_isCured_60 rfl kcs_500 ?_
            refine V.icmp_geN (pc' := 66) C 0 500 (by omega) (by omega) 122 dX7_isCured_63 rfl rfl (fun h7 => absurd h7 (by decide)) (fun _ => ?_)
            refine V.iload_n (pc' := 67) C 3 dX7_isCured_66 rfl rfl ?_
            refine V.iconst (pc' := 68) C dX7_isCured_67 rfl kci_2 ?_
            refine V.icmp_neN (pc' := 71) C 1 2 (by omega) (by omega) 122 dX7_isCured_68 rfl rfl (fun _ => ?_) (fun h8 => absurd h8 (by decide))
            refine V.iinc (pc' := 125) C (nI (q + 1)) [(3, .int (nI (q + 1))), (4, .int 0), (0, .ref h), (1, .int (nI c)), (2, .int (nI 1))] dX7_isCured_122 rfl 5 hnL rfl 4 rfl (ii_N q 1 rfl) rfl ?_
            refine V.goto C 2 dX7_isCured_125 rfl ?_
            refine V.lvs [2, 3, 4, 0] (lv2 := [(0, .ref h), (1, .int (nI c)), (2, .int (nI 1)), (3, .int (nI (q + 1)))]) rfl ?_
            exact ih_L1 (by omega) F2 n1 aF2.1 (nCur_1 hC h6) (an1.1)
          · refine V.iconst (pc' := 54) C dX7_isCured_53 rfl kci_1 ?_
            exact V.iret C T dX7_isCured_54 (F2, n1, (1, q, 0)) rfl rfl (bI_t (show (1 : Nat) = 1 from rfl)).symm bI_nar ⟨aF2.1, an1.1, Or.inl ⟨rfl, ⟨(show q < 500 by omega), (show (0 : Nat) < 500 by omega), h4, Or.inl ⟨rfl, rfl, h6⟩⟩, hC, an1.2, fun z => absurd z (by decide)⟩⟩ rfl rfl rfl
    refine V.lvs [1, 2, 3, 0] (lv2 := [(0, .ref h), (1, .int (nI c)), (2, .int (nI 1)), (3, .int (nI 0))]) rfl ?_
    exact L1 0 (by omega) f i hf nCur_0 (Qi.rf i)
  · refine V.iconst (pc' := 1) C dX7_isCured_0 rfl kci_0 ?_
    refine V.istore_n (pc' := 2) C [(3, .int 0), (0, .ref h), (1, .int (nI c)), (2, .int (nI 2))] dX7_isCured_1 rfl 5 hnL rfl rfl ?_
    have L9 : ∀ q : Nat, q ≤ 500 → ∀ (F : Nat → Int32), ∀ (j2 : Nat → Int32), Qf g F → nCur g N c 2 q 0 → Qi i j2 → V M 0 0 [mO h ad j2, (ad 0, .inl (M.G.2 0, 402, .inl F))] [(0, .ref h), (1, .int (nI c)), (2, .int (nI 2)), (3, .int (nI q))] [] 2 := by
      refine loopN _ 500 (fun q hq ih_L9 => ?_)
      intro F j2 hF hC hJ
      have hN : j2 1 = nI N := hJ.1.trans hN0
      refine V.iload_n (pc' := 3) C 3 dX7_isCured_2 rfl rfl ?_
      refine V.sipush (pc' := 6) C dX7_isCured_3 rfl kcs_500 ?_
      refine V.icmp_geN (pc' := 9) C q 500 (by omega) (by omega) 128 dX7_isCured_6 rfl rfl (fun h10 => ?_) (fun h10 => ?_)
      · have hx11 : 500 = q := by omega
        subst hx11
        refine V.iconst (pc' := 129) C dX7_isCured_128 rfl kci_0 ?_
        exact V.iret C T dX7_isCured_129 (F, j2, (0, 0, 0)) rfl rfl (bI_f (show ¬ (0 : Nat) = 1 by omega)).symm bI_nar ⟨hF, hJ, Or.inr ⟨rfl, hC⟩⟩ rfl rfl rfl
      · refine V.aload_n (pc' := 10) C 0 dX7_isCured_9 rfl rfl ?_
        refine V.iconst (pc' := 11) C dX7_isCured_10 rfl kci_0 ?_
        refine V.sipush (pc' := 14) C dX7_isCured_11 rfl kcs_335 ?_
        refine V.callV (pc' := 17) (wr := []) C (ct_X7_copies M.l M.G h ad j2 F 0 335 (by omega) (by omega) (by omega)) dX7_isCured_14 rfl (lw_V q1197 q1199 qs55 q71 q1200) hyv_X7_copies rfl rfl 0 rfl rfl [0, 1] [] [0, 1] rfl rfl rfl (fun _ => [mO h ad j2, (ad 0, .inl (M.G.2 0, 402, .inl (va_cpy F F 0 335 67)))]) (fun _ => rfl) rfl 0 0 rfl rfl (fun _ => []) (fun _ => rfl) (fun _ _ => ?_)
        obtain ⟨F1, eF1⟩ : ∃ z, z = va_cpy F F 0 335 67 := ⟨_, rfl⟩
        have aF1 := cp_0 hF (Q := 335) (by omega)
        rw [← eF1] at aF1
        refine V.weq (ws2 := [mO h ad j2, (ad 0, .inl (M.G.2 0, 402, .inl F1))]) (by rw [← eF1]) ?_
        refine V.aload_n (pc' := 18) C 0 dX7_isCured_17 rfl rfl ?_
        refine V.sipush (pc' := 21) C dX7_isCured_18 rfl kcs_335 ?_
        refine V.iload_n (pc' := 22) C 3 dX7_isCured_21 rfl rfl ?_
        refine V.callV (pc' := 25) (wr := []) C (ct_X7_givesBy M.l M.G h ad j2 F1 N 335 q hN hN5 (by omega) (by omega)) dX7_isCured_22 rfl (lw_V q1239 q1241 qs58 q71 q1242) hyv_X7_givesBy rfl rfl 0 rfl rfl [0, 1] [] [0, 1] rfl rfl rfl (fun _ => [mO h ad j2, (ad 0, .inl (M.G.2 0, 402, .inl (pp F1 335 (gvG F1 (pg F1 335) N q))))]) (fun _ => rfl) rfl 0 0 rfl rfl (fun _ => [.int (bI (gvP F1 (pg F1 335) N q))]) (fun _ => rfl) (fun _ _ => ?_)
        have b1 := gv_1 aF1.1 aF1.2 hN5 (c := q) (by omega)
        refine V.topI (y := bI (gvP g g N q)) (bI_iff b1.1) ?_
        obtain ⟨F2, eF2⟩ : ∃ z, z = pp F1 335 (gvG F1 (pg F1 335) N q) := ⟨_, rfl⟩
        have aF2 := b1.2
        rw [← eF2] at aF2
        refine V.weq (ws2 := [mO h ad j2, (ad 0, .inl (M.G.2 0, 402, .inl F2))]) (by rw [← eF2]) ?_
        refine V.if_eqB (pc' := 28) C 122 dX7_isCured_25 rfl rfl (fun h12 => ?_) (fun h12 => ?_)
        · refine V.iinc (pc' := 125) C (nI (q + 1)) [(3, .int (nI (q + 1))), (0, .ref h), (1, .int (nI c)), (2, .int (nI 2))] dX7_isCured_122 rfl 5 hnL rfl 3 rfl (ii_N q 1 rfl) rfl ?_
          refine V.goto C 2 dX7_isCured_125 rfl ?_
          refine V.lvs [1, 2, 3, 0] (lv2 := [(0, .ref h), (1, .int (nI c)), (2, .int (nI 2)), (3, .int (nI (q + 1)))]) rfl ?_
          exact ih_L9 (by omega) F2 j2 aF2.1 (nCur_x hC h12) hJ
        · refine V.aload_n (pc' := 29) C 0 dX7_isCured_28 rfl rfl ?_
          refine V.iload_n (pc' := 30) C 3 dX7_isCured_29 rfl rfl ?_
          refine V.put (pc' := 33) C [(h, .inr (7, [.ref (ad 0), .int (j2 1), .ref (ad 2), .int (j2 3), .int (j2 4), .int (j2 5), .ref (ad 6), .int (j2 7), .int (j2 8), .int (j2 9), .int (j2 10), .int (j2 11), .int (j2 12), .int (j2 13), .int (j2 14), .ref (ad 15), .ref (ad 16), .int (j2 17), .int (j2 18), .int (j2 19), .int (j2 20), .int (nI q), .int (j2 22), .int (j2 23), .ref (ad 24), .int (j2 25), .ref (ad 26), .ref (ad 27), .ref (ad 28), .ref (ad 29), .ref (ad 30), .int (j2 31)])), (ad 0, .inl (M.G.2 0, 402, .inl F2))] dX7_isCured_30 rfl 0 rfl rfl in_X7 tyX7_ok nmX7 21 rfl q950 rfl rfl rfl rfl rfl ?_
          obtain ⟨n1, en1⟩ : ∃ z, z = upd j2 21 (nI q) := ⟨_, rfl⟩
          have an1 : Qi i (upd j2 21 (nI q)) ∧ (upd j2 21 (nI q)) 21 = nI q := ⟨hJ.u21 _, rfl⟩
          rw [← en1] at an1
          refine V.weq (ws2 := [mO h ad n1, (ad 0, .inl (M.G.2 0, 402, .inl F2))]) (by rw [en1]; rfl) ?_
          have hN : n1 1 = nI N := an1.1.1.trans hN0
          refine V.iload_n (pc' := 34) C 2 dX7_isCured_33 rfl rfl ?_
          refine V.iconst (pc' := 35) C dX7_isCured_34 rfl kci_1 ?_
          refine V.icmp_neN (pc' := 38) C 2 1 (by omega) (by omega) 55 dX7_isCured_35 rfl rfl (fun _ => ?_) (fun h13 => absurd h13 (by decide))
          refine V.iconst (pc' := 56) C dX7_isCured_55 rfl kci_0 ?_
          refine V.istore (pc' := 58) C [(4, .int 0), (0, .ref h), (1, .int (nI c)), (2, .int (nI 2)), (3, .int (nI q))] dX7_isCured_56 rfl 5 hnL rfl rfl ?_
          have L14 : ∀ r : Nat, r ≤ 500 → ∀ (Fi : Nat → Int32), Qf g Fi ∧ AgP (pg Fi 335) (gvG g g N q) → nCur g N c 2 q r → V M 0 0 [mO h ad n1, (ad 0, .inl (M.G.2 0, 402, .inl Fi))] [(0, .ref h), (1, .int (nI c)), (2, .int (nI 2)), (3, .int (nI q)), (4, .int (nI r))] [] 58 := by
            refine loopN _ 500 (fun r hr ih_L14 => ?_)
            intro Fi hFi hCi
            refine V.iload (pc' := 60) C 4 dX7_isCured_58 rfl rfl ?_
            refine V.sipush (pc' := 63) C dX7_isCured_60 rfl kcs_500 ?_
            refine V.icmp_geN (pc' := 66) C r 500 (by omega) (by omega) 122 dX7_isCured_63 rfl rfl (fun h15 => ?_) (fun h15 => ?_)
            · have hx16 : 500 = r := by omega
              subst hx16
              refine V.iinc (pc' := 125) C (nI (q + 1)) [(3, .int (nI (q + 1))), (0, .ref h), (1, .int (nI c)), (2, .int (nI 2)), (4, .int (nI 500))] dX7_isCured_122 rfl 5 hnL rfl 3 rfl (ii_N q 1 rfl) rfl ?_
              refine V.goto C 2 dX7_isCured_125 rfl ?_
              refine V.lvs [1, 2, 3, 0] (lv2 := [(0, .ref h), (1, .int (nI c)), (2, .int (nI 2)), (3, .int (nI (q + 1)))]) rfl ?_
              exact ih_L9 (by omega) Fi n1 hFi.1 (nCur_2n hCi) (an1.1)
            · refine V.iload_n (pc' := 67) C 2 dX7_isCured_66 rfl rfl ?_
              refine V.iconst (pc' := 68) C dX7_isCured_67 rfl kci_2 ?_
              refine V.icmp_neN (pc' := 71) C 2 2 (by omega) (by omega) 122 dX7_isCured_68 rfl rfl (fun h17 => absurd h17 (fun z => z rfl)) (fun _ => ?_)
              refine V.aload_n (pc' := 72) C 0 dX7_isCured_71 rfl rfl ?_
              refine V.sipush (pc' := 75) C dX7_isCured_72 rfl kcs_335 ?_
              refine V.sipush (pc' := 78) C dX7_isCured_75 rfl kcs_268 ?_
              refine V.callV (pc' := 81) (wr := []) C (ct_X7_copies M.l M.G h ad n1 Fi 335 268 (by omega) (by omega) (by omega)) dX7_isCured_78 rfl (lw_V q1197 q1199 qs55 q71 q1200) hyv_X7_copies rfl rfl 0 rfl rfl [0, 1] [] [0, 1] rfl rfl rfl (fun _ => [mO h ad n1, (ad 0, .inl (M.G.2 0, 402, .inl (va_cpy Fi Fi 335 268 67)))]) (fun _ => rfl) rfl 0 0 rfl rfl (fun _ => []) (fun _ => rfl) (fun _ _ => ?_)
              obtain ⟨F3, eF3⟩ : ∃ z, z = va_cpy Fi Fi 335 268 67 := ⟨_, rfl⟩
              have aF3 := cp_2 hFi.1 hFi.2
              rw [← eF3] at aF3
              refine V.weq (ws2 := [mO h ad n1, (ad 0, .inl (M.G.2 0, 402, .inl F3))]) (by rw [← eF3]) ?_
              refine V.aload_n (pc' := 82) C 0 dX7_isCured_81 rfl rfl ?_
              refine V.sipush (pc' := 85) C dX7_isCured_82 rfl kcs_268 ?_
              refine V.iload (pc' := 87) C 4 dX7_isCured_85 rfl rfl ?_
              refine V.callV (pc' := 90) (wr := []) C (ct_X7_givesBy M.l M.G h ad n1 F3 N 268 r hN hN5 (by omega) (by omega)) dX7_isCured_87 rfl (lw_V q1239 q1241 qs58 q71 q1242) hyv_X7_givesBy rfl rfl 0 rfl rfl [0, 1] [] [0, 1] rfl rfl rfl (fun _ => [mO h ad n1, (ad 0, .inl (M.G.2 0, 402, .inl (pp F3 268 (gvG F3 (pg F3 268) N r))))]) (fun _ => rfl) rfl 0 0 rfl rfl (fun _ => [.int (bI (gvP F3 (pg F3 268) N r))]) (fun _ => rfl) (fun _ _ => ?_)
              have b2 := gv_2 aF3.1 aF3.2.1 aF3.2.2 hN5 (c := r) (by omega)
              refine V.topI (y := bI (gvP g (gvG g g N q) N r)) (bI_iff b2.1) ?_
              obtain ⟨F4, eF4⟩ : ∃ z, z = pp F3 268 (gvG F3 (pg F3 268) N r) := ⟨_, rfl⟩
              have aF4 := b2.2
              rw [← eF4] at aF4
              refine V.weq (ws2 := [mO h ad n1, (ad 0, .inl (M.G.2 0, 402, .inl F4))]) (by rw [← eF4]) ?_
              refine V.if_eqB (pc' := 93) C 116 dX7_isCured_90 rfl rfl (fun h18 => ?_) (fun h18 => ?_)
              · refine V.iinc (pc' := 119) C (nI (r + 1)) [(4, .int (nI (r + 1))), (0, .ref h), (1, .int (nI c)), (2, .int (nI 2)), (3, .int (nI q))] dX7_isCured_116 rfl 5 hnL rfl 4 rfl (ii_N r 1 rfl) rfl ?_
                refine V.goto C 58 dX7_isCured_119 rfl ?_
                refine V.lvs [1, 2, 3, 4, 0] (lv2 := [(0, .ref h), (1, .int (nI c)), (2, .int (nI 2)), (3, .int (nI q)), (4, .int (nI (r + 1)))]) rfl ?_
                exact ih_L14 (by omega) F4 (⟨aF4.1, aF4.2.1⟩) (nCur_2f hCi (fun z => h18 z.1))
              · refine V.aload_n (pc' := 94) C 0 dX7_isCured_93 rfl rfl ?_
                refine V.get (pc' := 97) C dX7_isCured_94 rfl 0 rfl rfl in_X7 0 rfl q929 rfl ?_
                refine V.sipush (pc' := 100) C dX7_isCured_97 rfl kcs_283 ?_
                refine V.iload_n (pc' := 101) C 1 dX7_isCured_100 rfl rfl ?_
                refine V.iaddN (pc' := 102) C 283 c dX7_isCured_101 rfl ?_
                refine V.iald (pc' := 103) C (283 + c) dX7_isCured_102 rfl 1 rfl (by omega) rfl ?_
                refine V.topI (y := gvG g (gvG g g N q) N r (15 + c)) (at_268 aF4.2.2 hc) ?_
                refine V.bipush (pc' := 105) C dX7_isCured_103 rfl kcb_50 ?_
                refine V.icmp_ne (pc' := 108) C 116 dX7_isCured_105 rfl rfl (fun h19 => ?_) (fun h19 => ?_)
                · refine V.iinc (pc' := 119) C (nI (r + 1)) [(4, .int (nI (r + 1))), (0, .ref h), (1, .int (nI c)), (2, .int (nI 2)), (3, .int (nI q))] dX7_isCured_116 rfl 5 hnL rfl 4 rfl (ii_N r 1 rfl) rfl ?_
                  refine V.goto C 58 dX7_isCured_119 rfl ?_
                  refine V.lvs [1, 2, 3, 4, 0] (lv2 := [(0, .ref h), (1, .int (nI c)), (2, .int (nI 2)), (3, .int (nI q)), (4, .int (nI (r + 1)))]) rfl ?_
                  exact ih_L14 (by omega) F4 (⟨aF4.1, aF4.2.1⟩) (nCur_2f hCi (fun z => h19 z.2))
                · refine V.aload_n (pc' := 109) C 0 dX7_isCured_108 rfl rfl ?_
                  refine V.iload (pc' := 111) C 4 dX7_isCured_109 rfl rfl ?_
                  refine V.put (pc' := 114) C [(h, .inr (7, [.ref (ad 0), .int (n1 1), .ref (ad 2), .int (n1 3), .int (n1 4), .int (n1 5), .ref (ad 6), .int (n1 7), .int (n1 8), .int (n1 9), .int (n1 10), .int (n1 11), .int (n1 12), .int (n1 13), .int (n1 14), .ref (ad 15), .ref (ad 16), .int (n1 17), .int (n1 18), .int (n1 19), .int (n1 20), .int (n1 21), .int (nI r), .int (n1 23), .ref (ad 24), .int (n1 25), .ref (ad 26), .ref (ad 27), .ref (ad 28), .ref (ad 29), .ref (ad 30), .int (n1 31)])), (ad 0, .inl (M.G.2 0, 402, .inl F4))] dX7_isCured_111 rfl 0 rfl rfl in_X7 tyX7_ok nmX7 22 rfl q951 rfl rfl rfl rfl rfl ?_
                  obtain ⟨n2, en2⟩ : ∃ z, z = upd n1 22 (nI r) := ⟨_, rfl⟩
                  have an2 : Qi i (upd n1 22 (nI r)) ∧ (upd n1 22 (nI r)) 21 = nI q ∧ (upd n1 22 (nI r)) 22 = nI r := ⟨an1.1.u22 _, an1.2, rfl⟩
                  rw [← en2] at an2
                  refine V.weq (ws2 := [mO h ad n2, (ad 0, .inl (M.G.2 0, 402, .inl F4))]) (by rw [en2]; rfl) ?_
                  refine V.iconst (pc' := 115) C dX7_isCured_114 rfl kci_1 ?_
                  exact V.iret C T dX7_isCured_115 (F4, n2, (1, q, r)) rfl rfl (bI_t (show (1 : Nat) = 1 from rfl)).symm bI_nar ⟨aF4.1, an2.1, Or.inl ⟨rfl, ⟨(show q < 500 by omega), (show r < 500 by omega), h12, Or.inr ⟨rfl, h18, h19⟩⟩, hCi, an2.2.1, fun _ => an2.2.2⟩⟩ rfl rfl rfl
          refine V.lvs [1, 2, 3, 4, 0] (lv2 := [(0, .ref h), (1, .int (nI c)), (2, .int (nI 2)), (3, .int (nI q)), (4, .int (nI 0))]) rfl ?_
          exact L14 0 (by omega) F2 aF2 hC
    refine V.lvs [1, 2, 3, 0] (lv2 := [(0, .ref h), (1, .int (nI c)), (2, .int (nI 2)), (3, .int (nI 0))]) rfl ?_
    exact L9 0 (by omega) f i hf nCur_0 (Qi.rf i)
