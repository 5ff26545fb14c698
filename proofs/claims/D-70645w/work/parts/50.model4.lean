set_option maxRecDepth 100000
set_option maxHeartbeats 4000000 in
theorem ct_X7_givesBy (l : Launch) (G : GG) (h : Nat) (ad : Nat → Nat) (i : Nat → Int32) (f : Nat → Int32) (N : Nat) (P : Nat) (co : Nat) (hN : i 1 = nI N) (hN5 : N ≤ 5) (hP : P + 67 ≤ 402) (hco : co < 500) : Ct l G yX7_givesBy (ws_ yX7_givesBy cX7_givesBy 7 (some .boolean)) ({ frames := 3, cells := 0, slots := 0, locals := 70 } : Room) [.ref h, .int (nI P), .int (nI co)] [mO h ad i, (ad 0, .inl (G.2 0, 402, .inl f))] (fun _ : Unit => some (.int (bI (gvP f (pg f P) N co)))) (fun _ => True) (fun _ => [mO h ad i, (ad 0, .inl (G.2 0, 402, .inl (pp f P (gvG f (pg f P) N co))))]) := by
  refine Ct.of rfl rfl ?_
  intro M el eG hnL C T
  subst el
  subst eG
  have C : Cx M cX7_givesBy "ClockWardModel" ({ frames := 3, cells := 0, slots := 0, locals := 70 } : Room) := C
  refine V.lvs [0, 1, 2] (lv2 := [(0, .ref h), (1, .int (nI P)), (2, .int (nI co))]) rfl ?_
  refine V.iload_n (pc' := 1) C 2 dX7_givesBy_0 rfl rfl ?_
  refine V.bipush (pc' := 3) C dX7_givesBy_1 rfl kcb_100 ?_
  refine V.idivN (pc' := 4) C co 100 (by omega) (by omega) (by omega) dX7_givesBy_3 rfl ?_
  refine V.istore_n (pc' := 5) C [(3, .int (nI (co / 100))), (0, .ref h), (1, .int (nI P)), (2, .int (nI co))] dX7_givesBy_4 rfl 7 hnL rfl rfl ?_
  refine V.iload_n (pc' := 6) C 3 dX7_givesBy_5 rfl rfl ?_
  refine V.bipush (pc' := 8) C dX7_givesBy_6 rfl kcb_10 ?_
  refine V.idivN (pc' := 9) C co 10 (by omega) (by omega) (by omega) dX7_givesBy_8 rfl ?_
  refine V.bipush (pc' := 11) C dX7_givesBy_9 rfl kcb_10 ?_
  refine V.iremN (pc' := 12) C (co / 10) 10 (by omega) (by omega) (by omega) dX7_givesBy_11 rfl ?_
  refine V.istore (pc' := 14) C [(4, .int (nI ((co / 10) % 10))), (3, .int (nI (co / 100))), (0, .ref h), (1, .int (nI P)), (2, .int (nI co))] dX7_givesBy_12 rfl 7 hnL rfl rfl ?_
  refine V.iload_n (pc' := 15) C 4 dX7_givesBy_14 rfl rfl ?_
  refine V.bipush (pc' := 17) C dX7_givesBy_15 rfl kcb_10 ?_
  refine V.iremN (pc' := 18) C co 10 (by omega) (by omega) (by omega) dX7_givesBy_17 rfl ?_
  refine V.istore (pc' := 20) C [(5, .int (nI (co % 10))), (4, .int (nI ((co / 10) % 10))), (3, .int (nI (co / 100))), (0, .ref h), (1, .int (nI P)), (2, .int (nI co))] dX7_givesBy_18 rfl 7 hnL rfl rfl ?_
  refine V.aload_n (pc' := 21) C 3 dX7_givesBy_20 rfl rfl ?_
  refine V.iload_n (pc' := 22) C 2 dX7_givesBy_21 rfl rfl ?_
  refine V.iload (pc' := 24) C 1 dX7_givesBy_22 rfl rfl ?_
  refine V.callV (pc' := 27) (wr := [(ad 0, .inl (M.G.2 0, 402, .inl f))]) C (ct_X7_areTwo M.l M.G h ad i N (nI (co / 100)) (nI ((co / 10) % 10)) hN hN5) dX7_givesBy_24 rfl (lw_V q1116 q1118 qs45 q71 q1119) hyv_X7_areTwo rfl rfl 0 rfl rfl [0] [1] [1, 0] rfl rfl rfl (fun _ => [mO h ad i, (ad 0, .inl (M.G.2 0, 402, .inl f))]) (fun _ => rfl) rfl 0 0 rfl rfl (fun _ => [.int (bI (isTwo N (nI (co / 100)) (nI ((co / 10) % 10))))]) (fun _ => rfl) (fun _ _ => ?_)
  have J3 : ∀ (x2 : Int32), x2 = (if isTwo N (nI (co / 100)) (nI ((co / 10) % 10)) then if (nI (co % 10)) ≤ 0 then 0 else if may2 f (pg f P) (co / 100) ((co / 10) % 10) (nI (co % 10)) then 1 else 0 else 0) → V M 0 0 [mO h ad i, (ad 0, .inl (M.G.2 0, 402, .inl f))] [(5, .int (nI (co % 10))), (4, .int (nI ((co / 10) % 10))), (3, .int (nI (co / 100))), (0, .ref h), (1, .int (nI P)), (2, .int (nI co))] [.int x2] 53 := by
    intro x2 ex2
    have ex2 : x2 = bI ((isTwo N (nI (co / 100)) (nI ((co / 10) % 10))) ∧ (¬ ((nI (co % 10)) ≤ 0) ∧ (may2 f (pg f P) (co / 100) ((co / 10) % 10) (nI (co % 10))))) := ex2.trans (it_a (it_0 it_10))
    subst ex2
    refine V.istore (pc' := 55) C [(6, .int (bI ((isTwo N (nI (co / 100)) (nI ((co / 10) % 10))) ∧ (¬ ((nI (co % 10)) ≤ 0) ∧ (may2 f (pg f P) (co / 100) ((co / 10) % 10) (nI (co % 10))))))), (5, .int (nI (co % 10))), (4, .int (nI ((co / 10) % 10))), (3, .int (nI (co / 100))), (0, .ref h), (1, .int (nI P)), (2, .int (nI co))] dX7_givesBy_53 rfl 7 hnL rfl rfl ?_
    refine V.iload (pc' := 57) C 0 dX7_givesBy_55 rfl rfl ?_
    have J6 : ∀ (x5 : Nat → Int32), x5 = (if (isTwo N (nI (co / 100)) (nI ((co / 10) % 10))) ∧ (¬ ((nI (co % 10)) ≤ 0) ∧ (may2 f (pg f P) (co / 100) ((co / 10) % 10) (nI (co % 10)))) then pp f P (give2 f (pg f P) (co / 100) ((co / 10) % 10) (nI (co % 10))) else f) → V M 0 0 [mO h ad i, (ad 0, .inl (M.G.2 0, 402, .inl x5))] [(6, .int (bI ((isTwo N (nI (co / 100)) (nI ((co / 10) % 10))) ∧ (¬ ((nI (co % 10)) ≤ 0) ∧ (may2 f (pg f P) (co / 100) ((co / 10) % 10) (nI (co % 10))))))), (5, .int (nI (co % 10))), (4, .int (nI ((co / 10) % 10))), (3, .int (nI (co / 100))), (0, .ref h), (1, .int (nI P)), (2, .int (nI co))] [] 70 := by
      intro x5 ex5
      subst ex5
      refine V.iload (pc' := 72) C 0 dX7_givesBy_70 rfl rfl ?_
      exact V.iret C T dX7_givesBy_72 () rfl rfl rfl bI_nar trivial (by rw [← gv_pp, pp_pg]) rfl rfl
    refine V.if_eqB (pc' := 60) C 70 dX7_givesBy_57 rfl rfl (fun h4 => ?_) (fun h4 => ?_)
    · exact J6 _ (by rw [if_neg h4])
    · obtain ⟨l1, l2⟩ := two_lt hN5 (by omega) (by omega) h4.1
      refine V.aload_n (pc' := 61) C 4 dX7_givesBy_60 rfl rfl ?_
      refine V.iload_n (pc' := 62) C 5 dX7_givesBy_61 rfl rfl ?_
      refine V.iload_n (pc' := 63) C 3 dX7_givesBy_62 rfl rfl ?_
      refine V.iload (pc' := 65) C 2 dX7_givesBy_63 rfl rfl ?_
      refine V.iload (pc' := 67) C 1 dX7_givesBy_65 rfl rfl ?_
      refine V.callV (pc' := 70) (wr := []) C (ct_X7_givesOn M.l M.G h ad i f P (co / 100) ((co / 10) % 10) (nI (co % 10)) (by omega) (by omega) (by omega)) dX7_givesBy_67 rfl (lw_V q1176 q1178 qs52 q71 q1179) hyv_X7_givesOn rfl rfl 0 rfl rfl [0, 1] [] [0, 1] rfl rfl rfl (fun _ => [mO h ad i, (ad 0, .inl (M.G.2 0, 402, .inl (pp f P (give2 f (pg f P) (co / 100) ((co / 10) % 10) (nI (co % 10))))))]) (fun _ => rfl) rfl 0 0 rfl rfl (fun _ => []) (fun _ => rfl) (fun _ _ => ?_)
      exact J6 _ (by rw [if_pos h4])
  refine V.if_eqB (pc' := 30) C 52 dX7_givesBy_27 rfl rfl (fun h1 => ?_) (fun h1 => ?_)
  · refine V.iconst (pc' := 53) C dX7_givesBy_52 rfl kci_0 ?_
    exact J3 _ (by rw [if_neg h1])
  · obtain ⟨l1, l2⟩ := two_lt hN5 (by omega) (by omega) h1
    refine V.iload (pc' := 32) C 0 dX7_givesBy_30 rfl rfl ?_
    refine V.if_le (pc' := 35) C 52 dX7_givesBy_32 rfl rfl (fun h2 => ?_) (fun h2 => ?_)
    · refine V.iconst (pc' := 53) C dX7_givesBy_52 rfl kci_0 ?_
      exact J3 _ (by rw [if_pos h1, if_pos h2])
    · refine V.aload_n (pc' := 36) C 3 dX7_givesBy_35 rfl rfl ?_
      refine V.iload_n (pc' := 37) C 4 dX7_givesBy_36 rfl rfl ?_
      refine V.iload_n (pc' := 38) C 2 dX7_givesBy_37 rfl rfl ?_
      refine V.iload (pc' := 40) C 1 dX7_givesBy_38 rfl rfl ?_
      refine V.iload (pc' := 42) C 0 dX7_givesBy_40 rfl rfl ?_
      refine V.callV (pc' := 45) (wr := []) C (ct_X7_mayBe M.l M.G h ad i f P (co / 100) ((co / 10) % 10) (nI (co % 10)) (by omega) (by omega) (by omega)) dX7_givesBy_42 rfl (lw_V q1156 q1158 qs48 q71 q1159) hyv_X7_mayBe rfl rfl 0 rfl rfl [0, 1] [] [0, 1] rfl rfl rfl (fun _ => [mO h ad i, (ad 0, .inl (M.G.2 0, 402, .inl f))]) (fun _ => rfl) rfl 0 0 rfl rfl (fun _ => [.int (bI (may2 f (pg f P) (co / 100) ((co / 10) % 10) (nI (co % 10))))]) (fun _ => rfl) (fun _ _ => ?_)
      refine V.if_eqB (pc' := 48) C 52 dX7_givesBy_45 rfl rfl (fun h3 => ?_) (fun h3 => ?_)
      · refine V.iconst (pc' := 53) C dX7_givesBy_52 rfl kci_0 ?_
        exact J3 _ (by rw [if_pos h1, if_neg h2, if_neg h3])
      · refine V.iconst (pc' := 49) C dX7_givesBy_48 rfl kci_1 ?_
        refine V.goto C 53 dX7_givesBy_49 rfl ?_
        exact J3 _ (by rw [if_pos h1, if_neg h2, if_pos h3])
set_option maxHeartbeats 4000000 in
theorem ct_X7_drift (l : Launch) (G : GG) (h : Nat) (ad : Nat → Nat) (i : Nat → Int32) (f : Nat → Int32) (N : Nat) (x : Int32) (y : Int32) (z : Int32) (n : Nat) (hN : i 1 = nI N) (hN5 : N ≤ 5) (okc : okP f N n) : Ct l G yX7_drift (ws_ yX7_drift cX7_drift 8 (some .int)) ({ frames := 4, cells := 0, slots := 0, locals := 96 } : Room) [.ref h, .int x, .int y, .int z] [mO h ad i, (ad 0, .inl (G.2 0, 402, .inl f))] (fun u : (Nat → Int32) × (Nat → Int32) => some (.int (a_drift f N x y z))) (fun u => Qf f u.1 ∧ Qi i u.2) (fun u => [mO h ad u.2, (ad 0, .inl (G.2 0, 402, .inl u.1))]) := by
  refine Ct.of rfl rfl ?_
  intro M el eG hnL C T
  subst el
  subst eG
  have C : Cx M cX7_drift "ClockWardModel" ({ frames := 4, cells := 0, slots := 0, locals := 96 } : Room) := C
  have okt : okP (cpP f 0 268) N n := okP_ag (ag_cp f 268).sy okc
  refine V.lvs [0, 1, 2, 3] (lv2 := [(0, .ref h), (1, .int x), (2, .int y), (3, .int z)]) rfl ?_
  refine V.iload_n (pc' := 1) C 2 dX7_drift_0 rfl rfl ?_
  refine V.i2l (pc' := 2) C dX7_drift_1 rfl ?_
  refine V.lconst (pc' := 3) C dX7_drift_2 rfl kcl_1 ?_
  refine V.ldc2 (pc' := 6) C dX7_drift_3 rfl q1209 ?_
  refine V.callS (pc' := 9) (wr := [mO h ad i, (ad 0, .inl (M.G.2 0, 402, .inl f))]) C (ct_X7_in M.l M.G y 1 60 ) dX7_drift_6 rfl (lw_S q1032 q1033 q71 q1034) hys_X7_in rfl rfl [] [0, 1] [0, 1] rfl rfl rfl (fun _ => [mO h ad i, (ad 0, .inl (M.G.2 0, 402, .inl f))]) (fun _ => rfl) rfl 0 0 rfl rfl (fun _ => [.int (bI (inI y 1 60))]) (fun _ => rfl) (fun _ _ => ?_)
  refine V.if_eqB (pc' := 12) C 22 dX7_drift_9 rfl rfl (fun h1 => ?_) (fun h1 => ?_)
  · refine V.iconst (pc' := 23) C dX7_drift_22 rfl kci_m1 ?_
    exact V.iret C T dX7_drift_23 (f, i) rfl rfl (if_neg (fun z => h1 z.1)).symm rfl ⟨(Qf.rf _), rfl, rfl, rfl, rfl, rfl⟩ rfl rfl rfl
  · obtain ⟨m, hm1, hm2, rfl⟩ := in_nat1 (m := 60) (by decide) h1
    refine V.iload_n (pc' := 13) C 3 dX7_drift_12 rfl rfl ?_
    refine V.i2l (pc' := 14) C dX7_drift_13 rfl ?_
    refine V.lconst (pc' := 15) C dX7_drift_14 rfl kcl_0 ?_
    refine V.lconst (pc' := 16) C dX7_drift_15 rfl kcl_1 ?_
    refine V.callS (pc' := 19) (wr := [mO h ad i, (ad 0, .inl (M.G.2 0, 402, .inl f))]) C (ct_X7_in M.l M.G z 0 1 ) dX7_drift_16 rfl (lw_S q1032 q1033 q71 q1034) hys_X7_in rfl rfl [] [0, 1] [0, 1] rfl rfl rfl (fun _ => [mO h ad i, (ad 0, .inl (M.G.2 0, 402, .inl f))]) (fun _ => rfl) rfl 0 0 rfl rfl (fun _ => [.int (bI (inI z 0 1))]) (fun _ => rfl) (fun _ _ => ?_)
    refine V.if_neB (pc' := 22) C 24 dX7_drift_19 rfl rfl (fun h2 => ?_) (fun h2 => ?_)
    · refine V.aload_n (pc' := 25) C 0 dX7_drift_24 rfl rfl ?_
      refine V.get (pc' := 28) C dX7_drift_25 rfl 0 rfl rfl in_X7 1 rfl q930 rfl ?_
      refine V.topI hN ?_
      refine V.if_ne (pc' := 31) C 34 dX7_drift_28 rfl rfl (fun h3 => ?_) (fun h3 => ?_)
      · have h0 : 0 < N := Nat.pos_of_ne_zero (fun z => h3 (by rw [z]; rfl))
        refine V.aload_n (pc' := 35) C 0 dX7_drift_34 rfl rfl ?_
        refine V.iconst (pc' := 36) C dX7_drift_35 rfl kci_0 ?_
        refine V.sipush (pc' := 39) C dX7_drift_36 rfl kcs_268 ?_
        refine V.callV (pc' := 42) (wr := []) C (ct_X7_copies M.l M.G h ad i f 0 268 (by omega) (by omega) (by omega)) dX7_drift_39 rfl (lw_V q1197 q1199 qs55 q71 q1200) hyv_X7_copies rfl rfl 0 rfl rfl [0, 1] [] [0, 1] rfl rfl rfl (fun _ => [mO h ad i, (ad 0, .inl (M.G.2 0, 402, .inl (va_cpy f f 0 268 67)))]) (fun _ => rfl) rfl 0 0 rfl rfl (fun _ => []) (fun _ => rfl) (fun _ _ => ?_)
        refine V.weq (ws2 := [mO h ad i, (ad 0, .inl (M.G.2 0, 402, .inl (pp f 268 (cpP f 0 268))))]) (by rw [cpy_pp]) ?_
        refine V.iload_n (pc' := 43) C 1 dX7_drift_42 rfl rfl ?_
        refine V.istore (pc' := 45) C [(4, .int x), (0, .ref h), (1, .int x), (2, .int (nI m)), (3, .int z)] dX7_drift_43 rfl 8 hnL rfl rfl ?_
        refine V.iconst (pc' := 46) C dX7_drift_45 rfl kci_0 ?_
        refine V.istore (pc' := 48) C [(5, .int 0), (4, .int x), (0, .ref h), (1, .int x), (2, .int (nI m)), (3, .int z)] dX7_drift_46 rfl 8 hnL rfl rfl ?_
        refine V.iconst (pc' := 49) C dX7_drift_48 rfl kci_0 ?_
        refine V.istore (pc' := 51) C [(6, .int 0), (5, .int 0), (4, .int x), (0, .ref h), (1, .int x), (2, .int (nI m)), (3, .int z)] dX7_drift_49 rfl 8 hnL rfl rfl ?_
        have L4 : ∀ q : Nat, q ≤ m → V M 0 0 [mO h ad i, (ad 0, .inl (M.G.2 0, 402, .inl (pp f 268 (drG (cpP f 0 268) N x q))))] [(0, .ref h), (1, .int x), (2, .int (nI m)), (3, .int z), (4, .int (drv x q)), (5, .int (drC (cpP f 0 268) N x q)), (6, .int (nI q))] [] 51 := by
          refine loopN _ m (fun q hq ih_L4 => ?_)
          refine V.iload (pc' := 53) C 6 dX7_drift_51 rfl rfl ?_
          refine V.iload_n (pc' := 54) C 2 dX7_drift_53 rfl rfl ?_
          refine V.icmp_geN (pc' := 57) C q m (by omega) (by omega) 144 dX7_drift_54 rfl rfl (fun h5 => ?_) (fun h5 => ?_)
          · have hx6 : m = q := by omega
            subst hx6
            refine V.iload_n (pc' := 145) C 3 dX7_drift_144 rfl rfl ?_
            refine V.if_ne (pc' := 148) C 153 dX7_drift_145 rfl rfl (fun h7 => ?_) (fun h7 => ?_)
            · refine V.aload_n (pc' := 154) C 0 dX7_drift_153 rfl rfl ?_
              refine V.sipush (pc' := 157) C dX7_drift_154 rfl kcs_268 ?_
              refine V.callV (pc' := 160) (wr := []) C (ct_X7_rightOn M.l M.G h ad i (pp f 268 (drG (cpP f 0 268) N x m)) N 268 hN hN5 (by omega)) dX7_drift_157 rfl (lw_V q1092 q1094 qs42 q71 q1095) hyv_X7_rightOn rfl rfl 0 rfl rfl [0, 1] [] [0, 1] rfl rfl rfl (fun _ => [mO h ad i, (ad 0, .inl (M.G.2 0, 402, .inl (pp f 268 (drG (cpP f 0 268) N x m))))]) (fun _ => rfl) rfl 0 0 rfl rfl (fun _ => [.int (rightTo (pg (pp f 268 (drG (cpP f 0 268) N x m)) 268) N)]) (fun _ => rfl) (fun _ _ => ?_)
              refine V.topI (y := rightTo (drG (cpP f 0 268) N x m) N) (by rw [pg_pp]) ?_
              exact V.iret C T dX7_drift_160 (pp f 268 (drG (cpP f 0 268) N x m), i) rfl rfl (Eq.trans (by rw [if_neg (show ¬ N = 0 by omega), cn_nI (by omega), if_neg h7, rightTo_ag (dr_ag (ag_cp f 268) hN5 h0 x m).1 N hN5]) (if_pos ⟨h1, h2⟩).symm) rfl ⟨(Qf.pp (by omega)), rfl, rfl, rfl, rfl, rfl⟩ rfl rfl rfl
            · refine V.iload (pc' := 150) C 5 dX7_drift_148 rfl rfl ?_
              refine V.goto C 160 dX7_drift_150 rfl ?_
              exact V.iret C T dX7_drift_160 (pp f 268 (drG (cpP f 0 268) N x m), i) rfl rfl (Eq.trans (by rw [if_neg (show ¬ N = 0 by omega), cn_nI (by omega), if_pos h7, (dr_ag (ag_cp f 268) hN5 h0 x m).2]) (if_pos ⟨h1, h2⟩).symm) rfl ⟨(Qf.pp (by omega)), rfl, rfl, rfl, rfl, rfl⟩ rfl rfl rfl
          · have hok := drG_ok okt h0 x q
            have hlt := drd_lt x q
            obtain ⟨e1, e2, e3, e4⟩ := drK_div (N := N) (d := drd x q) h0 hN5
            have hkk := KK.tr (ag_kk (ag_cp f 268)) hok.1
            refine V.iload (pc' := 59) C 4 dX7_drift_57 rfl rfl ?_
            refine V.ldcw (pc' := 62) C dX7_drift_59 rfl q1305 ?_
            refine V.imul (pc' := 63) C dX7_drift_62 rfl ?_
            refine V.sipush (pc' := 66) C dX7_drift_63 rfl kcs_12345 ?_
            refine V.iadd (pc' := 67) C dX7_drift_66 rfl ?_
            refine V.topI (y := drv x (q + 1)) (show _ = drv x (q + 1) from rfl) ?_
            refine V.istore (pc' := 69) C [(4, .int (drv x (q + 1))), (0, .ref h), (1, .int x), (2, .int (nI m)), (3, .int z), (5, .int (drC (cpP f 0 268) N x q)), (6, .int (nI q))] dX7_drift_67 rfl 8 hnL rfl rfl ?_
            refine V.iload (pc' := 71) C 0 dX7_drift_69 rfl rfl ?_
            refine V.bipush (pc' := 73) C dX7_drift_71 rfl kcb_16 ?_
            refine V.ishr (pc' := 74) C dX7_drift_73 rfl ?_
            refine V.sipush (pc' := 77) C dX7_drift_74 rfl kcs_32767 ?_
            refine V.iand (pc' := 78) C dX7_drift_77 rfl ?_
            refine V.topI (y := nI (drd x q)) (drd_m x q) ?_
            refine V.istore (pc' := 80) C [(7, .int (nI (drd x q))), (4, .int (drv x (q + 1))), (0, .ref h), (1, .int x), (2, .int (nI m)), (3, .int z), (5, .int (drC (cpP f 0 268) N x q)), (6, .int (nI q))] dX7_drift_78 rfl 8 hnL rfl rfl ?_
            refine V.aload_n (pc' := 81) C 2 dX7_drift_80 rfl rfl ?_
            refine V.sipush (pc' := 84) C dX7_drift_81 rfl kcs_268 ?_
            refine V.bipush (pc' := 86) C dX7_drift_84 rfl kcb_100 ?_
            refine V.iload (pc' := 88) C 0 dX7_drift_86 rfl rfl ?_
            refine V.aload_n (pc' := 89) C 2 dX7_drift_88 rfl rfl ?_
            refine V.get (pc' := 92) C dX7_drift_89 rfl 0 rfl rfl in_X7 1 rfl q930 rfl ?_
            refine V.topI hN ?_
            refine V.iremN (pc' := 93) C (drd x q) N (by omega) (by omega) (by omega) dX7_drift_92 rfl ?_
            refine V.imulN (pc' := 94) C 100 ((drd x q) % N) dX7_drift_93 rfl ?_
            refine V.bipush (pc' := 96) C dX7_drift_94 rfl kcb_10 ?_
            refine V.iload (pc' := 98) C 0 dX7_drift_96 rfl rfl ?_
            refine V.bipush (pc' := 100) C dX7_drift_98 rfl kcb_8 ?_
            refine V.idivN (pc' := 101) C (drd x q) 8 (by omega) (by omega) (by omega) dX7_drift_100 rfl ?_
            refine V.aload_n (pc' := 102) C 2 dX7_drift_101 rfl rfl ?_
            refine V.get (pc' := 105) C dX7_drift_102 rfl 0 rfl rfl in_X7 1 rfl q930 rfl ?_
            refine V.topI hN ?_
            refine V.iremN (pc' := 106) C ((drd x q) / 8) N (by omega) (by omega) (by omega) dX7_drift_105 rfl ?_
            refine V.imulN (pc' := 107) C 10 (((drd x q) / 8) % N) dX7_drift_106 rfl ?_
            refine V.iaddN (pc' := 108) C (100 * ((drd x q) % N)) (10 * (((drd x q) / 8) % N)) dX7_drift_107 rfl ?_
            refine V.iconst (pc' := 109) C dX7_drift_108 rfl kci_1 ?_
            refine V.iaddN (pc' := 110) C (100 * ((drd x q) % N) + 10 * (((drd x q) / 8) % N)) 1 dX7_drift_109 rfl ?_
            refine V.iload (pc' := 112) C 0 dX7_drift_110 rfl rfl ?_
            refine V.bipush (pc' := 114) C dX7_drift_112 rfl kcb_64 ?_
            refine V.idivN (pc' := 115) C (drd x q) 64 (by omega) (by omega) (by omega) dX7_drift_114 rfl ?_
            refine V.bipush (pc' := 117) C dX7_drift_115 rfl kcb_9 ?_
            refine V.iremN (pc' := 118) C ((drd x q) / 64) 9 (by omega) (by omega) (by omega) dX7_drift_117 rfl ?_
            refine V.iaddN (pc' := 119) C (100 * ((drd x q) % N) + 10 * (((drd x q) / 8) % N) + 1) (((drd x q) / 64) % 9) dX7_drift_118 rfl ?_
            refine V.topN (b := drK N (drd x q)) rfl ?_
            refine V.callV (pc' := 122) (wr := []) C (ct_X7_givesBy M.l M.G h ad i (pp f 268 (drG (cpP f 0 268) N x q)) N 268 (drK N (drd x q)) hN hN5 (by omega) (by omega)) dX7_drift_119 rfl (lw_V q1239 q1241 qs58 q71 q1242) hyv_X7_givesBy rfl rfl 0 rfl rfl [0, 1] [] [0, 1] rfl rfl rfl (fun _ => [mO h ad i, (ad 0, .inl (M.G.2 0, 402, .inl (pp (pp f 268 (drG (cpP f 0 268) N x q)) 268 (gvG (pp f 268 (drG (cpP f 0 268) N x q)) (pg (pp f 268 (drG (cpP f 0 268) N x q)) 268) N (drK N (drd x q))))))]) (fun _ => rfl) rfl 0 0 rfl rfl (fun _ => [.int (bI (gvP (pp f 268 (drG (cpP f 0 268) N x q)) (pg (pp f 268 (drG (cpP f 0 268) N x q)) 268) N (drK N (drd x q))))]) (fun _ => rfl) (fun _ _ => ?_)
            refine V.topI (y := bI (drP (drG (cpP f 0 268) N x q) N (drd x q))) (bI_iff (by rw [pg_pp]; exact (gv_k (by omega) hN5 e4).trans (dr_gv h0 hN5 hkk))) ?_
            refine V.if_eqB (pc' := 125) C 131 dX7_drift_122 rfl rfl (fun h8 => ?_) (fun h8 => ?_)
            · have hdr := h8
              refine V.weq (ws2 := [mO h ad i, (ad 0, .inl (M.G.2 0, 402, .inl (pp f 268 (drG (cpP f 0 268) N x q))))]) (by rw [pg_pp, pp_pp, gv_f (by omega) h0 hN5 hkk hdr]) ?_
              refine V.aload_n (pc' := 132) C 2 dX7_drift_131 rfl rfl ?_
              refine V.sipush (pc' := 135) C dX7_drift_132 rfl kcs_268 ?_
              refine V.callV (pc' := 138) (wr := []) C (ct_X7_nightOn M.l M.G h ad i (pp f 268 (drG (cpP f 0 268) N x q)) N 268 hN hN5 (by omega)) dX7_drift_135 rfl (lw_V q1185 q1187 qs53 q71 q1188) hyv_X7_nightOn rfl rfl 0 rfl rfl [0, 1] [] [0, 1] rfl rfl rfl (fun _ => [mO h ad i, (ad 0, .inl (M.G.2 0, 402, .inl (pp (pp f 268 (drG (cpP f 0 268) N x q)) 268 (night (pg (pp f 268 (drG (cpP f 0 268) N x q)) 268) N))))]) (fun _ => rfl) rfl 0 0 rfl rfl (fun _ => []) (fun _ => rfl) (fun _ _ => ?_)
              refine V.weq (ws2 := [mO h ad i, (ad 0, .inl (M.G.2 0, 402, .inl (pp f 268 (drG (cpP f 0 268) N x (q + 1)))))]) (by rw [pg_pp, pp_pp, drG_f hdr]) ?_
              refine V.iinc (pc' := 141) C (nI (q + 1)) [(6, .int (nI (q + 1))), (7, .int (nI (drd x q))), (4, .int (drv x (q + 1))), (0, .ref h), (1, .int x), (2, .int (nI m)), (3, .int z), (5, .int (drC (cpP f 0 268) N x q))] dX7_drift_138 rfl 8 hnL rfl 7 rfl (ii_N q 1 rfl) rfl ?_
              refine V.goto C 51 dX7_drift_141 rfl ?_
              refine V.lvs [3, 4, 5, 6, 2, 7, 0] (lv2 := [(0, .ref h), (1, .int x), (2, .int (nI m)), (3, .int z), (4, .int (drv x (q + 1))), (5, .int (drC (cpP f 0 268) N x (q + 1))), (6, .int (nI (q + 1)))]) (by rw [drC_f hdr]; rfl) ?_
              exact ih_L4 (by omega)
            · have hdr := h8
              refine V.weq (ws2 := [mO h ad i, (ad 0, .inl (M.G.2 0, 402, .inl (pp f 268 (drG (cpP f 0 268) N x (q + 1)))))]) (by rw [pg_pp, pp_pp, gv_t (by omega) h0 hN5 hkk hdr, drG_t hdr]) ?_
              refine V.iinc (pc' := 128) C ((drC (cpP f 0 268) N x q) + Int32.ofInt 1) [(5, .int ((drC (cpP f 0 268) N x q) + Int32.ofInt 1)), (7, .int (nI (drd x q))), (4, .int (drv x (q + 1))), (0, .ref h), (1, .int x), (2, .int (nI m)), (3, .int z), (6, .int (nI q))] dX7_drift_125 rfl 8 hnL rfl 6 rfl rfl rfl ?_
              refine V.goto C 138 dX7_drift_128 rfl ?_
              refine V.iinc (pc' := 141) C (nI (q + 1)) [(6, .int (nI (q + 1))), (5, .int ((drC (cpP f 0 268) N x q) + Int32.ofInt 1)), (7, .int (nI (drd x q))), (4, .int (drv x (q + 1))), (0, .ref h), (1, .int x), (2, .int (nI m)), (3, .int z)] dX7_drift_138 rfl 8 hnL rfl 7 rfl (ii_N q 1 rfl) rfl ?_
              refine V.goto C 51 dX7_drift_141 rfl ?_
              refine V.lvs [4, 5, 6, 7, 3, 1, 0] (lv2 := [(0, .ref h), (1, .int x), (2, .int (nI m)), (3, .int z), (4, .int (drv x (q + 1))), (5, .int (drC (cpP f 0 268) N x (q + 1))), (6, .int (nI (q + 1)))]) (by rw [drC_t hdr]; rfl) ?_
              exact ih_L4 (by omega)
        refine V.lvs [3, 4, 5, 6, 2, 1, 0] (lv2 := [(0, .ref h), (1, .int x), (2, .int (nI m)), (3, .int z), (4, .int (drv x 0)), (5, .int (drC (cpP f 0 268) N x 0)), (6, .int (nI 0))]) rfl ?_
        refine V.weq (ws2 := [mO h ad i, (ad 0, .inl (M.G.2 0, 402, .inl (pp f 268 (drG (cpP f 0 268) N x 0))))]) rfl ?_
        exact L4 0 (by omega)
      · refine V.bipush (pc' := 33) C dX7_drift_31 rfl kcb_m2 ?_
        exact V.iret C T dX7_drift_33 (f, i) rfl rfl (Eq.trans (if_pos (show N = 0 from (nI_eq (by omega) (by omega)).mp h3)).symm (if_pos ⟨h1, h2⟩).symm) rfl ⟨(Qf.rf _), rfl, rfl, rfl, rfl, rfl⟩ rfl rfl rfl
    · refine V.iconst (pc' := 23) C dX7_drift_22 rfl kci_m1 ?_
      exact V.iret C T dX7_drift_23 (f, i) rfl rfl (if_neg (fun z => h2 z.2)).symm rfl ⟨(Qf.rf _), rfl, rfl, rfl, rfl, rfl⟩ rfl rfl rfl
