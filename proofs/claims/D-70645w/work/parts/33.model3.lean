set_option maxRecDepth 100000
set_option maxHeartbeats 4000000 in
theorem ct_X7_leave (l : Launch) (G : GG) (h : Nat) (ad : Nat → Nat) (i : Nat → Int32) (f : Nat → Int32) (N : Nat) (x : Int32) (n : Nat) (hN : i 1 = nI N) (hN5 : N ≤ 5) (hpl : okPl f n) : Ct l G yX7_leave (ws_ yX7_leave cX7_leave 6 (some .int)) ({ frames := 4, cells := 0, slots := 0, locals := 93 } : Room) [.ref h, .int x] [mO h ad i, (ad 0, .inl (G.2 0, 402, .inl f))] (fun u : (Nat → Int32) × (Nat → Int32) => some (.int (a_leave f N n x))) (fun u => Qf f u.1 ∧ Qi i u.2) (fun u => [mO h ad u.2, (ad 0, .inl (G.2 0, 402, .inl u.1))]) := by
  refine Ct.of rfl rfl ?_
  intro M el eG hnL C T
  subst el
  subst eG
  have C : Cx M cX7_leave "ClockWardModel" ({ frames := 4, cells := 0, slots := 0, locals := 93 } : Room) := C
  have hn6 := hpl.2.1
  refine V.lvs [0, 1] (lv2 := [(0, .ref h), (1, .int x)]) rfl ?_
  refine V.iload_n (pc' := 1) C 1 dX7_leave_0 rfl rfl ?_
  refine V.i2l (pc' := 2) C dX7_leave_1 rfl ?_
  refine V.lconst (pc' := 3) C dX7_leave_2 rfl kcl_0 ?_
  refine V.lconst (pc' := 4) C dX7_leave_3 rfl kcl_1 ?_
  refine V.callS (pc' := 7) (wr := [mO h ad i, (ad 0, .inl (M.G.2 0, 402, .inl f))]) C (ct_X7_in M.l M.G x 0 1 ) dX7_leave_4 rfl (lw_S q1032 q1033 q71 q1034) hys_X7_in rfl rfl [] [0, 1] [0, 1] rfl rfl rfl (fun _ => [mO h ad i, (ad 0, .inl (M.G.2 0, 402, .inl f))]) (fun _ => rfl) rfl 0 0 rfl rfl (fun _ => [.int (bI (inI x 0 1))]) (fun _ => rfl) (fun _ _ => ?_)
  refine V.if_neB (pc' := 10) C 12 dX7_leave_7 rfl rfl (fun h1 => ?_) (fun h1 => ?_)
  · refine V.aload_n (pc' := 13) C 0 dX7_leave_12 rfl rfl ?_
    refine V.iconst (pc' := 14) C dX7_leave_13 rfl kci_0 ?_
    refine V.callV (pc' := 17) (wr := []) C (ct_X7_planGoes M.l M.G h ad i f 0 n hpl) dX7_leave_14 rfl (lw_V q1193 q1195 qs54 q71 q1196) hyv_X7_planGoes rfl rfl 0 rfl rfl [0, 1] [] [0, 1] rfl rfl rfl (fun _ => [(h, .inr (7, [.ref (ad 0), .int (i 1), .ref (ad 2), .int (i 3), .int (i 4), .int (i 5), .ref (ad 6), .int (i 7), .int (i 8), .int (i 9), .int (i 10), .int (i 11), .int (i 12), .int (i 13), .int (i 14), .ref (ad 15), .ref (ad 16), .int (goC f (cpP f 0 268) 0 n), .int (goF f (cpP f 0 268) 0 n), .int (i 19), .int (i 20), .int (i 21), .int (i 22), .int (i 23), .ref (ad 24), .int (i 25), .ref (ad 26), .ref (ad 27), .ref (ad 28), .ref (ad 29), .ref (ad 30), .int (i 31)])), (ad 0, .inl (M.G.2 0, 402, .inl (pp f 268 (goG f (cpP f 0 268) 0 n))))]) (fun _ => rfl) rfl 0 0 rfl rfl (fun _ => []) (fun _ => rfl) (fun _ _ => ?_)
    refine V.aload_n (pc' := 18) C 0 dX7_leave_17 rfl rfl ?_
    refine V.sipush (pc' := 21) C dX7_leave_18 rfl kcs_268 ?_
    refine V.callV (pc' := 24) (wr := []) C (ct_X7_rightOn M.l M.G h ad (upd (upd i 17 (goC f (cpP f 0 268) 0 n)) 18 (goF f (cpP f 0 268) 0 n)) (pp f 268 (goG f (cpP f 0 268) 0 n)) N 268 hN hN5 (by omega)) dX7_leave_21 rfl (lw_V q1092 q1094 qs42 q71 q1095) hyv_X7_rightOn rfl rfl 0 rfl rfl [0, 1] [] [0, 1] rfl rfl rfl (fun _ => [(h, .inr (7, [.ref (ad 0), .int (i 1), .ref (ad 2), .int (i 3), .int (i 4), .int (i 5), .ref (ad 6), .int (i 7), .int (i 8), .int (i 9), .int (i 10), .int (i 11), .int (i 12), .int (i 13), .int (i 14), .ref (ad 15), .ref (ad 16), .int (goC f (cpP f 0 268) 0 n), .int (goF f (cpP f 0 268) 0 n), .int (i 19), .int (i 20), .int (i 21), .int (i 22), .int (i 23), .ref (ad 24), .int (i 25), .ref (ad 26), .ref (ad 27), .ref (ad 28), .ref (ad 29), .ref (ad 30), .int (i 31)])), (ad 0, .inl (M.G.2 0, 402, .inl (pp f 268 (goG f (cpP f 0 268) 0 n))))]) (fun _ => rfl) rfl 0 0 rfl rfl (fun _ => [.int (rightTo (pg (pp f 268 (goG f (cpP f 0 268) 0 n)) 268) N)]) (fun _ => rfl) (fun _ _ => ?_)
    refine V.topI (y := rightTo (goG f f 0 n) N) (by rw [pg_pp]; exact rightTo_ag (goG_q (Qf.rf f) hpl 0) N hN5) ?_
    refine V.callS (pc' := 27) (wr := [(h, .inr (7, [.ref (ad 0), .int (i 1), .ref (ad 2), .int (i 3), .int (i 4), .int (i 5), .ref (ad 6), .int (i 7), .int (i 8), .int (i 9), .int (i 10), .int (i 11), .int (i 12), .int (i 13), .int (i 14), .ref (ad 15), .ref (ad 16), .int (goC f (cpP f 0 268) 0 n), .int (goF f (cpP f 0 268) 0 n), .int (i 19), .int (i 20), .int (i 21), .int (i 22), .int (i 23), .ref (ad 24), .int (i 25), .ref (ad 26), .ref (ad 27), .ref (ad 28), .ref (ad 29), .ref (ad 30), .int (i 31)])), (ad 0, .inl (M.G.2 0, 402, .inl (pp f 268 (goG f (cpP f 0 268) 0 n))))]) C (ct_X7_bitsOf M.l M.G (rightTo (goG f f 0 n) N) ) dX7_leave_24 rfl (lw_S q1218 q1219 q71 q1220) hys_X7_bitsOf rfl rfl [] [0, 1] [0, 1] rfl rfl rfl (fun _ => [(h, .inr (7, [.ref (ad 0), .int (i 1), .ref (ad 2), .int (i 3), .int (i 4), .int (i 5), .ref (ad 6), .int (i 7), .int (i 8), .int (i 9), .int (i 10), .int (i 11), .int (i 12), .int (i 13), .int (i 14), .ref (ad 15), .ref (ad 16), .int (goC f (cpP f 0 268) 0 n), .int (goF f (cpP f 0 268) 0 n), .int (i 19), .int (i 20), .int (i 21), .int (i 22), .int (i 23), .ref (ad 24), .int (i 25), .ref (ad 26), .ref (ad 27), .ref (ad 28), .ref (ad 29), .ref (ad 30), .int (i 31)])), (ad 0, .inl (M.G.2 0, 402, .inl (pp f 268 (goG f (cpP f 0 268) 0 n))))]) (fun _ => rfl) rfl 0 0 rfl rfl (fun _ => [.int (bitsTo (rightTo (goG f f 0 n) N) 7)]) (fun _ => rfl) (fun _ _ => ?_)
    refine V.istore_n (pc' := 28) C [(2, .int (bitsTo (rightTo (goG f f 0 n) N) 7)), (0, .ref h), (1, .int x)] dX7_leave_27 rfl 6 hnL rfl rfl ?_
    refine V.bipush (pc' := 30) C dX7_leave_28 rfl kcb_m4 ?_
    refine V.istore_n (pc' := 31) C [(3, .int (-4)), (2, .int (bitsTo (rightTo (goG f f 0 n) N) 7)), (0, .ref h), (1, .int x)] dX7_leave_30 rfl 6 hnL rfl rfl ?_
    refine V.iconst (pc' := 32) C dX7_leave_31 rfl kci_0 ?_
    refine V.istore (pc' := 34) C [(4, .int 0), (3, .int (-4)), (2, .int (bitsTo (rightTo (goG f f 0 n) N) 7)), (0, .ref h), (1, .int x)] dX7_leave_32 rfl 6 hnL rfl rfl ?_
    have L2 : ∀ q : Nat, q ≤ n → ∀ (F : Nat → Int32), ∀ (q17 : Int32), ∀ (q18 : Int32), Qf f F → V M 0 0 [(h, .inr (7, [.ref (ad 0), .int (i 1), .ref (ad 2), .int (i 3), .int (i 4), .int (i 5), .ref (ad 6), .int (i 7), .int (i 8), .int (i 9), .int (i 10), .int (i 11), .int (i 12), .int (i 13), .int (i 14), .ref (ad 15), .ref (ad 16), .int q17, .int q18, .int (i 19), .int (i 20), .int (i 21), .int (i 22), .int (i 23), .ref (ad 24), .int (i 25), .ref (ad 26), .ref (ad 27), .ref (ad 28), .ref (ad 29), .ref (ad 30), .int (i 31)])), (ad 0, .inl (M.G.2 0, 402, .inl F))] [(0, .ref h), (1, .int x), (2, .int (levM f N n q)), (3, .int (levW f N n q)), (4, .int (nI q))] [] 34 := by
      refine loopN _ n (fun q hq ih_L2 => ?_)
      intro F q17 q18 hF
      refine V.iload (pc' := 36) C 4 dX7_leave_34 rfl rfl ?_
      refine V.aload_n (pc' := 37) C 0 dX7_leave_36 rfl rfl ?_
      refine V.get (pc' := 40) C dX7_leave_37 rfl 0 rfl rfl in_X7 0 rfl q929 rfl ?_
      refine V.bipush (pc' := 42) C dX7_leave_40 rfl kcb_66 ?_
      refine V.iald (pc' := 43) C 66 dX7_leave_42 rfl 1 rfl (by omega) rfl ?_
      refine V.topI ((hF 66 (by omega)).trans hpl.1) ?_
      refine V.icmp_geN (pc' := 46) C q n (by omega) (by omega) 98 dX7_leave_43 rfl rfl (fun h3 => ?_) (fun h3 => ?_)
      · have hx4 : n = q := by omega
        subst hx4
        refine V.iload_n (pc' := 99) C 3 dX7_leave_98 rfl rfl ?_
        refine V.bipush (pc' := 101) C dX7_leave_99 rfl kcb_m4 ?_
        refine V.icmp_eq (pc' := 104) C 108 dX7_leave_101 rfl rfl (fun h5 => ?_) (fun h5 => ?_)
        · refine V.iload_n (pc' := 109) C 3 dX7_leave_108 rfl rfl ?_
          refine V.goto C 113 dX7_leave_109 rfl ?_
          exact V.iret C T dX7_leave_113 (F, upd (upd i 17 q17) 18 q18) rfl rfl (Eq.trans (by rw [if_pos (Or.inl h5)]) (if_pos h1).symm) rfl ⟨hF, rfl, rfl, rfl, rfl, rfl⟩ rfl rfl rfl
        · refine V.iload_n (pc' := 105) C 1 dX7_leave_104 rfl rfl ?_
          refine V.if_ne (pc' := 108) C 112 dX7_leave_105 rfl rfl (fun h6 => ?_) (fun h6 => ?_)
          · refine V.iload_n (pc' := 113) C 2 dX7_leave_112 rfl rfl ?_
            exact V.iret C T dX7_leave_113 (F, upd (upd i 17 q17) 18 q18) rfl rfl (Eq.trans (by rw [if_neg (fun z => z.elim h5 h6)]) (if_pos h1).symm) rfl ⟨hF, rfl, rfl, rfl, rfl, rfl⟩ rfl rfl rfl
          · refine V.iload_n (pc' := 109) C 3 dX7_leave_108 rfl rfl ?_
            refine V.goto C 113 dX7_leave_109 rfl ?_
            exact V.iret C T dX7_leave_113 (F, upd (upd i 17 q17) 18 q18) rfl rfl (Eq.trans (by rw [if_pos (Or.inr h6)]) (if_pos h1).symm) rfl ⟨hF, rfl, rfl, rfl, rfl, rfl⟩ rfl rfl rfl
      · refine V.aload_n (pc' := 47) C 0 dX7_leave_46 rfl rfl ?_
        refine V.iconst (pc' := 48) C dX7_leave_47 rfl kci_1 ?_
        refine V.iload (pc' := 50) C 4 dX7_leave_48 rfl rfl ?_
        refine V.ishl (pc' := 51) C dX7_leave_50 rfl ?_
        refine V.callV (pc' := 54) (wr := []) C (ct_X7_planGoes M.l M.G h ad (upd (upd i 17 q17) 18 q18) F (1 <<< (nI q &&& 31)) n (okPl_q hF hpl)) dX7_leave_51 rfl (lw_V q1193 q1195 qs54 q71 q1196) hyv_X7_planGoes rfl rfl 0 rfl rfl [0, 1] [] [0, 1] rfl rfl rfl (fun _ => [(h, .inr (7, [.ref (ad 0), .int (i 1), .ref (ad 2), .int (i 3), .int (i 4), .int (i 5), .ref (ad 6), .int (i 7), .int (i 8), .int (i 9), .int (i 10), .int (i 11), .int (i 12), .int (i 13), .int (i 14), .ref (ad 15), .ref (ad 16), .int (goC F (cpP F 0 268) (1 <<< (nI q &&& 31)) n), .int (goF F (cpP F 0 268) (1 <<< (nI q &&& 31)) n), .int (i 19), .int (i 20), .int (i 21), .int (i 22), .int (i 23), .ref (ad 24), .int (i 25), .ref (ad 26), .ref (ad 27), .ref (ad 28), .ref (ad 29), .ref (ad 30), .int (i 31)])), (ad 0, .inl (M.G.2 0, 402, .inl (pp F 268 (goG F (cpP F 0 268) (1 <<< (nI q &&& 31)) n))))]) (fun _ => rfl) rfl 0 0 rfl rfl (fun _ => []) (fun _ => rfl) (fun _ _ => ?_)
        refine V.aload_n (pc' := 55) C 0 dX7_leave_54 rfl rfl ?_
        refine V.sipush (pc' := 58) C dX7_leave_55 rfl kcs_268 ?_
        refine V.callV (pc' := 61) (wr := []) C (ct_X7_rightOn M.l M.G h ad (upd (upd i 17 (goC F (cpP F 0 268) (1 <<< (nI q &&& 31)) n)) 18 (goF F (cpP F 0 268) (1 <<< (nI q &&& 31)) n)) (pp F 268 (goG F (cpP F 0 268) (1 <<< (nI q &&& 31)) n)) N 268 hN hN5 (by omega)) dX7_leave_58 rfl (lw_V q1092 q1094 qs42 q71 q1095) hyv_X7_rightOn rfl rfl 0 rfl rfl [0, 1] [] [0, 1] rfl rfl rfl (fun _ => [(h, .inr (7, [.ref (ad 0), .int (i 1), .ref (ad 2), .int (i 3), .int (i 4), .int (i 5), .ref (ad 6), .int (i 7), .int (i 8), .int (i 9), .int (i 10), .int (i 11), .int (i 12), .int (i 13), .int (i 14), .ref (ad 15), .ref (ad 16), .int (goC F (cpP F 0 268) (1 <<< (nI q &&& 31)) n), .int (goF F (cpP F 0 268) (1 <<< (nI q &&& 31)) n), .int (i 19), .int (i 20), .int (i 21), .int (i 22), .int (i 23), .ref (ad 24), .int (i 25), .ref (ad 26), .ref (ad 27), .ref (ad 28), .ref (ad 29), .ref (ad 30), .int (i 31)])), (ad 0, .inl (M.G.2 0, 402, .inl (pp F 268 (goG F (cpP F 0 268) (1 <<< (nI q &&& 31)) n))))]) (fun _ => rfl) rfl 0 0 rfl rfl (fun _ => [.int (rightTo (pg (pp F 268 (goG F (cpP F 0 268) (1 <<< (nI q &&& 31)) n)) 268) N)]) (fun _ => rfl) (fun _ _ => ?_)
        refine V.topI (y := rightTo (goG f f (1 <<< (nI q &&& 31)) n) N) (by rw [pg_pp]; exact rightTo_ag (goG_q hF hpl _) N hN5) ?_
        refine V.callS (pc' := 64) (wr := [(h, .inr (7, [.ref (ad 0), .int (i 1), .ref (ad 2), .int (i 3), .int (i 4), .int (i 5), .ref (ad 6), .int (i 7), .int (i 8), .int (i 9), .int (i 10), .int (i 11), .int (i 12), .int (i 13), .int (i 14), .ref (ad 15), .ref (ad 16), .int (goC F (cpP F 0 268) (1 <<< (nI q &&& 31)) n), .int (goF F (cpP F 0 268) (1 <<< (nI q &&& 31)) n), .int (i 19), .int (i 20), .int (i 21), .int (i 22), .int (i 23), .ref (ad 24), .int (i 25), .ref (ad 26), .ref (ad 27), .ref (ad 28), .ref (ad 29), .ref (ad 30), .int (i 31)])), (ad 0, .inl (M.G.2 0, 402, .inl (pp F 268 (goG F (cpP F 0 268) (1 <<< (nI q &&& 31)) n))))]) C (ct_X7_bitsOf M.l M.G (rightTo (goG f f (1 <<< (nI q &&& 31)) n) N) ) dX7_leave_61 rfl (lw_S q1218 q1219 q71 q1220) hys_X7_bitsOf rfl rfl [] [0, 1] [0, 1] rfl rfl rfl (fun _ => [(h, .inr (7, [.ref (ad 0), .int (i 1), .ref (ad 2), .int (i 3), .int (i 4), .int (i 5), .ref (ad 6), .int (i 7), .int (i 8), .int (i 9), .int (i 10), .int (i 11), .int (i 12), .int (i 13), .int (i 14), .ref (ad 15), .ref (ad 16), .int (goC F (cpP F 0 268) (1 <<< (nI q &&& 31)) n), .int (goF F (cpP F 0 268) (1 <<< (nI q &&& 31)) n), .int (i 19), .int (i 20), .int (i 21), .int (i 22), .int (i 23), .ref (ad 24), .int (i 25), .ref (ad 26), .ref (ad 27), .ref (ad 28), .ref (ad 29), .ref (ad 30), .int (i 31)])), (ad 0, .inl (M.G.2 0, 402, .inl (pp F 268 (goG F (cpP F 0 268) (1 <<< (nI q &&& 31)) n))))]) (fun _ => rfl) rfl 0 0 rfl rfl (fun _ => [.int (bitsTo (rightTo (goG f f (1 <<< (nI q &&& 31)) n) N) 7)]) (fun _ => rfl) (fun _ _ => ?_)
        refine V.istore (pc' := 66) C [(5, .int (bitsTo (rightTo (goG f f (1 <<< (nI q &&& 31)) n) N) 7)), (0, .ref h), (1, .int x), (2, .int (levM f N n q)), (3, .int (levW f N n q)), (4, .int (nI q))] dX7_leave_64 rfl 6 hnL rfl rfl ?_
        refine V.iload (pc' := 68) C 0 dX7_leave_66 rfl rfl ?_
        refine V.iload_n (pc' := 69) C 3 dX7_leave_68 rfl rfl ?_
        have J9 : ∀ (x8 : Int32), x8 = (if (bitsTo (rightTo (goG f f (1 <<< (nI q &&& 31)) n) N) 7) ≤ (levM f N n q) then levW f N n q else nI q) → V M 0 0 [(h, .inr (7, [.ref (ad 0), .int (i 1), .ref (ad 2), .int (i 3), .int (i 4), .int (i 5), .ref (ad 6), .int (i 7), .int (i 8), .int (i 9), .int (i 10), .int (i 11), .int (i 12), .int (i 13), .int (i 14), .ref (ad 15), .ref (ad 16), .int (goC F (cpP F 0 268) (1 <<< (nI q &&& 31)) n), .int (goF F (cpP F 0 268) (1 <<< (nI q &&& 31)) n), .int (i 19), .int (i 20), .int (i 21), .int (i 22), .int (i 23), .ref (ad 24), .int (i 25), .ref (ad 26), .ref (ad 27), .ref (ad 28), .ref (ad 29), .ref (ad 30), .int (i 31)])), (ad 0, .inl (M.G.2 0, 402, .inl (pp F 268 (goG F (cpP F 0 268) (1 <<< (nI q &&& 31)) n))))] [(5, .int (bitsTo (rightTo (goG f f (1 <<< (nI q &&& 31)) n) N) 7)), (0, .ref h), (1, .int x), (2, .int (levM f N n q)), (3, .int (levW f N n q)), (4, .int (nI q))] [.int x8] 78 := by
          intro x8 ex8
          subst ex8
          refine V.istore_n (pc' := 79) C [(3, .int (if (bitsTo (rightTo (goG f f (1 <<< (nI q &&& 31)) n) N) 7) ≤ (levM f N n q) then levW f N n q else nI q)), (5, .int (bitsTo (rightTo (goG f f (1 <<< (nI q &&& 31)) n) N) 7)), (0, .ref h), (1, .int x), (2, .int (levM f N n q)), (4, .int (nI q))] dX7_leave_78 rfl 6 hnL rfl rfl ?_
          refine V.iload (pc' := 81) C 1 dX7_leave_79 rfl rfl ?_
          refine V.iload_n (pc' := 82) C 4 dX7_leave_81 rfl rfl ?_
          have J12 : ∀ (x11 : Int32), x11 = (if (bitsTo (rightTo (goG f f (1 <<< (nI q &&& 31)) n) N) 7) ≤ (levM f N n q) then levM f N n q else bitsTo (rightTo (goG f f (1 <<< (nI q &&& 31)) n) N) 7) → V M 0 0 [(h, .inr (7, [.ref (ad 0), .int (i 1), .ref (ad 2), .int (i 3), .int (i 4), .int (i 5), .ref (ad 6), .int (i 7), .int (i 8), .int (i 9), .int (i 10), .int (i 11), .int (i 12), .int (i 13), .int (i 14), .ref (ad 15), .ref (ad 16), .int (goC F (cpP F 0 268) (1 <<< (nI q &&& 31)) n), .int (goF F (cpP F 0 268) (1 <<< (nI q &&& 31)) n), .int (i 19), .int (i 20), .int (i 21), .int (i 22), .int (i 23), .ref (ad 24), .int (i 25), .ref (ad 26), .ref (ad 27), .ref (ad 28), .ref (ad 29), .ref (ad 30), .int (i 31)])), (ad 0, .inl (M.G.2 0, 402, .inl (pp F 268 (goG F (cpP F 0 268) (1 <<< (nI q &&& 31)) n))))] [(3, .int (if (bitsTo (rightTo (goG f f (1 <<< (nI q &&& 31)) n) N) 7) ≤ (levM f N n q) then levW f N n q else nI q)), (5, .int (bitsTo (rightTo (goG f f (1 <<< (nI q &&& 31)) n) N) 7)), (0, .ref h), (1, .int x), (2, .int (levM f N n q)), (4, .int (nI q))] [.int x11] 91 := by
            intro x11 ex11
            subst ex11
            refine V.istore_n (pc' := 92) C [(2, .int (if (bitsTo (rightTo (goG f f (1 <<< (nI q &&& 31)) n) N) 7) ≤ (levM f N n q) then levM f N n q else bitsTo (rightTo (goG f f (1 <<< (nI q &&& 31)) n) N) 7)), (3, .int (if (bitsTo (rightTo (goG f f (1 <<< (nI q &&& 31)) n) N) 7) ≤ (levM f N n q) then levW f N n q else nI q)), (5, .int (bitsTo (rightTo (goG f f (1 <<< (nI q &&& 31)) n) N) 7)), (0, .ref h), (1, .int x), (4, .int (nI q))] dX7_leave_91 rfl 6 hnL rfl rfl ?_
            refine V.iinc (pc' := 95) C (nI (q + 1)) [(4, .int (nI (q + 1))), (2, .int (if (bitsTo (rightTo (goG f f (1 <<< (nI q &&& 31)) n) N) 7) ≤ (levM f N n q) then levM f N n q else bitsTo (rightTo (goG f f (1 <<< (nI q &&& 31)) n) N) 7)), (3, .int (if (bitsTo (rightTo (goG f f (1 <<< (nI q &&& 31)) n) N) 7) ≤ (levM f N n q) then levW f N n q else nI q)), (5, .int (bitsTo (rightTo (goG f f (1 <<< (nI q &&& 31)) n) N) 7)), (0, .ref h), (1, .int x)] dX7_leave_92 rfl 6 hnL rfl 5 rfl (ii_N q 1 rfl) rfl ?_
            refine V.goto C 34 dX7_leave_95 rfl ?_
            refine V.lvs [4, 5, 1, 2, 0] (lv2 := [(0, .ref h), (1, .int x), (2, .int (levM f N n (q + 1))), (3, .int (levW f N n (q + 1))), (4, .int (nI (q + 1)))]) rfl ?_
            exact ih_L2 (by omega) (pp F 268 (goG F (cpP F 0 268) (1 <<< (nI q &&& 31)) n)) (goC F (cpP F 0 268) (1 <<< (nI q &&& 31)) n) (goF F (cpP F 0 268) (1 <<< (nI q &&& 31)) n) (hF.tr (Qf.pp (by omega)))
          refine V.icmp_le (pc' := 85) C 90 dX7_leave_82 rfl rfl (fun h10 => ?_) (fun h10 => ?_)
          · refine V.iload_n (pc' := 91) C 4 dX7_leave_90 rfl rfl ?_
            exact J12 _ (by rw [if_pos h10])
          · refine V.iload (pc' := 87) C 1 dX7_leave_85 rfl rfl ?_
            refine V.goto C 91 dX7_leave_87 rfl ?_
            exact J12 _ (by rw [if_neg h10])
        refine V.icmp_le (pc' := 72) C 77 dX7_leave_69 rfl rfl (fun h7 => ?_) (fun h7 => ?_)
        · refine V.iload_n (pc' := 78) C 4 dX7_leave_77 rfl rfl ?_
          exact J9 _ (by rw [if_pos h7])
        · refine V.iload (pc' := 74) C 5 dX7_leave_72 rfl rfl ?_
          refine V.goto C 78 dX7_leave_74 rfl ?_
          exact J9 _ (by rw [if_neg h7])
    refine V.lvs [3, 4, 2, 1, 0] (lv2 := [(0, .ref h), (1, .int x), (2, .int (levM f N n 0)), (3, .int (levW f N n 0)), (4, .int (nI 0))]) rfl ?_
    exact L2 0 (by omega) (pp f 268 (goG f (cpP f 0 268) 0 n)) (goC f (cpP f 0 268) 0 n) (goF f (cpP f 0 268) 0 n) (Qf.pp (by omega))
  · refine V.iconst (pc' := 11) C dX7_leave_10 rfl kci_m1 ?_
    exact V.iret C T dX7_leave_11 (f, i) rfl rfl (if_neg (fun z => h1 z)).symm rfl ⟨(Qf.rf _), rfl, rfl, rfl, rfl, rfl⟩ rfl rfl rfl
set_option maxHeartbeats 4000000 in
theorem ct_X7_see (l : Launch) (G : GG) (h : Nat) (ad : Nat → Nat) (i : Nat → Int32) (se : Nat → Int32) (N : Nat) (x : Int32) (y : Int32) (v : Int32) (sm : Nat) (hN : i 1 = nI N) (hN5 : N ≤ 5) (hs : i 25 = nI sm) (hs6 : sm ≤ 6) : Ct l G yX7_see (ws_ yX7_see cX7_see 4 (some .int)) ({ frames := 2, cells := 0, slots := 0, locals := 46 } : Room) [.ref h, .int x, .int y, .int v] [mO h ad i, (ad 24, .inl (G.2 0, 18, .inl se))] (fun _ : Unit => some (.int (a_see N sm x y v))) (fun _ => True) (fun _ => [mO h ad (upd i 25 (nI (n_see N sm x y v))), (ad 24, .inl (G.2 0, 18, .inl (g_see se N sm x y v)))]) := by
  refine Ct.of rfl rfl ?_
  intro M el eG hnL C T
  subst el
  subst eG
  have C : Cx M cX7_see "ClockWardModel" ({ frames := 2, cells := 0, slots := 0, locals := 46 } : Room) := C
  refine V.lvs [0, 1, 2, 3] (lv2 := [(0, .ref h), (1, .int x), (2, .int y), (3, .int v)]) rfl ?_
  refine V.aload_n (pc' := 1) C 0 dX7_see_0 rfl rfl ?_
  refine V.iload_n (pc' := 2) C 1 dX7_see_1 rfl rfl ?_
  refine V.callV (pc' := 5) (wr := [(ad 24, .inl (M.G.2 0, 18, .inl se))]) C (ct_X7_isClock M.l M.G h ad i N x hN hN5) dX7_see_2 rfl (lw_V q1100 q1102 qs43 q71 q1103) hyv_X7_isClock rfl rfl 0 rfl rfl [0] [1] [1, 0] rfl rfl rfl (fun _ => [mO h ad i, (ad 24, .inl (M.G.2 0, 18, .inl se))]) (fun _ => rfl) rfl 0 0 rfl rfl (fun _ => [.int (bI (isC N x))]) (fun _ => rfl) (fun _ _ => ?_)
  refine V.if_eqB (pc' := 8) C 32 dX7_see_5 rfl rfl (fun h1 => ?_) (fun h1 => ?_)
  · refine V.iconst (pc' := 33) C dX7_see_32 rfl kci_m1 ?_
    exact V.iret C T dX7_see_33 () rfl rfl (by unfold a_see; rw [if_neg (fun z => h1 z.1)]) rfl trivial (by unfold n_see g_see; rw [if_neg (fun z => h1 z.1), if_neg (fun z => h1 z.1)]; first | rfl | (rw [← hs]; rfl)) rfl rfl
  · refine V.iload_n (pc' := 9) C 2 dX7_see_8 rfl rfl ?_
    refine V.i2l (pc' := 10) C dX7_see_9 rfl ?_
    refine V.lconst (pc' := 11) C dX7_see_10 rfl kcl_0 ?_
    refine V.ldc2 (pc' := 14) C dX7_see_11 rfl q1275 ?_
    refine V.callS (pc' := 17) (wr := [mO h ad i, (ad 24, .inl (M.G.2 0, 18, .inl se))]) C (ct_X7_in M.l M.G y 0 20 ) dX7_see_14 rfl (lw_S q1032 q1033 q71 q1034) hys_X7_in rfl rfl [] [0, 1] [0, 1] rfl rfl rfl (fun _ => [mO h ad i, (ad 24, .inl (M.G.2 0, 18, .inl se))]) (fun _ => rfl) rfl 0 0 rfl rfl (fun _ => [.int (bI (inI y 0 20))]) (fun _ => rfl) (fun _ _ => ?_)
    refine V.if_eqB (pc' := 20) C 32 dX7_see_17 rfl rfl (fun h2 => ?_) (fun h2 => ?_)
    · refine V.iconst (pc' := 33) C dX7_see_32 rfl kci_m1 ?_
      exact V.iret C T dX7_see_33 () rfl rfl (by unfold a_see; rw [if_neg (fun z => h2 z.2.1)]) rfl trivial (by unfold n_see g_see; rw [if_neg (fun z => h2 z.2.1), if_neg (fun z => h2 z.2.1)]; first | rfl | (rw [← hs]; rfl)) rfl rfl
    · refine V.iload_n (pc' := 21) C 3 dX7_see_20 rfl rfl ?_
      refine V.i2l (pc' := 22) C dX7_see_21 rfl ?_
      refine V.lconst (pc' := 23) C dX7_see_22 rfl kcl_0 ?_
      refine V.ldc2 (pc' := 26) C dX7_see_23 rfl q1276 ?_
      refine V.callS (pc' := 29) (wr := [mO h ad i, (ad 24, .inl (M.G.2 0, 18, .inl se))]) C (ct_X7_in M.l M.G v 0 99 ) dX7_see_26 rfl (lw_S q1032 q1033 q71 q1034) hys_X7_in rfl rfl [] [0, 1] [0, 1] rfl rfl rfl (fun _ => [mO h ad i, (ad 24, .inl (M.G.2 0, 18, .inl se))]) (fun _ => rfl) rfl 0 0 rfl rfl (fun _ => [.int (bI (inI v 0 99))]) (fun _ => rfl) (fun _ _ => ?_)
      refine V.if_neB (pc' := 32) C 34 dX7_see_29 rfl rfl (fun h3 => ?_) (fun h3 => ?_)
      · refine V.aload_n (pc' := 35) C 0 dX7_see_34 rfl rfl ?_
        refine V.get (pc' := 38) C dX7_see_35 rfl 0 rfl rfl in_X7 25 rfl q954 rfl ?_
        refine V.topI hs ?_
        refine V.bipush (pc' := 40) C dX7_see_38 rfl kcb_6 ?_
        refine V.icmp_neN (pc' := 43) C sm 6 (by omega) (by omega) 46 dX7_see_40 rfl rfl (fun h4 => ?_) (fun h4 => ?_)
        · refine V.aload_n (pc' := 47) C 0 dX7_see_46 rfl rfl ?_
          refine V.get (pc' := 50) C dX7_see_47 rfl 0 rfl rfl in_X7 24 rfl q953 rfl ?_
          refine V.iconst (pc' := 51) C dX7_see_50 rfl kci_3 ?_
          refine V.aload_n (pc' := 52) C 0 dX7_see_51 rfl rfl ?_
          refine V.get (pc' := 55) C dX7_see_52 rfl 0 rfl rfl in_X7 25 rfl q954 rfl ?_
          refine V.topI hs ?_
          refine V.imulN (pc' := 56) C 3 sm dX7_see_55 rfl ?_
          refine V.iload_n (pc' := 57) C 1 dX7_see_56 rfl rfl ?_
          refine V.iast (pc' := 58) C (3 * sm) [mO h ad i, (ad 24, .inl (M.G.2 0, 18, .inl (upd se (3 * sm) x)))] dX7_see_57 rfl 1 rfl (by omega) rfl x rfl rfl ?_
          refine V.aload_n (pc' := 59) C 0 dX7_see_58 rfl rfl ?_
          refine V.get (pc' := 62) C dX7_see_59 rfl 0 rfl rfl in_X7 24 rfl q953 rfl ?_
          refine V.iconst (pc' := 63) C dX7_see_62 rfl kci_3 ?_
          refine V.aload_n (pc' := 64) C 0 dX7_see_63 rfl rfl ?_
          refine V.get (pc' := 67) C dX7_see_64 rfl 0 rfl rfl in_X7 25 rfl q954 rfl ?_
          refine V.topI hs ?_
          refine V.imulN (pc' := 68) C 3 sm dX7_see_67 rfl ?_
          refine V.iconst (pc' := 69) C dX7_see_68 rfl kci_1 ?_
          refine V.iaddN (pc' := 70) C (3 * sm) 1 dX7_see_69 rfl ?_
          refine V.iload_n (pc' := 71) C 2 dX7_see_70 rfl rfl ?_
          refine V.iast (pc' := 72) C (3 * sm + 1) [mO h ad i, (ad 24, .inl (M.G.2 0, 18, .inl (upd (upd se (3 * sm) x) (3 * sm + 1) y)))] dX7_see_71 rfl 1 rfl (by omega) rfl y rfl rfl ?_
          refine V.aload_n (pc' := 73) C 0 dX7_see_72 rfl rfl ?_
          refine V.get (pc' := 76) C dX7_see_73 rfl 0 rfl rfl in_X7 24 rfl q953 rfl ?_
          refine V.iconst (pc' := 77) C dX7_see_76 rfl kci_3 ?_
          refine V.aload_n (pc' := 78) C 0 dX7_see_77 rfl rfl ?_
          refine V.get (pc' := 81) C dX7_see_78 rfl 0 rfl rfl in_X7 25 rfl q954 rfl ?_
          refine V.topI hs ?_
          refine V.imulN (pc' := 82) C 3 sm dX7_see_81 rfl ?_
          refine V.iconst (pc' := 83) C dX7_see_82 rfl kci_2 ?_
          refine V.iaddN (pc' := 84) C (3 * sm) 2 dX7_see_83 rfl ?_
          refine V.iload_n (pc' := 85) C 3 dX7_see_84 rfl rfl ?_
          refine V.iast (pc' := 86) C (3 * sm + 2) [mO h ad i, (ad 24, .inl (M.G.2 0, 18, .inl (upd (upd (upd se (3 * sm) x) (3 * sm + 1) y) (3 * sm + 2) v)))] dX7_see_85 rfl 1 rfl (by omega) rfl v rfl rfl ?_
          refine V.aload_n (pc' := 87) C 0 dX7_see_86 rfl rfl ?_
          refine V.dup (pc' := 88) C rfl dX7_see_87 rfl ?_
          refine V.get (pc' := 91) C dX7_see_88 rfl 0 rfl rfl in_X7 25 rfl q954 rfl ?_
          refine V.topI hs ?_
          refine V.iconst (pc' := 92) C dX7_see_91 rfl kci_1 ?_
          refine V.iaddN (pc' := 93) C sm 1 dX7_see_92 rfl ?_
          refine V.put (pc' := 96) C [(h, .inr (7, [.ref (ad 0), .int (i 1), .ref (ad 2), .int (i 3), .int (i 4), .int (i 5), .ref (ad 6), .int (i 7), .int (i 8), .int (i 9), .int (i 10), .int (i 11), .int (i 12), .int (i 13), .int (i 14), .ref (ad 15), .ref (ad 16), .int (i 17), .int (i 18), .int (i 19), .int (i 20), .int (i 21), .int (i 22), .int (i 23), .ref (ad 24), .int (nI (sm + 1)), .ref (ad 26), .ref (ad 27), .ref (ad 28), .ref (ad 29), .ref (ad 30), .int (i 31)])), (ad 24, .inl (M.G.2 0, 18, .inl (upd (upd (upd se (3 * sm) x) (3 * sm + 1) y) (3 * sm + 2) v)))] dX7_see_93 rfl 0 rfl rfl in_X7 tyX7_ok nmX7 25 rfl q954 rfl rfl rfl rfl rfl ?_
          refine V.aload_n (pc' := 97) C 0 dX7_see_96 rfl rfl ?_
          refine V.get (pc' := 100) C dX7_see_97 rfl 0 rfl rfl in_X7 25 rfl q954 rfl ?_
          exact V.iret C T dX7_see_100 () rfl rfl (by unfold a_see; rw [if_pos ⟨h1, h2, h3⟩, if_neg h4]) rfl trivial (by unfold n_see g_see; rw [if_pos ⟨h1, h2, h3⟩, if_neg h4, if_pos ⟨h1, h2, h3⟩, if_neg h4]; first | rfl | (rw [← hs]; rfl)) rfl rfl
        · refine V.bipush (pc' := 45) C dX7_see_43 rfl kcb_m3 ?_
          exact V.iret C T dX7_see_45 () rfl rfl (by unfold a_see; rw [if_pos ⟨h1, h2, h3⟩, if_pos h4]) rfl trivial (by unfold n_see g_see; rw [if_pos ⟨h1, h2, h3⟩, if_pos h4, if_pos ⟨h1, h2, h3⟩, if_pos h4]; first | rfl | (rw [← hs]; rfl)) rfl rfl
      · refine V.iconst (pc' := 33) C dX7_see_32 rfl kci_m1 ?_
        exact V.iret C T dX7_see_33 () rfl rfl (by unfold a_see; rw [if_neg (fun z => h3 z.2.2)]) rfl trivial (by unfold n_see g_see; rw [if_neg (fun z => h3 z.2.2), if_neg (fun z => h3 z.2.2)]; first | rfl | (rw [← hs]; rfl)) rfl rfl
set_option maxHeartbeats 4000000 in
theorem ct_X7_forget (l : Launch) (G : GG) (h : Nat) (ad : Nat → Nat) (i : Nat → Int32) (x : Int32) (t : Nat) (ht : i 25 = nI t) (ht2 : t ≤ 160) : Ct l G yX7_forget (ws_ yX7_forget cX7_forget 3 (some .int)) ({ frames := 1, cells := 0, slots := 0, locals := 25 } : Room) [.ref h, .int x] [mO h ad i] (fun _ : Unit => some (.int (a_end t x))) (fun _ => True) (fun _ => [mO h ad (upd i 25 (nI (n_end t x)))]) := by
  refine Ct.of rfl rfl ?_
  intro M el eG hnL C T
  subst el
  subst eG
  have C : Cx M cX7_forget "ClockWardModel" ({ frames := 1, cells := 0, slots := 0, locals := 25 } : Room) := C
  refine V.lvs [0, 1] (lv2 := [(0, .ref h), (1, .int x)]) rfl ?_
  refine V.iload_n (pc' := 1) C 1 dX7_forget_0 rfl rfl ?_
  refine V.i2l (pc' := 2) C dX7_forget_1 rfl ?_
  refine V.lconst (pc' := 3) C dX7_forget_2 rfl kcl_0 ?_
  refine V.aload_n (pc' := 4) C 0 dX7_forget_3 rfl rfl ?_
  refine V.get (pc' := 7) C dX7_forget_4 rfl 0 rfl rfl in_X7 25 rfl q954 rfl ?_
  refine V.topI ht ?_
  refine V.i2l (pc' := 8) C dX7_forget_7 rfl ?_
  refine V.callS (pc' := 11) (wr := [mO h ad i]) C (ct_X7_in M.l M.G x 0 (nI t) ) dX7_forget_8 rfl (lw_S q1032 q1033 q71 q1034) hys_X7_in rfl rfl [] [0] [0] rfl rfl rfl (fun _ => [mO h ad i]) (fun _ => rfl) rfl 0 0 rfl rfl (fun _ => [.int (bI (inI x 0 (nI t)))]) (fun _ => rfl) (fun _ _ => ?_)
  refine V.if_neB (pc' := 14) C 16 dX7_forget_11 rfl rfl (fun h1 => ?_) (fun h1 => ?_)
  · obtain ⟨j, hj, rfl⟩ := inI_nat (by omega) h1
    refine V.aload_n (pc' := 17) C 0 dX7_forget_16 rfl rfl ?_
    refine V.get (pc' := 20) C dX7_forget_17 rfl 0 rfl rfl in_X7 25 rfl q954 rfl ?_
    refine V.topI ht ?_
    refine V.istore_n (pc' := 21) C [(2, .int (nI t)), (0, .ref h), (1, .int (nI j))] dX7_forget_20 rfl 3 hnL rfl rfl ?_
    refine V.aload_n (pc' := 22) C 1 dX7_forget_21 rfl rfl ?_
    refine V.iload_n (pc' := 23) C 2 dX7_forget_22 rfl rfl ?_
    refine V.put (pc' := 26) C [(h, .inr (7, [.ref (ad 0), .int (i 1), .ref (ad 2), .int (i 3), .int (i 4), .int (i 5), .ref (ad 6), .int (i 7), .int (i 8), .int (i 9), .int (i 10), .int (i 11), .int (i 12), .int (i 13), .int (i 14), .ref (ad 15), .ref (ad 16), .int (i 17), .int (i 18), .int (i 19), .int (i 20), .int (i 21), .int (i 22), .int (i 23), .ref (ad 24), .int (nI j), .ref (ad 26), .ref (ad 27), .ref (ad 28), .ref (ad 29), .ref (ad 30), .int (i 31)]))] dX7_forget_23 rfl 0 rfl rfl in_X7 tyX7_ok nmX7 25 rfl q954 rfl rfl rfl rfl rfl ?_
    refine V.iload_n (pc' := 27) C 0 dX7_forget_26 rfl rfl ?_
    exact V.iret C T dX7_forget_27 () rfl rfl (by unfold a_end; rw [if_pos h1]) rfl trivial (by unfold n_end; rw [if_pos h1, cn_nI (by omega)]; first | rfl | (rw [← ht]; rfl)) rfl rfl
  · refine V.iconst (pc' := 15) C dX7_forget_14 rfl kci_m1 ?_
    exact V.iret C T dX7_forget_15 () rfl rfl (by unfold a_end; rw [if_neg h1]) rfl trivial (by unfold n_end; rw [if_neg h1]; first | rfl | (rw [← ht]; rfl)) rfl rfl
