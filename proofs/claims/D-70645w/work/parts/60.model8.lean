set_option maxRecDepth 100000
set_option maxHeartbeats 4000000 in
theorem ct_X7_compares (l : Launch) (G : GG) (h : Nat) (ad : Nat → Nat) (i : Nat → Int32) (f : Nat → Int32) (N : Nat) (many : Int32) (fi : Int32) (sc : Int32) (hN : i 1 = nI N) (hN5 : N ≤ 5) : Ct l G yX7_compares (ws_ yX7_compares cX7_compares 7 none) ({ frames := 1, cells := 0, slots := 0, locals := 23 } : Room) [.ref h, .int many, .int fi, .int sc] [mO h ad i, (ad 0, .inl (G.2 0, 402, .inl f))] (fun _ : Unit => none) (fun _ => True) (fun _ => [mO h ad (cmpI f N i many fi sc), (ad 0, .inl (G.2 0, 402, .inl f))]) := by
  refine Ct.of rfl rfl ?_
  intro M el eG hnL C T
  subst el
  subst eG
  have C : Cx M cX7_compares "ClockWardModel" ({ frames := 1, cells := 0, slots := 0, locals := 23 } : Room) := C
  refine V.lvs [0, 1, 2, 3] (lv2 := [(0, .ref h), (1, .int many), (2, .int fi), (3, .int sc)]) rfl ?_
  refine V.aload_n (pc' := 1) C 0 dX7_compares_0 rfl rfl ?_
  refine V.sipush (pc' := 4) C dX7_compares_1 rfl kcs_268 ?_
  refine V.callV (pc' := 7) (wr := []) C (ct_X7_rightOn M.l M.G h ad i f N 268 hN hN5 (by omega)) dX7_compares_4 rfl (lw_V q1092 q1094 qs42 q71 q1095) hyv_X7_rightOn rfl rfl 0 rfl rfl [0, 1] [] [0, 1] rfl rfl rfl (fun _ => [mO h ad i, (ad 0, .inl (M.G.2 0, 402, .inl f))]) (fun _ => rfl) rfl 0 0 rfl rfl (fun _ => [.int (rightTo (pg f 268) N)]) (fun _ => rfl) (fun _ _ => ?_)
  refine V.callS (pc' := 10) (wr := [mO h ad i, (ad 0, .inl (M.G.2 0, 402, .inl f))]) C (ct_X7_bitsOf M.l M.G (rightTo (pg f 268) N) ) dX7_compares_7 rfl (lw_S q1218 q1219 q71 q1220) hys_X7_bitsOf rfl rfl [] [0, 1] [0, 1] rfl rfl rfl (fun _ => [mO h ad i, (ad 0, .inl (M.G.2 0, 402, .inl f))]) (fun _ => rfl) rfl 0 0 rfl rfl (fun _ => [.int (bitsTo (rightTo (pg f 268) N) 7)]) (fun _ => rfl) (fun _ _ => ?_)
  refine V.istore (pc' := 12) C [(4, .int (bitsTo (rightTo (pg f 268) N) 7)), (0, .ref h), (1, .int many), (2, .int fi), (3, .int sc)] dX7_compares_10 rfl 7 hnL rfl rfl ?_
  refine V.aload_n (pc' := 13) C 1 dX7_compares_12 rfl rfl ?_
  refine V.get (pc' := 16) C dX7_compares_13 rfl 0 rfl rfl in_X7 0 rfl q929 rfl ?_
  refine V.sipush (pc' := 19) C dX7_compares_16 rfl kcs_290 ?_
  refine V.iald (pc' := 20) C 290 dX7_compares_19 rfl 1 rfl (by omega) rfl ?_
  refine V.aload_n (pc' := 21) C 1 dX7_compares_20 rfl rfl ?_
  refine V.get (pc' := 24) C dX7_compares_21 rfl 0 rfl rfl in_X7 0 rfl q929 rfl ?_
  refine V.bipush (pc' := 26) C dX7_compares_24 rfl kcb_22 ?_
  refine V.iald (pc' := 27) C 22 dX7_compares_26 rfl 1 rfl (by omega) rfl ?_
  refine V.isub (pc' := 28) C dX7_compares_27 rfl ?_
  refine V.istore (pc' := 30) C [(5, .int ((f 290) - (f 22))), (4, .int (bitsTo (rightTo (pg f 268) N) 7)), (0, .ref h), (1, .int many), (2, .int fi), (3, .int sc)] dX7_compares_28 rfl 7 hnL rfl rfl ?_
  refine V.iload (pc' := 32) C 1 dX7_compares_30 rfl rfl ?_
  refine V.aload_n (pc' := 33) C 2 dX7_compares_32 rfl rfl ?_
  refine V.get (pc' := 36) C dX7_compares_33 rfl 0 rfl rfl in_X7 19 rfl q948 rfl ?_
  have J3 : ∀ (x2 : Int32), x2 = (if (i 19) < (bitsTo (rightTo (pg f 268) N) 7) then 1 else if (bitsTo (rightTo (pg f 268) N) 7) = (i 19) then if many = (i 23) then if (i 20) ≤ ((f 290) - (f 22)) then 0 else 1 else 0 else 0) → V M 0 0 [mO h ad i, (ad 0, .inl (M.G.2 0, 402, .inl f))] [(5, .int ((f 290) - (f 22))), (4, .int (bitsTo (rightTo (pg f 268) N) 7)), (0, .ref h), (1, .int many), (2, .int fi), (3, .int sc)] [.int x2] 70 := by
    intro x2 ex2
    have ex2 : x2 = bI (((i 19) < (bitsTo (rightTo (pg f 268) N) 7)) ∨ (((bitsTo (rightTo (pg f 268) N) 7) = (i 19)) ∧ ((many = (i 23)) ∧ (¬ ((i 20) ≤ ((f 290) - (f 22))))))) := ex2.trans (it_1 (it_a (it_a it_01)))
    subst ex2
    refine V.istore (pc' := 72) C [(6, .int (bI (((i 19) < (bitsTo (rightTo (pg f 268) N) 7)) ∨ (((bitsTo (rightTo (pg f 268) N) 7) = (i 19)) ∧ ((many = (i 23)) ∧ (¬ ((i 20) ≤ ((f 290) - (f 22))))))))), (5, .int ((f 290) - (f 22))), (4, .int (bitsTo (rightTo (pg f 268) N) 7)), (0, .ref h), (1, .int many), (2, .int fi), (3, .int sc)] dX7_compares_70 rfl 7 hnL rfl rfl ?_
    refine V.aload_n (pc' := 73) C 3 dX7_compares_72 rfl rfl ?_
    refine V.iload (pc' := 75) C 0 dX7_compares_73 rfl rfl ?_
    have J6 : ∀ (x5 : Int32), x5 = (if ((i 19) < (bitsTo (rightTo (pg f 268) N) 7)) ∨ (((bitsTo (rightTo (pg f 268) N) 7) = (i 19)) ∧ ((many = (i 23)) ∧ (¬ ((i 20) ≤ ((f 290) - (f 22)))))) then bitsTo (rightTo (pg f 268) N) 7 else i 19) → V M 0 0 [mO h ad i, (ad 0, .inl (M.G.2 0, 402, .inl f))] [(6, .int (bI (((i 19) < (bitsTo (rightTo (pg f 268) N) 7)) ∨ (((bitsTo (rightTo (pg f 268) N) 7) = (i 19)) ∧ ((many = (i 23)) ∧ (¬ ((i 20) ≤ ((f 290) - (f 22))))))))), (5, .int ((f 290) - (f 22))), (4, .int (bitsTo (rightTo (pg f 268) N) 7)), (0, .ref h), (1, .int many), (2, .int fi), (3, .int sc)] [.int x5, .ref h] 87 := by
      intro x5 ex5
      subst ex5
      refine V.put (pc' := 90) C [(h, .inr (7, [.ref (ad 0), .int (i 1), .ref (ad 2), .int (i 3), .int (i 4), .int (i 5), .ref (ad 6), .int (i 7), .int (i 8), .int (i 9), .int (i 10), .int (i 11), .int (i 12), .int (i 13), .int (i 14), .ref (ad 15), .ref (ad 16), .int (i 17), .int (i 18), .int (if ((i 19) < (bitsTo (rightTo (pg f 268) N) 7)) ∨ (((bitsTo (rightTo (pg f 268) N) 7) = (i 19)) ∧ ((many = (i 23)) ∧ (¬ ((i 20) ≤ ((f 290) - (f 22)))))) then bitsTo (rightTo (pg f 268) N) 7 else i 19), .int (i 20), .int (i 21), .int (i 22), .int (i 23), .ref (ad 24), .int (i 25), .ref (ad 26), .ref (ad 27), .ref (ad 28), .ref (ad 29), .ref (ad 30), .int (i 31)])), (ad 0, .inl (M.G.2 0, 402, .inl f))] dX7_compares_87 rfl 0 rfl rfl in_X7 tyX7_ok nmX7 19 rfl q948 rfl rfl rfl rfl rfl ?_
      refine V.aload_n (pc' := 91) C 3 dX7_compares_90 rfl rfl ?_
      refine V.iload (pc' := 93) C 0 dX7_compares_91 rfl rfl ?_
      have J9 : ∀ (x8 : Int32), x8 = (if ((i 19) < (bitsTo (rightTo (pg f 268) N) 7)) ∨ (((bitsTo (rightTo (pg f 268) N) 7) = (i 19)) ∧ ((many = (i 23)) ∧ (¬ ((i 20) ≤ ((f 290) - (f 22)))))) then (f 290) - (f 22) else i 20) → V M 0 0 [(h, .inr (7, [.ref (ad 0), .int (i 1), .ref (ad 2), .int (i 3), .int (i 4), .int (i 5), .ref (ad 6), .int (i 7), .int (i 8), .int (i 9), .int (i 10), .int (i 11), .int (i 12), .int (i 13), .int (i 14), .ref (ad 15), .ref (ad 16), .int (i 17), .int (i 18), .int (if ((i 19) < (bitsTo (rightTo (pg f 268) N) 7)) ∨ (((bitsTo (rightTo (pg f 268) N) 7) = (i 19)) ∧ ((many = (i 23)) ∧ (¬ ((i 20) ≤ ((f 290) - (f 22)))))) then bitsTo (rightTo (pg f 268) N) 7 else i 19), .int (i 20), .int (i 21), .int (i 22), .int (i 23), .ref (ad 24), .int (i 25), .ref (ad 26), .ref (ad 27), .ref (ad 28), .ref (ad 29), .ref (ad 30), .int (i 31)])), (ad 0, .inl (M.G.2 0, 402, .inl f))] [(6, .int (bI (((i 19) < (bitsTo (rightTo (pg f 268) N) 7)) ∨ (((bitsTo (rightTo (pg f 268) N) 7) = (i 19)) ∧ ((many = (i 23)) ∧ (¬ ((i 20) ≤ ((f 290) - (f 22))))))))), (5, .int ((f 290) - (f 22))), (4, .int (bitsTo (rightTo (pg f 268) N) 7)), (0, .ref h), (1, .int many), (2, .int fi), (3, .int sc)] [.int x8, .ref h] 105 := by
        intro x8 ex8
        subst ex8
        refine V.put (pc' := 108) C [(h, .inr (7, [.ref (ad 0), .int (i 1), .ref (ad 2), .int (i 3), .int (i 4), .int (i 5), .ref (ad 6), .int (i 7), .int (i 8), .int (i 9), .int (i 10), .int (i 11), .int (i 12), .int (i 13), .int (i 14), .ref (ad 15), .ref (ad 16), .int (i 17), .int (i 18), .int (if ((i 19) < (bitsTo (rightTo (pg f 268) N) 7)) ∨ (((bitsTo (rightTo (pg f 268) N) 7) = (i 19)) ∧ ((many = (i 23)) ∧ (¬ ((i 20) ≤ ((f 290) - (f 22)))))) then bitsTo (rightTo (pg f 268) N) 7 else i 19), .int (if ((i 19) < (bitsTo (rightTo (pg f 268) N) 7)) ∨ (((bitsTo (rightTo (pg f 268) N) 7) = (i 19)) ∧ ((many = (i 23)) ∧ (¬ ((i 20) ≤ ((f 290) - (f 22)))))) then (f 290) - (f 22) else i 20), .int (i 21), .int (i 22), .int (i 23), .ref (ad 24), .int (i 25), .ref (ad 26), .ref (ad 27), .ref (ad 28), .ref (ad 29), .ref (ad 30), .int (i 31)])), (ad 0, .inl (M.G.2 0, 402, .inl f))] dX7_compares_105 rfl 0 rfl rfl in_X7 tyX7_ok nmX7 20 rfl q949 rfl rfl rfl rfl rfl ?_
        refine V.aload_n (pc' := 109) C 3 dX7_compares_108 rfl rfl ?_
        refine V.iload (pc' := 111) C 0 dX7_compares_109 rfl rfl ?_
        have J12 : ∀ (x11 : Int32), x11 = (if ((i 19) < (bitsTo (rightTo (pg f 268) N) 7)) ∨ (((bitsTo (rightTo (pg f 268) N) 7) = (i 19)) ∧ ((many = (i 23)) ∧ (¬ ((i 20) ≤ ((f 290) - (f 22)))))) then fi else i 21) → V M 0 0 [(h, .inr (7, [.ref (ad 0), .int (i 1), .ref (ad 2), .int (i 3), .int (i 4), .int (i 5), .ref (ad 6), .int (i 7), .int (i 8), .int (i 9), .int (i 10), .int (i 11), .int (i 12), .int (i 13), .int (i 14), .ref (ad 15), .ref (ad 16), .int (i 17), .int (i 18), .int (if ((i 19) < (bitsTo (rightTo (pg f 268) N) 7)) ∨ (((bitsTo (rightTo (pg f 268) N) 7) = (i 19)) ∧ ((many = (i 23)) ∧ (¬ ((i 20) ≤ ((f 290) - (f 22)))))) then bitsTo (rightTo (pg f 268) N) 7 else i 19), .int (if ((i 19) < (bitsTo (rightTo (pg f 268) N) 7)) ∨ (((bitsTo (rightTo (pg f 268) N) 7) = (i 19)) ∧ ((many = (i 23)) ∧ (¬ ((i 20) ≤ ((f 290) - (f 22)))))) then (f 290) - (f 22) else i 20), .int (i 21), .int (i 22), .int (i 23), .ref (ad 24), .int (i 25), .ref (ad 26), .ref (ad 27), .ref (ad 28), .ref (ad 29), .ref (ad 30), .int (i 31)])), (ad 0, .inl (M.G.2 0, 402, .inl f))] [(6, .int (bI (((i 19) < (bitsTo (rightTo (pg f 268) N) 7)) ∨ (((bitsTo (rightTo (pg f 268) N) 7) = (i 19)) ∧ ((many = (i 23)) ∧ (¬ ((i 20) ≤ ((f 290) - (f 22))))))))), (5, .int ((f 290) - (f 22))), (4, .int (bitsTo (rightTo (pg f 268) N) 7)), (0, .ref h), (1, .int many), (2, .int fi), (3, .int sc)] [.int x11, .ref h] 122 := by
          intro x11 ex11
          subst ex11
          refine V.put (pc' := 125) C [(h, .inr (7, [.ref (ad 0), .int (i 1), .ref (ad 2), .int (i 3), .int (i 4), .int (i 5), .ref (ad 6), .int (i 7), .int (i 8), .int (i 9), .int (i 10), .int (i 11), .int (i 12), .int (i 13), .int (i 14), .ref (ad 15), .ref (ad 16), .int (i 17), .int (i 18), .int (if ((i 19) < (bitsTo (rightTo (pg f 268) N) 7)) ∨ (((bitsTo (rightTo (pg f 268) N) 7) = (i 19)) ∧ ((many = (i 23)) ∧ (¬ ((i 20) ≤ ((f 290) - (f 22)))))) then bitsTo (rightTo (pg f 268) N) 7 else i 19), .int (if ((i 19) < (bitsTo (rightTo (pg f 268) N) 7)) ∨ (((bitsTo (rightTo (pg f 268) N) 7) = (i 19)) ∧ ((many = (i 23)) ∧ (¬ ((i 20) ≤ ((f 290) - (f 22)))))) then (f 290) - (f 22) else i 20), .int (if ((i 19) < (bitsTo (rightTo (pg f 268) N) 7)) ∨ (((bitsTo (rightTo (pg f 268) N) 7) = (i 19)) ∧ ((many = (i 23)) ∧ (¬ ((i 20) ≤ ((f 290) - (f 22)))))) then fi else i 21), .int (i 22), .int (i 23), .ref (ad 24), .int (i 25), .ref (ad 26), .ref (ad 27), .ref (ad 28), .ref (ad 29), .ref (ad 30), .int (i 31)])), (ad 0, .inl (M.G.2 0, 402, .inl f))] dX7_compares_122 rfl 0 rfl rfl in_X7 tyX7_ok nmX7 21 rfl q950 rfl rfl rfl rfl rfl ?_
          refine V.aload_n (pc' := 126) C 3 dX7_compares_125 rfl rfl ?_
          refine V.iload (pc' := 128) C 0 dX7_compares_126 rfl rfl ?_
          have J15 : ∀ (x14 : Int32), x14 = (if ((i 19) < (bitsTo (rightTo (pg f 268) N) 7)) ∨ (((bitsTo (rightTo (pg f 268) N) 7) = (i 19)) ∧ ((many = (i 23)) ∧ (¬ ((i 20) ≤ ((f 290) - (f 22)))))) then sc else i 22) → V M 0 0 [(h, .inr (7, [.ref (ad 0), .int (i 1), .ref (ad 2), .int (i 3), .int (i 4), .int (i 5), .ref (ad 6), .int (i 7), .int (i 8), .int (i 9), .int (i 10), .int (i 11), .int (i 12), .int (i 13), .int (i 14), .ref (ad 15), .ref (ad 16), .int (i 17), .int (i 18), .int (if ((i 19) < (bitsTo (rightTo (pg f 268) N) 7)) ∨ (((bitsTo (rightTo (pg f 268) N) 7) = (i 19)) ∧ ((many = (i 23)) ∧ (¬ ((i 20) ≤ ((f 290) - (f 22)))))) then bitsTo (rightTo (pg f 268) N) 7 else i 19), .int (if ((i 19) < (bitsTo (rightTo (pg f 268) N) 7)) ∨ (((bitsTo (rightTo (pg f 268) N) 7) = (i 19)) ∧ ((many = (i 23)) ∧ (¬ ((i 20) ≤ ((f 290) - (f 22)))))) then (f 290) - (f 22) else i 20), .int (if ((i 19) < (bitsTo (rightTo (pg f 268) N) 7)) ∨ (((bitsTo (rightTo (pg f 268) N) 7) = (i 19)) ∧ ((many = (i 23)) ∧ (¬ ((i 20) ≤ ((f 290) - (f 22)))))) then fi else i 21), .int (i 22), .int (i 23), .ref (ad 24), .int (i 25), .ref (ad 26), .ref (ad 27), .ref (ad 28), .ref (ad 29), .ref (ad 30), .int (i 31)])), (ad 0, .inl (M.G.2 0, 402, .inl f))] [(6, .int (bI (((i 19) < (bitsTo (rightTo (pg f 268) N) 7)) ∨ (((bitsTo (rightTo (pg f 268) N) 7) = (i 19)) ∧ ((many = (i 23)) ∧ (¬ ((i 20) ≤ ((f 290) - (f 22))))))))), (5, .int ((f 290) - (f 22))), (4, .int (bitsTo (rightTo (pg f 268) N) 7)), (0, .ref h), (1, .int many), (2, .int fi), (3, .int sc)] [.int x14, .ref h] 139 := by
            intro x14 ex14
            subst ex14
            refine V.put (pc' := 142) C [(h, .inr (7, [.ref (ad 0), .int (i 1), .ref (ad 2), .int (i 3), .int (i 4), .int (i 5), .ref (ad 6), .int (i 7), .int (i 8), .int (i 9), .int (i 10), .int (i 11), .int (i 12), .int (i 13), .int (i 14), .ref (ad 15), .ref (ad 16), .int (i 17), .int (i 18), .int (if ((i 19) < (bitsTo (rightTo (pg f 268) N) 7)) ∨ (((bitsTo (rightTo (pg f 268) N) 7) = (i 19)) ∧ ((many = (i 23)) ∧ (¬ ((i 20) ≤ ((f 290) - (f 22)))))) then bitsTo (rightTo (pg f 268) N) 7 else i 19), .int (if ((i 19) < (bitsTo (rightTo (pg f 268) N) 7)) ∨ (((bitsTo (rightTo (pg f 268) N) 7) = (i 19)) ∧ ((many = (i 23)) ∧ (¬ ((i 20) ≤ ((f 290) - (f 22)))))) then (f 290) - (f 22) else i 20), .int (if ((i 19) < (bitsTo (rightTo (pg f 268) N) 7)) ∨ (((bitsTo (rightTo (pg f 268) N) 7) = (i 19)) ∧ ((many = (i 23)) ∧ (¬ ((i 20) ≤ ((f 290) - (f 22)))))) then fi else i 21), .int (if ((i 19) < (bitsTo (rightTo (pg f 268) N) 7)) ∨ (((bitsTo (rightTo (pg f 268) N) 7) = (i 19)) ∧ ((many = (i 23)) ∧ (¬ ((i 20) ≤ ((f 290) - (f 22)))))) then sc else i 22), .int (i 23), .ref (ad 24), .int (i 25), .ref (ad 26), .ref (ad 27), .ref (ad 28), .ref (ad 29), .ref (ad 30), .int (i 31)])), (ad 0, .inl (M.G.2 0, 402, .inl f))] dX7_compares_139 rfl 0 rfl rfl in_X7 tyX7_ok nmX7 22 rfl q951 rfl rfl rfl rfl rfl ?_
            refine V.aload_n (pc' := 143) C 3 dX7_compares_142 rfl rfl ?_
            refine V.iload (pc' := 145) C 0 dX7_compares_143 rfl rfl ?_
            have J18 : ∀ (x17 : Int32), x17 = (if ((i 19) < (bitsTo (rightTo (pg f 268) N) 7)) ∨ (((bitsTo (rightTo (pg f 268) N) 7) = (i 19)) ∧ ((many = (i 23)) ∧ (¬ ((i 20) ≤ ((f 290) - (f 22)))))) then many else i 23) → V M 0 0 [(h, .inr (7, [.ref (ad 0), .int (i 1), .ref (ad 2), .int (i 3), .int (i 4), .int (i 5), .ref (ad 6), .int (i 7), .int (i 8), .int (i 9), .int (i 10), .int (i 11), .int (i 12), .int (i 13), .int (i 14), .ref (ad 15), .ref (ad 16), .int (i 17), .int (i 18), .int (if ((i 19) < (bitsTo (rightTo (pg f 268) N) 7)) ∨ (((bitsTo (rightTo (pg f 268) N) 7) = (i 19)) ∧ ((many = (i 23)) ∧ (¬ ((i 20) ≤ ((f 290) - (f 22)))))) then bitsTo (rightTo (pg f 268) N) 7 else i 19), .int (if ((i 19) < (bitsTo (rightTo (pg f 268) N) 7)) ∨ (((bitsTo (rightTo (pg f 268) N) 7) = (i 19)) ∧ ((many = (i 23)) ∧ (¬ ((i 20) ≤ ((f 290) - (f 22)))))) then (f 290) - (f 22) else i 20), .int (if ((i 19) < (bitsTo (rightTo (pg f 268) N) 7)) ∨ (((bitsTo (rightTo (pg f 268) N) 7) = (i 19)) ∧ ((many = (i 23)) ∧ (¬ ((i 20) ≤ ((f 290) - (f 22)))))) then fi else i 21), .int (if ((i 19) < (bitsTo (rightTo (pg f 268) N) 7)) ∨ (((bitsTo (rightTo (pg f 268) N) 7) = (i 19)) ∧ ((many = (i 23)) ∧ (¬ ((i 20) ≤ ((f 290) - (f 22)))))) then sc else i 22), .int (i 23), .ref (ad 24), .int (i 25), .ref (ad 26), .ref (ad 27), .ref (ad 28), .ref (ad 29), .ref (ad 30), .int (i 31)])), (ad 0, .inl (M.G.2 0, 402, .inl f))] [(6, .int (bI (((i 19) < (bitsTo (rightTo (pg f 268) N) 7)) ∨ (((bitsTo (rightTo (pg f 268) N) 7) = (i 19)) ∧ ((many = (i 23)) ∧ (¬ ((i 20) ≤ ((f 290) - (f 22))))))))), (5, .int ((f 290) - (f 22))), (4, .int (bitsTo (rightTo (pg f 268) N) 7)), (0, .ref h), (1, .int many), (2, .int fi), (3, .int sc)] [.int x17, .ref h] 156 := by
              intro x17 ex17
              subst ex17
              refine V.put (pc' := 159) C [(h, .inr (7, [.ref (ad 0), .int (i 1), .ref (ad 2), .int (i 3), .int (i 4), .int (i 5), .ref (ad 6), .int (i 7), .int (i 8), .int (i 9), .int (i 10), .int (i 11), .int (i 12), .int (i 13), .int (i 14), .ref (ad 15), .ref (ad 16), .int (i 17), .int (i 18), .int (if ((i 19) < (bitsTo (rightTo (pg f 268) N) 7)) ∨ (((bitsTo (rightTo (pg f 268) N) 7) = (i 19)) ∧ ((many = (i 23)) ∧ (¬ ((i 20) ≤ ((f 290) - (f 22)))))) then bitsTo (rightTo (pg f 268) N) 7 else i 19), .int (if ((i 19) < (bitsTo (rightTo (pg f 268) N) 7)) ∨ (((bitsTo (rightTo (pg f 268) N) 7) = (i 19)) ∧ ((many = (i 23)) ∧ (¬ ((i 20) ≤ ((f 290) - (f 22)))))) then (f 290) - (f 22) else i 20), .int (if ((i 19) < (bitsTo (rightTo (pg f 268) N) 7)) ∨ (((bitsTo (rightTo (pg f 268) N) 7) = (i 19)) ∧ ((many = (i 23)) ∧ (¬ ((i 20) ≤ ((f 290) - (f 22)))))) then fi else i 21), .int (if ((i 19) < (bitsTo (rightTo (pg f 268) N) 7)) ∨ (((bitsTo (rightTo (pg f 268) N) 7) = (i 19)) ∧ ((many = (i 23)) ∧ (¬ ((i 20) ≤ ((f 290) - (f 22)))))) then sc else i 22), .int (if ((i 19) < (bitsTo (rightTo (pg f 268) N) 7)) ∨ (((bitsTo (rightTo (pg f 268) N) 7) = (i 19)) ∧ ((many = (i 23)) ∧ (¬ ((i 20) ≤ ((f 290) - (f 22)))))) then many else i 23), .ref (ad 24), .int (i 25), .ref (ad 26), .ref (ad 27), .ref (ad 28), .ref (ad 29), .ref (ad 30), .int (i 31)])), (ad 0, .inl (M.G.2 0, 402, .inl f))] dX7_compares_156 rfl 0 rfl rfl in_X7 tyX7_ok nmX7 23 rfl q952 rfl rfl rfl rfl rfl ?_
              exact V.vret C T dX7_compares_159 () rfl trivial rfl rfl rfl
            refine V.if_eqB (pc' := 148) C 152 dX7_compares_145 rfl rfl (fun h16 => ?_) (fun h16 => ?_)
            · refine V.aload_n (pc' := 153) C 3 dX7_compares_152 rfl rfl ?_
              refine V.get (pc' := 156) C dX7_compares_153 rfl 0 rfl rfl in_X7 23 rfl q952 rfl ?_
              exact J18 _ (by rw [if_neg h16])
            · refine V.iload_n (pc' := 149) C 4 dX7_compares_148 rfl rfl ?_
              refine V.goto C 156 dX7_compares_149 rfl ?_
              exact J18 _ (by rw [if_pos h16])
          refine V.if_eqB (pc' := 131) C 135 dX7_compares_128 rfl rfl (fun h13 => ?_) (fun h13 => ?_)
          · refine V.aload_n (pc' := 136) C 3 dX7_compares_135 rfl rfl ?_
            refine V.get (pc' := 139) C dX7_compares_136 rfl 0 rfl rfl in_X7 22 rfl q951 rfl ?_
            exact J15 _ (by rw [if_neg h13])
          · refine V.iload_n (pc' := 132) C 6 dX7_compares_131 rfl rfl ?_
            refine V.goto C 139 dX7_compares_132 rfl ?_
            exact J15 _ (by rw [if_pos h13])
        refine V.if_eqB (pc' := 114) C 118 dX7_compares_111 rfl rfl (fun h10 => ?_) (fun h10 => ?_)
        · refine V.aload_n (pc' := 119) C 3 dX7_compares_118 rfl rfl ?_
          refine V.get (pc' := 122) C dX7_compares_119 rfl 0 rfl rfl in_X7 21 rfl q950 rfl ?_
          exact J12 _ (by rw [if_neg h10])
        · refine V.iload_n (pc' := 115) C 5 dX7_compares_114 rfl rfl ?_
          refine V.goto C 122 dX7_compares_115 rfl ?_
          exact J12 _ (by rw [if_pos h10])
      refine V.if_eqB (pc' := 96) C 101 dX7_compares_93 rfl rfl (fun h7 => ?_) (fun h7 => ?_)
      · refine V.aload_n (pc' := 102) C 3 dX7_compares_101 rfl rfl ?_
        refine V.get (pc' := 105) C dX7_compares_102 rfl 0 rfl rfl in_X7 20 rfl q949 rfl ?_
        exact J9 _ (by rw [if_neg h7])
      · refine V.iload (pc' := 98) C 1 dX7_compares_96 rfl rfl ?_
        refine V.goto C 105 dX7_compares_98 rfl ?_
        exact J9 _ (by rw [if_pos h7])
    refine V.if_eqB (pc' := 78) C 83 dX7_compares_75 rfl rfl (fun h4 => ?_) (fun h4 => ?_)
    · refine V.aload_n (pc' := 84) C 3 dX7_compares_83 rfl rfl ?_
      refine V.get (pc' := 87) C dX7_compares_84 rfl 0 rfl rfl in_X7 19 rfl q948 rfl ?_
      exact J6 _ (by rw [if_neg h4])
    · refine V.iload (pc' := 80) C 2 dX7_compares_78 rfl rfl ?_
      refine V.goto C 87 dX7_compares_80 rfl ?_
      exact J6 _ (by rw [if_pos h4])
  refine V.icmp_gt (pc' := 39) C 65 dX7_compares_36 rfl rfl (fun h1 => ?_) (fun h1 => ?_)
  · refine V.iconst (pc' := 66) C dX7_compares_65 rfl kci_1 ?_
    refine V.goto C 70 dX7_compares_66 rfl ?_
    exact J3 _ (by rw [if_pos h1])
  · refine V.iload (pc' := 41) C 1 dX7_compares_39 rfl rfl ?_
    refine V.aload_n (pc' := 42) C 2 dX7_compares_41 rfl rfl ?_
    refine V.get (pc' := 45) C dX7_compares_42 rfl 0 rfl rfl in_X7 19 rfl q948 rfl ?_
    refine V.icmp_ne (pc' := 48) C 69 dX7_compares_45 rfl rfl (fun h2 => ?_) (fun h2 => ?_)
    · refine V.iconst (pc' := 70) C dX7_compares_69 rfl kci_0 ?_
      exact J3 _ (by rw [if_neg h1, if_neg h2])
    · refine V.iload_n (pc' := 49) C 3 dX7_compares_48 rfl rfl ?_
      refine V.aload_n (pc' := 50) C 2 dX7_compares_49 rfl rfl ?_
      refine V.get (pc' := 53) C dX7_compares_50 rfl 0 rfl rfl in_X7 23 rfl q952 rfl ?_
      refine V.icmp_ne (pc' := 56) C 69 dX7_compares_53 rfl rfl (fun h3 => ?_) (fun h3 => ?_)
      · refine V.iconst (pc' := 70) C dX7_compares_69 rfl kci_0 ?_
        exact J3 _ (by rw [if_neg h1, if_pos h2, if_neg h3])
      · refine V.iload (pc' := 58) C 0 dX7_compares_56 rfl rfl ?_
        refine V.aload_n (pc' := 59) C 2 dX7_compares_58 rfl rfl ?_
        refine V.get (pc' := 62) C dX7_compares_59 rfl 0 rfl rfl in_X7 20 rfl q949 rfl ?_
        refine V.icmp_ge (pc' := 65) C 69 dX7_compares_62 rfl rfl (fun h4 => ?_) (fun h4 => ?_)
        · refine V.iconst (pc' := 70) C dX7_compares_69 rfl kci_0 ?_
          exact J3 _ (by rw [if_neg h1, if_pos h2, if_pos h3, if_pos h4])
        · refine V.iconst (pc' := 66) C dX7_compares_65 rfl kci_1 ?_
          refine V.goto C 70 dX7_compares_66 rfl ?_
          exact J3 _ (by rw [if_neg h1, if_pos h2, if_pos h3, if_neg h4])
