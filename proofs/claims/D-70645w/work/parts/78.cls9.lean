set_option maxRecDepth 100000
set_option maxHeartbeats 4000000 in
theorem ct_X0_judges (l : Launch) (G : GG) (ad : Nat → Nat) (i : Nat → Int32) (j : Nat → Int64) (N : Nat) (g : Pg) (br : Nat → Int32) (w0 : Nat) (w1 : Nat) (w2 : Nat) (w3 : Nat) (K : Nat) (t : Pg) (m : Int32) (a : Int32) (b : Int32) (hK5 : K ≤ 5) : Ct l G yX0_judges (ws_ yX0_judges cX0_judges 8 none) ({ frames := 2, cells := 0, slots := 0, locals := 44 } : Room) [.ref (ad 0), .ref w0, .int m, .int a, .int b] [xO ad i j, wO (ad 6) (ad 7) (ad 8) (ad 9) N g, (ad 7, .inl (G.2 1, 20, .inl (wcl g))), (ad 8, .inl (G.2 0, 25, .inl (wgt g))), (ad 9, .inl (G.2 1, 18, .inl (wpl g))), (ad 29, .inl (G.2 0, 2, .inl br)), wO w0 w1 w2 w3 K t, (w1, .inl (G.2 1, 20, .inl (wcl t))), (w2, .inl (G.2 0, 25, .inl (wgt t))), (w3, .inl (G.2 1, 18, .inl (wpl t)))] (fun _ : Unit => none) (fun _ => True) (fun _ => [xO ad (jgI i (bitsTo (rightTo t K) 7) m (t 22 - g 22)) j, wO (ad 6) (ad 7) (ad 8) (ad 9) N g, (ad 7, .inl (G.2 1, 20, .inl (wcl g))), (ad 8, .inl (G.2 0, 25, .inl (wgt g))), (ad 9, .inl (G.2 1, 18, .inl (wpl g))), (ad 29, .inl (G.2 0, 2, .inl (jgB br i (bitsTo (rightTo t K) 7) m (t 22 - g 22) a b))), wO w0 w1 w2 w3 K t, (w1, .inl (G.2 1, 20, .inl (wcl t))), (w2, .inl (G.2 0, 25, .inl (wgt t))), (w3, .inl (G.2 1, 18, .inl (wpl t)))]) := by
  refine Ct.of rfl rfl ?_
  intro M el eG hnL C T
  subst el
  subst eG
  have C : Cx M cX0_judges "ClockWard" ({ frames := 2, cells := 0, slots := 0, locals := 44 } : Room) := C
  refine V.lvs [0, 1, 2, 3, 4] (lv2 := [(0, .ref (ad 0)), (1, .ref w0), (2, .int m), (3, .int a), (4, .int b)]) rfl ?_
  refine V.aload_n (pc' := 1) C 1 dX0_judges_0 rfl rfl ?_
  refine V.callV (pc' := 4) (wr := [xO ad i j, wO (ad 6) (ad 7) (ad 8) (ad 9) N g, (ad 7, .inl (M.G.2 1, 20, .inl (wcl g))), (ad 8, .inl (M.G.2 0, 25, .inl (wgt g))), (ad 9, .inl (M.G.2 1, 18, .inl (wpl g))), (ad 29, .inl (M.G.2 0, 2, .inl br))]) C (ct_X5_right M.l M.G w0 w1 w2 w3 K t (by omega)) dX0_judges_1 rfl (lw_V q519 q520 q521 q69 q522) hyv_X5_right rfl rfl 0 rfl rfl [6, 7, 8, 9] [0, 1, 2, 3, 4, 5] [0, 1, 2, 3, 4, 5, 6, 7, 8, 9] rfl rfl rfl (fun _ => [xO ad i j, wO (ad 6) (ad 7) (ad 8) (ad 9) N g, (ad 7, .inl (M.G.2 1, 20, .inl (wcl g))), (ad 8, .inl (M.G.2 0, 25, .inl (wgt g))), (ad 9, .inl (M.G.2 1, 18, .inl (wpl g))), (ad 29, .inl (M.G.2 0, 2, .inl br)), wO w0 w1 w2 w3 K t, (w1, .inl (M.G.2 1, 20, .inl (wcl t))), (w2, .inl (M.G.2 0, 25, .inl (wgt t))), (w3, .inl (M.G.2 1, 18, .inl (wpl t)))]) (fun _ => rfl) rfl 0 0 rfl rfl (fun _ => [.int (rightTo t K)]) (fun _ => rfl) (fun _ _ => ?_)
  refine V.callS (pc' := 7) (wr := [xO ad i j, wO (ad 6) (ad 7) (ad 8) (ad 9) N g, (ad 7, .inl (M.G.2 1, 20, .inl (wcl g))), (ad 8, .inl (M.G.2 0, 25, .inl (wgt g))), (ad 9, .inl (M.G.2 1, 18, .inl (wpl g))), (ad 29, .inl (M.G.2 0, 2, .inl br)), wO w0 w1 w2 w3 K t, (w1, .inl (M.G.2 1, 20, .inl (wcl t))), (w2, .inl (M.G.2 0, 25, .inl (wgt t))), (w3, .inl (M.G.2 1, 18, .inl (wpl t)))]) C (ct_J7_bitCount M.l M.G (rightTo t K) ) dX0_judges_4 rfl (lw_S q671 q672 q82 q673) hys_J7_bitCount rfl rfl [] [0, 1, 2, 3, 4, 5, 6, 7, 8, 9] [0, 1, 2, 3, 4, 5, 6, 7, 8, 9] rfl rfl rfl (fun _ => [xO ad i j, wO (ad 6) (ad 7) (ad 8) (ad 9) N g, (ad 7, .inl (M.G.2 1, 20, .inl (wcl g))), (ad 8, .inl (M.G.2 0, 25, .inl (wgt g))), (ad 9, .inl (M.G.2 1, 18, .inl (wpl g))), (ad 29, .inl (M.G.2 0, 2, .inl br)), wO w0 w1 w2 w3 K t, (w1, .inl (M.G.2 1, 20, .inl (wcl t))), (w2, .inl (M.G.2 0, 25, .inl (wgt t))), (w3, .inl (M.G.2 1, 18, .inl (wpl t)))]) (fun _ => rfl) rfl 0 0 rfl rfl (fun _ => [.int (bitCnt (rightTo t K))]) (fun _ => rfl) (fun _ _ => ?_)
  refine V.topI (y := bitsTo (rightTo t K) 7) (right_bits _ hK5) ?_
  refine V.istore (pc' := 9) C [(5, .int (bitsTo (rightTo t K) 7)), (0, .ref (ad 0)), (1, .ref w0), (2, .int m), (3, .int a), (4, .int b)] dX0_judges_7 rfl 8 hnL rfl rfl ?_
  refine V.aload_n (pc' := 10) C 2 dX0_judges_9 rfl rfl ?_
  refine V.getN (pc' := 13) C dX0_judges_10 rfl 6 rfl rfl in_X5 4 rfl q142 rfl ?_
  refine V.aload_n (pc' := 14) C 1 dX0_judges_13 rfl rfl ?_
  refine V.get (pc' := 17) C dX0_judges_14 rfl 0 rfl rfl in_X0 1 rfl q183 rfl ?_
  refine V.getN (pc' := 20) C dX0_judges_17 rfl 1 rfl rfl in_X5 4 rfl q142 rfl ?_
  refine V.isub (pc' := 21) C dX0_judges_20 rfl ?_
  refine V.istore (pc' := 23) C [(6, .int ((t 22) - (g 22))), (5, .int (bitsTo (rightTo t K) 7)), (0, .ref (ad 0)), (1, .ref w0), (2, .int m), (3, .int a), (4, .int b)] dX0_judges_21 rfl 8 hnL rfl rfl ?_
  refine V.iload (pc' := 25) C 1 dX0_judges_23 rfl rfl ?_
  refine V.aload_n (pc' := 26) C 2 dX0_judges_25 rfl rfl ?_
  refine V.get (pc' := 29) C dX0_judges_26 rfl 0 rfl rfl in_X0 13 rfl q196 rfl ?_
  have J3 : ∀ (x2 : Int32), x2 = (if (i 13) < (bitsTo (rightTo t K) 7) then 1 else if (bitsTo (rightTo t K) 7) = (i 13) then if m < (i 14) then 1 else if m = (i 14) then if (i 15) ≤ ((t 22) - (g 22)) then 0 else 1 else 0 else 0) → V M 0 0 [xO ad i j, wO (ad 6) (ad 7) (ad 8) (ad 9) N g, (ad 7, .inl (M.G.2 1, 20, .inl (wcl g))), (ad 8, .inl (M.G.2 0, 25, .inl (wgt g))), (ad 9, .inl (M.G.2 1, 18, .inl (wpl g))), (ad 29, .inl (M.G.2 0, 2, .inl br)), wO w0 w1 w2 w3 K t, (w1, .inl (M.G.2 1, 20, .inl (wcl t))), (w2, .inl (M.G.2 0, 25, .inl (wgt t))), (w3, .inl (M.G.2 1, 18, .inl (wpl t)))] [(6, .int ((t 22) - (g 22))), (5, .int (bitsTo (rightTo t K) 7)), (0, .ref (ad 0)), (1, .ref w0), (2, .int m), (3, .int a), (4, .int b)] [.int x2] 71 := by
    intro x2 ex2
    have ex2 : x2 = bI (((i 13) < (bitsTo (rightTo t K) 7)) ∨ (((bitsTo (rightTo t K) 7) = (i 13)) ∧ ((m < (i 14)) ∨ ((m = (i 14)) ∧ (¬ ((i 15) ≤ ((t 22) - (g 22)))))))) := ex2.trans (it_1 (it_a (it_1 (it_a it_01))))
    subst ex2
    refine V.istore (pc' := 73) C [(7, .int (bI (((i 13) < (bitsTo (rightTo t K) 7)) ∨ (((bitsTo (rightTo t K) 7) = (i 13)) ∧ ((m < (i 14)) ∨ ((m = (i 14)) ∧ (¬ ((i 15) ≤ ((t 22) - (g 22)))))))))), (6, .int ((t 22) - (g 22))), (5, .int (bitsTo (rightTo t K) 7)), (0, .ref (ad 0)), (1, .ref w0), (2, .int m), (3, .int a), (4, .int b)] dX0_judges_71 rfl 8 hnL rfl rfl ?_
    refine V.iload (pc' := 75) C 0 dX0_judges_73 rfl rfl ?_
    have J9 : ∀ (x5 : Int32) (x6 : Int32) (x7 : Int32) (x8 : Nat → Int32), x5 = (if ((i 13) < (bitsTo (rightTo t K) 7)) ∨ (((bitsTo (rightTo t K) 7) = (i 13)) ∧ ((m < (i 14)) ∨ ((m = (i 14)) ∧ (¬ ((i 15) ≤ ((t 22) - (g 22))))))) then bitsTo (rightTo t K) 7 else i 13) → x6 = (if ((i 13) < (bitsTo (rightTo t K) 7)) ∨ (((bitsTo (rightTo t K) 7) = (i 13)) ∧ ((m < (i 14)) ∨ ((m = (i 14)) ∧ (¬ ((i 15) ≤ ((t 22) - (g 22))))))) then m else i 14) → x7 = (if ((i 13) < (bitsTo (rightTo t K) 7)) ∨ (((bitsTo (rightTo t K) 7) = (i 13)) ∧ ((m < (i 14)) ∨ ((m = (i 14)) ∧ (¬ ((i 15) ≤ ((t 22) - (g 22))))))) then (t 22) - (g 22) else i 15) → x8 = (if ((i 13) < (bitsTo (rightTo t K) 7)) ∨ (((bitsTo (rightTo t K) 7) = (i 13)) ∧ ((m < (i 14)) ∨ ((m = (i 14)) ∧ (¬ ((i 15) ≤ ((t 22) - (g 22))))))) then upd (upd br 0 a) 1 b else br) → V M 0 0 [(ad 0, .inr (0, [.ref (ad 1), .ref (ad 6), .ref (ad 10), .ref (ad 14), .ref (ad 18), .int (i 5), .ref (ad 27), .int (i 7), .int (i 8), .int (i 9), .ref (ad 28), .int (i 11), .int (i 12), .int x5, .int x6, .int x7, .ref (ad 29), .long (j 17), .long (j 18), .long (j 19), .ref (ad 30), .ref (ad 31), .ref (ad 32), .int (i 23)])), wO (ad 6) (ad 7) (ad 8) (ad 9) N g, (ad 7, .inl (M.G.2 1, 20, .inl (wcl g))), (ad 8, .inl (M.G.2 0, 25, .inl (wgt g))), (ad 9, .inl (M.G.2 1, 18, .inl (wpl g))), (ad 29, .inl (M.G.2 0, 2, .inl x8)), wO w0 w1 w2 w3 K t, (w1, .inl (M.G.2 1, 20, .inl (wcl t))), (w2, .inl (M.G.2 0, 25, .inl (wgt t))), (w3, .inl (M.G.2 1, 18, .inl (wpl t)))] [(7, .int (bI (((i 13) < (bitsTo (rightTo t K) 7)) ∨ (((bitsTo (rightTo t K) 7) = (i 13)) ∧ ((m < (i 14)) ∨ ((m = (i 14)) ∧ (¬ ((i 15) ≤ ((t 22) - (g 22)))))))))), (6, .int ((t 22) - (g 22))), (5, .int (bitsTo (rightTo t K) 7)), (0, .ref (ad 0)), (1, .ref w0), (2, .int m), (3, .int a), (4, .int b)] [] 110 := by
      intro x5 x6 x7 x8 ex5 ex6 ex7 ex8
      subst ex5
      subst ex6
      subst ex7
      subst ex8
      exact V.vret C T dX0_judges_110 () rfl trivial rfl rfl rfl
    refine V.if_eqB (pc' := 78) C 110 dX0_judges_75 rfl rfl (fun h4 => ?_) (fun h4 => ?_)
    · exact J9 _ _ _ _ (by rw [if_neg h4]) (by rw [if_neg h4]) (by rw [if_neg h4]) (by rw [if_neg h4])
    · refine V.aload_n (pc' := 79) C 3 dX0_judges_78 rfl rfl ?_
      refine V.iload (pc' := 81) C 2 dX0_judges_79 rfl rfl ?_
      refine V.put (pc' := 84) C [(ad 0, .inr (0, [.ref (ad 1), .ref (ad 6), .ref (ad 10), .ref (ad 14), .ref (ad 18), .int (i 5), .ref (ad 27), .int (i 7), .int (i 8), .int (i 9), .ref (ad 28), .int (i 11), .int (i 12), .int (bitsTo (rightTo t K) 7), .int (i 14), .int (i 15), .ref (ad 29), .long (j 17), .long (j 18), .long (j 19), .ref (ad 30), .ref (ad 31), .ref (ad 32), .int (i 23)])), wO (ad 6) (ad 7) (ad 8) (ad 9) N g, (ad 7, .inl (M.G.2 1, 20, .inl (wcl g))), (ad 8, .inl (M.G.2 0, 25, .inl (wgt g))), (ad 9, .inl (M.G.2 1, 18, .inl (wpl g))), (ad 29, .inl (M.G.2 0, 2, .inl br)), wO w0 w1 w2 w3 K t, (w1, .inl (M.G.2 1, 20, .inl (wcl t))), (w2, .inl (M.G.2 0, 25, .inl (wgt t))), (w3, .inl (M.G.2 1, 18, .inl (wpl t)))] dX0_judges_81 rfl 0 rfl rfl in_X0 tyX0_ok nmX0 13 rfl q196 rfl rfl rfl rfl rfl ?_
      refine V.aload_n (pc' := 85) C 3 dX0_judges_84 rfl rfl ?_
      refine V.iload_n (pc' := 86) C 5 dX0_judges_85 rfl rfl ?_
      refine V.put (pc' := 89) C [(ad 0, .inr (0, [.ref (ad 1), .ref (ad 6), .ref (ad 10), .ref (ad 14), .ref (ad 18), .int (i 5), .ref (ad 27), .int (i 7), .int (i 8), .int (i 9), .ref (ad 28), .int (i 11), .int (i 12), .int (bitsTo (rightTo t K) 7), .int m, .int (i 15), .ref (ad 29), .long (j 17), .long (j 18), .long (j 19), .ref (ad 30), .ref (ad 31), .ref (ad 32), .int (i 23)])), wO (ad 6) (ad 7) (ad 8) (ad 9) N g, (ad 7, .inl (M.G.2 1, 20, .inl (wcl g))), (ad 8, .inl (M.G.2 0, 25, .inl (wgt g))), (ad 9, .inl (M.G.2 1, 18, .inl (wpl g))), (ad 29, .inl (M.G.2 0, 2, .inl br)), wO w0 w1 w2 w3 K t, (w1, .inl (M.G.2 1, 20, .inl (wcl t))), (w2, .inl (M.G.2 0, 25, .inl (wgt t))), (w3, .inl (M.G.2 1, 18, .inl (wpl t)))] dX0_judges_86 rfl 0 rfl rfl in_X0 tyX0_ok nmX0 14 rfl q197 rfl rfl rfl rfl rfl ?_
      refine V.aload_n (pc' := 90) C 3 dX0_judges_89 rfl rfl ?_
      refine V.iload (pc' := 92) C 1 dX0_judges_90 rfl rfl ?_
      refine V.put (pc' := 95) C [(ad 0, .inr (0, [.ref (ad 1), .ref (ad 6), .ref (ad 10), .ref (ad 14), .ref (ad 18), .int (i 5), .ref (ad 27), .int (i 7), .int (i 8), .int (i 9), .ref (ad 28), .int (i 11), .int (i 12), .int (bitsTo (rightTo t K) 7), .int m, .int ((t 22) - (g 22)), .ref (ad 29), .long (j 17), .long (j 18), .long (j 19), .ref (ad 30), .ref (ad 31), .ref (ad 32), .int (i 23)])), wO (ad 6) (ad 7) (ad 8) (ad 9) N g, (ad 7, .inl (M.G.2 1, 20, .inl (wcl g))), (ad 8, .inl (M.G.2 0, 25, .inl (wgt g))), (ad 9, .inl (M.G.2 1, 18, .inl (wpl g))), (ad 29, .inl (M.G.2 0, 2, .inl br)), wO w0 w1 w2 w3 K t, (w1, .inl (M.G.2 1, 20, .inl (wcl t))), (w2, .inl (M.G.2 0, 25, .inl (wgt t))), (w3, .inl (M.G.2 1, 18, .inl (wpl t)))] dX0_judges_92 rfl 0 rfl rfl in_X0 tyX0_ok nmX0 15 rfl q198 rfl rfl rfl rfl rfl ?_
      refine V.aload_n (pc' := 96) C 3 dX0_judges_95 rfl rfl ?_
      refine V.get (pc' := 99) C dX0_judges_96 rfl 0 rfl rfl in_X0 16 rfl q199 rfl ?_
      refine V.iconst (pc' := 100) C dX0_judges_99 rfl kci_0 ?_
      refine V.iload_n (pc' := 101) C 6 dX0_judges_100 rfl rfl ?_
      refine V.iast (pc' := 102) C 0 [(ad 0, .inr (0, [.ref (ad 1), .ref (ad 6), .ref (ad 10), .ref (ad 14), .ref (ad 18), .int (i 5), .ref (ad 27), .int (i 7), .int (i 8), .int (i 9), .ref (ad 28), .int (i 11), .int (i 12), .int (bitsTo (rightTo t K) 7), .int m, .int ((t 22) - (g 22)), .ref (ad 29), .long (j 17), .long (j 18), .long (j 19), .ref (ad 30), .ref (ad 31), .ref (ad 32), .int (i 23)])), wO (ad 6) (ad 7) (ad 8) (ad 9) N g, (ad 7, .inl (M.G.2 1, 20, .inl (wcl g))), (ad 8, .inl (M.G.2 0, 25, .inl (wgt g))), (ad 9, .inl (M.G.2 1, 18, .inl (wpl g))), (ad 29, .inl (M.G.2 0, 2, .inl (upd br 0 a))), wO w0 w1 w2 w3 K t, (w1, .inl (M.G.2 1, 20, .inl (wcl t))), (w2, .inl (M.G.2 0, 25, .inl (wgt t))), (w3, .inl (M.G.2 1, 18, .inl (wpl t)))] dX0_judges_101 rfl 5 rfl (by omega) rfl a rfl rfl ?_
      refine V.aload_n (pc' := 103) C 3 dX0_judges_102 rfl rfl ?_
      refine V.get (pc' := 106) C dX0_judges_103 rfl 0 rfl rfl in_X0 16 rfl q199 rfl ?_
      refine V.iconst (pc' := 107) C dX0_judges_106 rfl kci_1 ?_
      refine V.iload (pc' := 109) C 7 dX0_judges_107 rfl rfl ?_
      refine V.iast (pc' := 110) C 1 [(ad 0, .inr (0, [.ref (ad 1), .ref (ad 6), .ref (ad 10), .ref (ad 14), .ref (ad 18), .int (i 5), .ref (ad 27), .int (i 7), .int (i 8), .int (i 9), .ref (ad 28), .int (i 11), .int (i 12), .int (bitsTo (rightTo t K) 7), .int m, .int ((t 22) - (g 22)), .ref (ad 29), .long (j 17), .long (j 18), .long (j 19), .ref (ad 30), .ref (ad 31), .ref (ad 32), .int (i 23)])), wO (ad 6) (ad 7) (ad 8) (ad 9) N g, (ad 7, .inl (M.G.2 1, 20, .inl (wcl g))), (ad 8, .inl (M.G.2 0, 25, .inl (wgt g))), (ad 9, .inl (M.G.2 1, 18, .inl (wpl g))), (ad 29, .inl (M.G.2 0, 2, .inl (upd (upd br 0 a) 1 b))), wO w0 w1 w2 w3 K t, (w1, .inl (M.G.2 1, 20, .inl (wcl t))), (w2, .inl (M.G.2 0, 25, .inl (wgt t))), (w3, .inl (M.G.2 1, 18, .inl (wpl t)))] dX0_judges_109 rfl 5 rfl (by omega) rfl b rfl rfl ?_
      exact J9 _ _ _ _ (by rw [if_pos h4]) (by rw [if_pos h4]) (by rw [if_pos h4]) (by rw [if_pos h4])
  refine V.icmp_gt (pc' := 32) C 66 dX0_judges_29 rfl rfl (fun h1 => ?_) (fun h1 => ?_)
  · refine V.iconst (pc' := 67) C dX0_judges_66 rfl kci_1 ?_
    refine V.goto C 71 dX0_judges_67 rfl ?_
    exact J3 _ (by rw [if_pos h1])
  · refine V.iload (pc' := 34) C 1 dX0_judges_32 rfl rfl ?_
    refine V.aload_n (pc' := 35) C 2 dX0_judges_34 rfl rfl ?_
    refine V.get (pc' := 38) C dX0_judges_35 rfl 0 rfl rfl in_X0 13 rfl q196 rfl ?_
    refine V.icmp_ne (pc' := 41) C 70 dX0_judges_38 rfl rfl (fun h2 => ?_) (fun h2 => ?_)
    · refine V.iconst (pc' := 71) C dX0_judges_70 rfl kci_0 ?_
      exact J3 _ (by rw [if_neg h1, if_neg h2])
    · refine V.iload_n (pc' := 42) C 4 dX0_judges_41 rfl rfl ?_
      refine V.aload_n (pc' := 43) C 2 dX0_judges_42 rfl rfl ?_
      refine V.get (pc' := 46) C dX0_judges_43 rfl 0 rfl rfl in_X0 14 rfl q197 rfl ?_
      refine V.icmp_lt (pc' := 49) C 66 dX0_judges_46 rfl rfl (fun h3 => ?_) (fun h3 => ?_)
      · refine V.iconst (pc' := 67) C dX0_judges_66 rfl kci_1 ?_
        refine V.goto C 71 dX0_judges_67 rfl ?_
        exact J3 _ (by rw [if_neg h1, if_pos h2, if_pos h3])
      · refine V.iload_n (pc' := 50) C 4 dX0_judges_49 rfl rfl ?_
        refine V.aload_n (pc' := 51) C 2 dX0_judges_50 rfl rfl ?_
        refine V.get (pc' := 54) C dX0_judges_51 rfl 0 rfl rfl in_X0 14 rfl q197 rfl ?_
        refine V.icmp_ne (pc' := 57) C 70 dX0_judges_54 rfl rfl (fun h4 => ?_) (fun h4 => ?_)
        · refine V.iconst (pc' := 71) C dX0_judges_70 rfl kci_0 ?_
          exact J3 _ (by rw [if_neg h1, if_pos h2, if_neg h3, if_neg h4])
        · refine V.iload (pc' := 59) C 0 dX0_judges_57 rfl rfl ?_
          refine V.aload_n (pc' := 60) C 2 dX0_judges_59 rfl rfl ?_
          refine V.get (pc' := 63) C dX0_judges_60 rfl 0 rfl rfl in_X0 15 rfl q198 rfl ?_
          refine V.icmp_ge (pc' := 66) C 70 dX0_judges_63 rfl rfl (fun h5 => ?_) (fun h5 => ?_)
          · refine V.iconst (pc' := 71) C dX0_judges_70 rfl kci_0 ?_
            exact J3 _ (by rw [if_neg h1, if_pos h2, if_neg h3, if_pos h4, if_pos h5])
          · refine V.iconst (pc' := 67) C dX0_judges_66 rfl kci_1 ?_
            refine V.goto C 71 dX0_judges_67 rfl ?_
            exact J3 _ (by rw [if_neg h1, if_pos h2, if_neg h3, if_pos h4, if_neg h5])
set_option maxHeartbeats 4000000 in
theorem ct_X0_judges0 (l : Launch) (G : GG) (ad : Nat → Nat) (i : Nat → Int32) (j : Nat → Int64) (N : Nat) (g : Pg) (br : Nat → Int32) (m : Int32) (a : Int32) (b : Int32) (hN5 : N ≤ 5) : Ct l G yX0_judges (ws_ yX0_judges cX0_judges 8 none) ({ frames := 2, cells := 0, slots := 0, locals := 44 } : Room) [.ref (ad 0), .ref (ad 6), .int m, .int a, .int b] [xO ad i j, wO (ad 6) (ad 7) (ad 8) (ad 9) N g, (ad 7, .inl (G.2 1, 20, .inl (wcl g))), (ad 8, .inl (G.2 0, 25, .inl (wgt g))), (ad 9, .inl (G.2 1, 18, .inl (wpl g))), (ad 29, .inl (G.2 0, 2, .inl br))] (fun _ : Unit => none) (fun _ => True) (fun _ => [xO ad (jgI i (bitsTo (rightTo g N) 7) m (g 22 - g 22)) j, wO (ad 6) (ad 7) (ad 8) (ad 9) N g, (ad 7, .inl (G.2 1, 20, .inl (wcl g))), (ad 8, .inl (G.2 0, 25, .inl (wgt g))), (ad 9, .inl (G.2 1, 18, .inl (wpl g))), (ad 29, .inl (G.2 0, 2, .inl (jgB br i (bitsTo (rightTo g N) 7) m (g 22 - g 22) a b)))]) := by
  refine Ct.of rfl rfl ?_
  intro M el eG hnL C T
  subst el
  subst eG
  have C : Cx M cX0_judges "ClockWard" ({ frames := 2, cells := 0, slots := 0, locals := 44 } : Room) := C
  refine V.lvs [0, 1, 2, 3, 4] (lv2 := [(0, .ref (ad 0)), (1, .ref (ad 6)), (2, .int m), (3, .int a), (4, .int b)]) rfl ?_
  refine V.aload_n (pc' := 1) C 1 dX0_judges_0 rfl rfl ?_
  refine V.callV (pc' := 4) (wr := [xO ad i j, (ad 29, .inl (M.G.2 0, 2, .inl br))]) C (ct_X5_right M.l M.G (ad 6) (ad 7) (ad 8) (ad 9) N g (by omega)) dX0_judges_1 rfl (lw_V q519 q520 q521 q69 q522) hyv_X5_right rfl rfl 0 rfl rfl [1, 2, 3, 4] [0, 5] [0, 2, 3, 4, 5, 1] rfl rfl rfl (fun _ => [xO ad i j, wO (ad 6) (ad 7) (ad 8) (ad 9) N g, (ad 7, .inl (M.G.2 1, 20, .inl (wcl g))), (ad 8, .inl (M.G.2 0, 25, .inl (wgt g))), (ad 9, .inl (M.G.2 1, 18, .inl (wpl g))), (ad 29, .inl (M.G.2 0, 2, .inl br))]) (fun _ => rfl) rfl 0 0 rfl rfl (fun _ => [.int (rightTo g N)]) (fun _ => rfl) (fun _ _ => ?_)
  refine V.callS (pc' := 7) (wr := [xO ad i j, wO (ad 6) (ad 7) (ad 8) (ad 9) N g, (ad 7, .inl (M.G.2 1, 20, .inl (wcl g))), (ad 8, .inl (M.G.2 0, 25, .inl (wgt g))), (ad 9, .inl (M.G.2 1, 18, .inl (wpl g))), (ad 29, .inl (M.G.2 0, 2, .inl br))]) C (ct_J7_bitCount M.l M.G (rightTo g N) ) dX0_judges_4 rfl (lw_S q671 q672 q82 q673) hys_J7_bitCount rfl rfl [] [0, 1, 2, 3, 4, 5] [0, 1, 2, 3, 4, 5] rfl rfl rfl (fun _ => [xO ad i j, wO (ad 6) (ad 7) (ad 8) (ad 9) N g, (ad 7, .inl (M.G.2 1, 20, .inl (wcl g))), (ad 8, .inl (M.G.2 0, 25, .inl (wgt g))), (ad 9, .inl (M.G.2 1, 18, .inl (wpl g))), (ad 29, .inl (M.G.2 0, 2, .inl br))]) (fun _ => rfl) rfl 0 0 rfl rfl (fun _ => [.int (bitCnt (rightTo g N))]) (fun _ => rfl) (fun _ _ => ?_)
  refine V.topI (y := bitsTo (rightTo g N) 7) (right_bits _ hN5) ?_
  refine V.istore (pc' := 9) C [(5, .int (bitsTo (rightTo g N) 7)), (0, .ref (ad 0)), (1, .ref (ad 6)), (2, .int m), (3, .int a), (4, .int b)] dX0_judges_7 rfl 8 hnL rfl rfl ?_
  refine V.aload_n (pc' := 10) C 2 dX0_judges_9 rfl rfl ?_
  refine V.getN (pc' := 13) C dX0_judges_10 rfl 1 rfl rfl in_X5 4 rfl q142 rfl ?_
  refine V.aload_n (pc' := 14) C 1 dX0_judges_13 rfl rfl ?_
  refine V.get (pc' := 17) C dX0_judges_14 rfl 0 rfl rfl in_X0 1 rfl q183 rfl ?_
  refine V.getN (pc' := 20) C dX0_judges_17 rfl 1 rfl rfl in_X5 4 rfl q142 rfl ?_
  refine V.isub (pc' := 21) C dX0_judges_20 rfl ?_
  refine V.istore (pc' := 23) C [(6, .int ((g 22) - (g 22))), (5, .int (bitsTo (rightTo g N) 7)), (0, .ref (ad 0)), (1, .ref (ad 6)), (2, .int m), (3, .int a), (4, .int b)] dX0_judges_21 rfl 8 hnL rfl rfl ?_
  refine V.iload (pc' := 25) C 1 dX0_judges_23 rfl rfl ?_
  refine V.aload_n (pc' := 26) C 2 dX0_judges_25 rfl rfl ?_
  refine V.get (pc' := 29) C dX0_judges_26 rfl 0 rfl rfl in_X0 13 rfl q196 rfl ?_
  have J3 : ∀ (x2 : Int32), x2 = (if (i 13) < (bitsTo (rightTo g N) 7) then 1 else if (bitsTo (rightTo g N) 7) = (i 13) then if m < (i 14) then 1 else if m = (i 14) then if (i 15) ≤ ((g 22) - (g 22)) then 0 else 1 else 0 else 0) → V M 0 0 [xO ad i j, wO (ad 6) (ad 7) (ad 8) (ad 9) N g, (ad 7, .inl (M.G.2 1, 20, .inl (wcl g))), (ad 8, .inl (M.G.2 0, 25, .inl (wgt g))), (ad 9, .inl (M.G.2 1, 18, .inl (wpl g))), (ad 29, .inl (M.G.2 0, 2, .inl br))] [(6, .int ((g 22) - (g 22))), (5, .int (bitsTo (rightTo g N) 7)), (0, .ref (ad 0)), (1, .ref (ad 6)), (2, .int m), (3, .int a), (4, .int b)] [.int x2] 71 := by
    intro x2 ex2
    have ex2 : x2 = bI (((i 13) < (bitsTo (rightTo g N) 7)) ∨ (((bitsTo (rightTo g N) 7) = (i 13)) ∧ ((m < (i 14)) ∨ ((m = (i 14)) ∧ (¬ ((i 15) ≤ ((g 22) - (g 22)))))))) := ex2.trans (it_1 (it_a (it_1 (it_a it_01))))
    subst ex2
    refine V.istore (pc' := 73) C [(7, .int (bI (((i 13) < (bitsTo (rightTo g N) 7)) ∨ (((bitsTo (rightTo g N) 7) = (i 13)) ∧ ((m < (i 14)) ∨ ((m = (i 14)) ∧ (¬ ((i 15) ≤ ((g 22) - (g 22)))))))))), (6, .int ((g 22) - (g 22))), (5, .int (bitsTo (rightTo g N) 7)), (0, .ref (ad 0)), (1, .ref (ad 6)), (2, .int m), (3, .int a), (4, .int b)] dX0_judges_71 rfl 8 hnL rfl rfl ?_
    refine V.iload (pc' := 75) C 0 dX0_judges_73 rfl rfl ?_
    have J9 : ∀ (x5 : Int32) (x6 : Int32) (x7 : Int32) (x8 : Nat → Int32), x5 = (if ((i 13) < (bitsTo (rightTo g N) 7)) ∨ (((bitsTo (rightTo g N) 7) = (i 13)) ∧ ((m < (i 14)) ∨ ((m = (i 14)) ∧ (¬ ((i 15) ≤ ((g 22) - (g 22))))))) then bitsTo (rightTo g N) 7 else i 13) → x6 = (if ((i 13) < (bitsTo (rightTo g N) 7)) ∨ (((bitsTo (rightTo g N) 7) = (i 13)) ∧ ((m < (i 14)) ∨ ((m = (i 14)) ∧ (¬ ((i 15) ≤ ((g 22) - (g 22))))))) then m else i 14) → x7 = (if ((i 13) < (bitsTo (rightTo g N) 7)) ∨ (((bitsTo (rightTo g N) 7) = (i 13)) ∧ ((m < (i 14)) ∨ ((m = (i 14)) ∧ (¬ ((i 15) ≤ ((g 22) - (g 22))))))) then (g 22) - (g 22) else i 15) → x8 = (if ((i 13) < (bitsTo (rightTo g N) 7)) ∨ (((bitsTo (rightTo g N) 7) = (i 13)) ∧ ((m < (i 14)) ∨ ((m = (i 14)) ∧ (¬ ((i 15) ≤ ((g 22) - (g 22))))))) then upd (upd br 0 a) 1 b else br) → V M 0 0 [(ad 0, .inr (0, [.ref (ad 1), .ref (ad 6), .ref (ad 10), .ref (ad 14), .ref (ad 18), .int (i 5), .ref (ad 27), .int (i 7), .int (i 8), .int (i 9), .ref (ad 28), .int (i 11), .int (i 12), .int x5, .int x6, .int x7, .ref (ad 29), .long (j 17), .long (j 18), .long (j 19), .ref (ad 30), .ref (ad 31), .ref (ad 32), .int (i 23)])), wO (ad 6) (ad 7) (ad 8) (ad 9) N g, (ad 7, .inl (M.G.2 1, 20, .inl (wcl g))), (ad 8, .inl (M.G.2 0, 25, .inl (wgt g))), (ad 9, .inl (M.G.2 1, 18, .inl (wpl g))), (ad 29, .inl (M.G.2 0, 2, .inl x8))] [(7, .int (bI (((i 13) < (bitsTo (rightTo g N) 7)) ∨ (((bitsTo (rightTo g N) 7) = (i 13)) ∧ ((m < (i 14)) ∨ ((m = (i 14)) ∧ (¬ ((i 15) ≤ ((g 22) - (g 22)))))))))), (6, .int ((g 22) - (g 22))), (5, .int (bitsTo (rightTo g N) 7)), (0, .ref (ad 0)), (1, .ref (ad 6)), (2, .int m), (3, .int a), (4, .int b)] [] 110 := by
      intro x5 x6 x7 x8 ex5 ex6 ex7 ex8
      subst ex5
      subst ex6
      subst ex7
      subst ex8
      exact V.vret C T dX0_judges_110 () rfl trivial rfl rfl rfl
    refine V.if_eqB (pc' := 78) C 110 dX0_judges_75 rfl rfl (fun h4 => ?_) (fun h4 => ?_)
    · exact J9 _ _ _ _ (by rw [if_neg h4]) (by rw [if_neg h4]) (by rw [if_neg h4]) (by rw [if_neg h4])
    · refine V.aload_n (pc' := 79) C 3 dX0_judges_78 rfl rfl ?_
      refine V.iload (pc' := 81) C 2 dX0_judges_79 rfl rfl ?_
      refine V.put (pc' := 84) C [(ad 0, .inr (0, [.ref (ad 1), .ref (ad 6), .ref (ad 10), .ref (ad 14), .ref (ad 18), .int (i 5), .ref (ad 27), .int (i 7), .int (i 8), .int (i 9), .ref (ad 28), .int (i 11), .int (i 12), .int (bitsTo (rightTo g N) 7), .int (i 14), .int (i 15), .ref (ad 29), .long (j 17), .long (j 18), .long (j 19), .ref (ad 30), .ref (ad 31), .ref (ad 32), .int (i 23)])), wO (ad 6) (ad 7) (ad 8) (ad 9) N g, (ad 7, .inl (M.G.2 1, 20, .inl (wcl g))), (ad 8, .inl (M.G.2 0, 25, .inl (wgt g))), (ad 9, .inl (M.G.2 1, 18, .inl (wpl g))), (ad 29, .inl (M.G.2 0, 2, .inl br))] dX0_judges_81 rfl 0 rfl rfl in_X0 tyX0_ok nmX0 13 rfl q196 rfl rfl rfl rfl rfl ?_
      refine V.aload_n (pc' := 85) C 3 dX0_judges_84 rfl rfl ?_
      refine V.iload_n (pc' := 86) C 5 dX0_judges_85 rfl rfl ?_
      refine V.put (pc' := 89) C [(ad 0, .inr (0, [.ref (ad 1), .ref (ad 6), .ref (ad 10), .ref (ad 14), .ref (ad 18), .int (i 5), .ref (ad 27), .int (i 7), .int (i 8), .int (i 9), .ref (ad 28), .int (i 11), .int (i 12), .int (bitsTo (rightTo g N) 7), .int m, .int (i 15), .ref (ad 29), .long (j 17), .long (j 18), .long (j 19), .ref (ad 30), .ref (ad 31), .ref (ad 32), .int (i 23)])), wO (ad 6) (ad 7) (ad 8) (ad 9) N g, (ad 7, .inl (M.G.2 1, 20, .inl (wcl g))), (ad 8, .inl (M.G.2 0, 25, .inl (wgt g))), (ad 9, .inl (M.G.2 1, 18, .inl (wpl g))), (ad 29, .inl (M.G.2 0, 2, .inl br))] dX0_judges_86 rfl 0 rfl rfl in_X0 tyX0_ok nmX0 14 rfl q197 rfl rfl rfl rfl rfl ?_
      refine V.aload_n (pc' := 90) C 3 dX0_judges_89 rfl rfl ?_
      refine V.iload (pc' := 92) C 1 dX0_judges_90 rfl rfl ?_
      refine V.put (pc' := 95) C [(ad 0, .inr (0, [.ref (ad 1), .ref (ad 6), .ref (ad 10), .ref (ad 14), .ref (ad 18), .int (i 5), .ref (ad 27), .int (i 7), .int (i 8), .int (i 9), .ref (ad 28), .int (i 11), .int (i 12), .int (bitsTo (rightTo g N) 7), .int m, .int ((g 22) - (g 22)), .ref (ad 29), .long (j 17), .long (j 18), .long (j 19), .ref (ad 30), .ref (ad 31), .ref (ad 32), .int (i 23)])), wO (ad 6) (ad 7) (ad 8) (ad 9) N g, (ad 7, .inl (M.G.2 1, 20, .inl (wcl g))), (ad 8, .inl (M.G.2 0, 25, .inl (wgt g))), (ad 9, .inl (M.G.2 1, 18, .inl (wpl g))), (ad 29, .inl (M.G.2 0, 2, .inl br))] dX0_judges_92 rfl 0 rfl rfl in_X0 tyX0_ok nmX0 15 rfl q198 rfl rfl rfl rfl rfl ?_
      refine V.aload_n (pc' := 96) C 3 dX0_judges_95 rfl rfl ?_
      refine V.get (pc' := 99) C dX0_judges_96 rfl 0 rfl rfl in_X0 16 rfl q199 rfl ?_
      refine V.iconst (pc' := 100) C dX0_judges_99 rfl kci_0 ?_
      refine V.iload_n (pc' := 101) C 6 dX0_judges_100 rfl rfl ?_
      refine V.iast (pc' := 102) C 0 [(ad 0, .inr (0, [.ref (ad 1), .ref (ad 6), .ref (ad 10), .ref (ad 14), .ref (ad 18), .int (i 5), .ref (ad 27), .int (i 7), .int (i 8), .int (i 9), .ref (ad 28), .int (i 11), .int (i 12), .int (bitsTo (rightTo g N) 7), .int m, .int ((g 22) - (g 22)), .ref (ad 29), .long (j 17), .long (j 18), .long (j 19), .ref (ad 30), .ref (ad 31), .ref (ad 32), .int (i 23)])), wO (ad 6) (ad 7) (ad 8) (ad 9) N g, (ad 7, .inl (M.G.2 1, 20, .inl (wcl g))), (ad 8, .inl (M.G.2 0, 25, .inl (wgt g))), (ad 9, .inl (M.G.2 1, 18, .inl (wpl g))), (ad 29, .inl (M.G.2 0, 2, .inl (upd br 0 a)))] dX0_judges_101 rfl 5 rfl (by omega) rfl a rfl rfl ?_
      refine V.aload_n (pc' := 103) C 3 dX0_judges_102 rfl rfl ?_
      refine V.get (pc' := 106) C dX0_judges_103 rfl 0 rfl rfl in_X0 16 rfl q199 rfl ?_
      refine V.iconst (pc' := 107) C dX0_judges_106 rfl kci_1 ?_
      refine V.iload (pc' := 109) C 7 dX0_judges_107 rfl rfl ?_
      refine V.iast (pc' := 110) C 1 [(ad 0, .inr (0, [.ref (ad 1), .ref (ad 6), .ref (ad 10), .ref (ad 14), .ref (ad 18), .int (i 5), .ref (ad 27), .int (i 7), .int (i 8), .int (i 9), .ref (ad 28), .int (i 11), .int (i 12), .int (bitsTo (rightTo g N) 7), .int m, .int ((g 22) - (g 22)), .ref (ad 29), .long (j 17), .long (j 18), .long (j 19), .ref (ad 30), .ref (ad 31), .ref (ad 32), .int (i 23)])), wO (ad 6) (ad 7) (ad 8) (ad 9) N g, (ad 7, .inl (M.G.2 1, 20, .inl (wcl g))), (ad 8, .inl (M.G.2 0, 25, .inl (wgt g))), (ad 9, .inl (M.G.2 1, 18, .inl (wpl g))), (ad 29, .inl (M.G.2 0, 2, .inl (upd (upd br 0 a) 1 b)))] dX0_judges_109 rfl 5 rfl (by omega) rfl b rfl rfl ?_
      exact J9 _ _ _ _ (by rw [if_pos h4]) (by rw [if_pos h4]) (by rw [if_pos h4]) (by rw [if_pos h4])
  refine V.icmp_gt (pc' := 32) C 66 dX0_judges_29 rfl rfl (fun h1 => ?_) (fun h1 => ?_)
  · refine V.iconst (pc' := 67) C dX0_judges_66 rfl kci_1 ?_
    refine V.goto C 71 dX0_judges_67 rfl ?_
    exact J3 _ (by rw [if_pos h1])
  · refine V.iload (pc' := 34) C 1 dX0_judges_32 rfl rfl ?_
    refine V.aload_n (pc' := 35) C 2 dX0_judges_34 rfl rfl ?_
    refine V.get (pc' := 38) C dX0_judges_35 rfl 0 rfl rfl in_X0 13 rfl q196 rfl ?_
    refine V.icmp_ne (pc' := 41) C 70 dX0_judges_38 rfl rfl (fun h2 => ?_) (fun h2 => ?_)
    · refine V.iconst (pc' := 71) C dX0_judges_70 rfl kci_0 ?_
      exact J3 _ (by rw [if_neg h1, if_neg h2])
    · refine V.iload_n (pc' := 42) C 4 dX0_judges_41 rfl rfl ?_
      refine V.aload_n (pc' := 43) C 2 dX0_judges_42 rfl rfl ?_
      refine V.get (pc' := 46) C dX0_judges_43 rfl 0 rfl rfl in_X0 14 rfl q197 rfl ?_
      refine V.icmp_lt (pc' := 49) C 66 dX0_judges_46 rfl rfl (fun h3 => ?_) (fun h3 => ?_)
      · refine V.iconst (pc' := 67) C dX0_judges_66 rfl kci_1 ?_
        refine V.goto C 71 dX0_judges_67 rfl ?_
        exact J3 _ (by rw [if_neg h1, if_pos h2, if_pos h3])
      · refine V.iload_n (pc' := 50) C 4 dX0_judges_49 rfl rfl ?_
        refine V.aload_n (pc' := 51) C 2 dX0_judges_50 rfl rfl ?_
        refine V.get (pc' := 54) C dX0_judges_51 rfl 0 rfl rfl in_X0 14 rfl q197 rfl ?_
        refine V.icmp_ne (pc' := 57) C 70 dX0_judges_54 rfl rfl (fun h4 => ?_) (fun h4 => ?_)
        · refine V.iconst (pc' := 71) C dX0_judges_70 rfl kci_0 ?_
          exact J3 _ (by rw [if_neg h1, if_pos h2, if_neg h3, if_neg h4])
        · refine V.iload (pc' := 59) C 0 dX0_judges_57 rfl rfl ?_
          refine V.aload_n (pc' := 60) C 2 dX0_judges_59 rfl rfl ?_
          refine V.get (pc' := 63) C dX0_judges_60 rfl 0 rfl rfl in_X0 15 rfl q198 rfl ?_
          refine V.icmp_ge (pc' := 66) C 70 dX0_judges_63 rfl rfl (fun h5 => ?_) (fun h5 => ?_)
          · refine V.iconst (pc' := 71) C dX0_judges_70 rfl kci_0 ?_
            exact J3 _ (by rw [if_neg h1, if_pos h2, if_neg h3, if_pos h4, if_pos h5])
          · refine V.iconst (pc' := 67) C dX0_judges_66 rfl kci_1 ?_
            refine V.goto C 71 dX0_judges_67 rfl ?_
            exact J3 _ (by rw [if_neg h1, if_pos h2, if_neg h3, if_pos h4, if_neg h5])
