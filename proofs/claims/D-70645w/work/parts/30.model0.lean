set_option maxRecDepth 100000
set_option maxHeartbeats 4000000 in
theorem ct_X7_in (l : Launch) (G : GG) (v : Int32) (lo : Int32) (hi : Int32)  : Ct l G yX7_in (ws_ yX7_in cX7_in 6 (some .boolean)) ({ frames := 0, cells := 0, slots := 0, locals := 0 } : Room) [.long v.toInt64, .long lo.toInt64, .long hi.toInt64] [] (fun _ : Unit => some (.int (bI (inI v lo hi)))) (fun _ => True) (fun _ => []) := by
  refine Ct.of rfl rfl ?_
  intro M el eG hnL C T
  subst el
  subst eG
  have C : Cx M cX7_in "ClockWardModel" ({ frames := 0, cells := 0, slots := 0, locals := 0 } : Room) := C
  refine V.lvs [0, 1, 2] (lv2 := [(0, .long v.toInt64), (2, .long lo.toInt64), (4, .long hi.toInt64)]) rfl ?_
  refine V.lload_n (pc' := 1) C 0 dX7_in_0 rfl rfl ?_
  refine V.lload_n (pc' := 2) C 1 dX7_in_1 rfl rfl ?_
  refine V.lcmp (pc' := 3) C dX7_in_2 rfl ?_
  have J3 : ∀ (x2 : Int32), x2 = (if (lg_cmp v.toInt64 lo.toInt64) < 0 then 0 else if 0 < (lg_cmp v.toInt64 hi.toInt64) then 0 else 1) → V M 0 0 [] [(0, .long v.toInt64), (2, .long lo.toInt64), (4, .long hi.toInt64)] [.int x2] 18 := by
    intro x2 ex2
    have ex2 : x2 = bI (¬ ((lg_cmp v.toInt64 lo.toInt64) < 0) ∧ (¬ (0 < (lg_cmp v.toInt64 hi.toInt64)))) := ex2.trans (it_0 it_01)
    subst ex2
    exact V.iret C T dX7_in_18 () rfl rfl (in_val _ _ _) bI_nar trivial rfl rfl rfl
  refine V.if_lt (pc' := 6) C 17 dX7_in_3 rfl rfl (fun h1 => ?_) (fun h1 => ?_)
  · refine V.iconst (pc' := 18) C dX7_in_17 rfl kci_0 ?_
    exact J3 _ (by rw [if_pos h1])
  · refine V.lload_n (pc' := 7) C 0 dX7_in_6 rfl rfl ?_
    refine V.lload (pc' := 9) C 2 dX7_in_7 rfl rfl ?_
    refine V.lcmp (pc' := 10) C dX7_in_9 rfl ?_
    refine V.if_gt (pc' := 13) C 17 dX7_in_10 rfl rfl (fun h2 => ?_) (fun h2 => ?_)
    · refine V.iconst (pc' := 18) C dX7_in_17 rfl kci_0 ?_
      exact J3 _ (by rw [if_neg h1, if_pos h2])
    · refine V.iconst (pc' := 14) C dX7_in_13 rfl kci_1 ?_
      refine V.goto C 18 dX7_in_14 rfl ?_
      exact J3 _ (by rw [if_neg h1, if_neg h2])
set_option maxHeartbeats 4000000 in
theorem ct_X7_in64 (l : Launch) (G : GG) (v : Int64) (lo : Int64) (hi : Int64)  : Ct l G yX7_in (ws_ yX7_in cX7_in 6 (some .boolean)) ({ frames := 0, cells := 0, slots := 0, locals := 0 } : Room) [.long v, .long lo, .long hi] [] (fun _ : Unit => some (.int (bI (lo ≤ v ∧ v ≤ hi)))) (fun _ => True) (fun _ => []) := by
  refine Ct.of rfl rfl ?_
  intro M el eG hnL C T
  subst el
  subst eG
  have C : Cx M cX7_in "ClockWardModel" ({ frames := 0, cells := 0, slots := 0, locals := 0 } : Room) := C
  refine V.lvs [0, 1, 2] (lv2 := [(0, .long v), (2, .long lo), (4, .long hi)]) rfl ?_
  refine V.lload_n (pc' := 1) C 0 dX7_in_0 rfl rfl ?_
  refine V.lload_n (pc' := 2) C 1 dX7_in_1 rfl rfl ?_
  refine V.lcmp (pc' := 3) C dX7_in_2 rfl ?_
  have J3 : ∀ (x2 : Int32), x2 = (if (lg_cmp v lo) < 0 then 0 else if 0 < (lg_cmp v hi) then 0 else 1) → V M 0 0 [] [(0, .long v), (2, .long lo), (4, .long hi)] [.int x2] 18 := by
    intro x2 ex2
    have ex2 : x2 = bI (¬ ((lg_cmp v lo) < 0) ∧ (¬ (0 < (lg_cmp v hi)))) := ex2.trans (it_0 it_01)
    subst ex2
    exact V.iret C T dX7_in_18 () rfl rfl (in_val64 _ _ _) bI_nar trivial rfl rfl rfl
  refine V.if_lt (pc' := 6) C 17 dX7_in_3 rfl rfl (fun h1 => ?_) (fun h1 => ?_)
  · refine V.iconst (pc' := 18) C dX7_in_17 rfl kci_0 ?_
    exact J3 _ (by rw [if_pos h1])
  · refine V.lload_n (pc' := 7) C 0 dX7_in_6 rfl rfl ?_
    refine V.lload (pc' := 9) C 2 dX7_in_7 rfl rfl ?_
    refine V.lcmp (pc' := 10) C dX7_in_9 rfl ?_
    refine V.if_gt (pc' := 13) C 17 dX7_in_10 rfl rfl (fun h2 => ?_) (fun h2 => ?_)
    · refine V.iconst (pc' := 18) C dX7_in_17 rfl kci_0 ?_
      exact J3 _ (by rw [if_neg h1, if_pos h2])
    · refine V.iconst (pc' := 14) C dX7_in_13 rfl kci_1 ?_
      refine V.goto C 18 dX7_in_14 rfl ?_
      exact J3 _ (by rw [if_neg h1, if_neg h2])
set_option maxHeartbeats 4000000 in
theorem ct_X7_isClock (l : Launch) (G : GG) (h : Nat) (ad : Nat → Nat) (i : Nat → Int32) (N : Nat) (x : Int32) (hN : i 1 = nI N) (hN5 : N ≤ 5) : Ct l G yX7_isClock (ws_ yX7_isClock cX7_isClock 2 (some .boolean)) ({ frames := 1, cells := 0, slots := 0, locals := 25 } : Room) [.ref h, .int x] [mO h ad i] (fun _ : Unit => some (.int (bI (isC N x)))) (fun _ => True) (fun _ => [mO h ad i]) := by
  refine Ct.of rfl rfl ?_
  intro M el eG hnL C T
  subst el
  subst eG
  have C : Cx M cX7_isClock "ClockWardModel" ({ frames := 1, cells := 0, slots := 0, locals := 25 } : Room) := C
  refine V.lvs [0, 1] (lv2 := [(0, .ref h), (1, .int x)]) rfl ?_
  refine V.iload_n (pc' := 1) C 1 dX7_isClock_0 rfl rfl ?_
  refine V.i2l (pc' := 2) C dX7_isClock_1 rfl ?_
  refine V.lconst (pc' := 3) C dX7_isClock_2 rfl kcl_0 ?_
  refine V.aload_n (pc' := 4) C 0 dX7_isClock_3 rfl rfl ?_
  refine V.get (pc' := 7) C dX7_isClock_4 rfl 0 rfl rfl in_X7 1 rfl q930 rfl ?_
  refine V.topI hN ?_
  refine V.iconst (pc' := 8) C dX7_isClock_7 rfl kci_1 ?_
  refine V.isub (pc' := 9) C dX7_isClock_8 rfl ?_
  refine V.i2l (pc' := 10) C dX7_isClock_9 rfl ?_
  refine V.callS (pc' := 13) (wr := [mO h ad i]) C (ct_X7_in M.l M.G x 0 ((nI N) - 1) ) dX7_isClock_10 rfl (lw_S q1032 q1033 q71 q1034) hys_X7_in rfl rfl [] [0] [0] rfl rfl rfl (fun _ => [mO h ad i]) (fun _ => rfl) rfl 0 0 rfl rfl (fun _ => [.int (bI (inI x 0 ((nI N) - 1)))]) (fun _ => rfl) (fun _ _ => ?_)
  exact V.iret C T dX7_isClock_13 () rfl rfl rfl bI_nar trivial rfl rfl rfl
set_option maxHeartbeats 4000000 in
theorem ct_X7_areTwo (l : Launch) (G : GG) (h : Nat) (ad : Nat → Nat) (i : Nat → Int32) (N : Nat) (x : Int32) (y : Int32) (hN : i 1 = nI N) (hN5 : N ≤ 5) : Ct l G yX7_areTwo (ws_ yX7_areTwo cX7_areTwo 3 (some .boolean)) ({ frames := 2, cells := 0, slots := 0, locals := 46 } : Room) [.ref h, .int x, .int y] [mO h ad i] (fun _ : Unit => some (.int (bI (isTwo N x y)))) (fun _ => True) (fun _ => [mO h ad i]) := by
  refine Ct.of rfl rfl ?_
  intro M el eG hnL C T
  subst el
  subst eG
  have C : Cx M cX7_areTwo "ClockWardModel" ({ frames := 2, cells := 0, slots := 0, locals := 46 } : Room) := C
  refine V.lvs [0, 1, 2] (lv2 := [(0, .ref h), (1, .int x), (2, .int y)]) rfl ?_
  refine V.aload_n (pc' := 1) C 0 dX7_areTwo_0 rfl rfl ?_
  refine V.iload_n (pc' := 2) C 1 dX7_areTwo_1 rfl rfl ?_
  refine V.callV (pc' := 5) (wr := []) C (ct_X7_isClock M.l M.G h ad i N x hN hN5) dX7_areTwo_2 rfl (lw_V q1100 q1102 qs43 q71 q1103) hyv_X7_isClock rfl rfl 0 rfl rfl [0] [] [0] rfl rfl rfl (fun _ => [mO h ad i]) (fun _ => rfl) rfl 0 0 rfl rfl (fun _ => [.int (bI (isC N x))]) (fun _ => rfl) (fun _ _ => ?_)
  have J3 : ∀ (x2 : Int32), x2 = (if isC N x then if isC N y then if x = y then 0 else 1 else 0 else 0) → V M 0 0 [mO h ad i] [(0, .ref h), (1, .int x), (2, .int y)] [.int x2] 26 := by
    intro x2 ex2
    have ex2 : x2 = bI ((isC N x) ∧ ((isC N y) ∧ (¬ (x = y)))) := ex2.trans (it_a (it_a it_01))
    subst ex2
    exact V.iret C T dX7_areTwo_26 () rfl rfl rfl bI_nar trivial rfl rfl rfl
  refine V.if_eqB (pc' := 8) C 25 dX7_areTwo_5 rfl rfl (fun h1 => ?_) (fun h1 => ?_)
  · refine V.iconst (pc' := 26) C dX7_areTwo_25 rfl kci_0 ?_
    exact J3 _ (by rw [if_neg h1])
  · refine V.aload_n (pc' := 9) C 0 dX7_areTwo_8 rfl rfl ?_
    refine V.iload_n (pc' := 10) C 2 dX7_areTwo_9 rfl rfl ?_
    refine V.callV (pc' := 13) (wr := []) C (ct_X7_isClock M.l M.G h ad i N y hN hN5) dX7_areTwo_10 rfl (lw_V q1100 q1102 qs43 q71 q1103) hyv_X7_isClock rfl rfl 0 rfl rfl [0] [] [0] rfl rfl rfl (fun _ => [mO h ad i]) (fun _ => rfl) rfl 0 0 rfl rfl (fun _ => [.int (bI (isC N y))]) (fun _ => rfl) (fun _ _ => ?_)
    refine V.if_eqB (pc' := 16) C 25 dX7_areTwo_13 rfl rfl (fun h2 => ?_) (fun h2 => ?_)
    · refine V.iconst (pc' := 26) C dX7_areTwo_25 rfl kci_0 ?_
      exact J3 _ (by rw [if_pos h1, if_neg h2])
    · refine V.iload_n (pc' := 17) C 1 dX7_areTwo_16 rfl rfl ?_
      refine V.iload_n (pc' := 18) C 2 dX7_areTwo_17 rfl rfl ?_
      refine V.icmp_eq (pc' := 21) C 25 dX7_areTwo_18 rfl rfl (fun h3 => ?_) (fun h3 => ?_)
      · refine V.iconst (pc' := 26) C dX7_areTwo_25 rfl kci_0 ?_
        exact J3 _ (by rw [if_pos h1, if_pos h2, if_pos h3])
      · refine V.iconst (pc' := 22) C dX7_areTwo_21 rfl kci_1 ?_
        refine V.goto C 26 dX7_areTwo_22 rfl ?_
        exact J3 _ (by rw [if_pos h1, if_pos h2, if_neg h3])
set_option maxHeartbeats 4000000 in
theorem ct_X7_gainsOf (l : Launch) (G : GG) (k : Int32) (r : Int32)  : Ct l G yX7_gainsOf (ws_ yX7_gainsOf cX7_gainsOf 3 (some .int)) ({ frames := 0, cells := 0, slots := 0, locals := 0 } : Room) [.int k, .int r] [] (fun _ : Unit => some (.int (gainI k r))) (fun _ => True) (fun _ => []) := by
  refine Ct.of rfl rfl ?_
  intro M el eG hnL C T
  subst el
  subst eG
  have C : Cx M cX7_gainsOf "ClockWardModel" ({ frames := 0, cells := 0, slots := 0, locals := 0 } : Room) := C
  refine V.lvs [0, 1] (lv2 := [(0, .int k), (1, .int r)]) rfl ?_
  refine V.iload_n (pc' := 1) C 1 dX7_gainsOf_0 rfl rfl ?_
  refine V.iconst (pc' := 2) C dX7_gainsOf_1 rfl kci_3 ?_
  refine V.isub (pc' := 3) C dX7_gainsOf_2 rfl ?_
  refine V.istore_n (pc' := 4) C [(2, .int (r - 3)), (0, .int k), (1, .int r)] dX7_gainsOf_3 rfl 3 hnL rfl rfl ?_
  refine V.iload_n (pc' := 5) C 1 dX7_gainsOf_4 rfl rfl ?_
  have J3 : ∀ (x2 : Int32), x2 = (if k = 0 then r - 3 else if k = 1 then 2 * (r - 3) else if k = 2 then (2 * (r - 3)) - 1 else -(r - 3)) → V M 0 0 [] [(2, .int (r - 3)), (0, .int k), (1, .int r)] [.int x2] 38 := by
    intro x2 ex2
    subst ex2
    exact V.iret C T dX7_gainsOf_38 () rfl rfl rfl rfl trivial rfl rfl rfl
  refine V.if_ne (pc' := 8) C 12 dX7_gainsOf_5 rfl rfl (fun h1 => ?_) (fun h1 => ?_)
  · refine V.iload_n (pc' := 13) C 1 dX7_gainsOf_12 rfl rfl ?_
    refine V.iconst (pc' := 14) C dX7_gainsOf_13 rfl kci_1 ?_
    refine V.icmp_ne (pc' := 17) C 23 dX7_gainsOf_14 rfl rfl (fun h2 => ?_) (fun h2 => ?_)
    · refine V.iload_n (pc' := 24) C 1 dX7_gainsOf_23 rfl rfl ?_
      refine V.iconst (pc' := 25) C dX7_gainsOf_24 rfl kci_2 ?_
      refine V.icmp_ne (pc' := 28) C 36 dX7_gainsOf_25 rfl rfl (fun h3 => ?_) (fun h3 => ?_)
      · refine V.iload_n (pc' := 37) C 0 dX7_gainsOf_36 rfl rfl ?_
        refine V.ineg (pc' := 38) C dX7_gainsOf_37 rfl ?_
        exact J3 _ (by rw [if_neg h1, if_neg h2, if_neg h3])
      · refine V.iconst (pc' := 29) C dX7_gainsOf_28 rfl kci_2 ?_
        refine V.iload_n (pc' := 30) C 0 dX7_gainsOf_29 rfl rfl ?_
        refine V.imul (pc' := 31) C dX7_gainsOf_30 rfl ?_
        refine V.iconst (pc' := 32) C dX7_gainsOf_31 rfl kci_1 ?_
        refine V.isub (pc' := 33) C dX7_gainsOf_32 rfl ?_
        refine V.goto C 38 dX7_gainsOf_33 rfl ?_
        exact J3 _ (by rw [if_neg h1, if_neg h2, if_pos h3])
    · refine V.iconst (pc' := 18) C dX7_gainsOf_17 rfl kci_2 ?_
      refine V.iload_n (pc' := 19) C 0 dX7_gainsOf_18 rfl rfl ?_
      refine V.imul (pc' := 20) C dX7_gainsOf_19 rfl ?_
      refine V.goto C 38 dX7_gainsOf_20 rfl ?_
      exact J3 _ (by rw [if_neg h1, if_pos h2])
  · refine V.iload_n (pc' := 9) C 0 dX7_gainsOf_8 rfl rfl ?_
    refine V.goto C 38 dX7_gainsOf_9 rfl ?_
    exact J3 _ (by rw [if_pos h1])
set_option maxHeartbeats 4000000 in
theorem ct_X7_laterOn (l : Launch) (G : GG) (h : Nat) (ad : Nat → Nat) (i : Nat → Int32) (f : Nat → Int32) (P : Nat) (c : Nat) (hP : P + 67 ≤ 402) (hc : c < 5) : Ct l G yX7_laterOn (ws_ yX7_laterOn cX7_laterOn 4 (some .int)) ({ frames := 1, cells := 0, slots := 0, locals := 22 } : Room) [.ref h, .int (nI P), .int (nI c)] [mO h ad i, (ad 0, .inl (G.2 0, 402, .inl f))] (fun _ : Unit => some (.int (thenI (pg f P) c))) (fun _ => True) (fun _ => [mO h ad i, (ad 0, .inl (G.2 0, 402, .inl f))]) := by
  refine Ct.of rfl rfl ?_
  intro M el eG hnL C T
  subst el
  subst eG
  have C : Cx M cX7_laterOn "ClockWardModel" ({ frames := 1, cells := 0, slots := 0, locals := 22 } : Room) := C
  refine V.lvs [0, 1, 2] (lv2 := [(0, .ref h), (1, .int (nI P)), (2, .int (nI c))]) rfl ?_
  refine V.aload_n (pc' := 1) C 0 dX7_laterOn_0 rfl rfl ?_
  refine V.get (pc' := 4) C dX7_laterOn_1 rfl 0 rfl rfl in_X7 0 rfl q929 rfl ?_
  refine V.iload_n (pc' := 5) C 1 dX7_laterOn_4 rfl rfl ?_
  refine V.bipush (pc' := 7) C dX7_laterOn_5 rfl kcb_15 ?_
  refine V.iaddN (pc' := 8) C P 15 dX7_laterOn_7 rfl ?_
  refine V.iload_n (pc' := 9) C 2 dX7_laterOn_8 rfl rfl ?_
  refine V.iaddA (pc' := 10) C P 15 c dX7_laterOn_9 rfl ?_
  refine V.iald (pc' := 11) C (P + (15 + c)) dX7_laterOn_10 rfl 1 rfl (by omega) rfl ?_
  refine V.topI (pg_at _ _ _) ?_
  refine V.aload_n (pc' := 12) C 0 dX7_laterOn_11 rfl rfl ?_
  refine V.get (pc' := 15) C dX7_laterOn_12 rfl 0 rfl rfl in_X7 0 rfl q929 rfl ?_
  refine V.iload_n (pc' := 16) C 1 dX7_laterOn_15 rfl rfl ?_
  refine V.iload_n (pc' := 17) C 2 dX7_laterOn_16 rfl rfl ?_
  refine V.iaddN (pc' := 18) C P c dX7_laterOn_17 rfl ?_
  refine V.iald (pc' := 19) C (P + c) dX7_laterOn_18 rfl 1 rfl (by omega) rfl ?_
  refine V.topI (pg_at _ _ _) ?_
  refine V.aload_n (pc' := 20) C 0 dX7_laterOn_19 rfl rfl ?_
  refine V.get (pc' := 23) C dX7_laterOn_20 rfl 0 rfl rfl in_X7 0 rfl q929 rfl ?_
  refine V.iload_n (pc' := 24) C 1 dX7_laterOn_23 rfl rfl ?_
  refine V.bipush (pc' := 26) C dX7_laterOn_24 rfl kcb_10 ?_
  refine V.iaddN (pc' := 27) C P 10 dX7_laterOn_26 rfl ?_
  refine V.iload_n (pc' := 28) C 2 dX7_laterOn_27 rfl rfl ?_
  refine V.iaddA (pc' := 29) C P 10 c dX7_laterOn_28 rfl ?_
  refine V.iald (pc' := 30) C (P + (10 + c)) dX7_laterOn_29 rfl 1 rfl (by omega) rfl ?_
  refine V.topI (pg_at _ _ _) ?_
  refine V.callS (pc' := 33) (wr := [mO h ad i, (ad 0, .inl (M.G.2 0, 402, .inl f))]) C (ct_X7_gainsOf M.l M.G (pg f P c) (pg f P (10 + c)) ) dX7_laterOn_30 rfl (lw_S q1109 q1110 q71 q1111) hys_X7_gainsOf rfl rfl [] [0, 1] [0, 1] rfl rfl rfl (fun _ => [mO h ad i, (ad 0, .inl (M.G.2 0, 402, .inl f))]) (fun _ => rfl) rfl 0 0 rfl rfl (fun _ => [.int (gainI (pg f P c) (pg f P (10 + c))), .int (pg f P (15 + c))]) (fun _ => rfl) (fun _ _ => ?_)
  refine V.iadd (pc' := 34) C dX7_laterOn_33 rfl ?_
  refine V.istore_n (pc' := 35) C [(3, .int ((pg f P (15 + c)) + (gainI (pg f P c) (pg f P (10 + c))))), (0, .ref h), (1, .int (nI P)), (2, .int (nI c))] dX7_laterOn_34 rfl 4 hnL rfl rfl ?_
  refine V.iload_n (pc' := 36) C 0 dX7_laterOn_35 rfl rfl ?_
  have J3 : ∀ (x2 : Int32), x2 = (if 0 ≤ ((pg f P (15 + c)) + (gainI (pg f P c) (pg f P (10 + c)))) then if ((pg f P (15 + c)) + (gainI (pg f P c) (pg f P (10 + c)))) ≤ 99 then (pg f P (15 + c)) + (gainI (pg f P c) (pg f P (10 + c))) else 99 else 0) → V M 0 0 [mO h ad i, (ad 0, .inl (M.G.2 0, 402, .inl f))] [(3, .int ((pg f P (15 + c)) + (gainI (pg f P c) (pg f P (10 + c))))), (0, .ref h), (1, .int (nI P)), (2, .int (nI c))] [.int x2] 55 := by
    intro x2 ex2
    subst ex2
    exact V.iret C T dX7_laterOn_55 () rfl rfl rfl rfl trivial rfl rfl rfl
  refine V.if_ge (pc' := 39) C 43 dX7_laterOn_36 rfl rfl (fun h1 => ?_) (fun h1 => ?_)
  · refine V.iload_n (pc' := 44) C 0 dX7_laterOn_43 rfl rfl ?_
    refine V.bipush (pc' := 46) C dX7_laterOn_44 rfl kcb_99 ?_
    refine V.icmp_le (pc' := 49) C 54 dX7_laterOn_46 rfl rfl (fun h2 => ?_) (fun h2 => ?_)
    · refine V.iload_n (pc' := 55) C 0 dX7_laterOn_54 rfl rfl ?_
      exact J3 _ (by rw [if_pos h1, if_pos h2])
    · refine V.bipush (pc' := 51) C dX7_laterOn_49 rfl kcb_99 ?_
      refine V.goto C 55 dX7_laterOn_51 rfl ?_
      exact J3 _ (by rw [if_pos h1, if_neg h2])
  · refine V.iconst (pc' := 40) C dX7_laterOn_39 rfl kci_0 ?_
    refine V.goto C 55 dX7_laterOn_40 rfl ?_
    exact J3 _ (by rw [if_neg h1])
set_option maxHeartbeats 4000000 in
theorem ct_X7_nightOn (l : Launch) (G : GG) (h : Nat) (ad : Nat → Nat) (i : Nat → Int32) (f : Nat → Int32) (N : Nat) (P : Nat) (hN : i 1 = nI N) (hN5 : N ≤ 5) (hP : P + 67 ≤ 402) : Ct l G yX7_nightOn (ws_ yX7_nightOn cX7_nightOn 3 none) ({ frames := 2, cells := 0, slots := 0, locals := 45 } : Room) [.ref h, .int (nI P)] [mO h ad i, (ad 0, .inl (G.2 0, 402, .inl f))] (fun _ : Unit => none) (fun _ => True) (fun _ => [mO h ad i, (ad 0, .inl (G.2 0, 402, .inl (pp f P (night (pg f P) N))))]) := by
  refine Ct.of rfl rfl ?_
  intro M el eG hnL C T
  subst el
  subst eG
  have C : Cx M cX7_nightOn "ClockWardModel" ({ frames := 2, cells := 0, slots := 0, locals := 45 } : Room) := C
  refine V.lvs [0, 1] (lv2 := [(0, .ref h), (1, .int (nI P))]) rfl ?_
  refine V.weq (ws2 := [mO h ad i, (ad 0, .inl (M.G.2 0, 402, .inl (pp f P (pg f P))))]) (by rw [pp_pg]) ?_
  refine V.iconst (pc' := 1) C dX7_nightOn_0 rfl kci_0 ?_
  refine V.istore_n (pc' := 2) C [(2, .int 0), (0, .ref h), (1, .int (nI P))] dX7_nightOn_1 rfl 3 hnL rfl rfl ?_
  have L1 : ∀ c : Nat, c ≤ N → V M 0 0 [mO h ad i, (ad 0, .inl (M.G.2 0, 402, .inl (pp f P (nightTo (pg f P) c))))] [(0, .ref h), (1, .int (nI P)), (2, .int (nI c))] [] 2 := by
    refine loopN _ N (fun c hc ih_L1 => ?_)
    refine V.iload_n (pc' := 3) C 2 dX7_nightOn_2 rfl rfl ?_
    refine V.aload_n (pc' := 4) C 0 dX7_nightOn_3 rfl rfl ?_
    refine V.get (pc' := 7) C dX7_nightOn_4 rfl 0 rfl rfl in_X7 1 rfl q930 rfl ?_
    refine V.topI hN ?_
    refine V.icmp_geN (pc' := 10) C c N (by omega) (by omega) 33 dX7_nightOn_7 rfl rfl (fun h2 => ?_) (fun h2 => ?_)
    · have hx3 : N = c := by omega
      subst hx3
      refine V.aload_n (pc' := 34) C 0 dX7_nightOn_33 rfl rfl ?_
      refine V.get (pc' := 37) C dX7_nightOn_34 rfl 0 rfl rfl in_X7 0 rfl q929 rfl ?_
      refine V.iload_n (pc' := 38) C 1 dX7_nightOn_37 rfl rfl ?_
      refine V.bipush (pc' := 40) C dX7_nightOn_38 rfl kcb_21 ?_
      refine V.iaddN (pc' := 41) C P 21 dX7_nightOn_40 rfl ?_
      refine V.dup2 (pc' := 42) C rfl rfl dX7_nightOn_41 rfl ?_
      refine V.iald (pc' := 43) C (P + 21) dX7_nightOn_42 rfl 1 rfl (by omega) rfl ?_
      refine V.topI (pp_at _ _ _ _) ?_
      refine V.iconst (pc' := 44) C dX7_nightOn_43 rfl kci_1 ?_
      refine V.iadd (pc' := 45) C dX7_nightOn_44 rfl ?_
      refine V.iast (pc' := 46) C (P + 21) [mO h ad i, (ad 0, .inl (M.G.2 0, 402, .inl (upd (pp f P (nightTo (pg f P) N)) (P + 21) (((nightTo (pg f P) N) 21) + 1))))] dX7_nightOn_45 rfl 1 rfl (by omega) rfl (((nightTo (pg f P) N) 21) + 1) rfl rfl ?_
      refine V.weq (ws2 := [mO h ad i, (ad 0, .inl (M.G.2 0, 402, .inl (pp f P (upd (nightTo (pg f P) N) 21 (((nightTo (pg f P) N) 21) + 1)))))]) (by rw [pp_upd]) ?_
      exact V.vret C T dX7_nightOn_46 () rfl trivial rfl rfl rfl
    · refine V.aload_n (pc' := 11) C 0 dX7_nightOn_10 rfl rfl ?_
      refine V.get (pc' := 14) C dX7_nightOn_11 rfl 0 rfl rfl in_X7 0 rfl q929 rfl ?_
      refine V.iload_n (pc' := 15) C 1 dX7_nightOn_14 rfl rfl ?_
      refine V.bipush (pc' := 17) C dX7_nightOn_15 rfl kcb_15 ?_
      refine V.iaddN (pc' := 18) C P 15 dX7_nightOn_17 rfl ?_
      refine V.iload_n (pc' := 19) C 2 dX7_nightOn_18 rfl rfl ?_
      refine V.iaddA (pc' := 20) C P 15 c dX7_nightOn_19 rfl ?_
      refine V.aload_n (pc' := 21) C 0 dX7_nightOn_20 rfl rfl ?_
      refine V.iload_n (pc' := 22) C 1 dX7_nightOn_21 rfl rfl ?_
      refine V.iload_n (pc' := 23) C 2 dX7_nightOn_22 rfl rfl ?_
      refine V.callV (pc' := 26) (wr := []) C (ct_X7_laterOn M.l M.G h ad i (pp f P (nightTo (pg f P) c)) P c (by omega) (by omega)) dX7_nightOn_23 rfl (lw_V q1105 q1107 qs44 q71 q1108) hyv_X7_laterOn rfl rfl 0 rfl rfl [0, 1] [] [0, 1] rfl rfl rfl (fun _ => [mO h ad i, (ad 0, .inl (M.G.2 0, 402, .inl (pp f P (nightTo (pg f P) c))))]) (fun _ => rfl) rfl 0 0 rfl rfl (fun _ => [.int (thenI (pg (pp f P (nightTo (pg f P) c)) P) c), .int (nI (P + (15 + c))), .ref (ad 0)]) (fun _ => rfl) (fun _ _ => ?_)
      refine V.topI (y := thenI (nightTo (pg f P) c) c) (by rw [pg_pp]) ?_
      refine V.iast (pc' := 27) C (P + (15 + c)) [mO h ad i, (ad 0, .inl (M.G.2 0, 402, .inl (upd (pp f P (nightTo (pg f P) c)) (P + (15 + c)) (thenI (nightTo (pg f P) c) c))))] dX7_nightOn_26 rfl 1 rfl (by omega) rfl (thenI (nightTo (pg f P) c) c) rfl rfl ?_
      refine V.weq (ws2 := [mO h ad i, (ad 0, .inl (M.G.2 0, 402, .inl (pp f P (upd (nightTo (pg f P) c) (15 + c) (thenI (nightTo (pg f P) c) c)))))]) (by rw [pp_upd]) ?_
      refine V.iinc (pc' := 30) C (nI (c + 1)) [(2, .int (nI (c + 1))), (0, .ref h), (1, .int (nI P))] dX7_nightOn_27 rfl 3 hnL rfl 2 rfl (ii_N c 1 rfl) rfl ?_
      refine V.goto C 2 dX7_nightOn_30 rfl ?_
      refine V.lvs [1, 2, 0] (lv2 := [(0, .ref h), (1, .int (nI P)), (2, .int (nI (c + 1)))]) rfl ?_
      refine V.weq (ws2 := [mO h ad i, (ad 0, .inl (M.G.2 0, 402, .inl (pp f P (nightTo (pg f P) (c + 1)))))]) rfl ?_
      exact ih_L1 (by omega)
  refine V.lvs [1, 2, 0] (lv2 := [(0, .ref h), (1, .int (nI P)), (2, .int (nI 0))]) rfl ?_
  refine V.weq (ws2 := [mO h ad i, (ad 0, .inl (M.G.2 0, 402, .inl (pp f P (nightTo (pg f P) 0))))]) rfl ?_
  exact L1 0 (by omega)
set_option maxHeartbeats 4000000 in
theorem ct_X7_rightOn (l : Launch) (G : GG) (h : Nat) (ad : Nat → Nat) (i : Nat → Int32) (f : Nat → Int32) (N : Nat) (P : Nat) (hN : i 1 = nI N) (hN5 : N ≤ 5) (hP : P + 67 ≤ 402) : Ct l G yX7_rightOn (ws_ yX7_rightOn cX7_rightOn 4 (some .int)) ({ frames := 0, cells := 0, slots := 0, locals := 0 } : Room) [.ref h, .int (nI P)] [mO h ad i, (ad 0, .inl (G.2 0, 402, .inl f))] (fun _ : Unit => some (.int (rightTo (pg f P) N))) (fun _ => True) (fun _ => [mO h ad i, (ad 0, .inl (G.2 0, 402, .inl f))]) := by
  refine Ct.of rfl rfl ?_
  intro M el eG hnL C T
  subst el
  subst eG
  have C : Cx M cX7_rightOn "ClockWardModel" ({ frames := 0, cells := 0, slots := 0, locals := 0 } : Room) := C
  refine V.lvs [0, 1] (lv2 := [(0, .ref h), (1, .int (nI P))]) rfl ?_
  refine V.iconst (pc' := 1) C dX7_rightOn_0 rfl kci_0 ?_
  refine V.istore_n (pc' := 2) C [(2, .int 0), (0, .ref h), (1, .int (nI P))] dX7_rightOn_1 rfl 4 hnL rfl rfl ?_
  refine V.iconst (pc' := 3) C dX7_rightOn_2 rfl kci_0 ?_
  refine V.istore_n (pc' := 4) C [(3, .int 0), (2, .int 0), (0, .ref h), (1, .int (nI P))] dX7_rightOn_3 rfl 4 hnL rfl rfl ?_
  have L1 : ∀ c : Nat, c ≤ N → V M 0 0 [mO h ad i, (ad 0, .inl (M.G.2 0, 402, .inl f))] [(0, .ref h), (1, .int (nI P)), (2, .int (rightTo (pg f P) c)), (3, .int (nI c))] [] 4 := by
    refine loopN _ N (fun c hc ih_L1 => ?_)
    refine V.iload_n (pc' := 5) C 3 dX7_rightOn_4 rfl rfl ?_
    refine V.aload_n (pc' := 6) C 0 dX7_rightOn_5 rfl rfl ?_
    refine V.get (pc' := 9) C dX7_rightOn_6 rfl 0 rfl rfl in_X7 1 rfl q930 rfl ?_
    refine V.topI hN ?_
    refine V.icmp_geN (pc' := 12) C c N (by omega) (by omega) 44 dX7_rightOn_9 rfl rfl (fun h2 => ?_) (fun h2 => ?_)
    · have hx3 : N = c := by omega
      subst hx3
      refine V.iload_n (pc' := 45) C 2 dX7_rightOn_44 rfl rfl ?_
      exact V.iret C T dX7_rightOn_45 () rfl rfl rfl rfl trivial rfl rfl rfl
    · refine V.iload_n (pc' := 13) C 2 dX7_rightOn_12 rfl rfl ?_
      refine V.aload_n (pc' := 14) C 0 dX7_rightOn_13 rfl rfl ?_
      refine V.get (pc' := 17) C dX7_rightOn_14 rfl 0 rfl rfl in_X7 0 rfl q929 rfl ?_
      refine V.iload_n (pc' := 18) C 1 dX7_rightOn_17 rfl rfl ?_
      refine V.bipush (pc' := 20) C dX7_rightOn_18 rfl kcb_15 ?_
      refine V.iaddN (pc' := 21) C P 15 dX7_rightOn_20 rfl ?_
      refine V.iload_n (pc' := 22) C 3 dX7_rightOn_21 rfl rfl ?_
      refine V.iaddA (pc' := 23) C P 15 c dX7_rightOn_22 rfl ?_
      refine V.iald (pc' := 24) C (P + (15 + c)) dX7_rightOn_23 rfl 1 rfl (by omega) rfl ?_
      refine V.topI (pg_at _ _ _) ?_
      refine V.bipush (pc' := 26) C dX7_rightOn_24 rfl kcb_50 ?_
      have J6 : ∀ (x5 : Int32), x5 = (if (pg f P (15 + c)) = 50 then 1 <<< (nI c &&& 31) else 0) → V M 0 0 [mO h ad i, (ad 0, .inl (M.G.2 0, 402, .inl f))] [(0, .ref h), (1, .int (nI P)), (2, .int (rightTo (pg f P) c)), (3, .int (nI c))] [.int x5, .int (rightTo (pg f P) c)] 36 := by
        intro x5 ex5
        subst ex5
        refine V.ior (pc' := 37) C dX7_rightOn_36 rfl ?_
        refine V.istore_n (pc' := 38) C [(2, .int ((rightTo (pg f P) c) ||| (if (pg f P (15 + c)) = 50 then 1 <<< (nI c &&& 31) else 0))), (0, .ref h), (1, .int (nI P)), (3, .int (nI c))] dX7_rightOn_37 rfl 4 hnL rfl rfl ?_
        refine V.iinc (pc' := 41) C (nI (c + 1)) [(3, .int (nI (c + 1))), (2, .int ((rightTo (pg f P) c) ||| (if (pg f P (15 + c)) = 50 then 1 <<< (nI c &&& 31) else 0))), (0, .ref h), (1, .int (nI P))] dX7_rightOn_38 rfl 4 hnL rfl 3 rfl (ii_N c 1 rfl) rfl ?_
        refine V.goto C 4 dX7_rightOn_41 rfl ?_
        refine V.lvs [2, 3, 1, 0] (lv2 := [(0, .ref h), (1, .int (nI P)), (2, .int (rightTo (pg f P) (c + 1))), (3, .int (nI (c + 1)))]) rfl ?_
        exact ih_L1 (by omega)
      refine V.icmp_ne (pc' := 29) C 35 dX7_rightOn_26 rfl rfl (fun h4 => ?_) (fun h4 => ?_)
      · refine V.iconst (pc' := 36) C dX7_rightOn_35 rfl kci_0 ?_
        exact J6 _ (by rw [if_neg h4])
      · refine V.iconst (pc' := 30) C dX7_rightOn_29 rfl kci_1 ?_
        refine V.iload_n (pc' := 31) C 3 dX7_rightOn_30 rfl rfl ?_
        refine V.ishl (pc' := 32) C dX7_rightOn_31 rfl ?_
        refine V.goto C 36 dX7_rightOn_32 rfl ?_
        exact J6 _ (by rw [if_pos h4])
  refine V.lvs [2, 3, 1, 0] (lv2 := [(0, .ref h), (1, .int (nI P)), (2, .int (rightTo (pg f P) 0)), (3, .int (nI 0))]) rfl ?_
  exact L1 0 (by omega)
set_option maxHeartbeats 4000000 in
theorem ct_X7_isOneMaker (l : Launch) (G : GG) (h : Nat) (ad : Nat → Nat) (i : Nat → Int32) (f : Nat → Int32) (a : Nat) (b : Nat) (ha : a < 5) (hb : b < 5) : Ct l G yX7_isOneMaker (ws_ yX7_isOneMaker cX7_isOneMaker 3 (some .boolean)) ({ frames := 0, cells := 0, slots := 0, locals := 0 } : Room) [.ref h, .int (nI a), .int (nI b)] [mO h ad i, (ad 0, .inl (G.2 0, 402, .inl f))] (fun _ : Unit => some (.int (bI (f (5 + a) = f (5 + b))))) (fun _ => True) (fun _ => [mO h ad i, (ad 0, .inl (G.2 0, 402, .inl f))]) := by
  refine Ct.of rfl rfl ?_
  intro M el eG hnL C T
  subst el
  subst eG
  have C : Cx M cX7_isOneMaker "ClockWardModel" ({ frames := 0, cells := 0, slots := 0, locals := 0 } : Room) := C
  refine V.lvs [0, 1, 2] (lv2 := [(0, .ref h), (1, .int (nI a)), (2, .int (nI b))]) rfl ?_
  refine V.aload_n (pc' := 1) C 0 dX7_isOneMaker_0 rfl rfl ?_
  refine V.get (pc' := 4) C dX7_isOneMaker_1 rfl 0 rfl rfl in_X7 0 rfl q929 rfl ?_
  refine V.iconst (pc' := 5) C dX7_isOneMaker_4 rfl kci_5 ?_
  refine V.iload_n (pc' := 6) C 1 dX7_isOneMaker_5 rfl rfl ?_
  refine V.iaddN (pc' := 7) C 5 a dX7_isOneMaker_6 rfl ?_
  refine V.iald (pc' := 8) C (5 + a) dX7_isOneMaker_7 rfl 1 rfl (by omega) rfl ?_
  refine V.aload_n (pc' := 9) C 0 dX7_isOneMaker_8 rfl rfl ?_
  refine V.get (pc' := 12) C dX7_isOneMaker_9 rfl 0 rfl rfl in_X7 0 rfl q929 rfl ?_
  refine V.iconst (pc' := 13) C dX7_isOneMaker_12 rfl kci_5 ?_
  refine V.iload_n (pc' := 14) C 2 dX7_isOneMaker_13 rfl rfl ?_
  refine V.iaddN (pc' := 15) C 5 b dX7_isOneMaker_14 rfl ?_
  refine V.iald (pc' := 16) C (5 + b) dX7_isOneMaker_15 rfl 1 rfl (by omega) rfl ?_
  have J3 : ∀ (x2 : Int32), x2 = (if (f (5 + a)) = (f (5 + b)) then 1 else 0) → V M 0 0 [mO h ad i, (ad 0, .inl (M.G.2 0, 402, .inl f))] [(0, .ref h), (1, .int (nI a)), (2, .int (nI b))] [.int x2] 24 := by
    intro x2 ex2
    have ex2 : x2 = bI ((f (5 + a)) = (f (5 + b))) := ex2.trans it_10
    subst ex2
    exact V.iret C T dX7_isOneMaker_24 () rfl rfl rfl bI_nar trivial rfl rfl rfl
  refine V.icmp_ne (pc' := 19) C 23 dX7_isOneMaker_16 rfl rfl (fun h1 => ?_) (fun h1 => ?_)
  · refine V.iconst (pc' := 24) C dX7_isOneMaker_23 rfl kci_0 ?_
    exact J3 _ (by rw [if_neg h1])
  · refine V.iconst (pc' := 20) C dX7_isOneMaker_19 rfl kci_1 ?_
    refine V.goto C 24 dX7_isOneMaker_20 rfl ?_
    exact J3 _ (by rw [if_pos h1])
set_option maxHeartbeats 4000000 in
theorem ct_X7_getsBy (l : Launch) (G : GG) (h : Nat) (ad : Nat → Nat) (i : Nat → Int32) (f : Nat → Int32) (a : Nat) (b : Nat) (n : Int32) (ha : a < 5) (hb : b < 5) : Ct l G yX7_getsBy (ws_ yX7_getsBy cX7_getsBy 4 (some .int)) ({ frames := 1, cells := 0, slots := 0, locals := 22 } : Room) [.ref h, .int (nI a), .int (nI b), .int n] [mO h ad i, (ad 0, .inl (G.2 0, 402, .inl f))] (fun _ : Unit => some (.int (gets2 f a b n))) (fun _ => True) (fun _ => [mO h ad i, (ad 0, .inl (G.2 0, 402, .inl f))]) := by
  refine Ct.of rfl rfl ?_
  intro M el eG hnL C T
  subst el
  subst eG
  have C : Cx M cX7_getsBy "ClockWardModel" ({ frames := 1, cells := 0, slots := 0, locals := 22 } : Room) := C
  refine V.lvs [0, 1, 2, 3] (lv2 := [(0, .ref h), (1, .int (nI a)), (2, .int (nI b)), (3, .int n)]) rfl ?_
  refine V.aload_n (pc' := 1) C 0 dX7_getsBy_0 rfl rfl ?_
  refine V.iload_n (pc' := 2) C 1 dX7_getsBy_1 rfl rfl ?_
  refine V.iload_n (pc' := 3) C 2 dX7_getsBy_2 rfl rfl ?_
  refine V.callV (pc' := 6) (wr := []) C (ct_X7_isOneMaker M.l M.G h ad i f a b (by omega) (by omega)) dX7_getsBy_3 rfl (lw_V q1160 q1162 qs49 q71 q1163) hyv_X7_isOneMaker rfl rfl 0 rfl rfl [0, 1] [] [0, 1] rfl rfl rfl (fun _ => [mO h ad i, (ad 0, .inl (M.G.2 0, 402, .inl f))]) (fun _ => rfl) rfl 0 0 rfl rfl (fun _ => [.int (bI (f (5 + a) = f (5 + b)))]) (fun _ => rfl) (fun _ _ => ?_)
  have J3 : ∀ (x2 : Int32), x2 = (if f (5 + a) = f (5 + b) then n else n - (n / 3)) → V M 0 0 [mO h ad i, (ad 0, .inl (M.G.2 0, 402, .inl f))] [(0, .ref h), (1, .int (nI a)), (2, .int (nI b)), (3, .int n)] [.int x2] 18 := by
    intro x2 ex2
    subst ex2
    exact V.iret C T dX7_getsBy_18 () rfl rfl rfl rfl trivial rfl rfl rfl
  refine V.if_eqB (pc' := 9) C 13 dX7_getsBy_6 rfl rfl (fun h1 => ?_) (fun h1 => ?_)
  · refine V.iload_n (pc' := 14) C 3 dX7_getsBy_13 rfl rfl ?_
    refine V.iload_n (pc' := 15) C 3 dX7_getsBy_14 rfl rfl ?_
    refine V.iconst (pc' := 16) C dX7_getsBy_15 rfl kci_3 ?_
    refine V.idiv (pc' := 17) C (by decide) dX7_getsBy_16 rfl ?_
    refine V.isub (pc' := 18) C dX7_getsBy_17 rfl ?_
    exact J3 _ (by rw [if_neg h1])
  · refine V.iload_n (pc' := 10) C 3 dX7_getsBy_9 rfl rfl ?_
    refine V.goto C 18 dX7_getsBy_10 rfl ?_
    exact J3 _ (by rw [if_pos h1])
set_option maxHeartbeats 4000000 in
theorem ct_X7_mayBe (l : Launch) (G : GG) (h : Nat) (ad : Nat → Nat) (i : Nat → Int32) (f : Nat → Int32) (P : Nat) (a : Nat) (b : Nat) (n : Int32) (hP : P + 67 ≤ 402) (ha : a < 5) (hb : b < 5) : Ct l G yX7_mayBe (ws_ yX7_mayBe cX7_mayBe 6 (some .boolean)) ({ frames := 2, cells := 0, slots := 0, locals := 45 } : Room) [.ref h, .int (nI P), .int (nI a), .int (nI b), .int n] [mO h ad i, (ad 0, .inl (G.2 0, 402, .inl f))] (fun _ : Unit => some (.int (bI (may2 f (pg f P) a b n)))) (fun _ => True) (fun _ => [mO h ad i, (ad 0, .inl (G.2 0, 402, .inl f))]) := by
  refine Ct.of rfl rfl ?_
  intro M el eG hnL C T
  subst el
  subst eG
  have C : Cx M cX7_mayBe "ClockWardModel" ({ frames := 2, cells := 0, slots := 0, locals := 45 } : Room) := C
  refine V.lvs [0, 1, 2, 3, 4] (lv2 := [(0, .ref h), (1, .int (nI P)), (2, .int (nI a)), (3, .int (nI b)), (4, .int n)]) rfl ?_
  refine V.aload_n (pc' := 1) C 0 dX7_mayBe_0 rfl rfl ?_
  refine V.iload_n (pc' := 2) C 2 dX7_mayBe_1 rfl rfl ?_
  refine V.iload_n (pc' := 3) C 3 dX7_mayBe_2 rfl rfl ?_
  refine V.callV (pc' := 6) (wr := []) C (ct_X7_isOneMaker M.l M.G h ad i f a b (by omega) (by omega)) dX7_mayBe_3 rfl (lw_V q1160 q1162 qs49 q71 q1163) hyv_X7_isOneMaker rfl rfl 0 rfl rfl [0, 1] [] [0, 1] rfl rfl rfl (fun _ => [mO h ad i, (ad 0, .inl (M.G.2 0, 402, .inl f))]) (fun _ => rfl) rfl 0 0 rfl rfl (fun _ => [.int (bI (f (5 + a) = f (5 + b)))]) (fun _ => rfl) (fun _ _ => ?_)
  have J3 : ∀ (x2 : Int32), x2 = (if f (5 + a) = f (5 + b) then 1 else if (f a) = 2 then if (f b) = 1 then 0 else 1 else 0) → V M 0 0 [mO h ad i, (ad 0, .inl (M.G.2 0, 402, .inl f))] [(0, .ref h), (1, .int (nI P)), (2, .int (nI a)), (3, .int (nI b)), (4, .int n)] [.int x2] 34 := by
    intro x2 ex2
    have ex2 : x2 = bI ((f (5 + a) = f (5 + b)) ∨ (((f a) = 2) ∧ (¬ ((f b) = 1)))) := ex2.trans (it_1 (it_a it_01))
    subst ex2
    refine V.istore (pc' := 36) C [(5, .int (bI ((f (5 + a) = f (5 + b)) ∨ (((f a) = 2) ∧ (¬ ((f b) = 1)))))), (0, .ref h), (1, .int (nI P)), (2, .int (nI a)), (3, .int (nI b)), (4, .int n)] dX7_mayBe_34 rfl 6 hnL rfl rfl ?_
    refine V.iload (pc' := 38) C 0 dX7_mayBe_36 rfl rfl ?_
    have J6 : ∀ (x5 : Int32), x5 = (if (f (5 + a) = f (5 + b)) ∨ (((f a) = 2) ∧ (¬ ((f b) = 1))) then if ((pg f P (15 + a)) - n) < ((f 20) + 40) then 0 else if 99 < ((pg f P (15 + b)) + (gets2 f a b n)) then 0 else 1 else 0) → V M 0 0 [mO h ad i, (ad 0, .inl (M.G.2 0, 402, .inl f))] [(5, .int (bI ((f (5 + a) = f (5 + b)) ∨ (((f a) = 2) ∧ (¬ ((f b) = 1)))))), (0, .ref h), (1, .int (nI P)), (2, .int (nI a)), (3, .int (nI b)), (4, .int n)] [.int x5] 98 := by
      intro x5 ex5
      have ex5 : x5 = bI (((f (5 + a) = f (5 + b)) ∨ (((f a) = 2) ∧ (¬ ((f b) = 1)))) ∧ (¬ (((pg f P (15 + a)) - n) < ((f 20) + 40)) ∧ (¬ (99 < ((pg f P (15 + b)) + (gets2 f a b n)))))) := ex5.trans (it_a (it_0 it_01))
      subst ex5
      exact V.iret C T dX7_mayBe_98 () rfl rfl rfl bI_nar trivial rfl rfl rfl
    refine V.if_eqB (pc' := 41) C 97 dX7_mayBe_38 rfl rfl (fun h4 => ?_) (fun h4 => ?_)
    · refine V.iconst (pc' := 98) C dX7_mayBe_97 rfl kci_0 ?_
      exact J6 _ (by rw [if_neg h4])
    · refine V.aload_n (pc' := 42) C 1 dX7_mayBe_41 rfl rfl ?_
      refine V.get (pc' := 45) C dX7_mayBe_42 rfl 0 rfl rfl in_X7 0 rfl q929 rfl ?_
      refine V.iload_n (pc' := 46) C 2 dX7_mayBe_45 rfl rfl ?_
      refine V.bipush (pc' := 48) C dX7_mayBe_46 rfl kcb_15 ?_
      refine V.iaddN (pc' := 49) C P 15 dX7_mayBe_48 rfl ?_
      refine V.iload_n (pc' := 50) C 3 dX7_mayBe_49 rfl rfl ?_
      refine V.iaddA (pc' := 51) C P 15 a dX7_mayBe_50 rfl ?_
      refine V.iald (pc' := 52) C (P + (15 + a)) dX7_mayBe_51 rfl 1 rfl (by omega) rfl ?_
      refine V.topI (pg_at _ _ _) ?_
      refine V.iload (pc' := 54) C 5 dX7_mayBe_52 rfl rfl ?_
      refine V.isub (pc' := 55) C dX7_mayBe_54 rfl ?_
      refine V.aload_n (pc' := 56) C 1 dX7_mayBe_55 rfl rfl ?_
      refine V.get (pc' := 59) C dX7_mayBe_56 rfl 0 rfl rfl in_X7 0 rfl q929 rfl ?_
      refine V.bipush (pc' := 61) C dX7_mayBe_59 rfl kcb_20 ?_
      refine V.iald (pc' := 62) C 20 dX7_mayBe_61 rfl 1 rfl (by omega) rfl ?_
      refine V.bipush (pc' := 64) C dX7_mayBe_62 rfl kcb_40 ?_
      refine V.iadd (pc' := 65) C dX7_mayBe_64 rfl ?_
      refine V.icmp_lt (pc' := 68) C 97 dX7_mayBe_65 rfl rfl (fun h5 => ?_) (fun h5 => ?_)
      · refine V.iconst (pc' := 98) C dX7_mayBe_97 rfl kci_0 ?_
        exact J6 _ (by rw [if_pos h4, if_pos h5])
      · refine V.aload_n (pc' := 69) C 1 dX7_mayBe_68 rfl rfl ?_
        refine V.get (pc' := 72) C dX7_mayBe_69 rfl 0 rfl rfl in_X7 0 rfl q929 rfl ?_
        refine V.iload_n (pc' := 73) C 2 dX7_mayBe_72 rfl rfl ?_
        refine V.bipush (pc' := 75) C dX7_mayBe_73 rfl kcb_15 ?_
        refine V.iaddN (pc' := 76) C P 15 dX7_mayBe_75 rfl ?_
        refine V.iload_n (pc' := 77) C 4 dX7_mayBe_76 rfl rfl ?_
        refine V.iaddA (pc' := 78) C P 15 b dX7_mayBe_77 rfl ?_
        refine V.iald (pc' := 79) C (P + (15 + b)) dX7_mayBe_78 rfl 1 rfl (by omega) rfl ?_
        refine V.topI (pg_at _ _ _) ?_
        refine V.aload_n (pc' := 80) C 1 dX7_mayBe_79 rfl rfl ?_
        refine V.iload_n (pc' := 81) C 3 dX7_mayBe_80 rfl rfl ?_
        refine V.iload_n (pc' := 82) C 4 dX7_mayBe_81 rfl rfl ?_
        refine V.iload (pc' := 84) C 5 dX7_mayBe_82 rfl rfl ?_
        refine V.callV (pc' := 87) (wr := []) C (ct_X7_getsBy M.l M.G h ad i f a b n (by omega) (by omega)) dX7_mayBe_84 rfl (lw_V q1164 q1166 qs50 q71 q1167) hyv_X7_getsBy rfl rfl 0 rfl rfl [0, 1] [] [0, 1] rfl rfl rfl (fun _ => [mO h ad i, (ad 0, .inl (M.G.2 0, 402, .inl f))]) (fun _ => rfl) rfl 0 0 rfl rfl (fun _ => [.int (gets2 f a b n), .int (pg f P (15 + b))]) (fun _ => rfl) (fun _ _ => ?_)
        refine V.iadd (pc' := 88) C dX7_mayBe_87 rfl ?_
        refine V.bipush (pc' := 90) C dX7_mayBe_88 rfl kcb_99 ?_
        refine V.icmp_gt (pc' := 93) C 97 dX7_mayBe_90 rfl rfl (fun h6 => ?_) (fun h6 => ?_)
        · refine V.iconst (pc' := 98) C dX7_mayBe_97 rfl kci_0 ?_
          exact J6 _ (by rw [if_pos h4, if_neg h5, if_pos h6])
        · refine V.iconst (pc' := 94) C dX7_mayBe_93 rfl kci_1 ?_
          refine V.goto C 98 dX7_mayBe_94 rfl ?_
          exact J6 _ (by rw [if_pos h4, if_neg h5, if_neg h6])
  refine V.if_neB (pc' := 9) C 29 dX7_mayBe_6 rfl rfl (fun h1 => ?_) (fun h1 => ?_)
  · refine V.iconst (pc' := 30) C dX7_mayBe_29 rfl kci_1 ?_
    refine V.goto C 34 dX7_mayBe_30 rfl ?_
    exact J3 _ (by rw [if_pos h1])
  · refine V.aload_n (pc' := 10) C 0 dX7_mayBe_9 rfl rfl ?_
    refine V.get (pc' := 13) C dX7_mayBe_10 rfl 0 rfl rfl in_X7 0 rfl q929 rfl ?_
    refine V.iload_n (pc' := 14) C 2 dX7_mayBe_13 rfl rfl ?_
    refine V.iald (pc' := 15) C a dX7_mayBe_14 rfl 1 rfl (by omega) rfl ?_
    refine V.iconst (pc' := 16) C dX7_mayBe_15 rfl kci_2 ?_
    refine V.icmp_ne (pc' := 19) C 33 dX7_mayBe_16 rfl rfl (fun h2 => ?_) (fun h2 => ?_)
    · refine V.iconst (pc' := 34) C dX7_mayBe_33 rfl kci_0 ?_
      exact J3 _ (by rw [if_neg h1, if_neg h2])
    · refine V.aload_n (pc' := 20) C 0 dX7_mayBe_19 rfl rfl ?_
      refine V.get (pc' := 23) C dX7_mayBe_20 rfl 0 rfl rfl in_X7 0 rfl q929 rfl ?_
      refine V.iload_n (pc' := 24) C 3 dX7_mayBe_23 rfl rfl ?_
      refine V.iald (pc' := 25) C b dX7_mayBe_24 rfl 1 rfl (by omega) rfl ?_
      refine V.iconst (pc' := 26) C dX7_mayBe_25 rfl kci_1 ?_
      refine V.icmp_eq (pc' := 29) C 33 dX7_mayBe_26 rfl rfl (fun h3 => ?_) (fun h3 => ?_)
      · refine V.iconst (pc' := 34) C dX7_mayBe_33 rfl kci_0 ?_
        exact J3 _ (by rw [if_neg h1, if_pos h2, if_pos h3])
      · refine V.iconst (pc' := 30) C dX7_mayBe_29 rfl kci_1 ?_
        refine V.goto C 34 dX7_mayBe_30 rfl ?_
        exact J3 _ (by rw [if_neg h1, if_pos h2, if_neg h3])
set_option maxHeartbeats 4000000 in
theorem ct_X7_givesOn (l : Launch) (G : GG) (h : Nat) (ad : Nat → Nat) (i : Nat → Int32) (f : Nat → Int32) (P : Nat) (a : Nat) (b : Nat) (n : Int32) (hP : P + 67 ≤ 402) (ha : a < 5) (hb : b < 5) : Ct l G yX7_givesOn (ws_ yX7_givesOn cX7_givesOn 6 none) ({ frames := 2, cells := 0, slots := 0, locals := 45 } : Room) [.ref h, .int (nI P), .int (nI a), .int (nI b), .int n] [mO h ad i, (ad 0, .inl (G.2 0, 402, .inl f))] (fun _ : Unit => none) (fun _ => True) (fun _ => [mO h ad i, (ad 0, .inl (G.2 0, 402, .inl (pp f P (give2 f (pg f P) a b n))))]) := by
  refine Ct.of rfl rfl ?_
  intro M el eG hnL C T
  subst el
  subst eG
  have C : Cx M cX7_givesOn "ClockWardModel" ({ frames := 2, cells := 0, slots := 0, locals := 45 } : Room) := C
  refine V.lvs [0, 1, 2, 3, 4] (lv2 := [(0, .ref h), (1, .int (nI P)), (2, .int (nI a)), (3, .int (nI b)), (4, .int n)]) rfl ?_
  refine V.aload_n (pc' := 1) C 0 dX7_givesOn_0 rfl rfl ?_
  refine V.iload_n (pc' := 2) C 2 dX7_givesOn_1 rfl rfl ?_
  refine V.iload_n (pc' := 3) C 3 dX7_givesOn_2 rfl rfl ?_
  refine V.iload (pc' := 5) C 4 dX7_givesOn_3 rfl rfl ?_
  refine V.callV (pc' := 8) (wr := []) C (ct_X7_getsBy M.l M.G h ad i f a b n (by omega) (by omega)) dX7_givesOn_5 rfl (lw_V q1164 q1166 qs50 q71 q1167) hyv_X7_getsBy rfl rfl 0 rfl rfl [0, 1] [] [0, 1] rfl rfl rfl (fun _ => [mO h ad i, (ad 0, .inl (M.G.2 0, 402, .inl f))]) (fun _ => rfl) rfl 0 0 rfl rfl (fun _ => [.int (gets2 f a b n)]) (fun _ => rfl) (fun _ _ => ?_)
  refine V.istore (pc' := 10) C [(5, .int (gets2 f a b n)), (0, .ref h), (1, .int (nI P)), (2, .int (nI a)), (3, .int (nI b)), (4, .int n)] dX7_givesOn_8 rfl 6 hnL rfl rfl ?_
  refine V.weq (ws2 := [mO h ad i, (ad 0, .inl (M.G.2 0, 402, .inl (pp f P (pg f P))))]) (by rw [pp_pg]) ?_
  refine V.aload_n (pc' := 11) C 1 dX7_givesOn_10 rfl rfl ?_
  refine V.get (pc' := 14) C dX7_givesOn_11 rfl 0 rfl rfl in_X7 0 rfl q929 rfl ?_
  refine V.iload_n (pc' := 15) C 2 dX7_givesOn_14 rfl rfl ?_
  refine V.bipush (pc' := 17) C dX7_givesOn_15 rfl kcb_15 ?_
  refine V.iaddN (pc' := 18) C P 15 dX7_givesOn_17 rfl ?_
  refine V.iload_n (pc' := 19) C 3 dX7_givesOn_18 rfl rfl ?_
  refine V.iaddA (pc' := 20) C P 15 a dX7_givesOn_19 rfl ?_
  refine V.dup2 (pc' := 21) C rfl rfl dX7_givesOn_20 rfl ?_
  refine V.iald (pc' := 22) C (P + (15 + a)) dX7_givesOn_21 rfl 1 rfl (by omega) rfl ?_
  refine V.topI (pp_at _ _ _ _) ?_
  refine V.iload (pc' := 24) C 5 dX7_givesOn_22 rfl rfl ?_
  refine V.isub (pc' := 25) C dX7_givesOn_24 rfl ?_
  refine V.iast (pc' := 26) C (P + (15 + a)) [mO h ad i, (ad 0, .inl (M.G.2 0, 402, .inl (upd (pp f P (pg f P)) (P + (15 + a)) (((pg f P) (15 + a)) - n))))] dX7_givesOn_25 rfl 1 rfl (by omega) rfl (((pg f P) (15 + a)) - n) rfl rfl ?_
  refine V.weq (ws2 := [mO h ad i, (ad 0, .inl (M.G.2 0, 402, .inl (pp f P (upd (pg f P) (15 + a) (((pg f P) (15 + a)) - n)))))]) (by rw [pp_upd]) ?_
  refine V.aload_n (pc' := 27) C 1 dX7_givesOn_26 rfl rfl ?_
  refine V.get (pc' := 30) C dX7_givesOn_27 rfl 0 rfl rfl in_X7 0 rfl q929 rfl ?_
  refine V.iload_n (pc' := 31) C 2 dX7_givesOn_30 rfl rfl ?_
  refine V.bipush (pc' := 33) C dX7_givesOn_31 rfl kcb_15 ?_
  refine V.iaddN (pc' := 34) C P 15 dX7_givesOn_33 rfl ?_
  refine V.iload_n (pc' := 35) C 4 dX7_givesOn_34 rfl rfl ?_
  refine V.iaddA (pc' := 36) C P 15 b dX7_givesOn_35 rfl ?_
  refine V.dup2 (pc' := 37) C rfl rfl dX7_givesOn_36 rfl ?_
  refine V.iald (pc' := 38) C (P + (15 + b)) dX7_givesOn_37 rfl 1 rfl (by omega) rfl ?_
  refine V.topI (pp_at _ _ _ _) ?_
  refine V.iload (pc' := 40) C 0 dX7_givesOn_38 rfl rfl ?_
  refine V.iadd (pc' := 41) C dX7_givesOn_40 rfl ?_
  refine V.iast (pc' := 42) C (P + (15 + b)) [mO h ad i, (ad 0, .inl (M.G.2 0, 402, .inl (upd (pp f P (upd (pg f P) (15 + a) (((pg f P) (15 + a)) - n))) (P + (15 + b)) (((upd (pg f P) (15 + a) (((pg f P) (15 + a)) - n)) (15 + b)) + (gets2 f a b n)))))] dX7_givesOn_41 rfl 1 rfl (by omega) rfl (((upd (pg f P) (15 + a) (((pg f P) (15 + a)) - n)) (15 + b)) + (gets2 f a b n)) rfl rfl ?_
  refine V.weq (ws2 := [mO h ad i, (ad 0, .inl (M.G.2 0, 402, .inl (pp f P (upd (upd (pg f P) (15 + a) (((pg f P) (15 + a)) - n)) (15 + b) (((upd (pg f P) (15 + a) (((pg f P) (15 + a)) - n)) (15 + b)) + (gets2 f a b n))))))]) (by rw [pp_upd]) ?_
  refine V.aload_n (pc' := 43) C 1 dX7_givesOn_42 rfl rfl ?_
  refine V.get (pc' := 46) C dX7_givesOn_43 rfl 0 rfl rfl in_X7 0 rfl q929 rfl ?_
  refine V.iload_n (pc' := 47) C 2 dX7_givesOn_46 rfl rfl ?_
  refine V.bipush (pc' := 49) C dX7_givesOn_47 rfl kcb_22 ?_
  refine V.iaddN (pc' := 50) C P 22 dX7_givesOn_49 rfl ?_
  refine V.dup2 (pc' := 51) C rfl rfl dX7_givesOn_50 rfl ?_
  refine V.iald (pc' := 52) C (P + 22) dX7_givesOn_51 rfl 1 rfl (by omega) rfl ?_
  refine V.topI (pp_at _ _ _ _) ?_
  refine V.iload (pc' := 54) C 5 dX7_givesOn_52 rfl rfl ?_
  refine V.iload (pc' := 56) C 0 dX7_givesOn_54 rfl rfl ?_
  refine V.isub (pc' := 57) C dX7_givesOn_56 rfl ?_
  refine V.iadd (pc' := 58) C dX7_givesOn_57 rfl ?_
  refine V.iast (pc' := 59) C (P + 22) [mO h ad i, (ad 0, .inl (M.G.2 0, 402, .inl (upd (pp f P (upd (upd (pg f P) (15 + a) (((pg f P) (15 + a)) - n)) (15 + b) (((upd (pg f P) (15 + a) (((pg f P) (15 + a)) - n)) (15 + b)) + (gets2 f a b n)))) (P + 22) (((upd (upd (pg f P) (15 + a) (((pg f P) (15 + a)) - n)) (15 + b) (((upd (pg f P) (15 + a) (((pg f P) (15 + a)) - n)) (15 + b)) + (gets2 f a b n))) 22) + (n - (gets2 f a b n))))))] dX7_givesOn_58 rfl 1 rfl (by omega) rfl (((upd (upd (pg f P) (15 + a) (((pg f P) (15 + a)) - n)) (15 + b) (((upd (pg f P) (15 + a) (((pg f P) (15 + a)) - n)) (15 + b)) + (gets2 f a b n))) 22) + (n - (gets2 f a b n))) rfl rfl ?_
  refine V.weq (ws2 := [mO h ad i, (ad 0, .inl (M.G.2 0, 402, .inl (pp f P (upd (upd (upd (pg f P) (15 + a) (((pg f P) (15 + a)) - n)) (15 + b) (((upd (pg f P) (15 + a) (((pg f P) (15 + a)) - n)) (15 + b)) + (gets2 f a b n))) 22 (((upd (upd (pg f P) (15 + a) (((pg f P) (15 + a)) - n)) (15 + b) (((upd (pg f P) (15 + a) (((pg f P) (15 + a)) - n)) (15 + b)) + (gets2 f a b n))) 22) + (n - (gets2 f a b n)))))))]) (by rw [pp_upd]) ?_
  refine V.aload_n (pc' := 60) C 1 dX7_givesOn_59 rfl rfl ?_
  refine V.get (pc' := 63) C dX7_givesOn_60 rfl 0 rfl rfl in_X7 0 rfl q929 rfl ?_
  refine V.iload_n (pc' := 64) C 2 dX7_givesOn_63 rfl rfl ?_
  refine V.bipush (pc' := 66) C dX7_givesOn_64 rfl kcb_23 ?_
  refine V.iaddN (pc' := 67) C P 23 dX7_givesOn_66 rfl ?_
  refine V.iconst (pc' := 68) C dX7_givesOn_67 rfl kci_5 ?_
  refine V.iload_n (pc' := 69) C 4 dX7_givesOn_68 rfl rfl ?_
  refine V.imulN (pc' := 70) C 5 b dX7_givesOn_69 rfl ?_
  refine V.iaddA (pc' := 71) C P 23 (5 * b) dX7_givesOn_70 rfl ?_
  refine V.iload_n (pc' := 72) C 3 dX7_givesOn_71 rfl rfl ?_
  refine V.iaddA (pc' := 73) C P (23 + 5 * b) a dX7_givesOn_72 rfl ?_
  refine V.dup2 (pc' := 74) C rfl rfl dX7_givesOn_73 rfl ?_
  refine V.iald (pc' := 75) C (P + (23 + 5 * b + a)) dX7_givesOn_74 rfl 1 rfl (by omega) rfl ?_
  refine V.topI (pp_at _ _ _ _) ?_
  refine V.iload (pc' := 77) C 0 dX7_givesOn_75 rfl rfl ?_
  refine V.iadd (pc' := 78) C dX7_givesOn_77 rfl ?_
  refine V.iast (pc' := 79) C (P + (23 + 5 * b + a)) [mO h ad i, (ad 0, .inl (M.G.2 0, 402, .inl (upd (pp f P (upd (upd (upd (pg f P) (15 + a) (((pg f P) (15 + a)) - n)) (15 + b) (((upd (pg f P) (15 + a) (((pg f P) (15 + a)) - n)) (15 + b)) + (gets2 f a b n))) 22 (((upd (upd (pg f P) (15 + a) (((pg f P) (15 + a)) - n)) (15 + b) (((upd (pg f P) (15 + a) (((pg f P) (15 + a)) - n)) (15 + b)) + (gets2 f a b n))) 22) + (n - (gets2 f a b n))))) (P + (23 + 5 * b + a)) (((upd (upd (upd (pg f P) (15 + a) (((pg f P) (15 + a)) - n)) (15 + b) (((upd (pg f P) (15 + a) (((pg f P) (15 + a)) - n)) (15 + b)) + (gets2 f a b n))) 22 (((upd (upd (pg f P) (15 + a) (((pg f P) (15 + a)) - n)) (15 + b) (((upd (pg f P) (15 + a) (((pg f P) (15 + a)) - n)) (15 + b)) + (gets2 f a b n))) 22) + (n - (gets2 f a b n)))) (23 + 5 * b + a)) + (gets2 f a b n)))))] dX7_givesOn_78 rfl 1 rfl (by omega) rfl (((upd (upd (upd (pg f P) (15 + a) (((pg f P) (15 + a)) - n)) (15 + b) (((upd (pg f P) (15 + a) (((pg f P) (15 + a)) - n)) (15 + b)) + (gets2 f a b n))) 22 (((upd (upd (pg f P) (15 + a) (((pg f P) (15 + a)) - n)) (15 + b) (((upd (pg f P) (15 + a) (((pg f P) (15 + a)) - n)) (15 + b)) + (gets2 f a b n))) 22) + (n - (gets2 f a b n)))) (23 + 5 * b + a)) + (gets2 f a b n)) rfl rfl ?_
  refine V.weq (ws2 := [mO h ad i, (ad 0, .inl (M.G.2 0, 402, .inl (pp f P (upd (upd (upd (upd (pg f P) (15 + a) (((pg f P) (15 + a)) - n)) (15 + b) (((upd (pg f P) (15 + a) (((pg f P) (15 + a)) - n)) (15 + b)) + (gets2 f a b n))) 22 (((upd (upd (pg f P) (15 + a) (((pg f P) (15 + a)) - n)) (15 + b) (((upd (pg f P) (15 + a) (((pg f P) (15 + a)) - n)) (15 + b)) + (gets2 f a b n))) 22) + (n - (gets2 f a b n)))) (23 + 5 * b + a) (((upd (upd (upd (pg f P) (15 + a) (((pg f P) (15 + a)) - n)) (15 + b) (((upd (pg f P) (15 + a) (((pg f P) (15 + a)) - n)) (15 + b)) + (gets2 f a b n))) 22 (((upd (upd (pg f P) (15 + a) (((pg f P) (15 + a)) - n)) (15 + b) (((upd (pg f P) (15 + a) (((pg f P) (15 + a)) - n)) (15 + b)) + (gets2 f a b n))) 22) + (n - (gets2 f a b n)))) (23 + 5 * b + a)) + (gets2 f a b n))))))]) (by rw [pp_upd]) ?_
  exact V.vret C T dX7_givesOn_79 () rfl trivial rfl rfl rfl
set_option maxHeartbeats 4000000 in
theorem ct_X7_bitsOf (l : Launch) (G : GG) (x : Int32)  : Ct l G yX7_bitsOf (ws_ yX7_bitsOf cX7_bitsOf 3 (some .int)) ({ frames := 0, cells := 0, slots := 0, locals := 0 } : Room) [.int x] [] (fun _ : Unit => some (.int (bitsTo x 7))) (fun _ => True) (fun _ => []) := by
  refine Ct.of rfl rfl ?_
  intro M el eG hnL C T
  subst el
  subst eG
  have C : Cx M cX7_bitsOf "ClockWardModel" ({ frames := 0, cells := 0, slots := 0, locals := 0 } : Room) := C
  refine V.lvs [0] (lv2 := [(0, .int x)]) rfl ?_
  refine V.iconst (pc' := 1) C dX7_bitsOf_0 rfl kci_0 ?_
  refine V.istore_n (pc' := 2) C [(1, .int 0), (0, .int x)] dX7_bitsOf_1 rfl 3 hnL rfl rfl ?_
  refine V.iconst (pc' := 3) C dX7_bitsOf_2 rfl kci_0 ?_
  refine V.istore_n (pc' := 4) C [(2, .int 0), (1, .int 0), (0, .int x)] dX7_bitsOf_3 rfl 3 hnL rfl rfl ?_
  have L1 : ∀ k : Nat, k ≤ 7 → V M 0 0 [] [(0, .int x), (1, .int (bitsTo x k)), (2, .int (nI k))] [] 4 := by
    refine loopN _ 7 (fun k hk ih_L1 => ?_)
    refine V.iload_n (pc' := 5) C 2 dX7_bitsOf_4 rfl rfl ?_
    refine V.bipush (pc' := 7) C dX7_bitsOf_5 rfl kcb_7 ?_
    refine V.icmp_geN (pc' := 10) C k 7 (by omega) (by omega) 24 dX7_bitsOf_7 rfl rfl (fun h2 => ?_) (fun h2 => ?_)
    · have hx3 : 7 = k := by omega
      subst hx3
      refine V.iload_n (pc' := 25) C 1 dX7_bitsOf_24 rfl rfl ?_
      exact V.iret C T dX7_bitsOf_25 () rfl rfl rfl rfl trivial rfl rfl rfl
    · refine V.iload_n (pc' := 11) C 1 dX7_bitsOf_10 rfl rfl ?_
      refine V.iload_n (pc' := 12) C 0 dX7_bitsOf_11 rfl rfl ?_
      refine V.iload_n (pc' := 13) C 2 dX7_bitsOf_12 rfl rfl ?_
      refine V.ishr (pc' := 14) C dX7_bitsOf_13 rfl ?_
      refine V.iconst (pc' := 15) C dX7_bitsOf_14 rfl kci_1 ?_
      refine V.iand (pc' := 16) C dX7_bitsOf_15 rfl ?_
      refine V.iadd (pc' := 17) C dX7_bitsOf_16 rfl ?_
      refine V.istore_n (pc' := 18) C [(1, .int ((bitsTo x k) + ((x >>> (nI k &&& 31)) &&& 1))), (0, .int x), (2, .int (nI k))] dX7_bitsOf_17 rfl 3 hnL rfl rfl ?_
      refine V.iinc (pc' := 21) C (nI (k + 1)) [(2, .int (nI (k + 1))), (1, .int ((bitsTo x k) + ((x >>> (nI k &&& 31)) &&& 1))), (0, .int x)] dX7_bitsOf_18 rfl 3 hnL rfl 2 rfl (ii_N k 1 rfl) rfl ?_
      refine V.goto C 4 dX7_bitsOf_21 rfl ?_
      refine V.lvs [2, 1, 0] (lv2 := [(0, .int x), (1, .int (bitsTo x (k + 1))), (2, .int (nI (k + 1)))]) rfl ?_
      exact ih_L1 (by omega)
  refine V.lvs [2, 1, 0] (lv2 := [(0, .int x), (1, .int (bitsTo x 0)), (2, .int (nI 0))]) rfl ?_
  exact L1 0 (by omega)
set_option maxHeartbeats 4000000 in
theorem ct_X7_copies (l : Launch) (G : GG) (h : Nat) (ad : Nat → Nat) (i : Nat → Int32) (f : Nat → Int32) (P : Nat) (Q : Nat) (hP : P + 67 ≤ 402) (hQ : Q + 67 ≤ 402) (hd : P + 67 ≤ Q ∨ Q + 67 ≤ P) : Ct l G yX7_copies (ws_ yX7_copies cX7_copies 4 none) ({ frames := 0, cells := 0, slots := 0, locals := 0 } : Room) [.ref h, .int (nI P), .int (nI Q)] [mO h ad i, (ad 0, .inl (G.2 0, 402, .inl f))] (fun _ : Unit => none) (fun _ => True) (fun _ => [mO h ad i, (ad 0, .inl (G.2 0, 402, .inl (va_cpy f f P Q 67)))]) := by
  refine Ct.of rfl rfl ?_
  intro M el eG hnL C T
  subst el
  subst eG
  have C : Cx M cX7_copies "ClockWardModel" ({ frames := 0, cells := 0, slots := 0, locals := 0 } : Room) := C
  refine V.lvs [0, 1, 2] (lv2 := [(0, .ref h), (1, .int (nI P)), (2, .int (nI Q))]) rfl ?_
  refine V.iconst (pc' := 1) C dX7_copies_0 rfl kci_0 ?_
  refine V.istore_n (pc' := 2) C [(3, .int 0), (0, .ref h), (1, .int (nI P)), (2, .int (nI Q))] dX7_copies_1 rfl 4 hnL rfl rfl ?_
  have L1 : ∀ k : Nat, k ≤ 67 → V M 0 0 [mO h ad i, (ad 0, .inl (M.G.2 0, 402, .inl (va_cpy f f P Q k)))] [(0, .ref h), (1, .int (nI P)), (2, .int (nI Q)), (3, .int (nI k))] [] 2 := by
    refine loopN _ 67 (fun k hk ih_L1 => ?_)
    refine V.iload_n (pc' := 3) C 3 dX7_copies_2 rfl rfl ?_
    refine V.bipush (pc' := 5) C dX7_copies_3 rfl kcb_67 ?_
    refine V.icmp_geN (pc' := 8) C k 67 (by omega) (by omega) 30 dX7_copies_5 rfl rfl (fun h2 => ?_) (fun h2 => ?_)
    · have hx3 : 67 = k := by omega
      subst hx3
      exact V.vret C T dX7_copies_30 () rfl trivial rfl rfl rfl
    · refine V.aload_n (pc' := 9) C 0 dX7_copies_8 rfl rfl ?_
      refine V.get (pc' := 12) C dX7_copies_9 rfl 0 rfl rfl in_X7 0 rfl q929 rfl ?_
      refine V.iload_n (pc' := 13) C 2 dX7_copies_12 rfl rfl ?_
      refine V.iload_n (pc' := 14) C 3 dX7_copies_13 rfl rfl ?_
      refine V.iaddN (pc' := 15) C Q k dX7_copies_14 rfl ?_
      refine V.aload_n (pc' := 16) C 0 dX7_copies_15 rfl rfl ?_
      refine V.get (pc' := 19) C dX7_copies_16 rfl 0 rfl rfl in_X7 0 rfl q929 rfl ?_
      refine V.iload_n (pc' := 20) C 1 dX7_copies_19 rfl rfl ?_
      refine V.iload_n (pc' := 21) C 3 dX7_copies_20 rfl rfl ?_
      refine V.iaddN (pc' := 22) C P k dX7_copies_21 rfl ?_
      refine V.iald (pc' := 23) C (P + k) dX7_copies_22 rfl 1 rfl (by omega) rfl ?_
      refine V.topI (pg_at _ _ _) ?_
      refine V.iast (pc' := 24) C (Q + k) [mO h ad i, (ad 0, .inl (M.G.2 0, 402, .inl (upd (va_cpy f f P Q k) (Q + k) (pg (va_cpy f f P Q k) P k))))] dX7_copies_23 rfl 1 rfl (by omega) rfl (pg (va_cpy f f P Q k) P k) rfl rfl ?_
      refine V.iinc (pc' := 27) C (nI (k + 1)) [(3, .int (nI (k + 1))), (0, .ref h), (1, .int (nI P)), (2, .int (nI Q))] dX7_copies_24 rfl 4 hnL rfl 3 rfl (ii_N k 1 rfl) rfl ?_
      refine V.goto C 2 dX7_copies_27 rfl ?_
      refine V.lvs [1, 2, 3, 0] (lv2 := [(0, .ref h), (1, .int (nI P)), (2, .int (nI Q)), (3, .int (nI (k + 1)))]) rfl ?_
      refine V.weq (ws2 := [mO h ad i, (ad 0, .inl (M.G.2 0, 402, .inl (va_cpy f f P Q (k + 1))))]) (by rw [cpy_step f P Q k hd (by omega)]) ?_
      exact ih_L1 (by omega)
  refine V.lvs [1, 2, 3, 0] (lv2 := [(0, .ref h), (1, .int (nI P)), (2, .int (nI Q)), (3, .int (nI 0))]) rfl ?_
  refine V.weq (ws2 := [mO h ad i, (ad 0, .inl (M.G.2 0, 402, .inl (va_cpy f f P Q 0)))]) (by rw [cpy_0]) ?_
  exact L1 0 (by omega)
