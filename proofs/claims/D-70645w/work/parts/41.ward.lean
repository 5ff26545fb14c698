set_option maxRecDepth 100000
set_option maxHeartbeats 4000000 in
theorem ct_X5_of (l : Launch) (G : GG) (a0 : Nat) (a1 : Nat) (a2 : Nat) (a3 : Nat) (N : Nat) (g : Pg) (c : Nat) (w : Nat) (hc : c < 5) (hw : w < 4) : Ct l G yX5_of (ws_ yX5_of cX5_of 3 (some .int)) ({ frames := 0, cells := 0, slots := 0, locals := 0 } : Room) [.ref a0, .int (nI c), .int (nI w)] [wO a0 a1 a2 a3 N g, (a1, .inl (G.2 1, 20, .inl (wcl g))), (a2, .inl (G.2 0, 25, .inl (wgt g))), (a3, .inl (G.2 1, 18, .inl (wpl g)))] (fun _ : Unit => some (.int (wof g w c))) (fun _ => True) (fun _ => [wO a0 a1 a2 a3 N g, (a1, .inl (G.2 1, 20, .inl (wcl g))), (a2, .inl (G.2 0, 25, .inl (wgt g))), (a3, .inl (G.2 1, 18, .inl (wpl g)))]) := by
  refine Ct.of rfl rfl ?_
  intro M el eG hnL C T
  subst el
  subst eG
  have C : Cx M cX5_of "ClockWard$Ward" ({ frames := 0, cells := 0, slots := 0, locals := 0 } : Room) := C
  refine V.lvs [0, 1, 2] (lv2 := [(0, .ref a0), (1, .int (nI c)), (2, .int (nI w))]) rfl ?_
  refine V.aload_n (pc' := 1) C 0 dX5_of_0 rfl rfl ?_
  refine V.get (pc' := 4) C dX5_of_1 rfl 0 rfl rfl in_X5 1 rfl q135 rfl ?_
  refine V.iconst (pc' := 5) C dX5_of_4 rfl kci_4 ?_
  refine V.iload_n (pc' := 6) C 1 dX5_of_5 rfl rfl ?_
  refine V.imulN (pc' := 7) C 4 c dX5_of_6 rfl ?_
  refine V.iload_n (pc' := 8) C 2 dX5_of_7 rfl rfl ?_
  refine V.iaddN (pc' := 9) C (4 * c) w dX5_of_8 rfl ?_
  refine V.bald (pc' := 10) C (4 * c + w) dX5_of_9 rfl 1 rfl (by omega) rfl ?_
  refine V.topI (y := wof g w c) (wcl_of hw) ?_
  exact V.iret C T dX5_of_10 () rfl rfl rfl rfl trivial rfl rfl rfl
set_option maxHeartbeats 4000000 in
theorem ct_X5_becomes (l : Launch) (G : GG) (a0 : Nat) (a1 : Nat) (a2 : Nat) (a3 : Nat) (N : Nat) (g : Pg) (c : Nat) (w : Nat) (v : Int32) (hc : c < 5) (hw : w < 4) (hv : bfit v) : Ct l G yX5_becomes (ws_ yX5_becomes cX5_becomes 4 none) ({ frames := 0, cells := 0, slots := 0, locals := 0 } : Room) [.ref a0, .int (nI c), .int (nI w), .int v] [wO a0 a1 a2 a3 N g, (a1, .inl (G.2 1, 20, .inl (wcl g))), (a2, .inl (G.2 0, 25, .inl (wgt g))), (a3, .inl (G.2 1, 18, .inl (wpl g)))] (fun _ : Unit => none) (fun _ => True) (fun _ => [wO a0 a1 a2 a3 N (wput g w c v), (a1, .inl (G.2 1, 20, .inl (wcl (wput g w c v)))), (a2, .inl (G.2 0, 25, .inl (wgt (wput g w c v)))), (a3, .inl (G.2 1, 18, .inl (wpl (wput g w c v))))]) := by
  refine Ct.of rfl rfl ?_
  intro M el eG hnL C T
  subst el
  subst eG
  have C : Cx M cX5_becomes "ClockWard$Ward" ({ frames := 0, cells := 0, slots := 0, locals := 0 } : Room) := C
  refine V.lvs [0, 1, 2, 3] (lv2 := [(0, .ref a0), (1, .int (nI c)), (2, .int (nI w)), (3, .int v)]) rfl ?_
  refine V.aload_n (pc' := 1) C 0 dX5_becomes_0 rfl rfl ?_
  refine V.get (pc' := 4) C dX5_becomes_1 rfl 0 rfl rfl in_X5 1 rfl q135 rfl ?_
  refine V.iconst (pc' := 5) C dX5_becomes_4 rfl kci_4 ?_
  refine V.iload_n (pc' := 6) C 1 dX5_becomes_5 rfl rfl ?_
  refine V.imulN (pc' := 7) C 4 c dX5_becomes_6 rfl ?_
  refine V.iload_n (pc' := 8) C 2 dX5_becomes_7 rfl rfl ?_
  refine V.iaddN (pc' := 9) C (4 * c) w dX5_becomes_8 rfl ?_
  refine V.iload_n (pc' := 10) C 3 dX5_becomes_9 rfl rfl ?_
  refine V.i2b (pc' := 11) C dX5_becomes_10 rfl ?_
  refine V.bast (pc' := 12) C (4 * c + w) [wO a0 a1 a2 a3 N g, (a1, .inl (M.G.2 1, 20, .inl (upd (wcl g) (4 * c + w) v))), (a2, .inl (M.G.2 0, 25, .inl (wgt g))), (a3, .inl (M.G.2 1, 18, .inl (wpl g)))] dX5_becomes_11 rfl 1 rfl (by omega) rfl v ((pk_vb _).trans hv) rfl ?_
  refine V.arr 1 (wcl (wput g w c v)) (ws2 := [wO a0 a1 a2 a3 N g, (a1, .inl (M.G.2 1, 20, .inl (wcl (wput g w c v)))), (a2, .inl (M.G.2 0, 25, .inl (wgt g))), (a3, .inl (M.G.2 1, 18, .inl (wpl g)))]) rfl (wcl_put hw hc) rfl ?_
  exact V.vret C T dX5_becomes_12 () rfl trivial (by have hx := wix_eq (c := c) hw; rw [wput_ix, wO_lo (by omega), wgt_lo (by omega), wpl_lo (by omega)]) rfl rfl
set_option maxHeartbeats 4000000 in
theorem ct_X5_isKin (l : Launch) (G : GG) (a0 : Nat) (a1 : Nat) (a2 : Nat) (a3 : Nat) (N : Nat) (g : Pg) (a : Nat) (b : Nat) (ha : a < 5) (hb : b < 5) : Ct l G yX5_isKin (ws_ yX5_isKin cX5_isKin 3 (some .boolean)) ({ frames := 1, cells := 0, slots := 0, locals := 22 } : Room) [.ref a0, .int (nI a), .int (nI b)] [wO a0 a1 a2 a3 N g, (a1, .inl (G.2 1, 20, .inl (wcl g))), (a2, .inl (G.2 0, 25, .inl (wgt g))), (a3, .inl (G.2 1, 18, .inl (wpl g)))] (fun _ : Unit => some (.int (bI (g (5 + a) = g (5 + b))))) (fun _ => True) (fun _ => [wO a0 a1 a2 a3 N g, (a1, .inl (G.2 1, 20, .inl (wcl g))), (a2, .inl (G.2 0, 25, .inl (wgt g))), (a3, .inl (G.2 1, 18, .inl (wpl g)))]) := by
  refine Ct.of rfl rfl ?_
  intro M el eG hnL C T
  subst el
  subst eG
  have C : Cx M cX5_isKin "ClockWard$Ward" ({ frames := 1, cells := 0, slots := 0, locals := 22 } : Room) := C
  refine V.lvs [0, 1, 2] (lv2 := [(0, .ref a0), (1, .int (nI a)), (2, .int (nI b))]) rfl ?_
  refine V.aload_n (pc' := 1) C 0 dX5_isKin_0 rfl rfl ?_
  refine V.iload_n (pc' := 2) C 1 dX5_isKin_1 rfl rfl ?_
  refine V.iconst (pc' := 3) C dX5_isKin_2 rfl kci_1 ?_
  refine V.callV (pc' := 6) (wr := []) C (ct_X5_of M.l M.G a0 a1 a2 a3 N g a 1 (by omega) (by omega)) dX5_isKin_3 rfl (lw_V q523 q524 q525 q69 q526) hyv_X5_of rfl rfl 0 rfl rfl [0, 1, 2, 3] [] [0, 1, 2, 3] rfl rfl rfl (fun _ => [wO a0 a1 a2 a3 N g, (a1, .inl (M.G.2 1, 20, .inl (wcl g))), (a2, .inl (M.G.2 0, 25, .inl (wgt g))), (a3, .inl (M.G.2 1, 18, .inl (wpl g)))]) (fun _ => rfl) rfl 0 0 rfl rfl (fun _ => [.int (g (5 + a))]) (fun _ => rfl) (fun _ _ => ?_)
  refine V.aload_n (pc' := 7) C 0 dX5_isKin_6 rfl rfl ?_
  refine V.iload_n (pc' := 8) C 2 dX5_isKin_7 rfl rfl ?_
  refine V.iconst (pc' := 9) C dX5_isKin_8 rfl kci_1 ?_
  refine V.callV (pc' := 12) (wr := []) C (ct_X5_of M.l M.G a0 a1 a2 a3 N g b 1 (by omega) (by omega)) dX5_isKin_9 rfl (lw_V q523 q524 q525 q69 q526) hyv_X5_of rfl rfl 0 rfl rfl [0, 1, 2, 3] [] [0, 1, 2, 3] rfl rfl rfl (fun _ => [wO a0 a1 a2 a3 N g, (a1, .inl (M.G.2 1, 20, .inl (wcl g))), (a2, .inl (M.G.2 0, 25, .inl (wgt g))), (a3, .inl (M.G.2 1, 18, .inl (wpl g)))]) (fun _ => rfl) rfl 0 0 rfl rfl (fun _ => [.int (g (5 + b)), .int (g (5 + a))]) (fun _ => rfl) (fun _ _ => ?_)
  have J3 : ∀ (x2 : Int32), x2 = (if (g (5 + a)) = (g (5 + b)) then 1 else 0) → V M 0 0 [wO a0 a1 a2 a3 N g, (a1, .inl (M.G.2 1, 20, .inl (wcl g))), (a2, .inl (M.G.2 0, 25, .inl (wgt g))), (a3, .inl (M.G.2 1, 18, .inl (wpl g)))] [(0, .ref a0), (1, .int (nI a)), (2, .int (nI b))] [.int x2] 20 := by
    intro x2 ex2
    have ex2 : x2 = bI ((g (5 + a)) = (g (5 + b))) := ex2.trans it_10
    subst ex2
    exact V.iret C T dX5_isKin_20 () rfl rfl rfl bI_nar trivial rfl rfl rfl
  refine V.icmp_ne (pc' := 15) C 19 dX5_isKin_12 rfl rfl (fun h1 => ?_) (fun h1 => ?_)
  · refine V.iconst (pc' := 20) C dX5_isKin_19 rfl kci_0 ?_
    exact J3 _ (by rw [if_neg h1])
  · refine V.iconst (pc' := 16) C dX5_isKin_15 rfl kci_1 ?_
    refine V.goto C 20 dX5_isKin_16 rfl ?_
    exact J3 _ (by rw [if_pos h1])
set_option maxHeartbeats 4000000 in
theorem ct_X5_gets (l : Launch) (G : GG) (a0 : Nat) (a1 : Nat) (a2 : Nat) (a3 : Nat) (N : Nat) (g : Pg) (a : Nat) (b : Nat) (n : Int32) (ha : a < 5) (hb : b < 5) : Ct l G yX5_gets (ws_ yX5_gets cX5_gets 4 (some .int)) ({ frames := 2, cells := 0, slots := 0, locals := 44 } : Room) [.ref a0, .int (nI a), .int (nI b), .int n] [wO a0 a1 a2 a3 N g, (a1, .inl (G.2 1, 20, .inl (wcl g))), (a2, .inl (G.2 0, 25, .inl (wgt g))), (a3, .inl (G.2 1, 18, .inl (wpl g)))] (fun _ : Unit => some (.int (gets2 g a b n))) (fun _ => True) (fun _ => [wO a0 a1 a2 a3 N g, (a1, .inl (G.2 1, 20, .inl (wcl g))), (a2, .inl (G.2 0, 25, .inl (wgt g))), (a3, .inl (G.2 1, 18, .inl (wpl g)))]) := by
  refine Ct.of rfl rfl ?_
  intro M el eG hnL C T
  subst el
  subst eG
  have C : Cx M cX5_gets "ClockWard$Ward" ({ frames := 2, cells := 0, slots := 0, locals := 44 } : Room) := C
  refine V.lvs [0, 1, 2, 3] (lv2 := [(0, .ref a0), (1, .int (nI a)), (2, .int (nI b)), (3, .int n)]) rfl ?_
  refine V.aload_n (pc' := 1) C 0 dX5_gets_0 rfl rfl ?_
  refine V.iload_n (pc' := 2) C 1 dX5_gets_1 rfl rfl ?_
  refine V.iload_n (pc' := 3) C 2 dX5_gets_2 rfl rfl ?_
  refine V.callV (pc' := 6) (wr := []) C (ct_X5_isKin M.l M.G a0 a1 a2 a3 N g a b (by omega) (by omega)) dX5_gets_3 rfl (lw_V q614 q615 q616 q69 q617) hyv_X5_isKin rfl rfl 0 rfl rfl [0, 1, 2, 3] [] [0, 1, 2, 3] rfl rfl rfl (fun _ => [wO a0 a1 a2 a3 N g, (a1, .inl (M.G.2 1, 20, .inl (wcl g))), (a2, .inl (M.G.2 0, 25, .inl (wgt g))), (a3, .inl (M.G.2 1, 18, .inl (wpl g)))]) (fun _ => rfl) rfl 0 0 rfl rfl (fun _ => [.int (bI (g (5 + a) = g (5 + b)))]) (fun _ => rfl) (fun _ _ => ?_)
  have J3 : ∀ (x2 : Int32), x2 = (if g (5 + a) = g (5 + b) then n else n - (n / 3)) → V M 0 0 [wO a0 a1 a2 a3 N g, (a1, .inl (M.G.2 1, 20, .inl (wcl g))), (a2, .inl (M.G.2 0, 25, .inl (wgt g))), (a3, .inl (M.G.2 1, 18, .inl (wpl g)))] [(0, .ref a0), (1, .int (nI a)), (2, .int (nI b)), (3, .int n)] [.int x2] 18 := by
    intro x2 ex2
    subst ex2
    exact V.iret C T dX5_gets_18 () rfl rfl rfl rfl trivial rfl rfl rfl
  refine V.if_eqB (pc' := 9) C 13 dX5_gets_6 rfl rfl (fun h1 => ?_) (fun h1 => ?_)
  · refine V.iload_n (pc' := 14) C 3 dX5_gets_13 rfl rfl ?_
    refine V.iload_n (pc' := 15) C 3 dX5_gets_14 rfl rfl ?_
    refine V.iconst (pc' := 16) C dX5_gets_15 rfl kci_3 ?_
    refine V.idiv (pc' := 17) C (by decide) dX5_gets_16 rfl ?_
    refine V.isub (pc' := 18) C dX5_gets_17 rfl ?_
    exact J3 _ (by rw [if_neg h1])
  · refine V.iload_n (pc' := 10) C 3 dX5_gets_9 rfl rfl ?_
    refine V.goto C 18 dX5_gets_10 rfl ?_
    exact J3 _ (by rw [if_pos h1])
set_option maxHeartbeats 4000000 in
theorem ct_X5_mayBe (l : Launch) (G : GG) (a0 : Nat) (a1 : Nat) (a2 : Nat) (a3 : Nat) (N : Nat) (g : Pg) (a : Nat) (b : Nat) (n : Int32) (ha : a < 5) (hb : b < 5) : Ct l G yX5_mayBe (ws_ yX5_mayBe cX5_mayBe 5 (some .boolean)) ({ frames := 3, cells := 0, slots := 0, locals := 67 } : Room) [.ref a0, .int (nI a), .int (nI b), .int n] [wO a0 a1 a2 a3 N g, (a1, .inl (G.2 1, 20, .inl (wcl g))), (a2, .inl (G.2 0, 25, .inl (wgt g))), (a3, .inl (G.2 1, 18, .inl (wpl g)))] (fun _ : Unit => some (.int (bI (may2 g g a b n)))) (fun _ => True) (fun _ => [wO a0 a1 a2 a3 N g, (a1, .inl (G.2 1, 20, .inl (wcl g))), (a2, .inl (G.2 0, 25, .inl (wgt g))), (a3, .inl (G.2 1, 18, .inl (wpl g)))]) := by
  refine Ct.of rfl rfl ?_
  intro M el eG hnL C T
  subst el
  subst eG
  have C : Cx M cX5_mayBe "ClockWard$Ward" ({ frames := 3, cells := 0, slots := 0, locals := 67 } : Room) := C
  refine V.lvs [0, 1, 2, 3] (lv2 := [(0, .ref a0), (1, .int (nI a)), (2, .int (nI b)), (3, .int n)]) rfl ?_
  refine V.aload_n (pc' := 1) C 0 dX5_mayBe_0 rfl rfl ?_
  refine V.iload_n (pc' := 2) C 1 dX5_mayBe_1 rfl rfl ?_
  refine V.iload_n (pc' := 3) C 2 dX5_mayBe_2 rfl rfl ?_
  refine V.callV (pc' := 6) (wr := []) C (ct_X5_isKin M.l M.G a0 a1 a2 a3 N g a b (by omega) (by omega)) dX5_mayBe_3 rfl (lw_V q614 q615 q616 q69 q617) hyv_X5_isKin rfl rfl 0 rfl rfl [0, 1, 2, 3] [] [0, 1, 2, 3] rfl rfl rfl (fun _ => [wO a0 a1 a2 a3 N g, (a1, .inl (M.G.2 1, 20, .inl (wcl g))), (a2, .inl (M.G.2 0, 25, .inl (wgt g))), (a3, .inl (M.G.2 1, 18, .inl (wpl g)))]) (fun _ => rfl) rfl 0 0 rfl rfl (fun _ => [.int (bI (g (5 + a) = g (5 + b)))]) (fun _ => rfl) (fun _ _ => ?_)
  have J3 : ∀ (x2 : Int32), x2 = (if g (5 + a) = g (5 + b) then 1 else if (g a) = 2 then if (g b) = 1 then 0 else 1 else 0) → V M 0 0 [wO a0 a1 a2 a3 N g, (a1, .inl (M.G.2 1, 20, .inl (wcl g))), (a2, .inl (M.G.2 0, 25, .inl (wgt g))), (a3, .inl (M.G.2 1, 18, .inl (wpl g)))] [(0, .ref a0), (1, .int (nI a)), (2, .int (nI b)), (3, .int n)] [.int x2] 34 := by
    intro x2 ex2
    have ex2 : x2 = bI ((g (5 + a) = g (5 + b)) ∨ (((g a) = 2) ∧ (¬ ((g b) = 1)))) := ex2.trans (it_1 (it_a it_01))
    subst ex2
    refine V.istore (pc' := 36) C [(4, .int (bI ((g (5 + a) = g (5 + b)) ∨ (((g a) = 2) ∧ (¬ ((g b) = 1)))))), (0, .ref a0), (1, .int (nI a)), (2, .int (nI b)), (3, .int n)] dX5_mayBe_34 rfl 5 hnL rfl rfl ?_
    refine V.iload (pc' := 38) C 0 dX5_mayBe_36 rfl rfl ?_
    have J6 : ∀ (x5 : Int32), x5 = (if (g (5 + a) = g (5 + b)) ∨ (((g a) = 2) ∧ (¬ ((g b) = 1))) then if ((g (15 + a)) - n) < (g 20 + 40) then 0 else if 99 < ((g (15 + b)) + (gets2 g a b n)) then 0 else 1 else 0) → V M 0 0 [wO a0 a1 a2 a3 N g, (a1, .inl (M.G.2 1, 20, .inl (wcl g))), (a2, .inl (M.G.2 0, 25, .inl (wgt g))), (a3, .inl (M.G.2 1, 18, .inl (wpl g)))] [(4, .int (bI ((g (5 + a) = g (5 + b)) ∨ (((g a) = 2) ∧ (¬ ((g b) = 1)))))), (0, .ref a0), (1, .int (nI a)), (2, .int (nI b)), (3, .int n)] [.int x5] 80 := by
      intro x5 ex5
      have ex5 : x5 = bI (((g (5 + a) = g (5 + b)) ∨ (((g a) = 2) ∧ (¬ ((g b) = 1)))) ∧ (¬ (((g (15 + a)) - n) < (g 20 + 40)) ∧ (¬ (99 < ((g (15 + b)) + (gets2 g a b n)))))) := ex5.trans (it_a (it_0 it_01))
      subst ex5
      exact V.iret C T dX5_mayBe_80 () rfl rfl rfl bI_nar trivial rfl rfl rfl
    refine V.if_eqB (pc' := 41) C 79 dX5_mayBe_38 rfl rfl (fun h4 => ?_) (fun h4 => ?_)
    · refine V.iconst (pc' := 80) C dX5_mayBe_79 rfl kci_0 ?_
      exact J6 _ (by rw [if_neg h4])
    · refine V.aload_n (pc' := 42) C 1 dX5_mayBe_41 rfl rfl ?_
      refine V.iload_n (pc' := 43) C 2 dX5_mayBe_42 rfl rfl ?_
      refine V.iconst (pc' := 44) C dX5_mayBe_43 rfl kci_3 ?_
      refine V.callV (pc' := 47) (wr := []) C (ct_X5_of M.l M.G a0 a1 a2 a3 N g a 3 (by omega) (by omega)) dX5_mayBe_44 rfl (lw_V q523 q524 q525 q69 q526) hyv_X5_of rfl rfl 0 rfl rfl [0, 1, 2, 3] [] [0, 1, 2, 3] rfl rfl rfl (fun _ => [wO a0 a1 a2 a3 N g, (a1, .inl (M.G.2 1, 20, .inl (wcl g))), (a2, .inl (M.G.2 0, 25, .inl (wgt g))), (a3, .inl (M.G.2 1, 18, .inl (wpl g)))]) (fun _ => rfl) rfl 0 0 rfl rfl (fun _ => [.int (g (15 + a))]) (fun _ => rfl) (fun _ _ => ?_)
      refine V.iload_n (pc' := 48) C 4 dX5_mayBe_47 rfl rfl ?_
      refine V.isub (pc' := 49) C dX5_mayBe_48 rfl ?_
      refine V.aload_n (pc' := 50) C 1 dX5_mayBe_49 rfl rfl ?_
      refine V.get (pc' := 53) C dX5_mayBe_50 rfl 0 rfl rfl in_X5 2 rfl q136 rfl ?_
      refine V.icmp_lt (pc' := 56) C 79 dX5_mayBe_53 rfl rfl (fun h5 => ?_) (fun h5 => ?_)
      · refine V.iconst (pc' := 80) C dX5_mayBe_79 rfl kci_0 ?_
        exact J6 _ (by rw [if_pos h4, if_pos h5])
      · refine V.aload_n (pc' := 57) C 1 dX5_mayBe_56 rfl rfl ?_
        refine V.iload_n (pc' := 58) C 3 dX5_mayBe_57 rfl rfl ?_
        refine V.iconst (pc' := 59) C dX5_mayBe_58 rfl kci_3 ?_
        refine V.callV (pc' := 62) (wr := []) C (ct_X5_of M.l M.G a0 a1 a2 a3 N g b 3 (by omega) (by omega)) dX5_mayBe_59 rfl (lw_V q523 q524 q525 q69 q526) hyv_X5_of rfl rfl 0 rfl rfl [0, 1, 2, 3] [] [0, 1, 2, 3] rfl rfl rfl (fun _ => [wO a0 a1 a2 a3 N g, (a1, .inl (M.G.2 1, 20, .inl (wcl g))), (a2, .inl (M.G.2 0, 25, .inl (wgt g))), (a3, .inl (M.G.2 1, 18, .inl (wpl g)))]) (fun _ => rfl) rfl 0 0 rfl rfl (fun _ => [.int (g (15 + b))]) (fun _ => rfl) (fun _ _ => ?_)
        refine V.aload_n (pc' := 63) C 1 dX5_mayBe_62 rfl rfl ?_
        refine V.iload_n (pc' := 64) C 2 dX5_mayBe_63 rfl rfl ?_
        refine V.iload_n (pc' := 65) C 3 dX5_mayBe_64 rfl rfl ?_
        refine V.iload_n (pc' := 66) C 4 dX5_mayBe_65 rfl rfl ?_
        refine V.callV (pc' := 69) (wr := []) C (ct_X5_gets M.l M.G a0 a1 a2 a3 N g a b n (by omega) (by omega)) dX5_mayBe_66 rfl (lw_V q618 q619 q620 q69 q621) hyv_X5_gets rfl rfl 0 rfl rfl [0, 1, 2, 3] [] [0, 1, 2, 3] rfl rfl rfl (fun _ => [wO a0 a1 a2 a3 N g, (a1, .inl (M.G.2 1, 20, .inl (wcl g))), (a2, .inl (M.G.2 0, 25, .inl (wgt g))), (a3, .inl (M.G.2 1, 18, .inl (wpl g)))]) (fun _ => rfl) rfl 0 0 rfl rfl (fun _ => [.int (gets2 g a b n), .int (g (15 + b))]) (fun _ => rfl) (fun _ _ => ?_)
        refine V.iadd (pc' := 70) C dX5_mayBe_69 rfl ?_
        refine V.bipush (pc' := 72) C dX5_mayBe_70 rfl kcb_99 ?_
        refine V.icmp_gt (pc' := 75) C 79 dX5_mayBe_72 rfl rfl (fun h6 => ?_) (fun h6 => ?_)
        · refine V.iconst (pc' := 80) C dX5_mayBe_79 rfl kci_0 ?_
          exact J6 _ (by rw [if_pos h4, if_neg h5, if_pos h6])
        · refine V.iconst (pc' := 76) C dX5_mayBe_75 rfl kci_1 ?_
          refine V.goto C 80 dX5_mayBe_76 rfl ?_
          exact J6 _ (by rw [if_pos h4, if_neg h5, if_neg h6])
  refine V.if_neB (pc' := 9) C 29 dX5_mayBe_6 rfl rfl (fun h1 => ?_) (fun h1 => ?_)
  · refine V.iconst (pc' := 30) C dX5_mayBe_29 rfl kci_1 ?_
    refine V.goto C 34 dX5_mayBe_30 rfl ?_
    exact J3 _ (by rw [if_pos h1])
  · refine V.aload_n (pc' := 10) C 0 dX5_mayBe_9 rfl rfl ?_
    refine V.iload_n (pc' := 11) C 1 dX5_mayBe_10 rfl rfl ?_
    refine V.iconst (pc' := 12) C dX5_mayBe_11 rfl kci_0 ?_
    refine V.callV (pc' := 15) (wr := []) C (ct_X5_of M.l M.G a0 a1 a2 a3 N g a 0 (by omega) (by omega)) dX5_mayBe_12 rfl (lw_V q523 q524 q525 q69 q526) hyv_X5_of rfl rfl 0 rfl rfl [0, 1, 2, 3] [] [0, 1, 2, 3] rfl rfl rfl (fun _ => [wO a0 a1 a2 a3 N g, (a1, .inl (M.G.2 1, 20, .inl (wcl g))), (a2, .inl (M.G.2 0, 25, .inl (wgt g))), (a3, .inl (M.G.2 1, 18, .inl (wpl g)))]) (fun _ => rfl) rfl 0 0 rfl rfl (fun _ => [.int (g a)]) (fun _ => rfl) (fun _ _ => ?_)
    refine V.iconst (pc' := 16) C dX5_mayBe_15 rfl kci_2 ?_
    refine V.icmp_ne (pc' := 19) C 33 dX5_mayBe_16 rfl rfl (fun h2 => ?_) (fun h2 => ?_)
    · refine V.iconst (pc' := 34) C dX5_mayBe_33 rfl kci_0 ?_
      exact J3 _ (by rw [if_neg h1, if_neg h2])
    · refine V.aload_n (pc' := 20) C 0 dX5_mayBe_19 rfl rfl ?_
      refine V.iload_n (pc' := 21) C 2 dX5_mayBe_20 rfl rfl ?_
      refine V.iconst (pc' := 22) C dX5_mayBe_21 rfl kci_0 ?_
      refine V.callV (pc' := 25) (wr := []) C (ct_X5_of M.l M.G a0 a1 a2 a3 N g b 0 (by omega) (by omega)) dX5_mayBe_22 rfl (lw_V q523 q524 q525 q69 q526) hyv_X5_of rfl rfl 0 rfl rfl [0, 1, 2, 3] [] [0, 1, 2, 3] rfl rfl rfl (fun _ => [wO a0 a1 a2 a3 N g, (a1, .inl (M.G.2 1, 20, .inl (wcl g))), (a2, .inl (M.G.2 0, 25, .inl (wgt g))), (a3, .inl (M.G.2 1, 18, .inl (wpl g)))]) (fun _ => rfl) rfl 0 0 rfl rfl (fun _ => [.int (g b)]) (fun _ => rfl) (fun _ _ => ?_)
      refine V.iconst (pc' := 26) C dX5_mayBe_25 rfl kci_1 ?_
      refine V.icmp_eq (pc' := 29) C 33 dX5_mayBe_26 rfl rfl (fun h3 => ?_) (fun h3 => ?_)
      · refine V.iconst (pc' := 34) C dX5_mayBe_33 rfl kci_0 ?_
        exact J3 _ (by rw [if_neg h1, if_pos h2, if_pos h3])
      · refine V.iconst (pc' := 30) C dX5_mayBe_29 rfl kci_1 ?_
        refine V.goto C 34 dX5_mayBe_30 rfl ?_
        exact J3 _ (by rw [if_neg h1, if_pos h2, if_neg h3])
set_option maxHeartbeats 4000000 in
theorem ct_X5_gives (l : Launch) (G : GG) (a0 : Nat) (a1 : Nat) (a2 : Nat) (a3 : Nat) (N : Nat) (g : Pg) (a : Nat) (b : Nat) (n : Int32) (ha : a < 5) (hb : b < 5) (hfa : bfit (g (15 + a) - n)) (hfb : bfit ((upd g (15 + a) (g (15 + a) - n)) (15 + b) + gets2 g a b n)) : Ct l G yX5_gives (ws_ yX5_gives cX5_gives 5 none) ({ frames := 3, cells := 0, slots := 0, locals := 67 } : Room) [.ref a0, .int (nI a), .int (nI b), .int n] [wO a0 a1 a2 a3 N g, (a1, .inl (G.2 1, 20, .inl (wcl g))), (a2, .inl (G.2 0, 25, .inl (wgt g))), (a3, .inl (G.2 1, 18, .inl (wpl g)))] (fun _ : Unit => none) (fun _ => True) (fun _ => [wO a0 a1 a2 a3 N (give2 g g a b n), (a1, .inl (G.2 1, 20, .inl (wcl (give2 g g a b n)))), (a2, .inl (G.2 0, 25, .inl (wgt (give2 g g a b n)))), (a3, .inl (G.2 1, 18, .inl (wpl (give2 g g a b n))))]) := by
  refine Ct.of rfl rfl ?_
  intro M el eG hnL C T
  subst el
  subst eG
  have C : Cx M cX5_gives "ClockWard$Ward" ({ frames := 3, cells := 0, slots := 0, locals := 67 } : Room) := C
  refine V.lvs [0, 1, 2, 3] (lv2 := [(0, .ref a0), (1, .int (nI a)), (2, .int (nI b)), (3, .int n)]) rfl ?_
  refine V.aload_n (pc' := 1) C 0 dX5_gives_0 rfl rfl ?_
  refine V.iload_n (pc' := 2) C 1 dX5_gives_1 rfl rfl ?_
  refine V.iload_n (pc' := 3) C 2 dX5_gives_2 rfl rfl ?_
  refine V.iload_n (pc' := 4) C 3 dX5_gives_3 rfl rfl ?_
  refine V.callV (pc' := 7) (wr := []) C (ct_X5_gets M.l M.G a0 a1 a2 a3 N g a b n (by omega) (by omega)) dX5_gives_4 rfl (lw_V q618 q619 q620 q69 q621) hyv_X5_gets rfl rfl 0 rfl rfl [0, 1, 2, 3] [] [0, 1, 2, 3] rfl rfl rfl (fun _ => [wO a0 a1 a2 a3 N g, (a1, .inl (M.G.2 1, 20, .inl (wcl g))), (a2, .inl (M.G.2 0, 25, .inl (wgt g))), (a3, .inl (M.G.2 1, 18, .inl (wpl g)))]) (fun _ => rfl) rfl 0 0 rfl rfl (fun _ => [.int (gets2 g a b n)]) (fun _ => rfl) (fun _ _ => ?_)
  refine V.istore (pc' := 9) C [(4, .int (gets2 g a b n)), (0, .ref a0), (1, .int (nI a)), (2, .int (nI b)), (3, .int n)] dX5_gives_7 rfl 5 hnL rfl rfl ?_
  refine V.aload_n (pc' := 10) C 1 dX5_gives_9 rfl rfl ?_
  refine V.iload_n (pc' := 11) C 2 dX5_gives_10 rfl rfl ?_
  refine V.iconst (pc' := 12) C dX5_gives_11 rfl kci_3 ?_
  refine V.aload_n (pc' := 13) C 1 dX5_gives_12 rfl rfl ?_
  refine V.iload_n (pc' := 14) C 2 dX5_gives_13 rfl rfl ?_
  refine V.iconst (pc' := 15) C dX5_gives_14 rfl kci_3 ?_
  refine V.callV (pc' := 18) (wr := []) C (ct_X5_of M.l M.G a0 a1 a2 a3 N g a 3 (by omega) (by omega)) dX5_gives_15 rfl (lw_V q523 q524 q525 q69 q526) hyv_X5_of rfl rfl 0 rfl rfl [0, 1, 2, 3] [] [0, 1, 2, 3] rfl rfl rfl (fun _ => [wO a0 a1 a2 a3 N g, (a1, .inl (M.G.2 1, 20, .inl (wcl g))), (a2, .inl (M.G.2 0, 25, .inl (wgt g))), (a3, .inl (M.G.2 1, 18, .inl (wpl g)))]) (fun _ => rfl) rfl 0 0 rfl rfl (fun _ => [.int (g (15 + a)), .int 3, .int (nI a), .ref a0]) (fun _ => rfl) (fun _ _ => ?_)
  refine V.iload_n (pc' := 19) C 4 dX5_gives_18 rfl rfl ?_
  refine V.isub (pc' := 20) C dX5_gives_19 rfl ?_
  refine V.callV (pc' := 23) (wr := []) C (ct_X5_becomes M.l M.G a0 a1 a2 a3 N g a 3 ((g (15 + a)) - n) (by omega) (by omega) hfa) dX5_gives_20 rfl (lw_V q630 q501 q502 q69 q503) hyv_X5_becomes rfl rfl 0 rfl rfl [0, 1, 2, 3] [] [0, 1, 2, 3] rfl rfl rfl (fun _ => [wO a0 a1 a2 a3 N (upd g (15 + a) ((g (15 + a)) - n)), (a1, .inl (M.G.2 1, 20, .inl (wcl (upd g (15 + a) ((g (15 + a)) - n))))), (a2, .inl (M.G.2 0, 25, .inl (wgt (upd g (15 + a) ((g (15 + a)) - n))))), (a3, .inl (M.G.2 1, 18, .inl (wpl (upd g (15 + a) ((g (15 + a)) - n)))))]) (fun _ => rfl) rfl 0 0 rfl rfl (fun _ => []) (fun _ => rfl) (fun _ _ => ?_)
  refine V.aload_n (pc' := 24) C 1 dX5_gives_23 rfl rfl ?_
  refine V.iload_n (pc' := 25) C 3 dX5_gives_24 rfl rfl ?_
  refine V.iconst (pc' := 26) C dX5_gives_25 rfl kci_3 ?_
  refine V.aload_n (pc' := 27) C 1 dX5_gives_26 rfl rfl ?_
  refine V.iload_n (pc' := 28) C 3 dX5_gives_27 rfl rfl ?_
  refine V.iconst (pc' := 29) C dX5_gives_28 rfl kci_3 ?_
  refine V.callV (pc' := 32) (wr := []) C (ct_X5_of M.l M.G a0 a1 a2 a3 N (upd g (15 + a) ((g (15 + a)) - n)) b 3 (by omega) (by omega)) dX5_gives_29 rfl (lw_V q523 q524 q525 q69 q526) hyv_X5_of rfl rfl 0 rfl rfl [0, 1, 2, 3] [] [0, 1, 2, 3] rfl rfl rfl (fun _ => [wO a0 a1 a2 a3 N (upd g (15 + a) ((g (15 + a)) - n)), (a1, .inl (M.G.2 1, 20, .inl (wcl (upd g (15 + a) ((g (15 + a)) - n))))), (a2, .inl (M.G.2 0, 25, .inl (wgt (upd g (15 + a) ((g (15 + a)) - n))))), (a3, .inl (M.G.2 1, 18, .inl (wpl (upd g (15 + a) ((g (15 + a)) - n)))))]) (fun _ => rfl) rfl 0 0 rfl rfl (fun _ => [.int ((upd g (15 + a) ((g (15 + a)) - n)) (15 + b)), .int 3, .int (nI b), .ref a0]) (fun _ => rfl) (fun _ _ => ?_)
  refine V.iload (pc' := 34) C 0 dX5_gives_32 rfl rfl ?_
  refine V.iadd (pc' := 35) C dX5_gives_34 rfl ?_
  refine V.callV (pc' := 38) (wr := []) C (ct_X5_becomes M.l M.G a0 a1 a2 a3 N (upd g (15 + a) ((g (15 + a)) - n)) b 3 (((upd g (15 + a) ((g (15 + a)) - n)) (15 + b)) + (gets2 g a b n)) (by omega) (by omega) hfb) dX5_gives_35 rfl (lw_V q630 q501 q502 q69 q503) hyv_X5_becomes rfl rfl 0 rfl rfl [0, 1, 2, 3] [] [0, 1, 2, 3] rfl rfl rfl (fun _ => [wO a0 a1 a2 a3 N (upd (upd g (15 + a) ((g (15 + a)) - n)) (15 + b) (((upd g (15 + a) ((g (15 + a)) - n)) (15 + b)) + (gets2 g a b n))), (a1, .inl (M.G.2 1, 20, .inl (wcl (upd (upd g (15 + a) ((g (15 + a)) - n)) (15 + b) (((upd g (15 + a) ((g (15 + a)) - n)) (15 + b)) + (gets2 g a b n)))))), (a2, .inl (M.G.2 0, 25, .inl (wgt (upd (upd g (15 + a) ((g (15 + a)) - n)) (15 + b) (((upd g (15 + a) ((g (15 + a)) - n)) (15 + b)) + (gets2 g a b n)))))), (a3, .inl (M.G.2 1, 18, .inl (wpl (upd (upd g (15 + a) ((g (15 + a)) - n)) (15 + b) (((upd g (15 + a) ((g (15 + a)) - n)) (15 + b)) + (gets2 g a b n))))))]) (fun _ => rfl) rfl 0 0 rfl rfl (fun _ => []) (fun _ => rfl) (fun _ _ => ?_)
  refine V.aload_n (pc' := 39) C 1 dX5_gives_38 rfl rfl ?_
  refine V.get (pc' := 42) C dX5_gives_39 rfl 0 rfl rfl in_X5 5 rfl q143 rfl ?_
  refine V.iconst (pc' := 43) C dX5_gives_42 rfl kci_5 ?_
  refine V.iload_n (pc' := 44) C 3 dX5_gives_43 rfl rfl ?_
  refine V.imulN (pc' := 45) C 5 b dX5_gives_44 rfl ?_
  refine V.iload_n (pc' := 46) C 2 dX5_gives_45 rfl rfl ?_
  refine V.iaddN (pc' := 47) C (5 * b) a dX5_gives_46 rfl ?_
  refine V.dup2 (pc' := 48) C rfl rfl dX5_gives_47 rfl ?_
  refine V.iald (pc' := 49) C (5 * b + a) dX5_gives_48 rfl 2 rfl (by omega) rfl ?_
  refine V.topI (y := g (23 + (5 * b + a))) (by show (upd (upd g (15 + a) (g (15 + a) - n)) (15 + b) ((upd g (15 + a) (g (15 + a) - n)) (15 + b) + gets2 g a b n)) (23 + (5 * b + a)) = _; rw [upd_n (by omega), upd_n (by omega)]) ?_
  refine V.iload (pc' := 51) C 0 dX5_gives_49 rfl rfl ?_
  refine V.iadd (pc' := 52) C dX5_gives_51 rfl ?_
  refine V.iast (pc' := 53) C (5 * b + a) [wO a0 a1 a2 a3 N (upd (upd g (15 + a) ((g (15 + a)) - n)) (15 + b) (((upd g (15 + a) ((g (15 + a)) - n)) (15 + b)) + (gets2 g a b n))), (a1, .inl (M.G.2 1, 20, .inl (wcl (upd (upd g (15 + a) ((g (15 + a)) - n)) (15 + b) (((upd g (15 + a) ((g (15 + a)) - n)) (15 + b)) + (gets2 g a b n)))))), (a2, .inl (M.G.2 0, 25, .inl (upd (wgt (upd (upd g (15 + a) ((g (15 + a)) - n)) (15 + b) (((upd g (15 + a) ((g (15 + a)) - n)) (15 + b)) + (gets2 g a b n)))) (5 * b + a) ((g (23 + (5 * b + a))) + (gets2 g a b n))))), (a3, .inl (M.G.2 1, 18, .inl (wpl (upd (upd g (15 + a) ((g (15 + a)) - n)) (15 + b) (((upd g (15 + a) ((g (15 + a)) - n)) (15 + b)) + (gets2 g a b n))))))] dX5_gives_52 rfl 2 rfl (by omega) rfl ((g (23 + (5 * b + a))) + (gets2 g a b n)) rfl rfl ?_
  refine V.aload_n (pc' := 54) C 1 dX5_gives_53 rfl rfl ?_
  refine V.dup (pc' := 55) C rfl dX5_gives_54 rfl ?_
  refine V.get (pc' := 58) C dX5_gives_55 rfl 0 rfl rfl in_X5 4 rfl q141 rfl ?_
  refine V.topI (y := g 22) (by rw [upd_n (by omega), upd_n (by omega)]) ?_
  refine V.iload_n (pc' := 59) C 4 dX5_gives_58 rfl rfl ?_
  refine V.iload (pc' := 61) C 0 dX5_gives_59 rfl rfl ?_
  refine V.isub (pc' := 62) C dX5_gives_61 rfl ?_
  refine V.iadd (pc' := 63) C dX5_gives_62 rfl ?_
  refine V.put (pc' := 66) C [(a0, .inr (5, [.int (nI N), .ref a1, .int ((upd (upd g (15 + a) ((g (15 + a)) - n)) (15 + b) (((upd g (15 + a) ((g (15 + a)) - n)) (15 + b)) + (gets2 g a b n))) 20 + 40), .int ((upd (upd g (15 + a) ((g (15 + a)) - n)) (15 + b) (((upd g (15 + a) ((g (15 + a)) - n)) (15 + b)) + (gets2 g a b n))) 21), .int ((g 22) + (n - (gets2 g a b n))), .ref a2, .int ((upd (upd g (15 + a) ((g (15 + a)) - n)) (15 + b) (((upd g (15 + a) ((g (15 + a)) - n)) (15 + b)) + (gets2 g a b n))) 66), .ref a3])), (a1, .inl (M.G.2 1, 20, .inl (wcl (upd (upd g (15 + a) ((g (15 + a)) - n)) (15 + b) (((upd g (15 + a) ((g (15 + a)) - n)) (15 + b)) + (gets2 g a b n)))))), (a2, .inl (M.G.2 0, 25, .inl (upd (wgt (upd (upd g (15 + a) ((g (15 + a)) - n)) (15 + b) (((upd g (15 + a) ((g (15 + a)) - n)) (15 + b)) + (gets2 g a b n)))) (5 * b + a) ((g (23 + (5 * b + a))) + (gets2 g a b n))))), (a3, .inl (M.G.2 1, 18, .inl (wpl (upd (upd g (15 + a) ((g (15 + a)) - n)) (15 + b) (((upd g (15 + a) ((g (15 + a)) - n)) (15 + b)) + (gets2 g a b n))))))] dX5_gives_63 rfl 0 rfl rfl in_X5 tyX5_ok nmX5 4 rfl q141 rfl rfl rfl rfl rfl ?_
  refine V.arr 1 (wcl (give2 g g a b n)) (ws2 := [(a0, .inr (5, [.int (nI N), .ref a1, .int ((upd (upd g (15 + a) ((g (15 + a)) - n)) (15 + b) (((upd g (15 + a) ((g (15 + a)) - n)) (15 + b)) + (gets2 g a b n))) 20 + 40), .int ((upd (upd g (15 + a) ((g (15 + a)) - n)) (15 + b) (((upd g (15 + a) ((g (15 + a)) - n)) (15 + b)) + (gets2 g a b n))) 21), .int ((g 22) + (n - (gets2 g a b n))), .ref a2, .int ((upd (upd g (15 + a) ((g (15 + a)) - n)) (15 + b) (((upd g (15 + a) ((g (15 + a)) - n)) (15 + b)) + (gets2 g a b n))) 66), .ref a3])), (a1, .inl (M.G.2 1, 20, .inl (wcl (give2 g g a b n)))), (a2, .inl (M.G.2 0, 25, .inl (upd (wgt (upd (upd g (15 + a) ((g (15 + a)) - n)) (15 + b) (((upd g (15 + a) ((g (15 + a)) - n)) (15 + b)) + (gets2 g a b n)))) (5 * b + a) ((g (23 + (5 * b + a))) + (gets2 g a b n))))), (a3, .inl (M.G.2 1, 18, .inl (wpl (upd (upd g (15 + a) ((g (15 + a)) - n)) (15 + b) (((upd g (15 + a) ((g (15 + a)) - n)) (15 + b)) + (gets2 g a b n))))))]) rfl (fun j hj => by rw [← give2_cls hb ha]; exact (wcl_hi (k := 23 + (5 * b + a)) (by omega) j hj).trans (wcl_hi (k := 22) (by omega) j hj)) rfl ?_
  exact V.vret C T dX5_gives_66 () rfl trivial (by rw [← give2_cls hb ha, wO_lost (by omega), wgt_lo (k := 22) (by omega), ← wgt_put, wpl_lo (k := 22) (by omega), wpl_lo (k := 23 + (5 * b + a)) (by omega)]) rfl rfl
set_option maxHeartbeats 4000000 in
theorem ct_X5_right (l : Launch) (G : GG) (a0 : Nat) (a1 : Nat) (a2 : Nat) (a3 : Nat) (N : Nat) (g : Pg) (hN5 : N ≤ 5) : Ct l G yX5_right (ws_ yX5_right cX5_right 3 (some .int)) ({ frames := 1, cells := 0, slots := 0, locals := 22 } : Room) [.ref a0] [wO a0 a1 a2 a3 N g, (a1, .inl (G.2 1, 20, .inl (wcl g))), (a2, .inl (G.2 0, 25, .inl (wgt g))), (a3, .inl (G.2 1, 18, .inl (wpl g)))] (fun _ : Unit => some (.int (rightTo g N))) (fun _ => True) (fun _ => [wO a0 a1 a2 a3 N g, (a1, .inl (G.2 1, 20, .inl (wcl g))), (a2, .inl (G.2 0, 25, .inl (wgt g))), (a3, .inl (G.2 1, 18, .inl (wpl g)))]) := by
  refine Ct.of rfl rfl ?_
  intro M el eG hnL C T
  subst el
  subst eG
  have C : Cx M cX5_right "ClockWard$Ward" ({ frames := 1, cells := 0, slots := 0, locals := 22 } : Room) := C
  refine V.lvs [0] (lv2 := [(0, .ref a0)]) rfl ?_
  refine V.iconst (pc' := 1) C dX5_right_0 rfl kci_0 ?_
  refine V.istore_n (pc' := 2) C [(1, .int 0), (0, .ref a0)] dX5_right_1 rfl 3 hnL rfl rfl ?_
  refine V.iconst (pc' := 3) C dX5_right_2 rfl kci_0 ?_
  refine V.istore_n (pc' := 4) C [(2, .int 0), (1, .int 0), (0, .ref a0)] dX5_right_3 rfl 3 hnL rfl rfl ?_
  have L1 : ∀ c : Nat, c ≤ N → V M 0 0 [wO a0 a1 a2 a3 N g, (a1, .inl (M.G.2 1, 20, .inl (wcl g))), (a2, .inl (M.G.2 0, 25, .inl (wgt g))), (a3, .inl (M.G.2 1, 18, .inl (wpl g)))] [(0, .ref a0), (1, .int (rightTo g c)), (2, .int (nI c))] [] 4 := by
    refine loopN _ N (fun c hc ih_L1 => ?_)
    refine V.iload_n (pc' := 5) C 2 dX5_right_4 rfl rfl ?_
    refine V.aload_n (pc' := 6) C 0 dX5_right_5 rfl rfl ?_
    refine V.get (pc' := 9) C dX5_right_6 rfl 0 rfl rfl in_X5 0 rfl q132 rfl ?_
    refine V.icmp_geN (pc' := 12) C c N (by omega) (by omega) 39 dX5_right_9 rfl rfl (fun h2 => ?_) (fun h2 => ?_)
    · have hx3 : N = c := by omega
      subst hx3
      refine V.iload_n (pc' := 40) C 1 dX5_right_39 rfl rfl ?_
      exact V.iret C T dX5_right_40 () rfl rfl rfl rfl trivial rfl rfl rfl
    · refine V.iload_n (pc' := 13) C 1 dX5_right_12 rfl rfl ?_
      refine V.aload_n (pc' := 14) C 0 dX5_right_13 rfl rfl ?_
      refine V.iload_n (pc' := 15) C 2 dX5_right_14 rfl rfl ?_
      refine V.iconst (pc' := 16) C dX5_right_15 rfl kci_3 ?_
      refine V.callV (pc' := 19) (wr := []) C (ct_X5_of M.l M.G a0 a1 a2 a3 N g c 3 (by omega) (by omega)) dX5_right_16 rfl (lw_V q523 q524 q525 q69 q526) hyv_X5_of rfl rfl 0 rfl rfl [0, 1, 2, 3] [] [0, 1, 2, 3] rfl rfl rfl (fun _ => [wO a0 a1 a2 a3 N g, (a1, .inl (M.G.2 1, 20, .inl (wcl g))), (a2, .inl (M.G.2 0, 25, .inl (wgt g))), (a3, .inl (M.G.2 1, 18, .inl (wpl g)))]) (fun _ => rfl) rfl 0 0 rfl rfl (fun _ => [.int (g (15 + c)), .int (rightTo g c)]) (fun _ => rfl) (fun _ _ => ?_)
      refine V.bipush (pc' := 21) C dX5_right_19 rfl kcb_50 ?_
      have J6 : ∀ (x5 : Int32), x5 = (if (g (15 + c)) = 50 then 1 <<< (nI c &&& 31) else 0) → V M 0 0 [wO a0 a1 a2 a3 N g, (a1, .inl (M.G.2 1, 20, .inl (wcl g))), (a2, .inl (M.G.2 0, 25, .inl (wgt g))), (a3, .inl (M.G.2 1, 18, .inl (wpl g)))] [(0, .ref a0), (1, .int (rightTo g c)), (2, .int (nI c))] [.int x5, .int (rightTo g c)] 31 := by
        intro x5 ex5
        subst ex5
        refine V.ior (pc' := 32) C dX5_right_31 rfl ?_
        refine V.istore_n (pc' := 33) C [(1, .int ((rightTo g c) ||| (if (g (15 + c)) = 50 then 1 <<< (nI c &&& 31) else 0))), (0, .ref a0), (2, .int (nI c))] dX5_right_32 rfl 3 hnL rfl rfl ?_
        refine V.iinc (pc' := 36) C (nI (c + 1)) [(2, .int (nI (c + 1))), (1, .int ((rightTo g c) ||| (if (g (15 + c)) = 50 then 1 <<< (nI c &&& 31) else 0))), (0, .ref a0)] dX5_right_33 rfl 3 hnL rfl 2 rfl (ii_N c 1 rfl) rfl ?_
        refine V.goto C 4 dX5_right_36 rfl ?_
        refine V.lvs [2, 1, 0] (lv2 := [(0, .ref a0), (1, .int (rightTo g (c + 1))), (2, .int (nI (c + 1)))]) rfl ?_
        exact ih_L1 (by omega)
      refine V.icmp_ne (pc' := 24) C 30 dX5_right_21 rfl rfl (fun h4 => ?_) (fun h4 => ?_)
      · refine V.iconst (pc' := 31) C dX5_right_30 rfl kci_0 ?_
        exact J6 _ (by rw [if_neg h4])
      · refine V.iconst (pc' := 25) C dX5_right_24 rfl kci_1 ?_
        refine V.iload_n (pc' := 26) C 2 dX5_right_25 rfl rfl ?_
        refine V.ishl (pc' := 27) C dX5_right_26 rfl ?_
        refine V.goto C 31 dX5_right_27 rfl ?_
        exact J6 _ (by rw [if_pos h4])
  refine V.lvs [2, 1, 0] (lv2 := [(0, .ref a0), (1, .int (rightTo g 0)), (2, .int (nI 0))]) rfl ?_
  exact L1 0 (by omega)
set_option maxHeartbeats 4000000 in
theorem ct_X5_allTimes (l : Launch) (G : GG) (a0 : Nat) (a1 : Nat) (a2 : Nat) (a3 : Nat) (N : Nat) (g : Pg) (hN5 : N ≤ 5) : Ct l G yX5_allTimes (ws_ yX5_allTimes cX5_allTimes 3 (some .int)) ({ frames := 1, cells := 0, slots := 0, locals := 22 } : Room) [.ref a0] [wO a0 a1 a2 a3 N g, (a1, .inl (G.2 1, 20, .inl (wcl g))), (a2, .inl (G.2 0, 25, .inl (wgt g))), (a3, .inl (G.2 1, 18, .inl (wpl g)))] (fun _ : Unit => some (.int (sumTo g N))) (fun _ => True) (fun _ => [wO a0 a1 a2 a3 N g, (a1, .inl (G.2 1, 20, .inl (wcl g))), (a2, .inl (G.2 0, 25, .inl (wgt g))), (a3, .inl (G.2 1, 18, .inl (wpl g)))]) := by
  refine Ct.of rfl rfl ?_
  intro M el eG hnL C T
  subst el
  subst eG
  have C : Cx M cX5_allTimes "ClockWard$Ward" ({ frames := 1, cells := 0, slots := 0, locals := 22 } : Room) := C
  refine V.lvs [0] (lv2 := [(0, .ref a0)]) rfl ?_
  refine V.iconst (pc' := 1) C dX5_allTimes_0 rfl kci_0 ?_
  refine V.istore_n (pc' := 2) C [(1, .int 0), (0, .ref a0)] dX5_allTimes_1 rfl 3 hnL rfl rfl ?_
  refine V.iconst (pc' := 3) C dX5_allTimes_2 rfl kci_0 ?_
  refine V.istore_n (pc' := 4) C [(2, .int 0), (1, .int 0), (0, .ref a0)] dX5_allTimes_3 rfl 3 hnL rfl rfl ?_
  have L1 : ∀ c : Nat, c ≤ N → V M 0 0 [wO a0 a1 a2 a3 N g, (a1, .inl (M.G.2 1, 20, .inl (wcl g))), (a2, .inl (M.G.2 0, 25, .inl (wgt g))), (a3, .inl (M.G.2 1, 18, .inl (wpl g)))] [(0, .ref a0), (1, .int (sumTo g c)), (2, .int (nI c))] [] 4 := by
    refine loopN _ N (fun c hc ih_L1 => ?_)
    refine V.iload_n (pc' := 5) C 2 dX5_allTimes_4 rfl rfl ?_
    refine V.aload_n (pc' := 6) C 0 dX5_allTimes_5 rfl rfl ?_
    refine V.get (pc' := 9) C dX5_allTimes_6 rfl 0 rfl rfl in_X5 0 rfl q132 rfl ?_
    refine V.icmp_geN (pc' := 12) C c N (by omega) (by omega) 27 dX5_allTimes_9 rfl rfl (fun h2 => ?_) (fun h2 => ?_)
    · have hx3 : N = c := by omega
      subst hx3
      refine V.iload_n (pc' := 28) C 1 dX5_allTimes_27 rfl rfl ?_
      exact V.iret C T dX5_allTimes_28 () rfl rfl rfl rfl trivial rfl rfl rfl
    · refine V.iload_n (pc' := 13) C 1 dX5_allTimes_12 rfl rfl ?_
      refine V.aload_n (pc' := 14) C 0 dX5_allTimes_13 rfl rfl ?_
      refine V.iload_n (pc' := 15) C 2 dX5_allTimes_14 rfl rfl ?_
      refine V.iconst (pc' := 16) C dX5_allTimes_15 rfl kci_3 ?_
      refine V.callV (pc' := 19) (wr := []) C (ct_X5_of M.l M.G a0 a1 a2 a3 N g c 3 (by omega) (by omega)) dX5_allTimes_16 rfl (lw_V q523 q524 q525 q69 q526) hyv_X5_of rfl rfl 0 rfl rfl [0, 1, 2, 3] [] [0, 1, 2, 3] rfl rfl rfl (fun _ => [wO a0 a1 a2 a3 N g, (a1, .inl (M.G.2 1, 20, .inl (wcl g))), (a2, .inl (M.G.2 0, 25, .inl (wgt g))), (a3, .inl (M.G.2 1, 18, .inl (wpl g)))]) (fun _ => rfl) rfl 0 0 rfl rfl (fun _ => [.int (g (15 + c)), .int (sumTo g c)]) (fun _ => rfl) (fun _ _ => ?_)
      refine V.iadd (pc' := 20) C dX5_allTimes_19 rfl ?_
      refine V.istore_n (pc' := 21) C [(1, .int ((sumTo g c) + (g (15 + c)))), (0, .ref a0), (2, .int (nI c))] dX5_allTimes_20 rfl 3 hnL rfl rfl ?_
      refine V.iinc (pc' := 24) C (nI (c + 1)) [(2, .int (nI (c + 1))), (1, .int ((sumTo g c) + (g (15 + c)))), (0, .ref a0)] dX5_allTimes_21 rfl 3 hnL rfl 2 rfl (ii_N c 1 rfl) rfl ?_
      refine V.goto C 4 dX5_allTimes_24 rfl ?_
      refine V.lvs [2, 1, 0] (lv2 := [(0, .ref a0), (1, .int (sumTo g (c + 1))), (2, .int (nI (c + 1)))]) rfl ?_
      exact ih_L1 (by omega)
  refine V.lvs [2, 1, 0] (lv2 := [(0, .ref a0), (1, .int (sumTo g 0)), (2, .int (nI 0))]) rfl ?_
  exact L1 0 (by omega)
set_option maxHeartbeats 4000000 in
theorem ct_X5_as (l : Launch) (G : GG) (a0 : Nat) (a1 : Nat) (a2 : Nat) (a3 : Nat) (K : Nat) (t : Pg) (b0 : Nat) (b1 : Nat) (b2 : Nat) (b3 : Nat) (N : Nat) (g : Pg) (hg : okW g) : Ct l G yX5_as (ws_ yX5_as cX5_as 2 none) ({ frames := 1, cells := 0, slots := 0, locals := 26 } : Room) [.ref a0, .ref b0] [wO a0 a1 a2 a3 K t, (a1, .inl (G.2 1, 20, .inl (wcl t))), (a2, .inl (G.2 0, 25, .inl (wgt t))), (a3, .inl (G.2 1, 18, .inl (wpl t))), wO b0 b1 b2 b3 N g, (b1, .inl (G.2 1, 20, .inl (wcl g))), (b2, .inl (G.2 0, 25, .inl (wgt g))), (b3, .inl (G.2 1, 18, .inl (wpl g)))] (fun _ : Unit => none) (fun _ => True) (fun _ => [wO a0 a1 a2 a3 N g, (a1, .inl (G.2 1, 20, .inl (wcl g))), (a2, .inl (G.2 0, 25, .inl (wgt g))), (a3, .inl (G.2 1, 18, .inl (wpl g))), wO b0 b1 b2 b3 N g, (b1, .inl (G.2 1, 20, .inl (wcl g))), (b2, .inl (G.2 0, 25, .inl (wgt g))), (b3, .inl (G.2 1, 18, .inl (wpl g)))]) := by
  refine Ct.of rfl rfl ?_
  intro M el eG hnL C T
  subst el
  subst eG
  have C : Cx M cX5_as "ClockWard$Ward" ({ frames := 1, cells := 0, slots := 0, locals := 26 } : Room) := C
  refine V.lvs [0, 1] (lv2 := [(0, .ref a0), (1, .ref b0)]) rfl ?_
  refine V.aload_n (pc' := 1) C 0 dX5_as_0 rfl rfl ?_
  refine V.aload_n (pc' := 2) C 1 dX5_as_1 rfl rfl ?_
  refine V.get (pc' := 5) C dX5_as_2 rfl 4 rfl rfl in_X5 0 rfl q132 rfl ?_
  refine V.put (pc' := 8) C [(a0, .inr (5, [.int (nI N), .ref a1, .int (t 20 + 40), .int (t 21), .int (t 22), .ref a2, .int (t 66), .ref a3])), (a1, .inl (M.G.2 1, 20, .inl (wcl t))), (a2, .inl (M.G.2 0, 25, .inl (wgt t))), (a3, .inl (M.G.2 1, 18, .inl (wpl t))), wO b0 b1 b2 b3 N g, (b1, .inl (M.G.2 1, 20, .inl (wcl g))), (b2, .inl (M.G.2 0, 25, .inl (wgt g))), (b3, .inl (M.G.2 1, 18, .inl (wpl g)))] dX5_as_5 rfl 0 rfl rfl in_X5 tyX5_ok nmX5 0 rfl q132 rfl rfl rfl rfl rfl ?_
  refine V.aload_n (pc' := 9) C 1 dX5_as_8 rfl rfl ?_
  refine V.get (pc' := 12) C dX5_as_9 rfl 4 rfl rfl in_X5 1 rfl q135 rfl ?_
  refine V.iconst (pc' := 13) C dX5_as_12 rfl kci_0 ?_
  refine V.aload_n (pc' := 14) C 0 dX5_as_13 rfl rfl ?_
  refine V.get (pc' := 17) C dX5_as_14 rfl 0 rfl rfl in_X5 1 rfl q135 rfl ?_
  refine V.iconst (pc' := 18) C dX5_as_17 rfl kci_0 ?_
  refine V.bipush (pc' := 20) C dX5_as_18 rfl kcb_20 ?_
  refine V.acopy (pc' := 23) C 1 20 [(a0, .inr (5, [.int (nI N), .ref a1, .int (t 20 + 40), .int (t 21), .int (t 22), .ref a2, .int (t 66), .ref a3])), (a1, .inl (M.G.2 1, 20, .inl (va_cpy (wcl g) (wcl t) 0 0 20))), (a2, .inl (M.G.2 0, 25, .inl (wgt t))), (a3, .inl (M.G.2 1, 18, .inl (wpl t))), wO b0 b1 b2 b3 N g, (b1, .inl (M.G.2 1, 20, .inl (wcl g))), (b2, .inl (M.G.2 0, 25, .inl (wgt g))), (b3, .inl (M.G.2 1, 18, .inl (wpl g)))] dX5_as_20 rfl q508 q510 q509 q81 5 1 rfl rfl rfl rfl (by decide) (by decide) (by decide) (okW_cl hg) rfl rfl rfl ?_
  refine V.aload_n (pc' := 24) C 0 dX5_as_23 rfl rfl ?_
  refine V.aload_n (pc' := 25) C 1 dX5_as_24 rfl rfl ?_
  refine V.get (pc' := 28) C dX5_as_25 rfl 4 rfl rfl in_X5 2 rfl q136 rfl ?_
  refine V.put (pc' := 31) C [(a0, .inr (5, [.int (nI N), .ref a1, .int (g 20 + 40), .int (t 21), .int (t 22), .ref a2, .int (t 66), .ref a3])), (a1, .inl (M.G.2 1, 20, .inl (va_cpy (wcl g) (wcl t) 0 0 20))), (a2, .inl (M.G.2 0, 25, .inl (wgt t))), (a3, .inl (M.G.2 1, 18, .inl (wpl t))), wO b0 b1 b2 b3 N g, (b1, .inl (M.G.2 1, 20, .inl (wcl g))), (b2, .inl (M.G.2 0, 25, .inl (wgt g))), (b3, .inl (M.G.2 1, 18, .inl (wpl g)))] dX5_as_28 rfl 0 rfl rfl in_X5 tyX5_ok nmX5 2 rfl q136 rfl rfl rfl rfl rfl ?_
  refine V.aload_n (pc' := 32) C 0 dX5_as_31 rfl rfl ?_
  refine V.aload_n (pc' := 33) C 1 dX5_as_32 rfl rfl ?_
  refine V.get (pc' := 36) C dX5_as_33 rfl 4 rfl rfl in_X5 3 rfl q139 rfl ?_
  refine V.put (pc' := 39) C [(a0, .inr (5, [.int (nI N), .ref a1, .int (g 20 + 40), .int (g 21), .int (t 22), .ref a2, .int (t 66), .ref a3])), (a1, .inl (M.G.2 1, 20, .inl (va_cpy (wcl g) (wcl t) 0 0 20))), (a2, .inl (M.G.2 0, 25, .inl (wgt t))), (a3, .inl (M.G.2 1, 18, .inl (wpl t))), wO b0 b1 b2 b3 N g, (b1, .inl (M.G.2 1, 20, .inl (wcl g))), (b2, .inl (M.G.2 0, 25, .inl (wgt g))), (b3, .inl (M.G.2 1, 18, .inl (wpl g)))] dX5_as_36 rfl 0 rfl rfl in_X5 tyX5_ok nmX5 3 rfl q139 rfl rfl rfl rfl rfl ?_
  refine V.aload_n (pc' := 40) C 0 dX5_as_39 rfl rfl ?_
  refine V.aload_n (pc' := 41) C 1 dX5_as_40 rfl rfl ?_
  refine V.get (pc' := 44) C dX5_as_41 rfl 4 rfl rfl in_X5 4 rfl q141 rfl ?_
  refine V.put (pc' := 47) C [(a0, .inr (5, [.int (nI N), .ref a1, .int (g 20 + 40), .int (g 21), .int (g 22), .ref a2, .int (t 66), .ref a3])), (a1, .inl (M.G.2 1, 20, .inl (va_cpy (wcl g) (wcl t) 0 0 20))), (a2, .inl (M.G.2 0, 25, .inl (wgt t))), (a3, .inl (M.G.2 1, 18, .inl (wpl t))), wO b0 b1 b2 b3 N g, (b1, .inl (M.G.2 1, 20, .inl (wcl g))), (b2, .inl (M.G.2 0, 25, .inl (wgt g))), (b3, .inl (M.G.2 1, 18, .inl (wpl g)))] dX5_as_44 rfl 0 rfl rfl in_X5 tyX5_ok nmX5 4 rfl q141 rfl rfl rfl rfl rfl ?_
  refine V.aload_n (pc' := 48) C 1 dX5_as_47 rfl rfl ?_
  refine V.get (pc' := 51) C dX5_as_48 rfl 4 rfl rfl in_X5 5 rfl q143 rfl ?_
  refine V.iconst (pc' := 52) C dX5_as_51 rfl kci_0 ?_
  refine V.aload_n (pc' := 53) C 0 dX5_as_52 rfl rfl ?_
  refine V.get (pc' := 56) C dX5_as_53 rfl 0 rfl rfl in_X5 5 rfl q143 rfl ?_
  refine V.iconst (pc' := 57) C dX5_as_56 rfl kci_0 ?_
  refine V.bipush (pc' := 59) C dX5_as_57 rfl kcb_25 ?_
  refine V.acopy (pc' := 62) C 0 25 [(a0, .inr (5, [.int (nI N), .ref a1, .int (g 20 + 40), .int (g 21), .int (g 22), .ref a2, .int (t 66), .ref a3])), (a1, .inl (M.G.2 1, 20, .inl (va_cpy (wcl g) (wcl t) 0 0 20))), (a2, .inl (M.G.2 0, 25, .inl (va_cpy (wgt g) (wgt t) 0 0 25))), (a3, .inl (M.G.2 1, 18, .inl (wpl t))), wO b0 b1 b2 b3 N g, (b1, .inl (M.G.2 1, 20, .inl (wcl g))), (b2, .inl (M.G.2 0, 25, .inl (wgt g))), (b3, .inl (M.G.2 1, 18, .inl (wpl g)))] dX5_as_59 rfl q508 q510 q509 q81 6 2 rfl rfl rfl rfl (by decide) (by decide) (by decide) (fun _ _ => rfl) rfl rfl rfl ?_
  refine V.aload_n (pc' := 63) C 0 dX5_as_62 rfl rfl ?_
  refine V.aload_n (pc' := 64) C 1 dX5_as_63 rfl rfl ?_
  refine V.get (pc' := 67) C dX5_as_64 rfl 4 rfl rfl in_X5 6 rfl q145 rfl ?_
  refine V.put (pc' := 70) C [(a0, .inr (5, [.int (nI N), .ref a1, .int (g 20 + 40), .int (g 21), .int (g 22), .ref a2, .int (g 66), .ref a3])), (a1, .inl (M.G.2 1, 20, .inl (va_cpy (wcl g) (wcl t) 0 0 20))), (a2, .inl (M.G.2 0, 25, .inl (va_cpy (wgt g) (wgt t) 0 0 25))), (a3, .inl (M.G.2 1, 18, .inl (wpl t))), wO b0 b1 b2 b3 N g, (b1, .inl (M.G.2 1, 20, .inl (wcl g))), (b2, .inl (M.G.2 0, 25, .inl (wgt g))), (b3, .inl (M.G.2 1, 18, .inl (wpl g)))] dX5_as_67 rfl 0 rfl rfl in_X5 tyX5_ok nmX5 6 rfl q145 rfl rfl rfl rfl rfl ?_
  refine V.aload_n (pc' := 71) C 1 dX5_as_70 rfl rfl ?_
  refine V.get (pc' := 74) C dX5_as_71 rfl 4 rfl rfl in_X5 7 rfl q148 rfl ?_
  refine V.iconst (pc' := 75) C dX5_as_74 rfl kci_0 ?_
  refine V.aload_n (pc' := 76) C 0 dX5_as_75 rfl rfl ?_
  refine V.get (pc' := 79) C dX5_as_76 rfl 0 rfl rfl in_X5 7 rfl q148 rfl ?_
  refine V.iconst (pc' := 80) C dX5_as_79 rfl kci_0 ?_
  refine V.bipush (pc' := 82) C dX5_as_80 rfl kcb_18 ?_
  refine V.acopy (pc' := 85) C 1 18 [(a0, .inr (5, [.int (nI N), .ref a1, .int (g 20 + 40), .int (g 21), .int (g 22), .ref a2, .int (g 66), .ref a3])), (a1, .inl (M.G.2 1, 20, .inl (va_cpy (wcl g) (wcl t) 0 0 20))), (a2, .inl (M.G.2 0, 25, .inl (va_cpy (wgt g) (wgt t) 0 0 25))), (a3, .inl (M.G.2 1, 18, .inl (va_cpy (wpl g) (wpl t) 0 0 18))), wO b0 b1 b2 b3 N g, (b1, .inl (M.G.2 1, 20, .inl (wcl g))), (b2, .inl (M.G.2 0, 25, .inl (wgt g))), (b3, .inl (M.G.2 1, 18, .inl (wpl g)))] dX5_as_82 rfl q508 q510 q509 q81 7 3 rfl rfl rfl rfl (by decide) (by decide) (by decide) (okW_pl hg) rfl rfl rfl ?_
  refine V.arr 1 (wcl g) (ws2 := [(a0, .inr (5, [.int (nI N), .ref a1, .int (g 20 + 40), .int (g 21), .int (g 22), .ref a2, .int (g 66), .ref a3])), (a1, .inl (M.G.2 1, 20, .inl (wcl g))), (a2, .inl (M.G.2 0, 25, .inl (va_cpy (wgt g) (wgt t) 0 0 25))), (a3, .inl (M.G.2 1, 18, .inl (va_cpy (wpl g) (wpl t) 0 0 18))), wO b0 b1 b2 b3 N g, (b1, .inl (M.G.2 1, 20, .inl (wcl g))), (b2, .inl (M.G.2 0, 25, .inl (wgt g))), (b3, .inl (M.G.2 1, 18, .inl (wpl g)))]) rfl cpy_all rfl ?_
  refine V.arr 2 (wgt g) (ws2 := [(a0, .inr (5, [.int (nI N), .ref a1, .int (g 20 + 40), .int (g 21), .int (g 22), .ref a2, .int (g 66), .ref a3])), (a1, .inl (M.G.2 1, 20, .inl (wcl g))), (a2, .inl (M.G.2 0, 25, .inl (wgt g))), (a3, .inl (M.G.2 1, 18, .inl (va_cpy (wpl g) (wpl t) 0 0 18))), wO b0 b1 b2 b3 N g, (b1, .inl (M.G.2 1, 20, .inl (wcl g))), (b2, .inl (M.G.2 0, 25, .inl (wgt g))), (b3, .inl (M.G.2 1, 18, .inl (wpl g)))]) rfl cpy_all rfl ?_
  refine V.arr 3 (wpl g) (ws2 := [(a0, .inr (5, [.int (nI N), .ref a1, .int (g 20 + 40), .int (g 21), .int (g 22), .ref a2, .int (g 66), .ref a3])), (a1, .inl (M.G.2 1, 20, .inl (wcl g))), (a2, .inl (M.G.2 0, 25, .inl (wgt g))), (a3, .inl (M.G.2 1, 18, .inl (wpl g))), wO b0 b1 b2 b3 N g, (b1, .inl (M.G.2 1, 20, .inl (wcl g))), (b2, .inl (M.G.2 0, 25, .inl (wgt g))), (b3, .inl (M.G.2 1, 18, .inl (wpl g)))]) rfl cpy_all rfl ?_
  exact V.vret C T dX5_as_85 () rfl trivial rfl rfl rfl
