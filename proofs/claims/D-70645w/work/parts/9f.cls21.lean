set_option maxRecDepth 100000
set_option maxHeartbeats 4000000 in
theorem ct_X0_isSheet (l : Launch) (G : GG) (x : Int32) (y : Int32)  : Ct l G yX0_isSheet (ws_ yX0_isSheet cX0_isSheet 2 (some .boolean)) ({ frames := 1, cells := 0, slots := 0, locals := 25 } : Room) [.int x, .int y] [] (fun _ : Unit => some (.int (bI (inI x 0 3 ∧ inI y 0 2)))) (fun _ => True) (fun _ => []) := by
  refine Ct.of rfl rfl ?_
  intro M el eG hnL C T
  subst el
  subst eG
  have C : Cx M cX0_isSheet "ClockWard" ({ frames := 1, cells := 0, slots := 0, locals := 25 } : Room) := C
  refine V.lvs [0, 1] (lv2 := [(0, .int x), (1, .int y)]) rfl ?_
  refine V.iload_n (pc' := 1) C 0 dX0_isSheet_0 rfl rfl ?_
  refine V.i2l (pc' := 2) C dX0_isSheet_1 rfl ?_
  refine V.lconst (pc' := 3) C dX0_isSheet_2 rfl kcl_0 ?_
  refine V.ldc2 (pc' := 6) C dX0_isSheet_3 rfl q583 ?_
  refine V.callS (pc' := 9) (wr := []) C (ct_X0_in M.l M.G x 0 3 ) dX0_isSheet_6 rfl (lw_S q261 q262 q64 q263) hys_X0_in rfl rfl [] [] [] rfl rfl rfl (fun _ => []) (fun _ => rfl) rfl 0 0 rfl rfl (fun _ => [.int (bI (inI x 0 3))]) (fun _ => rfl) (fun _ _ => ?_)
  have J3 : ∀ (x2 : Int32), x2 = (if inI x 0 3 then if inI y 0 2 then 1 else 0 else 0) → V M 0 0 [] [(0, .int x), (1, .int y)] [.int x2] 29 := by
    intro x2 ex2
    have ex2 : x2 = bI ((inI x 0 3) ∧ (inI y 0 2)) := ex2.trans (it_a it_10)
    subst ex2
    exact V.iret C T dX0_isSheet_29 () rfl rfl rfl bI_nar trivial rfl rfl rfl
  refine V.if_eqB (pc' := 12) C 28 dX0_isSheet_9 rfl rfl (fun h1 => ?_) (fun h1 => ?_)
  · refine V.iconst (pc' := 29) C dX0_isSheet_28 rfl kci_0 ?_
    exact J3 _ (by rw [if_neg h1])
  · refine V.iload_n (pc' := 13) C 1 dX0_isSheet_12 rfl rfl ?_
    refine V.i2l (pc' := 14) C dX0_isSheet_13 rfl ?_
    refine V.lconst (pc' := 15) C dX0_isSheet_14 rfl kcl_0 ?_
    refine V.ldc2 (pc' := 18) C dX0_isSheet_15 rfl q578 ?_
    refine V.callS (pc' := 21) (wr := []) C (ct_X0_in M.l M.G y 0 2 ) dX0_isSheet_18 rfl (lw_S q261 q262 q64 q263) hys_X0_in rfl rfl [] [] [] rfl rfl rfl (fun _ => []) (fun _ => rfl) rfl 0 0 rfl rfl (fun _ => [.int (bI (inI y 0 2))]) (fun _ => rfl) (fun _ _ => ?_)
    refine V.if_eqB (pc' := 24) C 28 dX0_isSheet_21 rfl rfl (fun h2 => ?_) (fun h2 => ?_)
    · refine V.iconst (pc' := 29) C dX0_isSheet_28 rfl kci_0 ?_
      exact J3 _ (by rw [if_pos h1, if_neg h2])
    · refine V.iconst (pc' := 25) C dX0_isSheet_24 rfl kci_1 ?_
      refine V.goto C 29 dX0_isSheet_25 rfl ?_
      exact J3 _ (by rw [if_pos h1, if_pos h2])
