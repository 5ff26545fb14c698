set_option maxRecDepth 100000
set_option maxHeartbeats 4000000 in
theorem ct_X0_readX (l : Launch) (G : GG) (ad : Nat → Nat) (i : Nat → Int32) (j : Nat → Int64) (x : Int32) (y : Int32) (p : Int32) (m : Int32) (hno : ¬ (inI x 0 3 ∧ inI y 0 2)) : Ct l G yX0_read (wsW_ yX0_read cX0_read 9 (some .int) [(40, 118, 128, 326), (119, 125, 128, 326), (40, 118, 136, 338), (119, 125, 136, 338), (40, 118, 144, 328), (119, 125, 144, 328)]) ({ frames := 2, cells := 0, slots := 0, locals := 46 } : Room) [.ref (ad 0), .int x, .int y, .int p, .int m] [xO ad i j] (fun _ : Unit => some (.int (-1))) (fun _ => True) (fun _ => [xO ad i j]) := by
  refine Ct.ofW rfl rfl ?_
  intro M el eG hnL C E T
  subst el
  subst eG
  have C : Cx M cX0_read "ClockWard" ({ frames := 2, cells := 0, slots := 0, locals := 46 } : Room) := C
  refine V.lvs [0, 1, 2, 3, 4] (lv2 := [(0, .ref (ad 0)), (1, .int x), (2, .int y), (3, .int p), (4, .int m)]) rfl ?_
  refine V.iload_n (pc' := 1) C 1 dX0_read_0 rfl rfl ?_
  refine V.iload_n (pc' := 2) C 2 dX0_read_1 rfl rfl ?_
  refine V.callS (pc' := 5) (wr := [xO ad i j]) C (ct_X0_isSheet M.l M.G x y ) dX0_read_2 rfl (lw_S q836 q837 q64 q838) hys_X0_isSheet rfl rfl [] [0] [0] rfl rfl rfl (fun _ => [xO ad i j]) (fun _ => rfl) rfl 0 0 rfl rfl (fun _ => [.int (bI (inI x 0 3 ∧ inI y 0 2))]) (fun _ => rfl) (fun _ _ => ?_)
  refine V.if_eqB (pc' := 8) C 21 dX0_read_5 rfl rfl (fun _ => ?_) (fun h1 => absurd h1 (fun z => hno z))
  refine V.iconst (pc' := 22) C dX0_read_21 rfl kci_m1 ?_
  exact V.iret C T dX0_read_22 () rfl rfl rfl rfl trivial rfl rfl rfl
