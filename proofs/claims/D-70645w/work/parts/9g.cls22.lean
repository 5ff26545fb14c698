set_option maxRecDepth 100000
set_option maxHeartbeats 4000000 in
theorem ct_X0_sheetB (l : Launch) (G : GG) (ad : Nat → Nat) (i : Nat → Int32) (j : Nat → Int64) (k : Nat) (rv : Value) (n : Nat) (hk : k < 4) (hn : n ≤ 40) : Ct l G yX0_sheet (wsW_ yX0_sheet cX0_sheet 5 (some .int) [(16, 50, 51, 320)]) ({ frames := 2, cells := 1, slots := 40, locals := 46 } : Room) [.ref (ad 0), .int (nI k), .int 0, .int (nI n)] [xO ad i j, (ad 32, .inl (G.2 6, 4, .inr (.inr (.inr (.inr (fun q => some (ad (33 + q)))))))), (ad (33 + k), .inr (6, [rv]))] (fun u : Nat => some (.int 1)) (fun _ => True) (fun u => [xO ad i j, (ad 32, .inl (G.2 6, 4, .inr (.inr (.inr (.inr (fun q => some (ad (33 + q)))))))), (ad (33 + k), .inr (6, [.ref u])), (u, .inl (G.2 1, n, .inl (fun _ => 0)))]) := by
  refine Ct.ofW rfl rfl ?_
  intro M el eG hnL C E T
  subst el
  subst eG
  have C : Cx M cX0_sheet "ClockWard" ({ frames := 2, cells := 1, slots := 40, locals := 46 } : Room) := C
  refine V.lvs [0, 1, 2, 3] (lv2 := [(0, .ref (ad 0)), (1, .int (nI k)), (2, .int 0), (3, .int (nI n))]) rfl ?_
  refine V.iload_n (pc' := 1) C 1 dX0_sheet_0 rfl rfl ?_
  refine V.iload_n (pc' := 2) C 2 dX0_sheet_1 rfl rfl ?_
  refine V.callS (pc' := 5) (wr := [xO ad i j, (ad 32, .inl (M.G.2 6, 4, .inr (.inr (.inr (.inr (fun q => some (ad (33 + q)))))))), (ad (33 + k), .inr (6, [rv]))]) C (ct_X0_isSheet M.l M.G (nI k) 0 ) dX0_sheet_2 rfl (lw_S q836 q837 q64 q838) hys_X0_isSheet rfl rfl [] [0, 1, 2] [0, 1, 2] rfl rfl rfl (fun _ => [xO ad i j, (ad 32, .inl (M.G.2 6, 4, .inr (.inr (.inr (.inr (fun q => some (ad (33 + q)))))))), (ad (33 + k), .inr (6, [rv]))]) (fun _ => rfl) rfl 0 0 rfl rfl (fun _ => [.int (bI (inI (nI k) 0 3 ∧ inI 0 0 2))]) (fun _ => rfl) (fun _ _ => ?_)
  refine V.if_eqB (pc' := 8) C 14 dX0_sheet_5 rfl rfl (fun h1 => absurd h1 (fun z => z ⟨in_k hk, by decide⟩)) (fun _ => ?_)
  refine V.iload_n (pc' := 9) C 3 dX0_sheet_8 rfl rfl ?_
  refine V.bipush (pc' := 11) C dX0_sheet_9 rfl kcb_40 ?_
  refine V.icmp_leN (pc' := 14) C n 40 (by omega) (by omega) 16 dX0_sheet_11 rfl rfl (fun _ => ?_) (fun h2 => absurd h2 (by omega))
  refine V.aload_n (pc' := 17) C 0 dX0_sheet_16 rfl rfl ?_
  refine V.get (pc' := 20) C dX0_sheet_17 rfl 0 rfl rfl in_X0 22 rfl q205 rfl ?_
  refine V.iload_n (pc' := 21) C 1 dX0_sheet_20 rfl rfl ?_
  refine V.aald (pc' := 22) C k dX0_sheet_21 rfl 1 6 rfl rfl (by omega) rfl rfl ?_
  refine V.iload_n (pc' := 23) C 2 dX0_sheet_22 rfl rfl ?_
  refine V.if_ne (pc' := 26) C 32 dX0_sheet_23 rfl rfl (fun h3 => absurd h3 (by decide)) (fun _ => ?_)
  refine V.iload_n (pc' := 27) C 3 dX0_sheet_26 rfl rfl ?_
  refine V.newaS (pc' := 29) C 1 n dX0_sheet_27 rfl q168 rfl rfl (fun z => z) rfl hn (by decide) rfl rfl (fun q4 => ?_)
  refine V.weq (ws2 := [xO ad i j, (ad 32, .inl (M.G.2 6, 4, .inr (.inr (.inr (.inr (fun q => some (ad (33 + q)))))))), (ad (33 + k), .inr (6, [rv])), (q4, .inl (M.G.2 1, n, .inl (fun _ => 0)))]) rfl ?_
  refine V.goto C 46 dX0_sheet_29 rfl ?_
  refine V.putN (pc' := 49) C [xO ad i j, (ad 32, .inl (M.G.2 6, 4, .inr (.inr (.inr (.inr (fun q => some (ad (33 + q)))))))), (ad (33 + k), .inr (6, [.ref q4])), (q4, .inl (M.G.2 1, n, .inl (fun _ => 0)))] dX0_sheet_46 rfl 2 rfl rfl in_X6 tyX6_ok nmX6 0 rfl q178 rfl rfl rfl rfl rfl ?_
  refine V.iconst (pc' := 50) C dX0_sheet_49 rfl kci_1 ?_
  exact V.iret C T dX0_sheet_50 q4 rfl rfl rfl rfl trivial rfl rfl rfl
set_option maxHeartbeats 4000000 in
theorem ct_X0_sheetS (l : Launch) (G : GG) (ad : Nat → Nat) (i : Nat → Int32) (j : Nat → Int64) (k : Nat) (rv : Value) (n : Nat) (hk : k < 4) (hn : n ≤ 40) : Ct l G yX0_sheet (wsW_ yX0_sheet cX0_sheet 5 (some .int) [(16, 50, 51, 320)]) ({ frames := 2, cells := 1, slots := 40, locals := 46 } : Room) [.ref (ad 0), .int (nI k), .int 1, .int (nI n)] [xO ad i j, (ad 32, .inl (G.2 6, 4, .inr (.inr (.inr (.inr (fun q => some (ad (33 + q)))))))), (ad (33 + k), .inr (6, [rv]))] (fun u : Nat => some (.int 1)) (fun _ => True) (fun u => [xO ad i j, (ad 32, .inl (G.2 6, 4, .inr (.inr (.inr (.inr (fun q => some (ad (33 + q)))))))), (ad (33 + k), .inr (6, [.ref u])), (u, .inl (G.2 2, n, .inl (fun _ => 0)))]) := by
  refine Ct.ofW rfl rfl ?_
  intro M el eG hnL C E T
  subst el
  subst eG
  have C : Cx M cX0_sheet "ClockWard" ({ frames := 2, cells := 1, slots := 40, locals := 46 } : Room) := C
  refine V.lvs [0, 1, 2, 3] (lv2 := [(0, .ref (ad 0)), (1, .int (nI k)), (2, .int 1), (3, .int (nI n))]) rfl ?_
  refine V.iload_n (pc' := 1) C 1 dX0_sheet_0 rfl rfl ?_
  refine V.iload_n (pc' := 2) C 2 dX0_sheet_1 rfl rfl ?_
  refine V.callS (pc' := 5) (wr := [xO ad i j, (ad 32, .inl (M.G.2 6, 4, .inr (.inr (.inr (.inr (fun q => some (ad (33 + q)))))))), (ad (33 + k), .inr (6, [rv]))]) C (ct_X0_isSheet M.l M.G (nI k) 1 ) dX0_sheet_2 rfl (lw_S q836 q837 q64 q838) hys_X0_isSheet rfl rfl [] [0, 1, 2] [0, 1, 2] rfl rfl rfl (fun _ => [xO ad i j, (ad 32, .inl (M.G.2 6, 4, .inr (.inr (.inr (.inr (fun q => some (ad (33 + q)))))))), (ad (33 + k), .inr (6, [rv]))]) (fun _ => rfl) rfl 0 0 rfl rfl (fun _ => [.int (bI (inI (nI k) 0 3 ∧ inI 1 0 2))]) (fun _ => rfl) (fun _ _ => ?_)
  refine V.if_eqB (pc' := 8) C 14 dX0_sheet_5 rfl rfl (fun h1 => absurd h1 (fun z => z ⟨in_k hk, by decide⟩)) (fun _ => ?_)
  refine V.iload_n (pc' := 9) C 3 dX0_sheet_8 rfl rfl ?_
  refine V.bipush (pc' := 11) C dX0_sheet_9 rfl kcb_40 ?_
  refine V.icmp_leN (pc' := 14) C n 40 (by omega) (by omega) 16 dX0_sheet_11 rfl rfl (fun _ => ?_) (fun h2 => absurd h2 (by omega))
  refine V.aload_n (pc' := 17) C 0 dX0_sheet_16 rfl rfl ?_
  refine V.get (pc' := 20) C dX0_sheet_17 rfl 0 rfl rfl in_X0 22 rfl q205 rfl ?_
  refine V.iload_n (pc' := 21) C 1 dX0_sheet_20 rfl rfl ?_
  refine V.aald (pc' := 22) C k dX0_sheet_21 rfl 1 6 rfl rfl (by omega) rfl rfl ?_
  refine V.iload_n (pc' := 23) C 2 dX0_sheet_22 rfl rfl ?_
  refine V.if_ne (pc' := 26) C 32 dX0_sheet_23 rfl rfl (fun _ => ?_) (fun h3 => absurd h3 (by decide))
  refine V.iload_n (pc' := 33) C 2 dX0_sheet_32 rfl rfl ?_
  refine V.iconst (pc' := 34) C dX0_sheet_33 rfl kci_1 ?_
  refine V.icmp_neN (pc' := 37) C 1 1 (by omega) (by omega) 43 dX0_sheet_34 rfl rfl (fun h4 => absurd h4 (by decide)) (fun _ => ?_)
  refine V.iload_n (pc' := 38) C 3 dX0_sheet_37 rfl rfl ?_
  refine V.newaS (pc' := 40) C 2 n dX0_sheet_38 rfl q839 rfl rfl (fun z => z) rfl hn (by decide) rfl rfl (fun q5 => ?_)
  refine V.weq (ws2 := [xO ad i j, (ad 32, .inl (M.G.2 6, 4, .inr (.inr (.inr (.inr (fun q => some (ad (33 + q)))))))), (ad (33 + k), .inr (6, [rv])), (q5, .inl (M.G.2 2, n, .inl (fun _ => 0)))]) rfl ?_
  refine V.goto C 46 dX0_sheet_40 rfl ?_
  refine V.putN (pc' := 49) C [xO ad i j, (ad 32, .inl (M.G.2 6, 4, .inr (.inr (.inr (.inr (fun q => some (ad (33 + q)))))))), (ad (33 + k), .inr (6, [.ref q5])), (q5, .inl (M.G.2 2, n, .inl (fun _ => 0)))] dX0_sheet_46 rfl 2 rfl rfl in_X6 tyX6_ok nmX6 0 rfl q178 rfl rfl rfl rfl rfl ?_
  refine V.iconst (pc' := 50) C dX0_sheet_49 rfl kci_1 ?_
  exact V.iret C T dX0_sheet_50 q5 rfl rfl rfl rfl trivial rfl rfl rfl
set_option maxHeartbeats 4000000 in
theorem ct_X0_sheetI (l : Launch) (G : GG) (ad : Nat → Nat) (i : Nat → Int32) (j : Nat → Int64) (k : Nat) (rv : Value) (n : Nat) (hk : k < 4) (hn : n ≤ 40) : Ct l G yX0_sheet (wsW_ yX0_sheet cX0_sheet 5 (some .int) [(16, 50, 51, 320)]) ({ frames := 2, cells := 1, slots := 40, locals := 46 } : Room) [.ref (ad 0), .int (nI k), .int 2, .int (nI n)] [xO ad i j, (ad 32, .inl (G.2 6, 4, .inr (.inr (.inr (.inr (fun q => some (ad (33 + q)))))))), (ad (33 + k), .inr (6, [rv]))] (fun u : Nat => some (.int 1)) (fun _ => True) (fun u => [xO ad i j, (ad 32, .inl (G.2 6, 4, .inr (.inr (.inr (.inr (fun q => some (ad (33 + q)))))))), (ad (33 + k), .inr (6, [.ref u])), (u, .inl (G.2 0, n, .inl (fun _ => 0)))]) := by
  refine Ct.ofW rfl rfl ?_
  intro M el eG hnL C E T
  subst el
  subst eG
  have C : Cx M cX0_sheet "ClockWard" ({ frames := 2, cells := 1, slots := 40, locals := 46 } : Room) := C
  refine V.lvs [0, 1, 2, 3] (lv2 := [(0, .ref (ad 0)), (1, .int (nI k)), (2, .int 2), (3, .int (nI n))]) rfl ?_
  refine V.iload_n (pc' := 1) C 1 dX0_sheet_0 rfl rfl ?_
  refine V.iload_n (pc' := 2) C 2 dX0_sheet_1 rfl rfl ?_
  refine V.callS (pc' := 5) (wr := [xO ad i j, (ad 32, .inl (M.G.2 6, 4, .inr (.inr (.inr (.inr (fun q => some (ad (33 + q)))))))), (ad (33 + k), .inr (6, [rv]))]) C (ct_X0_isSheet M.l M.G (nI k) 2 ) dX0_sheet_2 rfl (lw_S q836 q837 q64 q838) hys_X0_isSheet rfl rfl [] [0, 1, 2] [0, 1, 2] rfl rfl rfl (fun _ => [xO ad i j, (ad 32, .inl (M.G.2 6, 4, .inr (.inr (.inr (.inr (fun q => some (ad (33 + q)))))))), (ad (33 + k), .inr (6, [rv]))]) (fun _ => rfl) rfl 0 0 rfl rfl (fun _ => [.int (bI (inI (nI k) 0 3 ∧ inI 2 0 2))]) (fun _ => rfl) (fun _ _ => ?_)
  refine V.if_eqB (pc' := 8) C 14 dX0_sheet_5 rfl rfl (fun h1 => absurd h1 (fun z => z ⟨in_k hk, by decide⟩)) (fun _ => ?_)
  refine V.iload_n (pc' := 9) C 3 dX0_sheet_8 rfl rfl ?_
  refine V.bipush (pc' := 11) C dX0_sheet_9 rfl kcb_40 ?_
  refine V.icmp_leN (pc' := 14) C n 40 (by omega) (by omega) 16 dX0_sheet_11 rfl rfl (fun _ => ?_) (fun h2 => absurd h2 (by omega))
  refine V.aload_n (pc' := 17) C 0 dX0_sheet_16 rfl rfl ?_
  refine V.get (pc' := 20) C dX0_sheet_17 rfl 0 rfl rfl in_X0 22 rfl q205 rfl ?_
  refine V.iload_n (pc' := 21) C 1 dX0_sheet_20 rfl rfl ?_
  refine V.aald (pc' := 22) C k dX0_sheet_21 rfl 1 6 rfl rfl (by omega) rfl rfl ?_
  refine V.iload_n (pc' := 23) C 2 dX0_sheet_22 rfl rfl ?_
  refine V.if_ne (pc' := 26) C 32 dX0_sheet_23 rfl rfl (fun _ => ?_) (fun h3 => absurd h3 (by decide))
  refine V.iload_n (pc' := 33) C 2 dX0_sheet_32 rfl rfl ?_
  refine V.iconst (pc' := 34) C dX0_sheet_33 rfl kci_1 ?_
  refine V.icmp_neN (pc' := 37) C 2 1 (by omega) (by omega) 43 dX0_sheet_34 rfl rfl (fun _ => ?_) (fun h4 => absurd h4 (by decide))
  refine V.iload_n (pc' := 44) C 3 dX0_sheet_43 rfl rfl ?_
  refine V.newaS (pc' := 46) C 0 n dX0_sheet_44 rfl q169 rfl rfl (fun z => z) rfl hn (by decide) rfl rfl (fun q5 => ?_)
  refine V.weq (ws2 := [xO ad i j, (ad 32, .inl (M.G.2 6, 4, .inr (.inr (.inr (.inr (fun q => some (ad (33 + q)))))))), (ad (33 + k), .inr (6, [rv])), (q5, .inl (M.G.2 0, n, .inl (fun _ => 0)))]) rfl ?_
  refine V.putN (pc' := 49) C [xO ad i j, (ad 32, .inl (M.G.2 6, 4, .inr (.inr (.inr (.inr (fun q => some (ad (33 + q)))))))), (ad (33 + k), .inr (6, [.ref q5])), (q5, .inl (M.G.2 0, n, .inl (fun _ => 0)))] dX0_sheet_46 rfl 2 rfl rfl in_X6 tyX6_ok nmX6 0 rfl q178 rfl rfl rfl rfl rfl ?_
  refine V.iconst (pc' := 50) C dX0_sheet_49 rfl kci_1 ?_
  exact V.iret C T dX0_sheet_50 q5 rfl rfl rfl rfl trivial rfl rfl rfl
set_option maxHeartbeats 4000000 in
theorem ct_X0_sheetN (l : Launch) (G : GG) (ad : Nat → Nat) (i : Nat → Int32) (j : Nat → Int64) (k : Nat) (rv : Value) (y : Int32) (n : Int32) (htr : l.stackTraces = false) (hk : k < 4) (hy : inI y 0 2) (hneg : n < 0) : Ct l G yX0_sheet (wsW_ yX0_sheet cX0_sheet 5 (some .int) [(16, 50, 51, 320)]) ({ frames := 8, cells := 3, slots := 1010, locals := 10300 } : Room) [.ref (ad 0), .int (nI k), .int y, .int n] [xO ad i j, (ad 32, .inl (G.2 6, 4, .inr (.inr (.inr (.inr (fun q => some (ad (33 + q)))))))), (ad (33 + k), .inr (6, [rv]))] (fun _ : Unit => some (.int (-14))) (fun _ => True) (fun _ => [xO ad i j, (ad 32, .inl (G.2 6, 4, .inr (.inr (.inr (.inr (fun q => some (ad (33 + q)))))))), (ad (33 + k), .inr (6, [rv]))]) := by
  refine Ct.ofW rfl rfl ?_
  intro M el eG hnL C E T
  subst el
  subst eG
  have C : Cx M cX0_sheet "ClockWard" ({ frames := 8, cells := 3, slots := 1010, locals := 10300 } : Room) := C
  refine V.lvs [0, 1, 2, 3] (lv2 := [(0, .ref (ad 0)), (1, .int (nI k)), (2, .int y), (3, .int n)]) rfl ?_
  refine V.iload_n (pc' := 1) C 1 dX0_sheet_0 rfl rfl ?_
  refine V.iload_n (pc' := 2) C 2 dX0_sheet_1 rfl rfl ?_
  refine V.callS (pc' := 5) (wr := [xO ad i j, (ad 32, .inl (M.G.2 6, 4, .inr (.inr (.inr (.inr (fun q => some (ad (33 + q)))))))), (ad (33 + k), .inr (6, [rv]))]) C (ct_X0_isSheet M.l M.G (nI k) y ) dX0_sheet_2 rfl (lw_S q836 q837 q64 q838) hys_X0_isSheet rfl rfl [] [0, 1, 2] [0, 1, 2] rfl rfl rfl (fun _ => [xO ad i j, (ad 32, .inl (M.G.2 6, 4, .inr (.inr (.inr (.inr (fun q => some (ad (33 + q)))))))), (ad (33 + k), .inr (6, [rv]))]) (fun _ => rfl) rfl 0 0 rfl rfl (fun _ => [.int (bI (inI (nI k) 0 3 ∧ inI y 0 2))]) (fun _ => rfl) (fun _ _ => ?_)
  refine V.if_eqB (pc' := 8) C 14 dX0_sheet_5 rfl rfl (fun h1 => absurd h1 (fun z => z ⟨in_k hk, hy⟩)) (fun _ => ?_)
  refine V.iload_n (pc' := 9) C 3 dX0_sheet_8 rfl rfl ?_
  refine V.bipush (pc' := 11) C dX0_sheet_9 rfl kcb_40 ?_
  refine V.icmp_le (pc' := 14) C 16 dX0_sheet_11 rfl rfl (fun _ => ?_) (fun h2 => absurd h2 (fun z => z (neg40 hneg)))
  refine V.aload_n (pc' := 17) C 0 dX0_sheet_16 rfl rfl ?_
  refine V.get (pc' := 20) C dX0_sheet_17 rfl 0 rfl rfl in_X0 22 rfl q205 rfl ?_
  refine V.iload_n (pc' := 21) C 1 dX0_sheet_20 rfl rfl ?_
  refine V.aald (pc' := 22) C k dX0_sheet_21 rfl 1 6 rfl rfl (by omega) rfl rfl ?_
  refine V.iload_n (pc' := 23) C 2 dX0_sheet_22 rfl rfl ?_
  refine V.if_ne (pc' := 26) C 32 dX0_sheet_23 rfl rfl (fun h3 => ?_) (fun h3 => ?_)
  · refine V.iload_n (pc' := 33) C 2 dX0_sheet_32 rfl rfl ?_
    refine V.iconst (pc' := 34) C dX0_sheet_33 rfl kci_1 ?_
    refine V.icmp_ne (pc' := 37) C 43 dX0_sheet_34 rfl rfl (fun h4 => ?_) (fun h4 => ?_)
    · refine V.iload_n (pc' := 44) C 3 dX0_sheet_43 rfl rfl ?_
      refine V.newaNeg C hneg dX0_sheet_44 ?_
      refine VN.neg C htr hneg rfl rfl rfl rfl (fun xa5 => ?_)
      refine VT.catch_ C E (Or.inr ⟨rfl, by decide, Or.inr ⟨_, q807, q827, rfl⟩⟩) ?_
      refine V.astore (pc' := 53) C [(4, .ref xa5), (0, .ref (ad 0)), (1, .int (nI k)), (2, .int y), (3, .int n)] dX0_sheet_51 rfl 5 hnL rfl rfl ?_
      refine V.bipush (pc' := 55) C dX0_sheet_53 rfl kcb_m14 ?_
      exact V.iret C T dX0_sheet_55 () rfl rfl rfl rfl trivial rfl rfl rfl
    · refine V.iload_n (pc' := 38) C 3 dX0_sheet_37 rfl rfl ?_
      refine V.newaNeg C hneg dX0_sheet_38 ?_
      refine VN.neg C htr hneg rfl rfl rfl rfl (fun xa6 => ?_)
      refine VT.catch_ C E (Or.inr ⟨rfl, by decide, Or.inr ⟨_, q807, q827, rfl⟩⟩) ?_
      refine V.astore (pc' := 53) C [(4, .ref xa6), (0, .ref (ad 0)), (1, .int (nI k)), (2, .int y), (3, .int n)] dX0_sheet_51 rfl 5 hnL rfl rfl ?_
      refine V.bipush (pc' := 55) C dX0_sheet_53 rfl kcb_m14 ?_
      exact V.iret C T dX0_sheet_55 () rfl rfl rfl rfl trivial rfl rfl rfl
  · refine V.iload_n (pc' := 27) C 3 dX0_sheet_26 rfl rfl ?_
    refine V.newaNeg C hneg dX0_sheet_27 ?_
    refine VN.neg C htr hneg rfl rfl rfl rfl (fun xa7 => ?_)
    refine VT.catch_ C E (Or.inr ⟨rfl, by decide, Or.inr ⟨_, q807, q827, rfl⟩⟩) ?_
    refine V.astore (pc' := 53) C [(4, .ref xa7), (0, .ref (ad 0)), (1, .int (nI k)), (2, .int y), (3, .int n)] dX0_sheet_51 rfl 5 hnL rfl rfl ?_
    refine V.bipush (pc' := 55) C dX0_sheet_53 rfl kcb_m14 ?_
    exact V.iret C T dX0_sheet_55 () rfl rfl rfl rfl trivial rfl rfl rfl
set_option maxHeartbeats 4000000 in
theorem ct_X0_sheetX (l : Launch) (G : GG) (ad : Nat → Nat) (i : Nat → Int32) (j : Nat → Int64) (x : Int32) (y : Int32) (n : Int32) (hno : ¬ okSh x y n) : Ct l G yX0_sheet (wsW_ yX0_sheet cX0_sheet 5 (some .int) [(16, 50, 51, 320)]) ({ frames := 2, cells := 0, slots := 0, locals := 46 } : Room) [.ref (ad 0), .int x, .int y, .int n] [xO ad i j] (fun _ : Unit => some (.int (-1))) (fun _ => True) (fun _ => [xO ad i j]) := by
  refine Ct.ofW rfl rfl ?_
  intro M el eG hnL C E T
  subst el
  subst eG
  have C : Cx M cX0_sheet "ClockWard" ({ frames := 2, cells := 0, slots := 0, locals := 46 } : Room) := C
  refine V.lvs [0, 1, 2, 3] (lv2 := [(0, .ref (ad 0)), (1, .int x), (2, .int y), (3, .int n)]) rfl ?_
  refine V.iload_n (pc' := 1) C 1 dX0_sheet_0 rfl rfl ?_
  refine V.iload_n (pc' := 2) C 2 dX0_sheet_1 rfl rfl ?_
  refine V.callS (pc' := 5) (wr := [xO ad i j]) C (ct_X0_isSheet M.l M.G x y ) dX0_sheet_2 rfl (lw_S q836 q837 q64 q838) hys_X0_isSheet rfl rfl [] [0] [0] rfl rfl rfl (fun _ => [xO ad i j]) (fun _ => rfl) rfl 0 0 rfl rfl (fun _ => [.int (bI (inI x 0 3 ∧ inI y 0 2))]) (fun _ => rfl) (fun _ _ => ?_)
  refine V.if_eqB (pc' := 8) C 14 dX0_sheet_5 rfl rfl (fun h1 => ?_) (fun h1 => ?_)
  · refine V.iconst (pc' := 15) C dX0_sheet_14 rfl kci_m1 ?_
    exact V.iret C T dX0_sheet_15 () rfl rfl rfl rfl trivial rfl rfl rfl
  · refine V.iload_n (pc' := 9) C 3 dX0_sheet_8 rfl rfl ?_
    refine V.bipush (pc' := 11) C dX0_sheet_9 rfl kcb_40 ?_
    refine V.icmp_le (pc' := 14) C 16 dX0_sheet_11 rfl rfl (fun h2 => absurd h2 (fun z => hno ⟨h1.1, h1.2, z⟩)) (fun _ => ?_)
    refine V.iconst (pc' := 15) C dX0_sheet_14 rfl kci_m1 ?_
    exact V.iret C T dX0_sheet_15 () rfl rfl rfl rfl trivial rfl rfl rfl
