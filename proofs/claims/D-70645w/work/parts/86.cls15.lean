set_option maxRecDepth 100000
set_option maxHeartbeats 4000000 in
theorem ct_X0_worstOf (l : Launch) (G : GG) (ad : Nat → Nat) (i : Nat → Int32) (j : Nat → Int64) (N : Nat) (g : Pg) (K : Nat) (t : Pg) (sn : Nat → Int32) (sh : Nat → Int32) (wy : Nat → Int32) (c : Nat) (d : Nat) (sm : Nat) (n : Nat) (ok : okP g N n) (hs : i 7 = nI sm) (hok : okS sn N sm) (hc : c < N) (hd : d ≤ 20) : Ct l G yX0_worstOf (ws_ yX0_worstOf cX0_worstOf 6 (some .int)) ({ frames := 6, cells := 0, slots := 0, locals := 132 } : Room) [.ref (ad 0), .int (nI c), .int (nI d)] [xO ad i j, (ad 1, .inl (G.2 4, 4, .inr (.inr (.inr (.inr (fun k => some (ad (2 + k)))))))), (ad 2, .inr (1, [])), (ad 3, .inr (2, [])), (ad 4, .inr (3, [])), (ad 5, .inr (4, [])), wO (ad 6) (ad 7) (ad 8) (ad 9) N g, (ad 7, .inl (G.2 1, 20, .inl (wcl g))), (ad 8, .inl (G.2 0, 25, .inl (wgt g))), (ad 9, .inl (G.2 1, 18, .inl (wpl g))), wO (ad 10) (ad 11) (ad 12) (ad 13) K t, (ad 11, .inl (G.2 1, 20, .inl (wcl t))), (ad 12, .inl (G.2 0, 25, .inl (wgt t))), (ad 13, .inl (G.2 1, 18, .inl (wpl t))), (ad 27, .inl (G.2 1, 18, .inl sn)), (ad 30, .inl (G.2 1, 105, .inl sh)), (ad 31, .inl (G.2 1, 100, .inl wy))] (fun u : Nat × Pg × Pg × Pg => some (.int (woTo g sn N sm c d 7))) (fun u => True) (fun u => [xO ad i j, (ad 1, .inl (G.2 4, 4, .inr (.inr (.inr (.inr (fun k => some (ad (2 + k)))))))), (ad 2, .inr (1, [])), (ad 3, .inr (2, [])), (ad 4, .inr (3, [])), (ad 5, .inr (4, [])), wO (ad 6) (ad 7) (ad 8) (ad 9) N g, (ad 7, .inl (G.2 1, 20, .inl (wcl g))), (ad 8, .inl (G.2 0, 25, .inl (wgt g))), (ad 9, .inl (G.2 1, 18, .inl (wpl g))), wO (ad 10) (ad 11) (ad 12) (ad 13) u.1 u.2.1, (ad 11, .inl (G.2 1, 20, .inl (wcl u.2.1))), (ad 12, .inl (G.2 0, 25, .inl (wgt u.2.1))), (ad 13, .inl (G.2 1, 18, .inl (wpl u.2.1))), (ad 27, .inl (G.2 1, 18, .inl sn)), (ad 30, .inl (G.2 1, 105, .inl u.2.2.1)), (ad 31, .inl (G.2 1, 100, .inl u.2.2.2))]) := by
  refine Ct.of rfl rfl ?_
  intro M el eG hnL C T
  subst el
  subst eG
  have C : Cx M cX0_worstOf "ClockWard" ({ frames := 6, cells := 0, slots := 0, locals := 132 } : Room) := C
  have hN5 := ok.n5
  have hn6 := ok.n6
  have hcN := hc
  have hc : c < 5 := by omega
  refine V.lvs [0, 1, 2] (lv2 := [(0, .ref (ad 0)), (1, .int (nI c)), (2, .int (nI d))]) rfl ?_
  refine V.iconst (pc' := 1) C dX0_worstOf_0 rfl kci_0 ?_
  refine V.istore_n (pc' := 2) C [(3, .int 0), (0, .ref (ad 0)), (1, .int (nI c)), (2, .int (nI d))] dX0_worstOf_1 rfl 6 hnL rfl rfl ?_
  refine V.iconst (pc' := 3) C dX0_worstOf_2 rfl kci_0 ?_
  refine V.istore (pc' := 5) C [(4, .int 0), (3, .int 0), (0, .ref (ad 0)), (1, .int (nI c)), (2, .int (nI d))] dX0_worstOf_3 rfl 6 hnL rfl rfl ?_
  have L1 : ∀ e : Nat, e ≤ 100 → V M 0 0 [xO ad i j, (ad 1, .inl (M.G.2 4, 4, .inr (.inr (.inr (.inr (fun k => some (ad (2 + k)))))))), (ad 2, .inr (1, [])), (ad 3, .inr (2, [])), (ad 4, .inr (3, [])), (ad 5, .inr (4, [])), wO (ad 6) (ad 7) (ad 8) (ad 9) N g, (ad 7, .inl (M.G.2 1, 20, .inl (wcl g))), (ad 8, .inl (M.G.2 0, 25, .inl (wgt g))), (ad 9, .inl (M.G.2 1, 18, .inl (wpl g))), wO (ad 10) (ad 11) (ad 12) (ad 13) K t, (ad 11, .inl (M.G.2 1, 20, .inl (wcl t))), (ad 12, .inl (M.G.2 0, 25, .inl (wgt t))), (ad 13, .inl (M.G.2 1, 18, .inl (wpl t))), (ad 27, .inl (M.G.2 1, 18, .inl sn)), (ad 30, .inl (M.G.2 1, 105, .inl sh)), (ad 31, .inl (M.G.2 1, 100, .inl (zer wy 0 e)))] [(0, .ref (ad 0)), (1, .int (nI c)), (2, .int (nI d)), (3, .int 0), (4, .int (nI e))] [] 5 := by
    refine loopN _ 100 (fun e he ih_L1 => ?_)
    refine V.iload (pc' := 7) C 4 dX0_worstOf_5 rfl rfl ?_
    refine V.bipush (pc' := 9) C dX0_worstOf_7 rfl kcb_99 ?_
    refine V.icmp_gtN (pc' := 12) C e 99 (by omega) (by omega) 26 dX0_worstOf_9 rfl rfl (fun h2 => ?_) (fun h2 => ?_)
    · have hx3 : 100 = e := by omega
      subst hx3
      refine V.iconst (pc' := 27) C dX0_worstOf_26 rfl kci_0 ?_
      refine V.istore (pc' := 29) C [(4, .int 0), (0, .ref (ad 0)), (1, .int (nI c)), (2, .int (nI d)), (3, .int 0)] dX0_worstOf_27 rfl 6 hnL rfl rfl ?_
      have L4 : ∀ r : Nat, r ≤ 7 → ∀ (K2 : Nat), ∀ (t2 : Pg), ∀ (sh2 : Nat → Int32), V M 0 0 [xO ad i j, (ad 1, .inl (M.G.2 4, 4, .inr (.inr (.inr (.inr (fun k => some (ad (2 + k)))))))), (ad 2, .inr (1, [])), (ad 3, .inr (2, [])), (ad 4, .inr (3, [])), (ad 5, .inr (4, [])), wO (ad 6) (ad 7) (ad 8) (ad 9) N g, (ad 7, .inl (M.G.2 1, 20, .inl (wcl g))), (ad 8, .inl (M.G.2 0, 25, .inl (wgt g))), (ad 9, .inl (M.G.2 1, 18, .inl (wpl g))), wO (ad 10) (ad 11) (ad 12) (ad 13) K2 t2, (ad 11, .inl (M.G.2 1, 20, .inl (wcl t2))), (ad 12, .inl (M.G.2 0, 25, .inl (wgt t2))), (ad 13, .inl (M.G.2 1, 18, .inl (wpl t2))), (ad 27, .inl (M.G.2 1, 18, .inl sn)), (ad 30, .inl (M.G.2 1, 105, .inl sh2)), (ad 31, .inl (M.G.2 1, 100, .inl (hsW wy g sn N sm c d r)))] [(0, .ref (ad 0)), (1, .int (nI c)), (2, .int (nI d)), (3, .int (nI (wsC g sn N sm c d r))), (4, .int (nI r))] [] 29 := by
        refine loopN _ 7 (fun r hr ih_L4 => ?_)
        intro K2 t2 sh2 
        refine V.iload (pc' := 31) C 4 dX0_worstOf_29 rfl rfl ?_
        refine V.bipush (pc' := 33) C dX0_worstOf_31 rfl kcb_6 ?_
        refine V.icmp_gtN (pc' := 36) C r 6 (by omega) (by omega) 89 dX0_worstOf_33 rfl rfl (fun h5 => ?_) (fun h5 => ?_)
        · have hx6 : 7 = r := by omega
          subst hx6
          refine V.iload_n (pc' := 90) C 3 dX0_worstOf_89 rfl rfl ?_
          exact V.iret C T dX0_worstOf_90 (K2, t2, sh2, hsW wy g sn N sm c d 7) rfl rfl (ws_wo rfl) rfl trivial rfl rfl rfl
        · refine V.aload_n (pc' := 37) C 0 dX0_worstOf_36 rfl rfl ?_
          refine V.iload_n (pc' := 38) C 1 dX0_worstOf_37 rfl rfl ?_
          refine V.iconst (pc' := 39) C dX0_worstOf_38 rfl kci_2 ?_
          refine V.iload (pc' := 41) C 4 dX0_worstOf_39 rfl rfl ?_
          refine V.callV (pc' := 44) (wr := [(ad 31, .inl (M.G.2 1, 100, .inl (hsW wy g sn N sm c d r)))]) C (ct_X0_isSo M.l M.G ad i j N g K2 t2 sn sh2 c 2 (nI r) sm n ok (by omega) (by omega) hc (by decide) (bfit_nI (by omega)) (okP_up ok (ix := 10 + c) (v := r) (by omega))) dX0_worstOf_41 rfl (lw_V q773 q775 qs30 q64 q776) hyv_X0_isSo rfl rfl 0 rfl rfl [0, 1, 2, 3, 4, 5, 6, 7, 8, 9, 10, 11, 12, 13, 14, 15] [16] [1, 2, 3, 4, 5, 6, 7, 8, 9, 10, 11, 12, 13, 14, 15, 16, 0] rfl rfl rfl (fun _ => [xO ad i j, (ad 1, .inl (M.G.2 4, 4, .inr (.inr (.inr (.inr (fun k => some (ad (2 + k)))))))), (ad 2, .inr (1, [])), (ad 3, .inr (2, [])), (ad 4, .inr (3, [])), (ad 5, .inr (4, [])), wO (ad 6) (ad 7) (ad 8) (ad 9) N g, (ad 7, .inl (M.G.2 1, 20, .inl (wcl g))), (ad 8, .inl (M.G.2 0, 25, .inl (wgt g))), (ad 9, .inl (M.G.2 1, 18, .inl (wpl g))), wO (ad 10) (ad 11) (ad 12) (ad 13) N (nightsTo (upd g (10 + c) (nI r)) N 21), (ad 11, .inl (M.G.2 1, 20, .inl (wcl (nightsTo (upd g (10 + c) (nI r)) N 21)))), (ad 12, .inl (M.G.2 0, 25, .inl (wgt (nightsTo (upd g (10 + c) (nI r)) N 21)))), (ad 13, .inl (M.G.2 1, 18, .inl (wpl (nightsTo (upd g (10 + c) (nI r)) N 21)))), (ad 27, .inl (M.G.2 1, 18, .inl sn)), (ad 30, .inl (M.G.2 1, 105, .inl (shB sh2 (upd g (10 + c) (nI r)) N 21 0))), (ad 31, .inl (M.G.2 1, 100, .inl (hsW wy g sn N sm c d r)))]) (fun _ => rfl) rfl 0 0 rfl rfl (fun _ => [.int (bI (seenOk (upd g (10 + c) (nI r)) sn N sm))]) (fun _ => rfl) (fun _ _ => ?_)
          refine V.if_eqB (pc' := 47) C 83 dX0_worstOf_44 rfl rfl (fun h7 => ?_) (fun h7 => ?_)
          · refine V.iinc (pc' := 86) C (nI (r + 1)) [(4, .int (nI (r + 1))), (0, .ref (ad 0)), (1, .int (nI c)), (2, .int (nI d)), (3, .int (nI (wsC g sn N sm c d r)))] dX0_worstOf_83 rfl 6 hnL rfl 4 rfl (ii_N r 1 rfl) rfl ?_
            refine V.goto C 29 dX0_worstOf_86 rfl ?_
            refine V.lvs [1, 2, 3, 4, 0] (lv2 := [(0, .ref (ad 0)), (1, .int (nI c)), (2, .int (nI d)), (3, .int (nI (wsC g sn N sm c d (r + 1)))), (4, .int (nI (r + 1)))]) (by rw [wsC_f h7]; rfl) ?_
            refine V.weq (ws2 := [xO ad i j, (ad 1, .inl (M.G.2 4, 4, .inr (.inr (.inr (.inr (fun k => some (ad (2 + k)))))))), (ad 2, .inr (1, [])), (ad 3, .inr (2, [])), (ad 4, .inr (3, [])), (ad 5, .inr (4, [])), wO (ad 6) (ad 7) (ad 8) (ad 9) N g, (ad 7, .inl (M.G.2 1, 20, .inl (wcl g))), (ad 8, .inl (M.G.2 0, 25, .inl (wgt g))), (ad 9, .inl (M.G.2 1, 18, .inl (wpl g))), wO (ad 10) (ad 11) (ad 12) (ad 13) N (nightsTo (upd g (10 + c) (nI r)) N 21), (ad 11, .inl (M.G.2 1, 20, .inl (wcl (nightsTo (upd g (10 + c) (nI r)) N 21)))), (ad 12, .inl (M.G.2 0, 25, .inl (wgt (nightsTo (upd g (10 + c) (nI r)) N 21)))), (ad 13, .inl (M.G.2 1, 18, .inl (wpl (nightsTo (upd g (10 + c) (nI r)) N 21)))), (ad 27, .inl (M.G.2 1, 18, .inl sn)), (ad 30, .inl (M.G.2 1, 105, .inl (shB sh2 (upd g (10 + c) (nI r)) N 21 0))), (ad 31, .inl (M.G.2 1, 100, .inl (hsW wy g sn N sm c d (r + 1))))]) (by rw [hsW_f h7]) ?_
            exact ih_L4 (by omega) N (nightsTo (upd g (10 + c) (nI r)) N 21) (shB sh2 (upd g (10 + c) (nI r)) N 21 0)
          · have hokr : okR g sn N sm c r := h7
            obtain ⟨v, hv, ev⟩ := tm_nat (k := d) ok hc (show r ≤ 6 by omega)
            have hcl := cnN_le (g := g) (se := sn) (N := N) (sm := sm) (c := c) (k := d) (nI v) r
            refine V.aload_n (pc' := 48) C 0 dX0_worstOf_47 rfl rfl ?_
            refine V.get (pc' := 51) C dX0_worstOf_48 rfl 0 rfl rfl in_X0 20 rfl q203 rfl ?_
            refine V.iconst (pc' := 52) C dX0_worstOf_51 rfl kci_5 ?_
            refine V.iload_n (pc' := 53) C 2 dX0_worstOf_52 rfl rfl ?_
            refine V.imulN (pc' := 54) C 5 d dX0_worstOf_53 rfl ?_
            refine V.iload_n (pc' := 55) C 1 dX0_worstOf_54 rfl rfl ?_
            refine V.iaddN (pc' := 56) C (5 * d) c dX0_worstOf_55 rfl ?_
            refine V.bald (pc' := 57) C (5 * d + c) dX0_worstOf_56 rfl 15 rfl (by omega) rfl ?_
            refine V.topI (y := nI v) ((shB_at hd hcN hN5).trans ev) ?_
            refine V.istore (pc' := 59) C [(5, .int (nI v)), (0, .ref (ad 0)), (1, .int (nI c)), (2, .int (nI d)), (3, .int (nI (wsC g sn N sm c d r))), (4, .int (nI r))] dX0_worstOf_57 rfl 6 hnL rfl rfl ?_
            refine V.aload_n (pc' := 60) C 1 dX0_worstOf_59 rfl rfl ?_
            refine V.get (pc' := 63) C dX0_worstOf_60 rfl 0 rfl rfl in_X0 21 rfl q204 rfl ?_
            refine V.iload (pc' := 65) C 0 dX0_worstOf_63 rfl rfl ?_
            refine V.dup2 (pc' := 66) C rfl rfl dX0_worstOf_65 rfl ?_
            refine V.bald (pc' := 67) C v dX0_worstOf_66 rfl 16 rfl (by omega) rfl ?_
            refine V.topI (y := nI (cnN g sn N sm c d (nI v) r)) (hsW_at hv) ?_
            refine V.iconst (pc' := 68) C dX0_worstOf_67 rfl kci_1 ?_
            refine V.iaddN (pc' := 69) C (cnN g sn N sm c d (nI v) r) 1 dX0_worstOf_68 rfl ?_
            refine V.i2b (pc' := 70) C dX0_worstOf_69 rfl ?_
            refine V.bast (pc' := 71) C v [xO ad i j, (ad 1, .inl (M.G.2 4, 4, .inr (.inr (.inr (.inr (fun k => some (ad (2 + k)))))))), (ad 2, .inr (1, [])), (ad 3, .inr (2, [])), (ad 4, .inr (3, [])), (ad 5, .inr (4, [])), wO (ad 6) (ad 7) (ad 8) (ad 9) N g, (ad 7, .inl (M.G.2 1, 20, .inl (wcl g))), (ad 8, .inl (M.G.2 0, 25, .inl (wgt g))), (ad 9, .inl (M.G.2 1, 18, .inl (wpl g))), wO (ad 10) (ad 11) (ad 12) (ad 13) N (nightsTo (upd g (10 + c) (nI r)) N 21), (ad 11, .inl (M.G.2 1, 20, .inl (wcl (nightsTo (upd g (10 + c) (nI r)) N 21)))), (ad 12, .inl (M.G.2 0, 25, .inl (wgt (nightsTo (upd g (10 + c) (nI r)) N 21)))), (ad 13, .inl (M.G.2 1, 18, .inl (wpl (nightsTo (upd g (10 + c) (nI r)) N 21)))), (ad 27, .inl (M.G.2 1, 18, .inl sn)), (ad 30, .inl (M.G.2 1, 105, .inl (shB sh2 (upd g (10 + c) (nI r)) N 21 0))), (ad 31, .inl (M.G.2 1, 100, .inl (upd (hsW wy g sn N sm c d r) v (nI (cnN g sn N sm c d (nI v) r + 1)))))] dX0_worstOf_70 rfl 16 rfl (by omega) rfl (nI (cnN g sn N sm c d (nI v) r + 1)) ((pk_vb _).trans (bfit_nI (by omega))) rfl ?_
            refine V.weq (ws2 := [xO ad i j, (ad 1, .inl (M.G.2 4, 4, .inr (.inr (.inr (.inr (fun k => some (ad (2 + k)))))))), (ad 2, .inr (1, [])), (ad 3, .inr (2, [])), (ad 4, .inr (3, [])), (ad 5, .inr (4, [])), wO (ad 6) (ad 7) (ad 8) (ad 9) N g, (ad 7, .inl (M.G.2 1, 20, .inl (wcl g))), (ad 8, .inl (M.G.2 0, 25, .inl (wgt g))), (ad 9, .inl (M.G.2 1, 18, .inl (wpl g))), wO (ad 10) (ad 11) (ad 12) (ad 13) N (nightsTo (upd g (10 + c) (nI r)) N 21), (ad 11, .inl (M.G.2 1, 20, .inl (wcl (nightsTo (upd g (10 + c) (nI r)) N 21)))), (ad 12, .inl (M.G.2 0, 25, .inl (wgt (nightsTo (upd g (10 + c) (nI r)) N 21)))), (ad 13, .inl (M.G.2 1, 18, .inl (wpl (nightsTo (upd g (10 + c) (nI r)) N 21)))), (ad 27, .inl (M.G.2 1, 18, .inl sn)), (ad 30, .inl (M.G.2 1, 105, .inl (shB sh2 (upd g (10 + c) (nI r)) N 21 0))), (ad 31, .inl (M.G.2 1, 100, .inl (hsW wy g sn N sm c d (r + 1))))]) (by rw [hsW_t hokr hv ev]) ?_
            refine V.iload_n (pc' := 72) C 4 dX0_worstOf_71 rfl rfl ?_
            refine V.aload_n (pc' := 73) C 1 dX0_worstOf_72 rfl rfl ?_
            refine V.get (pc' := 76) C dX0_worstOf_73 rfl 0 rfl rfl in_X0 21 rfl q204 rfl ?_
            refine V.iload (pc' := 78) C 0 dX0_worstOf_76 rfl rfl ?_
            refine V.bald (pc' := 79) C v dX0_worstOf_78 rfl 16 rfl (by omega) rfl ?_
            refine V.topI (y := nI (cnN g sn N sm c d (tmR g N c r d) (r + 1))) (by rw [ev]; exact hsW_at hv) ?_
            refine V.mmax (pc' := 82) C dX0_worstOf_79 rfl q565 q494 q80 q495 rfl rfl rfl rfl ?_
            refine V.topI (y := nI (wsC g sn N sm c d (r + 1))) (by rw [wsC_t hokr]; exact nI_max (by have := wsC_le (g := g) (se := sn) (N := N) (sm := sm) (c := c) (k := d) r; omega) (by have := cnN_le (g := g) (se := sn) (N := N) (sm := sm) (c := c) (k := d) (tmR g N c r d) (r + 1); omega)) ?_
            refine V.istore_n (pc' := 83) C [(3, .int (nI (wsC g sn N sm c d (r + 1)))), (5, .int (nI v)), (0, .ref (ad 0)), (1, .int (nI c)), (2, .int (nI d)), (4, .int (nI r))] dX0_worstOf_82 rfl 6 hnL rfl rfl ?_
            refine V.iinc (pc' := 86) C (nI (r + 1)) [(4, .int (nI (r + 1))), (3, .int (nI (wsC g sn N sm c d (r + 1)))), (5, .int (nI v)), (0, .ref (ad 0)), (1, .int (nI c)), (2, .int (nI d))] dX0_worstOf_83 rfl 6 hnL rfl 5 rfl (ii_N r 1 rfl) rfl ?_
            refine V.goto C 29 dX0_worstOf_86 rfl ?_
            refine V.lvs [3, 4, 5, 1, 0] (lv2 := [(0, .ref (ad 0)), (1, .int (nI c)), (2, .int (nI d)), (3, .int (nI (wsC g sn N sm c d (r + 1)))), (4, .int (nI (r + 1)))]) rfl ?_
            exact ih_L4 (by omega) N (nightsTo (upd g (10 + c) (nI r)) N 21) (shB sh2 (upd g (10 + c) (nI r)) N 21 0)
      refine V.lvs [1, 2, 3, 4, 0] (lv2 := [(0, .ref (ad 0)), (1, .int (nI c)), (2, .int (nI d)), (3, .int (nI (wsC g sn N sm c d 0))), (4, .int (nI 0))]) rfl ?_
      refine V.weq (ws2 := [xO ad i j, (ad 1, .inl (M.G.2 4, 4, .inr (.inr (.inr (.inr (fun k => some (ad (2 + k)))))))), (ad 2, .inr (1, [])), (ad 3, .inr (2, [])), (ad 4, .inr (3, [])), (ad 5, .inr (4, [])), wO (ad 6) (ad 7) (ad 8) (ad 9) N g, (ad 7, .inl (M.G.2 1, 20, .inl (wcl g))), (ad 8, .inl (M.G.2 0, 25, .inl (wgt g))), (ad 9, .inl (M.G.2 1, 18, .inl (wpl g))), wO (ad 10) (ad 11) (ad 12) (ad 13) K t, (ad 11, .inl (M.G.2 1, 20, .inl (wcl t))), (ad 12, .inl (M.G.2 0, 25, .inl (wgt t))), (ad 13, .inl (M.G.2 1, 18, .inl (wpl t))), (ad 27, .inl (M.G.2 1, 18, .inl sn)), (ad 30, .inl (M.G.2 1, 105, .inl sh)), (ad 31, .inl (M.G.2 1, 100, .inl (hsW wy g sn N sm c d 0)))]) (by rw [hsW_0]) ?_
      exact L4 0 (by omega) K t sh
    · refine V.aload_n (pc' := 13) C 0 dX0_worstOf_12 rfl rfl ?_
      refine V.get (pc' := 16) C dX0_worstOf_13 rfl 0 rfl rfl in_X0 21 rfl q204 rfl ?_
      refine V.iload (pc' := 18) C 4 dX0_worstOf_16 rfl rfl ?_
      refine V.iconst (pc' := 19) C dX0_worstOf_18 rfl kci_0 ?_
      refine V.bast (pc' := 20) C e [xO ad i j, (ad 1, .inl (M.G.2 4, 4, .inr (.inr (.inr (.inr (fun k => some (ad (2 + k)))))))), (ad 2, .inr (1, [])), (ad 3, .inr (2, [])), (ad 4, .inr (3, [])), (ad 5, .inr (4, [])), wO (ad 6) (ad 7) (ad 8) (ad 9) N g, (ad 7, .inl (M.G.2 1, 20, .inl (wcl g))), (ad 8, .inl (M.G.2 0, 25, .inl (wgt g))), (ad 9, .inl (M.G.2 1, 18, .inl (wpl g))), wO (ad 10) (ad 11) (ad 12) (ad 13) K t, (ad 11, .inl (M.G.2 1, 20, .inl (wcl t))), (ad 12, .inl (M.G.2 0, 25, .inl (wgt t))), (ad 13, .inl (M.G.2 1, 18, .inl (wpl t))), (ad 27, .inl (M.G.2 1, 18, .inl sn)), (ad 30, .inl (M.G.2 1, 105, .inl sh)), (ad 31, .inl (M.G.2 1, 100, .inl (upd (zer wy 0 e) e 0)))] dX0_worstOf_19 rfl 16 rfl (by omega) rfl 0 (by decide) rfl ?_
      refine V.iinc (pc' := 23) C (nI (e + 1)) [(4, .int (nI (e + 1))), (0, .ref (ad 0)), (1, .int (nI c)), (2, .int (nI d)), (3, .int 0)] dX0_worstOf_20 rfl 6 hnL rfl 4 rfl (ii_N e 1 rfl) rfl ?_
      refine V.goto C 5 dX0_worstOf_23 rfl ?_
      refine V.lvs [1, 2, 3, 4, 0] (lv2 := [(0, .ref (ad 0)), (1, .int (nI c)), (2, .int (nI d)), (3, .int 0), (4, .int (nI (e + 1)))]) rfl ?_
      refine V.weq (ws2 := [xO ad i j, (ad 1, .inl (M.G.2 4, 4, .inr (.inr (.inr (.inr (fun k => some (ad (2 + k)))))))), (ad 2, .inr (1, [])), (ad 3, .inr (2, [])), (ad 4, .inr (3, [])), (ad 5, .inr (4, [])), wO (ad 6) (ad 7) (ad 8) (ad 9) N g, (ad 7, .inl (M.G.2 1, 20, .inl (wcl g))), (ad 8, .inl (M.G.2 0, 25, .inl (wgt g))), (ad 9, .inl (M.G.2 1, 18, .inl (wpl g))), wO (ad 10) (ad 11) (ad 12) (ad 13) K t, (ad 11, .inl (M.G.2 1, 20, .inl (wcl t))), (ad 12, .inl (M.G.2 0, 25, .inl (wgt t))), (ad 13, .inl (M.G.2 1, 18, .inl (wpl t))), (ad 27, .inl (M.G.2 1, 18, .inl sn)), (ad 30, .inl (M.G.2 1, 105, .inl sh)), (ad 31, .inl (M.G.2 1, 100, .inl (zer wy 0 (e + 1))))]) (by rw [← zer_s, Nat.zero_add]) ?_
      exact ih_L1 (by omega)
  refine V.lvs [2, 3, 4, 1, 0] (lv2 := [(0, .ref (ad 0)), (1, .int (nI c)), (2, .int (nI d)), (3, .int 0), (4, .int (nI 0))]) rfl ?_
  refine V.weq (ws2 := [xO ad i j, (ad 1, .inl (M.G.2 4, 4, .inr (.inr (.inr (.inr (fun k => some (ad (2 + k)))))))), (ad 2, .inr (1, [])), (ad 3, .inr (2, [])), (ad 4, .inr (3, [])), (ad 5, .inr (4, [])), wO (ad 6) (ad 7) (ad 8) (ad 9) N g, (ad 7, .inl (M.G.2 1, 20, .inl (wcl g))), (ad 8, .inl (M.G.2 0, 25, .inl (wgt g))), (ad 9, .inl (M.G.2 1, 18, .inl (wpl g))), wO (ad 10) (ad 11) (ad 12) (ad 13) K t, (ad 11, .inl (M.G.2 1, 20, .inl (wcl t))), (ad 12, .inl (M.G.2 0, 25, .inl (wgt t))), (ad 13, .inl (M.G.2 1, 18, .inl (wpl t))), (ad 27, .inl (M.G.2 1, 18, .inl sn)), (ad 30, .inl (M.G.2 1, 105, .inl sh)), (ad 31, .inl (M.G.2 1, 100, .inl (zer wy 0 0)))]) (by rw [zer_0]) ?_
  exact L1 0 (by omega)
