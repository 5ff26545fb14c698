set_option maxRecDepth 100000
set_option maxHeartbeats 4000000 in
theorem ct_X7_lowest (l : Launch) (G : GG) (up : Nat) (dn : Nat) (y : Int32) (hu : up < 2 ^ 31) (hd : dn < 2 ^ 31) (h0 : 0 < dn) : Ct l G yX7_lowest (ws_ yX7_lowest cX7_lowest 11 (some .long)) ({ frames := 0, cells := 0, slots := 0, locals := 0 } : Room) [.long (lN up), .long (lN dn), .int y] [] (fun _ : Unit => some (.long (lowR up dn y))) (fun _ => True) (fun _ => []) := by
  refine Ct.of rfl rfl ?_
  intro M el eG hnL C T
  subst el
  subst eG
  have C : Cx M cX7_lowest "ClockWardModel" ({ frames := 0, cells := 0, slots := 0, locals := 0 } : Room) := C
  refine V.lvs [0, 1, 2] (lv2 := [(0, .long (lN up)), (2, .long (lN dn)), (4, .int y)]) rfl ?_
  refine V.lload_n (pc' := 1) C 0 dX7_lowest_0 rfl rfl ?_
  refine V.lstore (pc' := 3) C [(5, .long (lN up)), (0, .long (lN up)), (2, .long (lN dn)), (4, .int y)] dX7_lowest_1 rfl 11 hnL rfl rfl ?_
  refine V.lload_n (pc' := 4) C 2 dX7_lowest_3 rfl rfl ?_
  refine V.lstore (pc' := 6) C [(7, .long (lN dn)), (5, .long (lN up)), (0, .long (lN up)), (2, .long (lN dn)), (4, .int y)] dX7_lowest_4 rfl 11 hnL rfl rfl ?_
  have L1 : ∀ t : Nat, t ≤ dn → ∀ (a : Nat), ∀ (b : Nat), Nat.gcd a b = Nat.gcd up dn → b + t ≤ dn → a < 2 ^ 31 → V M 0 0 [] [(0, .long (lN up)), (2, .long (lN dn)), (4, .int y), (5, .long (lN a)), (7, .long (lN b))] [] 6 := by
    refine loopN _ dn (fun t ht ih_L1 => ?_)
    intro a b hg hbt hab
    refine V.lload (pc' := 8) C 4 dX7_lowest_6 rfl rfl ?_
    refine V.lconst (pc' := 9) C dX7_lowest_8 rfl kcl_0 ?_
    refine V.lcmp (pc' := 10) C dX7_lowest_9 rfl ?_
    refine V.if_eq (pc' := 13) C 31 dX7_lowest_10 rfl rfl (fun h2 => ?_) (fun h2 => ?_)
    · have hb0 : b = 0 := (lN_eq (by omega) (by decide)).mp (lc_0.mp h2)
      have hag : a = Nat.gcd up dn := by rw [← hg, hb0, Nat.gcd_zero_right]
      subst hag
      have hp : 0 < Nat.gcd up dn := Nat.gcd_pos_of_pos_right _ h0
      have hgl : Nat.gcd up dn ≤ dn := Nat.le_of_dvd h0 (Nat.gcd_dvd_right _ _)
      refine V.iload (pc' := 33) C 2 dX7_lowest_31 rfl rfl ?_
      refine V.if_ne (pc' := 36) C 40 dX7_lowest_33 rfl rfl (fun h3 => ?_) (fun h3 => ?_)
      · refine V.lload_n (pc' := 41) C 1 dX7_lowest_40 rfl rfl ?_
        refine V.lload (pc' := 43) C 3 dX7_lowest_41 rfl rfl ?_
        refine V.ldiv (pc' := 44) C (lq_nz (by omega) hp) dX7_lowest_43 rfl ?_
        refine V.topL (y := lN (dn / Nat.gcd up dn)) (lq_div (by omega) hp (by omega)) ?_
        exact V.lret C T dX7_lowest_44 () rfl (if_neg h3).symm trivial rfl rfl rfl
      · refine V.lload_n (pc' := 37) C 0 dX7_lowest_36 rfl rfl ?_
        refine V.goto C 41 dX7_lowest_37 rfl ?_
        refine V.lload (pc' := 43) C 3 dX7_lowest_41 rfl rfl ?_
        refine V.ldiv (pc' := 44) C (lq_nz (by omega) hp) dX7_lowest_43 rfl ?_
        refine V.topL (y := lN (up / Nat.gcd up dn)) (lq_div (by omega) hp (by omega)) ?_
        exact V.lret C T dX7_lowest_44 () rfl (if_pos h3).symm trivial rfl rfl rfl
    · have hbp : 0 < b := Nat.pos_of_ne_zero (fun z => h2 (lc_0.mpr (by rw [z]; rfl)))
      have hml : a % b < b := Nat.mod_lt _ hbp
      refine V.lload (pc' := 15) C 3 dX7_lowest_13 rfl rfl ?_
      refine V.lload (pc' := 17) C 4 dX7_lowest_15 rfl rfl ?_
      refine V.lrem (pc' := 18) C (lq_nz (by omega) hbp) dX7_lowest_17 rfl ?_
      refine V.topL (y := lN (a % b)) (lq_rem (by omega) hbp (by omega)) ?_
      refine V.lstore (pc' := 20) C [(9, .long (lN (a % b))), (0, .long (lN up)), (2, .long (lN dn)), (4, .int y), (5, .long (lN a)), (7, .long (lN b))] dX7_lowest_18 rfl 11 hnL rfl rfl ?_
      refine V.lload (pc' := 22) C 5 dX7_lowest_20 rfl rfl ?_
      refine V.lstore (pc' := 24) C [(5, .long (lN b)), (9, .long (lN (a % b))), (0, .long (lN up)), (2, .long (lN dn)), (4, .int y), (7, .long (lN b))] dX7_lowest_22 rfl 11 hnL rfl rfl ?_
      refine V.lload (pc' := 26) C 1 dX7_lowest_24 rfl rfl ?_
      refine V.lstore (pc' := 28) C [(7, .long (lN (a % b))), (5, .long (lN b)), (9, .long (lN (a % b))), (0, .long (lN up)), (2, .long (lN dn)), (4, .int y)] dX7_lowest_26 rfl 11 hnL rfl rfl ?_
      refine V.goto C 6 dX7_lowest_28 rfl ?_
      refine V.lvs [3, 4, 5, 1, 0] (lv2 := [(0, .long (lN up)), (2, .long (lN dn)), (4, .int y), (5, .long (lN b)), (7, .long (lN (a % b)))]) rfl ?_
      exact ih_L1 (by omega) b (a % b) (gcd_st.trans hg) (by omega) (by omega)
  refine V.lvs [2, 3, 4, 1, 0] (lv2 := [(0, .long (lN up)), (2, .long (lN dn)), (4, .int y), (5, .long (lN up)), (7, .long (lN dn))]) rfl ?_
  exact L1 0 (by omega) up dn rfl (Nat.le_refl _) hu
