/-! SPEC, seventh part: a sheet read, on pages that agree -/
theorem g_give_hi {g : Pg} {N : Nat} {x y n : Int32} (hN : N ≤ 5) {k : Nat} (hk : 67 ≤ k) : g_give g N x y n k = g k := by
  unfold g_give
  by_cases h : plnOk N x y n
  · rw [if_pos h]
    by_cases h2 : may2 g g (cn x) (cn y) n
    · rw [if_pos h2]
      obtain ⟨a, ha, rfl⟩ := isC_nat hN h.1.1
      obtain ⟨b, hb, rfl⟩ := isC_nat hN h.1.2.1
      rw [cn_nI (by omega), cn_nI (by omega)]
      exact give2_o (by omega) (by omega) (by omega) (by omega)
    · rw [if_neg h2]
  · rw [if_neg h]
theorem give_ag {g h : Pg} (a : AgP g h) {N : Nat} {x y n : Int32} (hN : N ≤ 5) : a_give g N x y n = a_give h N x y n ∧ AgP (g_give g N x y n) (g_give h N x y n) := by
  unfold a_give g_give
  by_cases z : plnOk N x y n
  · rw [if_pos z, if_pos z, if_pos z, if_pos z]
    obtain ⟨b, hb, rfl⟩ := isC_nat hN z.1.1
    obtain ⟨c, hc, rfl⟩ := isC_nat hN z.1.2.1
    rw [cn_nI (by omega), cn_nI (by omega)]
    have e := may2_ag a a (x := b) (y := c) (by omega) (by omega) n
    have d := give2_ag a a (x := b) (y := c) (by omega) (by omega) n
    by_cases w : may2 g g b c n
    · rw [if_pos w, if_pos (e.mp w), if_pos w, if_pos (e.mp w)]
      exact ⟨d (15 + c) (by omega), d⟩
    · have w2 : ¬ may2 h h b c n := fun v => w (e.mpr v)
      rw [if_neg w, if_neg w2, if_neg w, if_neg w2]
      exact ⟨rfl, a⟩
  · rw [if_neg z, if_neg z, if_neg z, if_neg z]
    exact ⟨rfl, a⟩
theorem give_q {g h : Pg} (a : Qf g h) {N : Nat} {x y n : Int32} (hN : N ≤ 5) : a_give h N x y n = a_give g N x y n ∧ Qf (g_give g N x y n) (g_give h N x y n) := by
  obtain ⟨e, d⟩ := give_ag a.ag (N := N) (x := x) (y := y) (n := n) hN
  refine ⟨e, fun k hk => ?_⟩
  rcases Nat.lt_or_ge k 67 with z | z
  · exact d k z
  · rw [g_give_hi hN z, g_give_hi hN z]
    exact a k hk
section
variable {ce la ln : Pg} {N k : Nat} {y p : Int32} {g : Pg}
theorem rdT_hi (hN : N ≤ 5) {q : Nat} (hq : 67 ≤ q) : ∀ j, (rdT ce la ln N k y p g j).2.2 q = g q
  | 0 => rfl
  | j + 1 => by
    have ih := rdT_hi hN hq j
    by_cases h0 : (rdT ce la ln N k y p g j).1 = 0
    · by_cases h1 : rdB la ln k y p j = 0 ∧ j % 3 = 2
      · by_cases h3 : 0 ≤ a_give (rdT ce la ln N k y p g j).2.2 N (ce (40 * k + rdE p j - 2)) (ce (40 * k + rdE p j - 1)) (ce (40 * k + rdE p j))
        · rw [rdT_g h0 h1.1 h1.2 h3]
          exact (g_give_hi hN hq).trans ih
        · rw [rdT_b h0 h1.1 h1.2 h3]
          exact ih
      · rw [rdT_n h0 h1]
        exact ih
    · rw [rdT_x h0]
      exact ih
theorem rdT_q {h : Pg} (a : Qf g h) (hN : N ≤ 5) : ∀ j, (rdT ce la ln N k y p h j).1 = (rdT ce la ln N k y p g j).1 ∧ (rdT ce la ln N k y p h j).2.1 = (rdT ce la ln N k y p g j).2.1 ∧ Qf (rdT ce la ln N k y p g j).2.2 (rdT ce la ln N k y p h j).2.2
  | 0 => ⟨rfl, rfl, a⟩
  | j + 1 => by
    obtain ⟨i1, i2, i3⟩ := rdT_q a hN j
    obtain ⟨e, d⟩ := give_q i3 (N := N) (x := ce (40 * k + rdE p j - 2)) (y := ce (40 * k + rdE p j - 1)) (n := ce (40 * k + rdE p j)) hN
    by_cases h0 : (rdT ce la ln N k y p g j).1 = 0
    · have h0' : (rdT ce la ln N k y p h j).1 = 0 := i1.trans h0
      by_cases h1 : rdB la ln k y p j = 0 ∧ j % 3 = 2
      · by_cases h3 : 0 ≤ a_give (rdT ce la ln N k y p g j).2.2 N (ce (40 * k + rdE p j - 2)) (ce (40 * k + rdE p j - 1)) (ce (40 * k + rdE p j))
        · rw [rdT_g h0 h1.1 h1.2 h3, rdT_g h0' h1.1 h1.2 (by rw [e]; exact h3)]
          exact ⟨rfl, by rw [i2], d⟩
        · rw [rdT_b h0 h1.1 h1.2 h3, rdT_b h0' h1.1 h1.2 (by rw [e]; exact h3)]
          exact ⟨rfl, i2, i3⟩
      · rw [rdT_n h0 h1, rdT_n h0' h1]
        exact ⟨rfl, i2, i3⟩
    · rw [rdT_x h0, rdT_x (fun z => h0 (i1.symm.trans z))]
      exact ⟨i1, i2, i3⟩
end
abbrev okRd (x y n : Int32) : Prop := inI x 0 3 ∧ inI y 0 2 ∧ inI n 0 13
def a_read (ce la ln f : Pg) (N : Nat) (x y p n : Int32) : Int32 := if okRd x y n then (if (rdT ce la ln N (cn x) y p f (3 * cn n)).1 = 4 then -20 - nI (rdT ce la ln N (cn x) y p f (3 * cn n)).2.1 else nI (rdT ce la ln N (cn x) y p f (3 * cn n)).2.1) else -1
def g_read (ce la ln f : Pg) (N : Nat) (x y p n : Int32) : Pg := if okRd x y n then (if (rdT ce la ln N (cn x) y p f (3 * cn n)).1 = 4 then f else (rdT ce la ln N (cn x) y p f (3 * cn n)).2.2) else f
def n_read (ce la ln f : Pg) (N : Nat) (x y p n t : Int32) : Int32 := if okRd x y n then (if (rdT ce la ln N (cn x) y p f (3 * cn n)).1 = 4 then t else (rdT ce la ln N (cn x) y p f (3 * cn n)).1) else t
theorem rd_rest {f F : Pg} (h : ∀ q, 67 ≤ q → F q = pp f 201 (cpP f 0 201) q) : Qf f (va_cpy F F 201 0 67) := by
  intro q hq
  rcases Nat.lt_or_ge q 67 with z | z
  · rw [pk_cpy_in (by omega) (by omega), h _ (by omega), Nat.sub_zero, pp_at]
    exact ag_cp f 201 q z
  · rw [pk_cpy_out (by omega), h _ z, pp_lo (by omega)]
theorem rd_bad {ce la ln f F : Pg} {N k m j : Nat} {y p n : Int32} {c0 c1 c2 : Int32} (hN : N ≤ 5) (hk : k ≤ 3) (hm : m ≤ 13) (hF : F = pp f 201 (cpP f 0 201)) (hg : okRd (nI k) y (nI m)) (hj : j < 3 * m) (hb : rdT ce la ln N k y p F (j + 1) = (4, (rdT ce la ln N k y p F j).2.1, (rdT ce la ln N k y p F j).2.2)) : a_read ce la ln f N (nI k) y p (nI m) = -20 - nI (rdT ce la ln N k y p F j).2.1 ∧ g_read ce la ln f N (nI k) y p (nI m) = f ∧ ∀ t, n_read ce la ln f N (nI k) y p (nI m) t = t := by
  have q : Qf f F := by rw [hF]; exact Qf.pp (by omega)
  obtain ⟨i1, i2, i3⟩ := rdT_q (ce := ce) (la := la) (ln := ln) (N := N) (k := k) (y := y) (p := p) q hN (3 * m)
  have e : rdT ce la ln N k y p F (3 * m) = (4, (rdT ce la ln N k y p F j).2.1, (rdT ce la ln N k y p F j).2.2) := by
    rw [rdT_se (j := j + 1) (by rw [hb]; exact (by decide : ¬ (4 : Int32) = 0)) (by omega), hb]
  rw [e] at i1 i2
  have i1' : (rdT ce la ln N k y p f (3 * m)).1 = 4 := i1.symm
  have i2' : (rdT ce la ln N k y p f (3 * m)).2.1 = (rdT ce la ln N k y p F j).2.1 := i2.symm
  unfold a_read g_read n_read
  rw [cn_nI (by omega), cn_nI (by omega), if_pos hg, if_pos hg, if_pos i1', if_pos i1', i2']
  refine ⟨rfl, rfl, fun t => ?_⟩
  rw [if_pos hg, if_pos i1']
theorem rd_good {ce la ln f F : Pg} {N k m : Nat} {y p : Int32} (hN : N ≤ 5) (hk : k ≤ 3) (hm : m ≤ 13) (hF : F = pp f 201 (cpP f 0 201)) (hg : okRd (nI k) y (nI m)) (h4 : ¬ (rdT ce la ln N k y p F (3 * m)).1 = 4) : nI (rdT ce la ln N k y p F (3 * m)).2.1 = a_read ce la ln f N (nI k) y p (nI m) ∧ Qf (g_read ce la ln f N (nI k) y p (nI m)) (rdT ce la ln N k y p F (3 * m)).2.2 ∧ ∀ t, n_read ce la ln f N (nI k) y p (nI m) t = (rdT ce la ln N k y p F (3 * m)).1 := by
  have q : Qf f F := by rw [hF]; exact Qf.pp (by omega)
  obtain ⟨i1, i2, i3⟩ := rdT_q (ce := ce) (la := la) (ln := ln) (N := N) (k := k) (y := y) (p := p) q hN (3 * m)
  rw [i1] at h4
  unfold a_read g_read n_read
  rw [cn_nI (by omega), cn_nI (by omega), if_pos hg, if_pos hg, if_neg h4, if_neg h4, i2]
  refine ⟨rfl, i3, fun t => ?_⟩
  rw [if_pos hg, if_neg h4, i1]
