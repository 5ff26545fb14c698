/-! SPEC: the class reads a sheet -/
set_option maxRecDepth 100000
theorem okP_giveA {g : Pg} {N n : Nat} {x y m : Int32} (h : okP g N n) : okP (g_give g N x y m) N n := by
  unfold g_give
  by_cases z : plnOk N x y m
  · rw [if_pos z]
    by_cases z2 : may2 g g (cn x) (cn y) m
    · rw [if_pos z2]
      have hN := h.n5
      obtain ⟨a, ha, rfl⟩ := isC_nat hN z.1.1
      obtain ⟨b, hb, rfl⟩ := isC_nat hN z.1.2.1
      obtain ⟨m9, hm0, hm9, em⟩ := in_nat1 (m := 9) (by decide) z.2
      subst em
      rw [cn_nI (by omega), cn_nI (by omega)] at z2 ⊢
      exact (okP_give h (by omega) (by omega) (fun e => z.1.2.2 (by rw [e])) hm9 z2).1
    · rw [if_neg z2]
      exact h
  · rw [if_neg z]
    exact h
theorem ix1 {p : Int32} {q : Nat} : p + nI q + 1 = p + nI (q + 1) := by
  rw [Int32.add_assoc, ← nI_add]
  rfl
theorem ix2 {p : Int32} {q : Nat} : p + nI q + 2 = p + nI (q + 2) := by
  rw [Int32.add_assoc, ← nI_add]
  rfl
section
variable {ce la ln : Pg} {N k : Nat} {y p : Int32} {g : Pg}
theorem rb_i {i : Int32} {q n : Nat} (hi : i = p + nI q) (hq : q < 100) (hn : n ≤ 40) : (¬ (i < 0 ∨ n ≤ i.toNatClampNeg)) ↔ (0 ≤ p.toInt + q ∧ p.toInt + q < n) := by
  have h1 := Int32.le_toInt p
  have h2 := Int32.toInt_lt p
  have h3 : i.toInt = (p.toInt + q).bmod (2 ^ 32) := by rw [hi, Int32.toInt_add, nI_toInt (by omega)]
  have h4 : i < 0 ↔ i.toInt < 0 := Int32.lt_iff_toInt_lt
  have h5 : i.toNatClampNeg = i.toInt.toNat := rfl
  rw [h4, h5, h3, Int.bmod_def]
  omega
theorem rb_n {i : Int32} {q n : Nat} (hla : la k = y) (hy : ¬ y = -4) (hln : ln k = nI n) (hn : n ≤ 40) (hq : q < 100) (hi : i = p + nI q) (h : ¬ (i < 0 ∨ n ≤ i.toNatClampNeg)) : rdB la ln k y p q = 0 ∧ i.toNatClampNeg = rdE p q ∧ 0 ≤ p.toInt + q ∧ rdE p q < n := by
  obtain ⟨a, b⟩ := (rb_i hi hq hn).mp h
  refine ⟨?_, ?_, a, by unfold rdE; omega⟩
  · unfold rdB
    rw [if_neg (by rw [hla]; exact hy), if_pos hla, if_pos ?_]
    constructor
    · apply Int64.le_iff_toInt_le.mpr
      rw [l_add (by omega)]
      exact a
    · apply Int64.le_iff_toInt_le.mpr
      rw [l_add (by omega), Int32.toInt_toInt64, hln, show (1 : Int32) = nI 1 from rfl, pk_sub_toInt (by omega) (by omega)]
      omega
  · have h1 := Int32.le_toInt p
    have h2 := Int32.toInt_lt p
    have h3 : i.toInt = (p.toInt + q).bmod (2 ^ 32) := by rw [hi, Int32.toInt_add, nI_toInt (by omega)]
    have h5 : i.toNatClampNeg = i.toInt.toNat := rfl
    rw [h5, h3, Int.bmod_def]
    unfold rdE
    omega
theorem rb_o {i : Int32} {q n : Nat} (hla : la k = y) (hy : ¬ y = -4) (hln : ln k = nI n) (hn : n ≤ 40) (hq : q < 100) (hi : i = p + nI q) (h : i < 0 ∨ n ≤ i.toNatClampNeg) : rdB la ln k y p q = 2 := by
  unfold rdB
  rw [if_neg (by rw [hla]; exact hy), if_pos hla, if_neg ?_]
  rintro ⟨a, b⟩
  refine (rb_i hi hq hn).mpr ?_ h
  have a1 := Int64.le_iff_toInt_le.mp a
  have b1 := Int64.le_iff_toInt_le.mp b
  rw [l_add (by omega)] at a1 b1
  rw [Int32.toInt_toInt64, hln, show (1 : Int32) = nI 1 from rfl, pk_sub_toInt (by omega) (by omega)] at b1
  have z : (0 : Int64).toInt = 0 := by decide
  rw [z] at a1
  omega
theorem rb_1 {q : Nat} (hla : la k = -4) : rdB la ln k y p q = 1 := if_pos hla
theorem rb_3 {q : Nat} (h1 : ¬ la k = -4) (h2 : ¬ la k = y) : rdB la ln k y p q = 3 := by
  unfold rdB
  rw [if_neg h1, if_neg h2]
abbrev rdZ (ce la ln : Pg) (N k : Nat) (y p : Int32) (g : Pg) (e : Nat) : Prop := (rdT ce la ln N k y p g (3 * e)).1 = 0 ∧ (rdT ce la ln N k y p g (3 * e)).2.1 = e
theorem rd_a {e : Nat} (h : rdZ ce la ln N k y p g e) (b0 : rdB la ln k y p (3 * e) = 0) : rdT ce la ln N k y p g (3 * e + 1) = (0, e, (rdT ce la ln N k y p g (3 * e)).2.2) := by
  rw [rdT_n h.1 (by omega), b0, h.2]
theorem rd_b {e : Nat} (h : rdZ ce la ln N k y p g e) (b0 : rdB la ln k y p (3 * e) = 0) (b1 : rdB la ln k y p (3 * e + 1) = 0) : rdT ce la ln N k y p g (3 * e + 2) = (0, e, (rdT ce la ln N k y p g (3 * e)).2.2) := by
  have z := rd_a h b0
  rw [rdT_n (j := 3 * e + 1) (by rw [z]) (by omega), b1, z]
theorem rd_give {e : Nat} {v0 v1 v2 : Int32} (h : rdZ ce la ln N k y p g e) (b0 : rdB la ln k y p (3 * e) = 0) (b1 : rdB la ln k y p (3 * e + 1) = 0) (b2 : rdB la ln k y p (3 * e + 2) = 0) (p0 : 0 ≤ p.toInt + (3 * e : Nat)) (e0 : v0 = ce (40 * k + rdE p (3 * e))) (e1 : v1 = ce (40 * k + rdE p (3 * e + 1))) (e2 : v2 = ce (40 * k + rdE p (3 * e + 2))) (hg : 0 ≤ a_give (rdT ce la ln N k y p g (3 * e)).2.2 N v0 v1 v2) : rdT ce la ln N k y p g (3 * (e + 1)) = (0, e + 1, g_give (rdT ce la ln N k y p g (3 * e)).2.2 N v0 v1 v2) := by
  have z := rd_b h b0 b1
  have q0 : 40 * k + rdE p (3 * e + 2) - 2 = 40 * k + rdE p (3 * e) := by unfold rdE; omega
  have q1 : 40 * k + rdE p (3 * e + 2) - 1 = 40 * k + rdE p (3 * e + 1) := by unfold rdE; omega
  rw [show 3 * (e + 1) = 3 * e + 2 + 1 by omega, rdT_g (j := 3 * e + 2) (by rw [z]) b2 (by omega) (by rw [z, q0, q1, ← e0, ← e1, ← e2]; exact hg), z, q0, q1, ← e0, ← e1, ← e2]
theorem rd_bad4 {e : Nat} {v0 v1 v2 : Int32} (h : rdZ ce la ln N k y p g e) (b0 : rdB la ln k y p (3 * e) = 0) (b1 : rdB la ln k y p (3 * e + 1) = 0) (b2 : rdB la ln k y p (3 * e + 2) = 0) (p0 : 0 ≤ p.toInt + (3 * e : Nat)) (e0 : v0 = ce (40 * k + rdE p (3 * e))) (e1 : v1 = ce (40 * k + rdE p (3 * e + 1))) (e2 : v2 = ce (40 * k + rdE p (3 * e + 2))) (hg : ¬ 0 ≤ a_give (rdT ce la ln N k y p g (3 * e)).2.2 N v0 v1 v2) : rdT ce la ln N k y p g (3 * (e + 1)) = (4, e, (rdT ce la ln N k y p g (3 * e)).2.2) := by
  have z := rd_b h b0 b1
  have q0 : 40 * k + rdE p (3 * e + 2) - 2 = 40 * k + rdE p (3 * e) := by unfold rdE; omega
  have q1 : 40 * k + rdE p (3 * e + 2) - 1 = 40 * k + rdE p (3 * e + 1) := by unfold rdE; omega
  rw [show 3 * (e + 1) = 3 * e + 2 + 1 by omega, rdT_b (j := 3 * e + 2) (by rw [z]) b2 (by omega) (by rw [z, q0, q1, ← e0, ← e1, ← e2]; exact hg), z]
/-- what read answers, by the status at the end -/
theorem rd_fin {m e : Nat} {s : Int32} {h : Pg} (hm : m ≤ 13) (hk : k < 4) (hg : okRd (nI k) y (nI m)) (hT : rdT ce la ln N k y p g (3 * m) = (s, e, h)) (hs : ¬ s = 4) : a_read ce la ln g N (nI k) y p (nI m) = nI e ∧ g_read ce la ln g N (nI k) y p (nI m) = h ∧ ∀ t, n_read ce la ln g N (nI k) y p (nI m) t = s := by
  unfold a_read g_read n_read
  rw [cn_nI (by omega), cn_nI (by omega), if_pos hg, if_pos hg, hT, if_neg hs, if_neg hs]
  refine ⟨rfl, rfl, fun t => ?_⟩
  rw [if_pos hg, if_neg hs]
theorem rd_fin4 {m e : Nat} {h : Pg} (hm : m ≤ 13) (hk : k < 4) (hg : okRd (nI k) y (nI m)) (hT : rdT ce la ln N k y p g (3 * m) = (4, e, h)) : a_read ce la ln g N (nI k) y p (nI m) = -20 - nI e ∧ g_read ce la ln g N (nI k) y p (nI m) = g ∧ ∀ t, n_read ce la ln g N (nI k) y p (nI m) t = t := by
  unfold a_read g_read n_read
  rw [cn_nI (by omega), cn_nI (by omega), if_pos hg, if_pos hg, hT, if_pos rfl, if_pos rfl]
  refine ⟨rfl, rfl, fun t => ?_⟩
  rw [if_pos hg, if_pos rfl]
theorem rd_out {x m : Int32} (hg : ¬ okRd x y m) : a_read ce la ln g N x y p m = -1 ∧ g_read ce la ln g N x y p m = g ∧ ∀ t, n_read ce la ln g N x y p m t = t := by
  unfold a_read g_read n_read
  rw [if_neg hg, if_neg hg]
  exact ⟨rfl, rfl, fun t => if_neg hg⟩
/-- torn at the c-th of a gift's three cells -/
theorem rd_torn {m e c : Nat} {s : Int32} (he : e < m) (hc : c < 3) (hs : ¬ s = 0) (h : rdZ ce la ln N k y p g e) (hb : ∀ q, q < c → rdB la ln k y p (3 * e + q) = 0) (hb2 : rdB la ln k y p (3 * e + c) = s) : rdT ce la ln N k y p g (3 * m) = (s, e, (rdT ce la ln N k y p g (3 * e)).2.2) := by
  have hs4 : ¬ (rdB la ln k y p (3 * e + c) = 0 ∧ (3 * e + c) % 3 = 2) := fun z => hs (hb2.symm.trans z.1)
  have key : rdT ce la ln N k y p g (3 * e + c + 1) = (s, e, (rdT ce la ln N k y p g (3 * e)).2.2) := by
    rcases (show c = 0 ∨ c = 1 ∨ c = 2 by omega) with rfl | rfl | rfl
    · rw [rdT_n (j := 3 * e + 0) h.1 hs4, hb2, show 3 * e + 0 = 3 * e from rfl, h.2]
    · have z := rd_a h (hb 0 (by omega))
      rw [rdT_n (j := 3 * e + 1) (by rw [z]) hs4, hb2, z]
    · have z := rd_b h (hb 0 (by omega)) (hb 1 (by omega))
      rw [rdT_n (j := 3 * e + 2) (by rw [z]) hs4, hb2, z]
  rw [rdT_se (j := 3 * e + c + 1) (by rw [key]; exact hs) (by omega), key]
theorem rd_st4 {m e : Nat} {T : Int32 × Nat × Pg} (he : e < m) (h : rdT ce la ln N k y p g (3 * (e + 1)) = T) (hs : ¬ T.1 = 0) : rdT ce la ln N k y p g (3 * m) = T := by
  rw [rdT_se (j := 3 * (e + 1)) (by rw [h]; exact hs) (by omega), h]
end
theorem lt1 {P : Nat → Prop} (a : P 0) : ∀ q, q < 1 → P q := by
  intro q hq
  have : q = 0 := by omega
  rw [this]
  exact a
theorem lt2 {P : Nat → Prop} (a : P 0) (b : P 1) : ∀ q, q < 2 → P q := by
  intro q hq
  have : q = 0 ∨ q = 1 := by omega
  rcases this with h | h
  · rw [h]
    exact a
  · rw [h]
    exact b
