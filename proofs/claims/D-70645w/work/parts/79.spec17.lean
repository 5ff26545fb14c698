/-! SPEC: answers about rows, by the class's numbers -/
theorem y_1011 {y : Int32} (h : inI y 0 2 ∨ inI y 10 11) (h0 : ¬ y = 0) (h1 : ¬ y = 1) (h2 : ¬ y = 2) : y = 10 ∨ y = 11 := by
  rcases h with h | h
  · obtain ⟨j, hj, rfl⟩ := in_nat (m := 2) (by decide) h
    have : j = 0 ∨ j = 1 ∨ j = 2 := by omega
    rcases this with rfl | rfl | rfl
    · exact absurd rfl h0
    · exact absurd rfl h1
    · exact absurd rfl h2
  · exact y10 h
theorem selB_a {g : Pg} {N : Nat} {s : Pos} (h : 0 < s.1) : nI s.2.1 = selB g N s 10 := by
  unfold selB
  rw [if_neg (by decide), if_neg (by decide), if_neg (by decide), if_pos rfl]
  unfold fF
  rw [if_neg (by omega)]
theorem selB_an {g : Pg} {N : Nat} {s : Pos} (h : ¬ 0 < s.1) : -4 = selB g N s 10 := by
  unfold selB
  rw [if_neg (by decide), if_neg (by decide), if_neg (by decide), if_pos rfl]
  unfold fF
  rw [if_pos (by omega)]
theorem selB_b {g : Pg} {N : Nat} {s : Pos} (h : 1 < s.1) (h2 : s.1 ≤ 2) : nI s.2.2 = selB g N s 11 := by
  unfold selB
  rw [if_neg (by decide), if_neg (by decide), if_neg (by decide), if_neg (by decide)]
  unfold fS
  rw [if_pos (by omega)]
theorem selB_bn {g : Pg} {N : Nat} {s : Pos} (h : ¬ 1 < s.1) : -4 = selB g N s 11 := by
  unfold selB
  rw [if_neg (by decide), if_neg (by decide), if_neg (by decide), if_neg (by decide)]
  unfold fS
  rw [if_neg (by omega)]
/-- cures -/
def cuV (s : Pos) : Int32 := if s.1 = 3 then -4 else nI s.1
theorem cuV_n {s : Pos} (h : ¬ cuV s = -4) : ¬ s.1 = 3 ∧ cuV s = nI s.1 := by
  unfold cuV at h ⊢
  by_cases z : s.1 = 3
  · rw [if_pos z] at h
    exact absurd rfl h
  · rw [if_neg z]
    exact ⟨z, rfl⟩
theorem cuV_3 {s : Pos} (h : cuV s = -4) (h3 : s.1 ≤ 3) : s.1 = 3 := by
  unfold cuV at h
  by_cases z : s.1 = 3
  · exact z
  · rw [if_neg z] at h
    have : s.1 = 0 ∨ s.1 = 1 ∨ s.1 = 2 := by omega
    rcases this with e | e | e <;> rw [e] at h <;> exact absurd h (by decide)
theorem nC_beg {g : Pg} {N c n : Nat} : nCur g N c n (cd N 0) 0 := by
  rw [cd_0]
  intro a b hab hc
  have := gv_beg hc.2.2.1
  omega
theorem nC_s {g : Pg} {N c n q : Nat} (hN : N ≤ 5) (hq : q < N * N * 9) (h : nCur g N c n (cd N q) 0) (p : ∀ b, ¬ curP g N c n (cd N q) b) : nCur g N c n (cd N (q + 1)) 0 := by
  intro a b hab hc
  rcases gv_btw hN hq hc.1 hc.2.2.1 (by omega) with z | z
  · exact h a b (Or.inl z) hc
  · subst z; exact p b hc
theorem nC_x {g : Pg} {N c n q : Nat} (hN : N ≤ 5) (hq : q < N * N * 9) (h : nCur g N c n (cd N q) 0) (p : ¬ cmP g N q) : nCur g N c n (cd N (q + 1)) 0 :=
  nC_s hN hq h (fun _ hc => p ((cm_gv hN hq (KK.rf g)).mpr hc.2.2.1))
theorem nC_1 {g : Pg} {N c q : Nat} (hN : N ≤ 5) (hq : q < N * N * 9) (h : nCur g N c 1 (cd N q) 0) (p : cmP g N q) (r : ¬ cmG g N q (15 + c) = 50) : nCur g N c 1 (cd N (q + 1)) 0 := by
  refine nC_s hN hq h (fun b hc => ?_)
  have e := cm_G hN hq (KK.rf g) ((cm_gv hN hq (KK.rf g)).mp p)
  rcases hc.2.2.2 with z | z
  · rw [← e] at z; exact r z.2.2
  · exact absurd z.1 (by omega)
theorem nC_e {g : Pg} {N c n : Nat} (hN : N ≤ 5) (h : nCur g N c n (cd N (N * N * 9)) 0) : nCur g N c n 500 0 := fun a b _ hc => h a b (Or.inl (gv_end hN hc.1 hc.2.2.1)) hc
theorem nC_b {g : Pg} {N c q : Nat} (h : nCur g N c 2 (cd N q) 0) : nCur g N c 2 (cd N q) (cd N 0) := by
  rw [cd_0]
  intro a b hab hc
  rcases hc.2.2.2 with z | z
  · exact absurd z.1 (by omega)
  · have := gv_beg z.2.1
    exact h a b (by omega) hc
theorem nC_2n {g : Pg} {N c q : Nat} (hN : N ≤ 5) (hq : q < N * N * 9) (h : nCur g N c 2 (cd N q) (cd N (N * N * 9))) : nCur g N c 2 (cd N (q + 1)) 0 := by
  refine nC_s hN hq (fun a b hab hc => h a b (by omega) hc) (fun b hc => ?_)
  rcases hc.2.2.2 with z | z
  · exact absurd z.1 (by omega)
  · exact h _ b (Or.inr ⟨rfl, gv_end hN hc.2.1 z.2.1⟩) hc
/-- the second gift, by number, behind the first -/
theorem cm_2 {g : Pg} {N q r : Nat} (hN : N ≤ 5) (hq : q < N * N * 9) (hr : r < N * N * 9) (p : cmP g N q) : (cmP (cmG g N q) N r ↔ gvP g (gvG g g N (cd N q)) N (cd N r)) ∧ (cmP (cmG g N q) N r → cmG (cmG g N q) N r = gvG g (gvG g g N (cd N q)) N (cd N r)) := by
  have e := cm_G hN hq (KK.rf g) ((cm_gv hN hq (KK.rf g)).mp p)
  have hk := cm_kk hN hq (KK.rf g)
  have h1 := cm_gv hN hr hk
  rw [← e]
  exact ⟨h1, fun z => cm_G hN hr hk (h1.mp z)⟩
theorem nC_2f {g : Pg} {N c q r : Nat} (hN : N ≤ 5) (hq : q < N * N * 9) (hr : r < N * N * 9) (h : nCur g N c 2 (cd N q) (cd N r)) (p : cmP g N q) (z0 : ¬ (cmP (cmG g N q) N r ∧ cmG (cmG g N q) N r (15 + c) = 50)) : nCur g N c 2 (cd N q) (cd N (r + 1)) := by
  obtain ⟨e1, e2⟩ := cm_2 hN hq hr p
  intro a b hab hc
  rcases hc.2.2.2 with z | z
  · exact absurd z.1 (by omega)
  · by_cases ha : a = cd N q
    · subst ha
      rcases gv_btw hN hr hc.2.1 z.2.1 (by omega) with y | y
      · exact h _ b (Or.inr ⟨rfl, y⟩) hc
      · subst y
        have p2 := e1.mpr z.2.1
        exact z0 ⟨p2, by rw [e2 p2]; exact z.2.2⟩
    · exact h a b (by omega) hc
theorem cu_1 {g : Pg} {N c q : Nat} (hN : N ≤ 5) (hq : q < N * N * 9) (p : cmP g N q) (r : cmG g N q (15 + c) = 50) : curP g N c 1 (cd N q) 0 := by
  have p1 := (cm_gv hN hq (KK.rf g)).mp p
  have e := cm_G hN hq (KK.rf g) p1
  exact ⟨(cd_div hN hq).2.2.2, by omega, p1, Or.inl ⟨rfl, rfl, by rw [← e]; exact r⟩⟩
theorem cu_2 {g : Pg} {N c q r : Nat} (hN : N ≤ 5) (hq : q < N * N * 9) (hr : r < N * N * 9) (p : cmP g N q) (p2 : cmP (cmG g N q) N r) (z : cmG (cmG g N q) N r (15 + c) = 50) : curP g N c 2 (cd N q) (cd N r) := by
  obtain ⟨e1, e2⟩ := cm_2 hN hq hr p
  exact ⟨(cd_div hN hq).2.2.2, (cd_div hN hr).2.2.2, (cm_gv hN hq (KK.rf g)).mp p, Or.inr ⟨rfl, e1.mp p2, by rw [← e2 p2]; exact z⟩⟩
/-- the first row is the only one -/
theorem cur_un {g : Pg} {N c n a b a' b' : Nat} (h : curP g N c n a b) (k : nCur g N c n a b) (h' : curP g N c n a' b') (k' : nCur g N c n a' b') : a = a' ∧ b = b' := by
  have h1 : ¬ (a < a' ∨ (a = a' ∧ b < b')) := fun z => k' a b z h
  have h2 : ¬ (a' < a ∨ (a' = a ∧ b' < b)) := fun z => k a' b' z h'
  omega
theorem cuR.un {g : Pg} {N c : Nat} {s t : Pos} (h : cuR g N c s) (k : cuR g N c t) : s = t := by
  obtain ⟨a, b, d⟩ := s
  obtain ⟨a', b', d'⟩ := t
  have no : ∀ {n x y : Nat}, curP g N c n x y → nCur g N c n 500 0 → False := fun hp hn => hn _ _ (Or.inl hp.1) hp
  unfold cuR at h k
  simp only at h k
  rcases h with ⟨h1, h2, h3, h4⟩ | ⟨h1, h2, h3, h4⟩ | ⟨h1, h2, h3, h4, h5⟩ | ⟨h1, h2, h3, h4, h5, h6⟩ <;> rcases k with ⟨k1, k2, k3, k4⟩ | ⟨k1, k2, k3, k4⟩ | ⟨k1, k2, k3, k4, k5⟩ | ⟨k1, k2, k3, k4, k5, k6⟩
  · subst h1 h3 h4 k1 k3 k4; rfl
  · exact absurd h2 k2
  · exact absurd h2 k2
  · exact absurd h2 k2
  · exact absurd k2 h2
  · obtain ⟨e1, e2⟩ := cur_un h3 h4 k3 k4; subst h1 k1 e1 e2; rfl
  · exact (no h3 k3).elim
  · exact (no h3 k3).elim
  · exact absurd k2 h2
  · exact (no k3 h3).elim
  · obtain ⟨e1, e2⟩ := cur_un h4 h5 k4 k5; subst h1 k1 e1 e2; rfl
  · exact (no h4 k4).elim
  · exact absurd k2 h2
  · exact (no k3 h3).elim
  · exact (no k4 h4).elim
  · subst h1 h5 h6 k1 k5 k6; rfl
