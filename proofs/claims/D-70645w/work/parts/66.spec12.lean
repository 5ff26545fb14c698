/-! SPEC, twelfth part: the fewest gifts by which one is right -/
abbrev curOk (N : Nat) (x y : Int32) : Prop := isC N x ∧ (y = 0 ∨ inI y 10 11)
def cuR (g : Pg) (N c : Nat) (s : Pos) : Prop := (s.1 = 0 ∧ g (15 + c) = 50 ∧ s.2.1 = 0 ∧ s.2.2 = 0) ∨ (s.1 = 1 ∧ ¬ g (15 + c) = 50 ∧ curP g N c 1 s.2.1 s.2.2 ∧ nCur g N c 1 s.2.1 s.2.2) ∨ (s.1 = 2 ∧ ¬ g (15 + c) = 50 ∧ nCur g N c 1 500 0 ∧ curP g N c 2 s.2.1 s.2.2 ∧ nCur g N c 2 s.2.1 s.2.2) ∨ (s.1 = 3 ∧ ¬ g (15 + c) = 50 ∧ nCur g N c 1 500 0 ∧ nCur g N c 2 500 0 ∧ s.2.1 = 0 ∧ s.2.2 = 0)
def selC (s : Pos) (y : Int32) : Int32 := if s.1 = 3 then -4 else if y = 0 then nI s.1 else if y - 10 < nI s.1 then (if y = 10 then nI s.2.1 else nI s.2.2) else -4
theorem curR_t {g : Pg} {N c n : Nat} {j : Nat → Int32} {s : Pos} (h : curR g N c n j s) (e : s.1 = 1) : curP g N c n s.2.1 s.2.2 ∧ nCur g N c n s.2.1 s.2.2 ∧ j 21 = nI s.2.1 ∧ (n = 2 → j 22 = nI s.2.2) := by
  rcases h with z | z
  · exact z.2
  · exact absurd z.1 (by omega)
theorem curR_f {g : Pg} {N c n : Nat} {j : Nat → Int32} {s : Pos} (h : curR g N c n j s) (e : ¬ s.1 = 1) : nCur g N c n 500 0 := by
  rcases h with z | z
  · exact absurd z.1 e
  · exact z.2
theorem y10 {y : Int32} (h : inI y 10 11) : y = 10 ∨ y = 11 := by
  obtain ⟨h1, h2⟩ := h
  have h3 := Int32.le_iff_toInt_le.mp h1
  have h4 := Int32.le_iff_toInt_le.mp h2
  have e1 : (10 : Int32).toInt = 10 := by decide
  have e2 : (11 : Int32).toInt = 11 := by decide
  rw [e1] at h3
  rw [e2] at h4
  have : y.toInt = 10 ∨ y.toInt = 11 := by omega
  rcases this with z | z
  · left; apply Int32.toInt_inj.mp; rw [z, e1]
  · right; apply Int32.toInt_inj.mp; rw [z, e2]
theorem y10_0 {y : Int32} (h : inI y 10 11) : ¬ y - 10 < 0 := by
  rcases y10 h with rfl | rfl <;> decide
theorem y10_1 {y : Int32} (h : inI y 10 11) (h2 : y - 10 < 1) : y = 10 := by
  rcases y10 h with rfl | rfl
  · rfl
  · exact absurd h2 (by decide)
theorem selC_0 (s : Pos) (e : ¬ s.1 = 3) : nI s.1 = selC s 0 := by
  unfold selC
  rw [if_neg e, if_pos rfl]
theorem selC_3 (s : Pos) (e : s.1 = 3) (y : Int32) : -4 = selC s y := by
  unfold selC
  rw [if_pos e]
theorem selC_n {s : Pos} {y : Int32} (e : ¬ s.1 = 3) (hy : ¬ y = 0) (h : ¬ y - 10 < nI s.1) : -4 = selC s y := by
  unfold selC
  rw [if_neg e, if_neg hy, if_neg h]
theorem selC_a {s : Pos} {y : Int32} (e : ¬ s.1 = 3) (hy : ¬ y = 0) (h : y - 10 < nI s.1) (h2 : y = 10) : nI s.2.1 = selC s y := by
  unfold selC
  rw [if_neg e, if_neg hy, if_pos h, if_pos h2]
theorem selC_b {s : Pos} {y : Int32} (e : ¬ s.1 = 3) (hy : ¬ y = 0) (h : y - 10 < nI s.1) (h2 : ¬ y = 10) : nI s.2.2 = selC s y := by
  unfold selC
  rw [if_neg e, if_neg hy, if_pos h, if_neg h2]
