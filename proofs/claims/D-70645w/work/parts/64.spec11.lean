/-! SPEC, eleventh part: the first row by which one is right -/
def curP (g : Pg) (N c n q r : Nat) : Prop := q < 500 ∧ r < 500 ∧ gvP g g N q ∧ ((n = 1 ∧ r = 0 ∧ gvG g g N q (15 + c) = 50) ∨ (n = 2 ∧ gvP g (gvG g g N q) N r ∧ gvG g (gvG g g N q) N r (15 + c) = 50))
def nCur (g : Pg) (N c n q r : Nat) : Prop := ∀ a b, (a < q ∨ (a = q ∧ b < r)) → ¬ curP g N c n a b
def curR (g : Pg) (N c n : Nat) (j : Nat → Int32) (s : Pos) : Prop := (s.1 = 1 ∧ curP g N c n s.2.1 s.2.2 ∧ nCur g N c n s.2.1 s.2.2 ∧ j 21 = nI s.2.1 ∧ (n = 2 → j 22 = nI s.2.2)) ∨ (s.1 = 0 ∧ nCur g N c n 500 0)
theorem nCur_0 {g : Pg} {N c n : Nat} : nCur g N c n 0 0 := fun a b h => by omega
theorem nCur_x {g : Pg} {N c n q : Nat} (h : nCur g N c n q 0) (hq : ¬ gvP g g N q) : nCur g N c n (q + 1) 0 := by
  intro a b hab hc
  by_cases e : a = q
  · subst e; exact hq hc.2.2.1
  · exact h a b (by omega) hc
theorem nCur_1 {g : Pg} {N c q : Nat} (h : nCur g N c 1 q 0) (hq : ¬ gvG g g N q (15 + c) = 50) : nCur g N c 1 (q + 1) 0 := by
  intro a b hab hc
  by_cases e : a = q
  · subst e
    rcases hc.2.2.2 with z | z
    · exact hq z.2.2
    · exact absurd z.1 (by omega)
  · exact h a b (by omega) hc
theorem nCur_2f {g : Pg} {N c q r : Nat} (h : nCur g N c 2 q r) (hq : ¬ (gvP g (gvG g g N q) N r ∧ gvG g (gvG g g N q) N r (15 + c) = 50)) : nCur g N c 2 q (r + 1) := by
  intro a b hab hc
  by_cases e : a = q ∧ b = r
  · obtain ⟨rfl, rfl⟩ := e
    rcases hc.2.2.2 with z | z
    · exact absurd z.1 (by omega)
    · exact hq z.2
  · exact h a b (by omega) hc
theorem nCur_2n {g : Pg} {N c q : Nat} (h : nCur g N c 2 q 500) : nCur g N c 2 (q + 1) 0 := by
  intro a b hab hc
  have := hc.2.1
  exact h a b (by omega) hc
theorem Qi.rf (i : Nat → Int32) : Qi i i := ⟨rfl, rfl, rfl, rfl, rfl⟩
theorem Qi.tr {i j k : Nat → Int32} (a : Qi i j) (b : Qi j k) : Qi i k := ⟨b.1.trans a.1, b.2.1.trans a.2.1, b.2.2.1.trans a.2.2.1, b.2.2.2.1.trans a.2.2.2.1, b.2.2.2.2.trans a.2.2.2.2⟩
theorem Qi.u21 {i j : Nat → Int32} (a : Qi i j) (v : Int32) : Qi i (upd j 21 v) := a.tr ⟨rfl, rfl, rfl, rfl, rfl⟩
theorem Qi.u22 {i j : Nat → Int32} (a : Qi i j) (v : Int32) : Qi i (upd j 22 v) := a.tr ⟨rfl, rfl, rfl, rfl, rfl⟩
theorem at_335 {F H : Pg} (a : AgP (pg F 335) H) {c : Nat} (hc : c < 5) : F (350 + c) = H (15 + c) := by
  rw [show 350 + c = 335 + (15 + c) by omega]
  exact a (15 + c) (by omega)
theorem at_268 {F H : Pg} (a : AgP (pg F 268) H) {c : Nat} (hc : c < 5) : F (283 + c) = H (15 + c) := by
  rw [show 283 + c = 268 + (15 + c) by omega]
  exact a (15 + c) (by omega)
