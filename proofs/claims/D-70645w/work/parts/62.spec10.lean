/-! SPEC, tenth part: the best row, as it is asked for -/
abbrev bstOk (x y : Int32) : Prop := inI x 0 2 ∧ (inI y 0 2 ∨ inI y 10 11)
def selB (g : Pg) (N : Nat) (s : Pos) (y : Int32) : Int32 := if y = 0 then Rv g N s else if y = 1 then nI s.1 else if y = 2 then Lv g N s else if y = 10 then fF s else fS s
theorem bits_pos : ∀ v : Fin 32, -1 < bitsTo (nI v.val) 7 := by decide +kernel
theorem right_pos (g : Pg) {N : Nat} (h : N ≤ 5) : -1 < bitsTo (rightTo g N) 7 := by
  obtain ⟨v, hv, e⟩ := rightTo_nat g N h
  have h32 : 2 ^ N ≤ 2 ^ 5 := Nat.pow_le_pow_right (by decide) h
  rw [e]
  exact bits_pos ⟨v, by omega⟩
theorem first_B (g : Pg) (N : Nat) : IsB g N (rowOk g N 0) (0, 0, 0) := by
  refine ⟨Or.inl ⟨rfl, rfl, rfl⟩, fun c hc => ?_⟩
  obtain ⟨a, b, d⟩ := c
  have : a = 0 ∧ b = 0 ∧ d = 0 := by
    unfold rowOk at hc
    rcases hc with y | ⟨y1, y2, y3⟩ | ⟨y1, y2, y3⟩
    · exact y
    · omega
    · omega
  obtain ⟨rfl, rfl, rfl⟩ := this
  unfold kLt
  simp only [Int32.lt_iff_toInt_lt, ← Int32.toInt_inj]
  omega
theorem first_j {g F : Pg} {N : Nat} {i : Nat → Int32} (hN : N ≤ 5) (hq : Qf g F) (ha : AgP (pg F 268) g) : jOk g N i (cmpI F N (upd i 19 (-1)) 0 (-4) (-4)) (0, 0, 0) := by
  have a2 : AgP (pg F 268) (rowG g N (0, 0, 0)) := by rw [rowG_0]; exact ha
  have eR := row_R hN a2
  have eL := row_L hq a2
  have b : (upd i 19 (-1) 19 < bitsTo (rightTo (pg F 268) N) 7) ∨ ((bitsTo (rightTo (pg F 268) N) 7 = upd i 19 (-1) 19) ∧ ((0 = upd i 19 (-1) 23) ∧ (¬ upd i 19 (-1) 20 ≤ F 290 - F 22))) := by
    left
    rw [upd_s]
    exact right_pos _ hN
  refine ⟨⟨rfl, rfl, rfl, rfl, rfl⟩, ?_, ?_, ?_, ?_, ?_⟩
  · exact (if_pos b).trans eR
  · exact (if_pos b).trans eL
  · exact (if_pos b)
  · exact (if_pos b)
  · exact (if_pos b)
