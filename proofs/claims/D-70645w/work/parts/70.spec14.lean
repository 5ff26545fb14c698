/-! bytes that fit -/
theorem inI_up {x a b : Int32} (h : inI x 0 a) (hb : a ≤ b) : inI x 0 b := ⟨h.1, Int32.le_trans h.2 hb⟩
theorem isC_fit {x : Int32} {N : Nat} (hN : N ≤ 5) (h : isC N x) : bfit x := by
  obtain ⟨j, hj, rfl⟩ := isC_nat hN h
  exact bfit_nI (by omega)
