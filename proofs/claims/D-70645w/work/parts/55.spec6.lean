/-! SPEC, sixth part: a sheet read -/
def rdB (la ln : Pg) (k : Nat) (y p : Int32) (q : Nat) : Int32 := if la k = -4 then 1 else if la k = y then (if 0 ≤ p.toInt64 + (nI q).toInt64 ∧ p.toInt64 + (nI q).toInt64 ≤ (ln k - 1).toInt64 then 0 else 2) else 3
abbrev rdE (p : Int32) (j : Nat) : Nat := (p.toInt + j).toNat
def rdT (ce la ln : Pg) (N k : Nat) (y p : Int32) (g : Pg) : Nat → Int32 × Nat × Pg
  | 0 => (0, 0, g)
  | j + 1 =>
    let s := rdT ce la ln N k y p g j
    if s.1 = 0 then
      (if rdB la ln k y p j = 0 ∧ j % 3 = 2 then
        (if 0 ≤ a_give s.2.2 N (ce (40 * k + rdE p j - 2)) (ce (40 * k + rdE p j - 1)) (ce (40 * k + rdE p j)) then (0, s.2.1 + 1, g_give s.2.2 N (ce (40 * k + rdE p j - 2)) (ce (40 * k + rdE p j - 1)) (ce (40 * k + rdE p j))) else (4, s.2.1, s.2.2))
      else (rdB la ln k y p j, s.2.1, s.2.2))
    else s
section
variable {ce la ln : Pg} {N k : Nat} {y p : Int32} {g : Pg} {j : Nat}
theorem rdT_g (h0 : (rdT ce la ln N k y p g j).1 = 0) (h1 : rdB la ln k y p j = 0) (h2 : j % 3 = 2) (h3 : 0 ≤ a_give (rdT ce la ln N k y p g j).2.2 N (ce (40 * k + rdE p j - 2)) (ce (40 * k + rdE p j - 1)) (ce (40 * k + rdE p j))) : rdT ce la ln N k y p g (j + 1) = (0, (rdT ce la ln N k y p g j).2.1 + 1, g_give (rdT ce la ln N k y p g j).2.2 N (ce (40 * k + rdE p j - 2)) (ce (40 * k + rdE p j - 1)) (ce (40 * k + rdE p j))) := by
  show (if _ then _ else _) = _
  rw [if_pos h0, if_pos ⟨h1, h2⟩, if_pos h3]
theorem rdT_b (h0 : (rdT ce la ln N k y p g j).1 = 0) (h1 : rdB la ln k y p j = 0) (h2 : j % 3 = 2) (h3 : ¬ 0 ≤ a_give (rdT ce la ln N k y p g j).2.2 N (ce (40 * k + rdE p j - 2)) (ce (40 * k + rdE p j - 1)) (ce (40 * k + rdE p j))) : rdT ce la ln N k y p g (j + 1) = (4, (rdT ce la ln N k y p g j).2.1, (rdT ce la ln N k y p g j).2.2) := by
  show (if _ then _ else _) = _
  rw [if_pos h0, if_pos ⟨h1, h2⟩, if_neg h3]
theorem rdT_n (h0 : (rdT ce la ln N k y p g j).1 = 0) (h1 : ¬ (rdB la ln k y p j = 0 ∧ j % 3 = 2)) : rdT ce la ln N k y p g (j + 1) = (rdB la ln k y p j, (rdT ce la ln N k y p g j).2.1, (rdT ce la ln N k y p g j).2.2) := by
  show (if _ then _ else _) = _
  rw [if_pos h0, if_neg h1]
theorem rdT_x (h0 : ¬ (rdT ce la ln N k y p g j).1 = 0) : rdT ce la ln N k y p g (j + 1) = rdT ce la ln N k y p g j := by
  show (if _ then _ else _) = _
  rw [if_neg h0]
theorem rdT_st (h0 : ¬ (rdT ce la ln N k y p g j).1 = 0) : ∀ d, rdT ce la ln N k y p g (j + d) = rdT ce la ln N k y p g j
  | 0 => rfl
  | d + 1 => by
    have h := rdT_st h0 d
    have h1 : ¬ (rdT ce la ln N k y p g (j + d)).1 = 0 := by rw [h]; exact h0
    rw [show j + (d + 1) = j + d + 1 by omega, rdT_x h1, h]
theorem rdT_se (h0 : ¬ (rdT ce la ln N k y p g j).1 = 0) {m : Nat} (hm : j ≤ m) : rdT ce la ln N k y p g m = rdT ce la ln N k y p g j := by
  have := rdT_st h0 (m - j)
  rw [show j + (m - j) = m by omega] at this
  exact this
theorem rdB_4 : ¬ rdB la ln k y p j = 4 := by
  unfold rdB
  by_cases a : la k = -4
  · rw [if_pos a]; decide
  · rw [if_neg a]
    by_cases b : la k = y
    · rw [if_pos b]
      by_cases c : 0 ≤ p.toInt64 + (nI j).toInt64 ∧ p.toInt64 + (nI j).toInt64 ≤ (ln k - 1).toInt64
      · rw [if_pos c]; decide
      · rw [if_neg c]; decide
    · rw [if_neg b]; decide
theorem rdB_z (h : rdB la ln k y p j = 0) : la k = y ∧ ¬ la k = -4 ∧ 0 ≤ p.toInt64 + (nI j).toInt64 ∧ p.toInt64 + (nI j).toInt64 ≤ (ln k - 1).toInt64 := by
  unfold rdB at h
  by_cases a : la k = -4
  · rw [if_pos a] at h; exact absurd h (by decide)
  · rw [if_neg a] at h
    by_cases b : la k = y
    · rw [if_pos b] at h
      by_cases c : 0 ≤ p.toInt64 + (nI j).toInt64 ∧ p.toInt64 + (nI j).toInt64 ≤ (ln k - 1).toInt64
      · exact ⟨b, a, c⟩
      · rw [if_neg c] at h; exact absurd h (by decide)
    · rw [if_neg b] at h; exact absurd h (by decide)
theorem l_add {p : Int32} {q : Nat} (hq : q < 1000) : (p.toInt64 + (nI q).toInt64).toInt = p.toInt + q := by
  have h1 := Int32.le_toInt p
  have h2 := Int32.toInt_lt p
  rw [Int64.toInt_add, Int32.toInt_toInt64, Int32.toInt_toInt64, nI_toInt (by omega)]
  rw [Int.bmod_def]
  omega
theorem rdB_le (hL : okLn ln) (hk : k < 4) (hj : j < 100) (h : rdB la ln k y p j = 0) : 0 ≤ p.toInt + j ∧ p.toInt + j < pN ln k := by
  obtain ⟨-, -, h1, h2⟩ := rdB_z h
  obtain ⟨e, l⟩ := hL k hk
  have h3 := Int64.le_iff_toInt_le.mp h1
  have h4 := Int64.le_iff_toInt_le.mp h2
  rw [l_add (by omega)] at h3 h4
  rw [Int32.toInt_toInt64, e, show (1 : Int32) = nI 1 from rfl, pk_sub_toInt (by omega) (by omega)] at h4
  have h5 : (0 : Int64).toInt = 0 := by decide
  rw [h5] at h3
  omega
theorem rdT_z (h : (rdT ce la ln N k y p g j).1 = 0) : ∀ q, q < j → rdB la ln k y p q = 0 := by
  induction j with
  | zero => intro q hq; exact absurd hq (by omega)
  | succ j ih =>
    intro q hq
    by_cases h0 : (rdT ce la ln N k y p g j).1 = 0
    · by_cases e : q = j
      · subst e
        by_cases h1 : rdB la ln k y p q = 0 ∧ q % 3 = 2
        · exact h1.1
        · rw [rdT_n h0 h1] at h
          exact h
      · exact ih h0 q (by omega)
    · rw [rdT_x h0] at h
      exact absurd h h0
theorem rd_ix {hj : j < 100} (h : 0 ≤ p.toInt + j) (h2 : p.toInt + j < 1000) : nI (40 * k) + p + nI j = nI (40 * k + rdE p j) := by
  rw [Int32.add_assoc, ← nI_add]
  congr 1
  apply Int32.toInt_inj.mp
  rw [Int32.toInt_add, nI_toInt (by omega), nI_toInt (by unfold rdE; omega), Int.bmod_def]
  unfold rdE
  omega
end
