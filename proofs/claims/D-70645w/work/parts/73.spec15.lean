/-! SPEC: what clocks show, by nights -/
def shB (sh P : Pg) (N q d : Nat) : Pg := fun j => if (j / 5 < q ∧ j % 5 < N) ∨ (j / 5 = q ∧ j % 5 < d) then nightsTo P N (j / 5) (15 + j % 5) else sh j
theorem shB_0 (sh P : Pg) (N : Nat) : shB sh P N 0 0 = sh := by
  funext j
  exact if_neg (by omega)
theorem shB_n (sh P : Pg) (N q : Nat) : shB sh P N q N = shB sh P N (q + 1) 0 := by
  funext j
  unfold shB
  by_cases h : (j / 5 < q ∧ j % 5 < N) ∨ (j / 5 = q ∧ j % 5 < N)
  · rw [if_pos h, if_pos (by omega)]
  · rw [if_neg h, if_neg (by omega)]
theorem shB_s (sh P : Pg) {N q d : Nat} (hd : d < 5) : upd (shB sh P N q d) (5 * q + d) (nightsTo P N q (15 + d)) = shB sh P N q (d + 1) := by
  funext j
  show (if j = 5 * q + d then _ else shB sh P N q d j) = _
  unfold shB
  by_cases h : j = 5 * q + d
  · have h1 : j / 5 = q := by omega
    have h2 : j % 5 = d := by omega
    rw [if_pos h, if_pos (by omega), h1, h2]
  · rw [if_neg h]
    by_cases h2 : (j / 5 < q ∧ j % 5 < N) ∨ (j / 5 = q ∧ j % 5 < d)
    · rw [if_pos h2, if_pos (by omega)]
    · rw [if_neg h2, if_neg (by omega)]
theorem shB_at {sh P : Pg} {N n c : Nat} (hn : n ≤ 20) (hc : c < N) (hN : N ≤ 5) : shB sh P N 21 0 (5 * n + c) = nightsTo P N n (15 + c) := by
  unfold shB
  have h1 : (5 * n + c) / 5 = n := by omega
  have h2 : (5 * n + c) % 5 = c := by omega
  rw [if_pos (by omega), h1, h2]
theorem bI_and {a b : Prop} {ha : Decidable a} {hb : Decidable b} : bI a &&& bI b = bI (a ∧ b) := by
  by_cases x : a
  · by_cases y : b
    · rw [bI_t x, bI_t y, bI_t ⟨x, y⟩]; rfl
    · rw [bI_t x, bI_f y, bI_f (c := a ∧ b) (fun z => y z.2)]; rfl
  · rw [bI_f x, bI_f (c := a ∧ b) (fun z => x z.1)]
    by_cases y : b
    · rw [bI_t y]; rfl
    · rw [bI_f y]; rfl
theorem seenOk_s {P sn : Pg} {N e : Nat} : (seenOk P sn N e ∧ chkS P sn N e) ↔ seenOk P sn N (e + 1) := by
  constructor
  · intro ⟨h, h2⟩ x hx
    by_cases z : x = e
    · subst z; exact h2
    · exact h x (by omega)
  · intro h
    exact ⟨fun x hx => h x (by omega), h e (by omega)⟩
theorem ok_fit {g : Pg} {N n : Nat} (h : okP g N n) {d : Nat} (hd : d < 5) : bfit (g (15 + d)) := by
  obtain ⟨-, -, -, ⟨e, l⟩⟩ := h.2.2.2.1 d hd
  rw [e]
  exact bfit_nI (by omega)
