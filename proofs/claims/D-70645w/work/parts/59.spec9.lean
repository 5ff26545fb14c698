/-! SPEC, ninth part: rows tried on the model's pages -/
def fF (s : Pos) : Int32 := if s.1 = 0 then -4 else nI s.2.1
def fS (s : Pos) : Int32 := if s.1 = 2 then nI s.2.2 else -4
theorem cmp_ok {g : Pg} {N : Nat} {P P' : Pos → Prop} {s c : Pos} {R L m cf cs : Int32} (h : IsB g N P s) (hP : ∀ d, P' d ↔ P d ∨ d = c) (ho : ∀ d, P d → (d.1 < c.1 ∨ (d.1 = c.1 ∧ (d.2.1 < c.2.1 ∨ (d.2.1 = c.2.1 ∧ d.2.2 < c.2.2))))) (h2 : ∀ d, P d → d.1 ≤ 2) (hc : c.1 ≤ 2) (eR : R = Rv g N c) (eL : L = Lv g N c) (em : m = nI c.1) (ef : cf = fF c) (es : cs = fS c) :
    ∃ t, IsB g N P' t ∧ (if (Rv g N s < R) ∨ ((R = Rv g N s) ∧ ((m = nI s.1) ∧ (¬ Lv g N s ≤ L))) then R else Rv g N s) = Rv g N t ∧ (if (Rv g N s < R) ∨ ((R = Rv g N s) ∧ ((m = nI s.1) ∧ (¬ Lv g N s ≤ L))) then L else Lv g N s) = Lv g N t ∧ (if (Rv g N s < R) ∨ ((R = Rv g N s) ∧ ((m = nI s.1) ∧ (¬ Lv g N s ≤ L))) then cf else fF s) = fF t ∧ (if (Rv g N s < R) ∨ ((R = Rv g N s) ∧ ((m = nI s.1) ∧ (¬ Lv g N s ≤ L))) then cs else fS s) = fS t ∧ (if (Rv g N s < R) ∨ ((R = Rv g N s) ∧ ((m = nI s.1) ∧ (¬ Lv g N s ≤ L))) then m else nI s.1) = nI t.1 := by
  refine ⟨_, cmp_s h hP ho, ?_⟩
  have hs := h2 s h.1
  subst eR eL em ef es
  have e : ((Rv g N s < Rv g N c) ∨ ((Rv g N c = Rv g N s) ∧ ((nI c.1 = nI s.1) ∧ (¬ Lv g N s ≤ Lv g N c)))) ↔ betM (Rv g N c) (Lv g N c) c.1 g N s := by
    unfold betM
    rw [nI_eq (by omega) (by omega), Int32.not_le]
  by_cases b : betM (Rv g N c) (Lv g N c) c.1 g N s
  · rw [if_pos b, if_pos (e.mpr b), if_pos (e.mpr b), if_pos (e.mpr b), if_pos (e.mpr b), if_pos (e.mpr b)]
    exact ⟨rfl, rfl, rfl, rfl, rfl⟩
  · have b2 := fun z => b (e.mp z)
    rw [if_neg b, if_neg b2, if_neg b2, if_neg b2, if_neg b2, if_neg b2]
    exact ⟨rfl, rfl, rfl, rfl, rfl⟩
theorem gvG_hi {k g : Pg} {N c : Nat} (hN : N ≤ 5) (hc : c < 500) {q : Nat} (hq : 67 ≤ q) : gvG k g N c q = g q := by
  unfold gvG
  by_cases h : gvP k g N c
  · rw [if_pos h]
    obtain ⟨l1, l2⟩ := two_lt hN (by omega) (by omega) h.1
    exact give2_o (by omega) (by omega) (by omega) (by omega)
  · rw [if_neg h]
theorem gvP_ag {k l g h : Pg} (a : AgP k l) (b : AgP g h) {N c : Nat} (hN : N ≤ 5) (hc : c < 500) : gvP k g N c ↔ gvP l h N c := by
  unfold gvP
  refine and_congr_right fun t => and_congr_right fun _ => ?_
  obtain ⟨l1, l2⟩ := two_lt hN (by omega) (by omega) t
  exact may2_ag a b (by omega) (by omega) _
theorem gvG_ag {k l g h : Pg} (a : AgP k l) (b : AgP g h) {N c : Nat} (hN : N ≤ 5) (hc : c < 500) : AgP (gvG k g N c) (gvG l h N c) := by
  have e := gvP_ag a b (N := N) (c := c) hN hc
  unfold gvG
  by_cases z : gvP k g N c
  · rw [if_pos z, if_pos (e.mp z)]
    obtain ⟨l1, l2⟩ := two_lt hN (by omega) (by omega) z.1
    exact give2_ag a b (by omega) (by omega) _
  · rw [if_neg z, if_neg (fun w => z (e.mpr w))]
    exact b
/-- pages at 335 and at 268 -/
theorem cp_0 {g F : Pg} (h : Qf g F) {Q : Nat} (hQ : 201 ≤ Q) : Qf g (va_cpy F F 0 Q 67) ∧ AgP (pg (va_cpy F F 0 Q 67) Q) g := by
  constructor
  · intro k hk
    rw [pk_cpy_out (by omega)]
    exact h k hk
  · intro k hk
    show va_cpy F F 0 Q 67 (Q + k) = g k
    rw [pk_cpy_in (by omega) (by omega), Nat.add_sub_cancel_left, Nat.zero_add]
    exact h k (by omega)
theorem cp_2 {g F H : Pg} (h : Qf g F) (a : AgP (pg F 335) H) : Qf g (va_cpy F F 335 268 67) ∧ AgP (pg (va_cpy F F 335 268 67) 335) H ∧ AgP (pg (va_cpy F F 335 268 67) 268) H := by
  refine ⟨fun k hk => ?_, fun k hk => ?_, fun k hk => ?_⟩
  · rw [pk_cpy_out (by omega)]
    exact h k hk
  · show va_cpy F F 335 268 67 (335 + k) = H k
    rw [pk_cpy_out (by omega)]
    exact a k hk
  · show va_cpy F F 335 268 67 (268 + k) = H k
    rw [pk_cpy_in (by omega) (by omega), Nat.add_sub_cancel_left]
    exact a k hk
theorem gv_1 {g F : Pg} (h : Qf g F) (a : AgP (pg F 335) g) {N c : Nat} (hN : N ≤ 5) (hc : c < 500) : (gvP F (pg F 335) N c ↔ gvP g g N c) ∧ Qf g (pp F 335 (gvG F (pg F 335) N c)) ∧ AgP (pg (pp F 335 (gvG F (pg F 335) N c)) 335) (gvG g g N c) := by
  refine ⟨gvP_ag h.ag a hN hc, fun k hk => ?_, ?_⟩
  · rw [pp_lo (by omega)]
    exact h k hk
  · rw [pg_pp]
    exact gvG_ag h.ag a hN hc
theorem gv_2 {g F H : Pg} (h : Qf g F) (a : AgP (pg F 335) H) (b : AgP (pg F 268) H) {N c : Nat} (hN : N ≤ 5) (hc : c < 500) : (gvP F (pg F 268) N c ↔ gvP g H N c) ∧ Qf g (pp F 268 (gvG F (pg F 268) N c)) ∧ AgP (pg (pp F 268 (gvG F (pg F 268) N c)) 335) H ∧ AgP (pg (pp F 268 (gvG F (pg F 268) N c)) 268) (gvG g H N c) := by
  refine ⟨gvP_ag h.ag b hN hc, fun k hk => ?_, fun k hk => ?_, ?_⟩
  · rw [pp_lo (by omega)]
    exact h k hk
  · show pp F 268 (gvG F (pg F 268) N c) (335 + k) = H k
    rw [show 335 + k = 268 + (67 + k) by omega, pp_at, gvG_hi hN hc (by omega)]
    show F (268 + (67 + k)) = H k
    rw [show 268 + (67 + k) = 335 + k by omega]
    exact a k hk
  · rw [pg_pp]
    exact gvG_ag h.ag b hN hc
theorem row_R {g F : Pg} {N : Nat} {c : Pos} (hN : N ≤ 5) (a : AgP (pg F 268) (rowG g N c)) : bitsTo (rightTo (pg F 268) N) 7 = Rv g N c := by
  unfold Rv
  rw [rightTo_ag a N hN]
theorem row_L {g F : Pg} {N : Nat} {c : Pos} (h : Qf g F) (a : AgP (pg F 268) (rowG g N c)) : F 290 - F 22 = Lv g N c := by
  unfold Lv
  rw [h 22 (by omega), ← a 22 (by omega)]
  rfl
theorem PM_o {g : Pg} {N n q r : Nat} (hn : n = 1 ∨ n = 2) (hr : n = 1 → r = 0) (d : Pos) (h : PM g N n q r d) : d.1 < n ∨ (d.1 = n ∧ (d.2.1 < q ∨ (d.2.1 = q ∧ d.2.2 < r))) := by
  obtain ⟨h1, h2⟩ := h
  unfold rowOk at h1
  by_cases e : d.1 = n
  · exact Or.inr ⟨e, h2 e⟩
  · left
    rcases h1 with y | ⟨y1, y2, y3⟩ | ⟨y1, y2, y3⟩ <;> omega
theorem PM_2 {g : Pg} {N n q r : Nat} (d : Pos) (h : PM g N n q r d) : d.1 ≤ 2 := by
  obtain ⟨h1, h2⟩ := h
  unfold rowOk at h1
  rcases h1 with y | ⟨y1, y2, y3⟩ | ⟨y1, y2, y3⟩ <;> omega
/-- the best, as the model's numbers hold it -/
def cmpI (f : Pg) (N : Nat) (i : Nat → Int32) (m cf cs : Int32) : Nat → Int32 :=
  let R := bitsTo (rightTo (pg f 268) N) 7
  let L := f 290 - f 22
  upd (upd (upd (upd (upd i 19 (if (i 19 < R) ∨ ((R = i 19) ∧ ((m = i 23) ∧ (¬ i 20 ≤ L))) then R else i 19)) 20 (if (i 19 < R) ∨ ((R = i 19) ∧ ((m = i 23) ∧ (¬ i 20 ≤ L))) then L else i 20)) 21 (if (i 19 < R) ∨ ((R = i 19) ∧ ((m = i 23) ∧ (¬ i 20 ≤ L))) then cf else i 21)) 22 (if (i 19 < R) ∨ ((R = i 19) ∧ ((m = i 23) ∧ (¬ i 20 ≤ L))) then cs else i 22)) 23 (if (i 19 < R) ∨ ((R = i 19) ∧ ((m = i 23) ∧ (¬ i 20 ≤ L))) then m else i 23)
def jOk (g : Pg) (N : Nat) (i j : Nat → Int32) (s : Pos) : Prop := Qi i j ∧ j 19 = Rv g N s ∧ j 20 = Lv g N s ∧ j 21 = fF s ∧ j 22 = fS s ∧ j 23 = nI s.1
theorem cmp_j {g F : Pg} {N : Nat} {i j : Nat → Int32} {P P' : Pos → Prop} {s c : Pos} {m cf cs : Int32} (hj : jOk g N i j s) (h : IsB g N P s) (hP : ∀ d, P' d ↔ P d ∨ d = c) (ho : ∀ d, P d → (d.1 < c.1 ∨ (d.1 = c.1 ∧ (d.2.1 < c.2.1 ∨ (d.2.1 = c.2.1 ∧ d.2.2 < c.2.2))))) (h2 : ∀ d, P d → d.1 ≤ 2) (hc : c.1 ≤ 2) (hN : N ≤ 5) (hq : Qf g F) (ha : AgP (pg F 268) (rowG g N c)) (em : m = nI c.1) (ef : cf = fF c) (es : cs = fS c) : ∃ t, IsB g N P' t ∧ jOk g N i (cmpI F N j m cf cs) t := by
  obtain ⟨hi, j1, j2, j3, j4, j5⟩ := hj
  obtain ⟨t, ht, e1, e2, e3, e4, e5⟩ := cmp_ok h hP ho h2 hc (row_R hN ha) (row_L hq ha) em ef es
  refine ⟨t, ht, hi, ?_, ?_, ?_, ?_, ?_⟩
  · refine Eq.trans ?_ e1
    show (if (j 19 < _) ∨ ((_ = j 19) ∧ ((m = j 23) ∧ (¬ j 20 ≤ _))) then _ else j 19) = _
    rw [j1, j2, j5]
  · refine Eq.trans ?_ e2
    show (if (j 19 < _) ∨ ((_ = j 19) ∧ ((m = j 23) ∧ (¬ j 20 ≤ _))) then _ else j 20) = _
    rw [j1, j2, j5]
  · refine Eq.trans ?_ e3
    show (if (j 19 < _) ∨ ((_ = j 19) ∧ ((m = j 23) ∧ (¬ j 20 ≤ _))) then _ else j 21) = _
    rw [j1, j2, j5, j3]
  · refine Eq.trans ?_ e4
    show (if (j 19 < _) ∨ ((_ = j 19) ∧ ((m = j 23) ∧ (¬ j 20 ≤ _))) then _ else j 22) = _
    rw [j1, j2, j5, j4]
  · refine Eq.trans ?_ e5
    show (if (j 19 < _) ∨ ((_ = j 19) ∧ ((m = j 23) ∧ (¬ j 20 ≤ _))) then _ else j 23) = _
    rw [j1, j2, j5]
theorem rowG_0 (g : Pg) (N : Nat) : rowG g N (0, 0, 0) = g := by
  unfold rowG
  rw [if_pos (show ((0, 0, 0) : Pos).1 = 0 from rfl)]
theorem rowG_1 (g : Pg) (N q : Nat) : rowG g N (1, q, 0) = gvG g g N q := by
  unfold rowG
  rw [if_neg (show ¬ (1 : Nat) = 0 by omega), if_pos (show (1 : Nat) = 1 from rfl)]
theorem rowG_2 (g : Pg) (N q r : Nat) : rowG g N (2, q, r) = gvG g (gvG g g N q) N r := by
  unfold rowG
  rw [if_neg (show ¬ (2 : Nat) = 0 by omega), if_neg (show ¬ (2 : Nat) = 1 by omega)]
theorem row_1 {X g : Pg} {N q : Nat} (a : AgP X (gvG g g N q)) : AgP X (rowG g N (1, q, 0)) := by
  rw [rowG_1]
  exact a
theorem row_2 {X g : Pg} {N q r : Nat} (a : AgP X (gvG g (gvG g g N q) N r)) : AgP X (rowG g N (2, q, r)) := by
  rw [rowG_2]
  exact a
