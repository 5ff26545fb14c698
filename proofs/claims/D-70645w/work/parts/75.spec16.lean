/-! SPEC: gifts by the class's numbers -/
abbrev cA (N q : Nat) : Nat := q / (9 * N)
abbrev cB (N q : Nat) : Nat := q / 9 % N
abbrev cM (q : Nat) : Nat := 1 + q % 9
abbrev cd (N q : Nat) : Nat := 100 * cA N q + 10 * cB N q + cM q
abbrev cmP (h : Pg) (N q : Nat) : Prop := ¬ cA N q = cB N q ∧ may2 h h (cA N q) (cB N q) (nI (cM q))
def cmG (h : Pg) (N q : Nat) : Pg := give2 h h (cA N q) (cB N q) (nI (cM q))
theorem nn225 {N : Nat} (h : N ≤ 5) : N * N * 9 ≤ 225 := by
  have : N * N ≤ 5 * 5 := Nat.mul_le_mul h h
  omega
theorem n15 {N : Nat} (h0 : 0 < N) (h : N ≤ 5) : N = 1 ∨ N = 2 ∨ N = 3 ∨ N = 4 ∨ N = 5 := by omega
theorem q_pos {N q : Nat} (hq : q < N * N * 9) : 0 < N := by
  rcases Nat.eq_zero_or_pos N with z | z
  · subst z; omega
  · exact z
theorem cA_lt {N q : Nat} (h : N ≤ 5) (hq : q < N * N * 9) : cA N q < N := by
  rcases n15 (q_pos hq) h with rfl | rfl | rfl | rfl | rfl <;> unfold cA <;> omega
theorem cB_lt {N q : Nat} (hq : q < N * N * 9) : cB N q < N := Nat.mod_lt _ (q_pos hq)
theorem cd_div {N q : Nat} (h : N ≤ 5) (hq : q < N * N * 9) : cd N q / 100 = cA N q ∧ cd N q / 10 % 10 = cB N q ∧ cd N q % 10 = cM q ∧ cd N q < 500 := by
  have h1 := cA_lt h hq
  have h2 := cB_lt (N := N) hq
  unfold cd cM
  omega
theorem cd_step : ∀ (N : Fin 6) (q : Fin 225), q.val < N.val * N.val * 9 → cd N.val q.val < cd N.val (q.val + 1) := by decide +kernel
theorem cd_mono {N : Nat} (h : N ≤ 5) (q : Nat) : ∀ d, q + d + 1 ≤ N * N * 9 → cd N q < cd N (q + d + 1)
  | 0, hd => cd_step ⟨N, by omega⟩ ⟨q, by have := nn225 h; omega⟩ (show q < N * N * 9 by omega)
  | d + 1, hd => Nat.lt_trans (cd_mono h q d (by omega)) (cd_step ⟨N, by omega⟩ ⟨q + d + 1, by have := nn225 h; omega⟩ (show q + d + 1 < N * N * 9 by omega))
theorem cd_lt {N q r : Nat} (h : N ≤ 5) (h0 : 0 < N) (hqr : q < r) : cd N q < cd N r ∨ N * N * 9 < r := by
  rcases Nat.lt_or_ge (N * N * 9) r with z | z
  · exact Or.inr z
  · left
    have := cd_mono h q (r - q - 1) (by omega)
    rw [show q + (r - q - 1) + 1 = r by omega] at this
    exact this
theorem cd_0 (N : Nat) : cd N 0 = 1 := by
  unfold cd cA cB cM
  rw [Nat.zero_div, Nat.zero_div, Nat.zero_mod]
theorem cd_pos (N q : Nat) : 0 < cd N q := by unfold cd cM; omega
theorem cd_of {N c : Nat} (h : N ≤ 5) (ha : c / 100 < N) (hb : c / 10 % 10 < N) (hm : 1 ≤ c % 10) : ∃ q, q < N * N * 9 ∧ cd N q = c := by
  refine ⟨9 * N * (c / 100) + 9 * (c / 10 % 10) + (c % 10 - 1), ?_⟩
  rcases n15 (show 0 < N by omega) h with rfl | rfl | rfl | rfl | rfl <;> unfold cd cA cB cM <;> omega
theorem gvP_m {k g : Pg} {N c : Nat} (h : gvP k g N c) : 1 ≤ c % 10 := by
  rcases Nat.eq_zero_or_pos (c % 10) with z | z
  · have := h.2.1
    rw [z] at this
    exact absurd (by decide) this
  · exact z
theorem gvP_cd {k g : Pg} {N c : Nat} (h : N ≤ 5) (hc : c < 500) (p : gvP k g N c) : ∃ q, q < N * N * 9 ∧ cd N q = c := by
  obtain ⟨l1, l2⟩ := two_lt h (by omega) (by omega) p.1
  exact cd_of h l1 l2 (gvP_m p)
/-- between a number's code and the next one's no gift lies -/
theorem gv_btw {k g : Pg} {N q c : Nat} (h : N ≤ 5) (hq : q < N * N * 9) (hc : c < 500) (p : gvP k g N c) (l : c < cd N (q + 1)) : c < cd N q ∨ c = cd N q := by
  obtain ⟨r, hr, e⟩ := gvP_cd h hc p
  have h0 := q_pos hq
  rcases Nat.lt_trichotomy r q with z | z | z
  · rcases cd_lt h h0 z with y | y
    · omega
    · omega
  · subst z; omega
  · rcases Nat.eq_or_lt_of_le (show q + 1 ≤ r by omega) with y | y
    · rw [y] at l; omega
    · rcases cd_lt h h0 y with x | x
      · omega
      · omega
theorem gv_end {k g : Pg} {N c : Nat} (h : N ≤ 5) (hc : c < 500) (p : gvP k g N c) : c < cd N (N * N * 9) := by
  obtain ⟨r, hr, e⟩ := gvP_cd h hc p
  rcases cd_lt h (q_pos hr) hr with y | y
  · omega
  · omega
theorem gv_beg {k g : Pg} {N c : Nat} (p : gvP k g N c) : ¬ c < 1 := by
  have := gvP_m p
  omega
theorem cd_s {N q : Nat} (h : N ≤ 5) (hq : q < N * N * 9) : cd N q < cd N (q + 1) := by
  rcases cd_lt h (q_pos hq) (show q < q + 1 by omega) with y | y
  · exact y
  · omega
/-- a gift by number is one by its code -/
theorem cm_gv {g h : Pg} {N q : Nat} (hN : N ≤ 5) (hq : q < N * N * 9) (hk : KK g h) : cmP h N q ↔ gvP g h N (cd N q) := by
  obtain ⟨e1, e2, e3, -⟩ := cd_div hN hq
  have h1 := cA_lt hN hq
  have h2 := cB_lt (N := N) hq
  unfold gvP cmP
  rw [e1, e2, e3, two_iff hN (by omega) (by omega), ← hk.may (by omega) (by omega)]
  constructor
  · intro z
    exact ⟨⟨h1, h2, z.1⟩, nI_nle (by unfold cM; omega) (by unfold cM; omega), z.2⟩
  · intro z
    exact ⟨z.1.2.2, z.2.2⟩
theorem cm_G {g h : Pg} {N q : Nat} (hN : N ≤ 5) (hq : q < N * N * 9) (hk : KK g h) (p : gvP g h N (cd N q)) : cmG h N q = gvG g h N (cd N q) := by
  obtain ⟨e1, e2, e3, -⟩ := cd_div hN hq
  have h1 := cA_lt hN hq
  have h2 := cB_lt (N := N) hq
  unfold gvG cmG
  rw [if_pos p, e1, e2, e3]
  exact hk.giv (by omega) (by omega) _
theorem cm_ok {h : Pg} {N n q : Nat} (ok : okP h N n) (hq : q < N * N * 9) (p : cmP h N q) : okP (cmG h N q) N n ∧ bfit (h (15 + cA N q) - nI (cM q)) ∧ bfit (upd h (15 + cA N q) (h (15 + cA N q) - nI (cM q)) (15 + cB N q) + gets2 h (cA N q) (cB N q) (nI (cM q))) := by
  have hN := ok.1
  have h1 := cA_lt hN hq
  have h2 := cB_lt (N := N) hq
  exact okP_give ok (by omega) (by omega) p.1 (by unfold cM; omega) p.2
theorem cm_kk {g h : Pg} {N q : Nat} (hN : N ≤ 5) (hq : q < N * N * 9) (hk : KK g h) : KK g (cmG h N q) := by
  have h1 := cA_lt hN hq
  have h2 := cB_lt (N := N) hq
  exact hk.give (by omega) (by omega)
/-- the best, as the class's numbers hold it -/
abbrev jgP (i : Nat → Int32) (R m L : Int32) : Prop := (i 13 < R) ∨ ((R = i 13) ∧ ((m < i 14) ∨ ((m = i 14) ∧ (¬ i 15 ≤ L))))
def jgI (i : Nat → Int32) (R m L : Int32) : Nat → Int32 := upd (upd (upd i 13 (if jgP i R m L then R else i 13)) 14 (if jgP i R m L then m else i 14)) 15 (if jgP i R m L then L else i 15)
def jgB (br i : Nat → Int32) (R m L a b : Int32) : Nat → Int32 := if jgP i R m L then upd (upd br 0 a) 1 b else br
/-- the rows that the class has tried -/
def PC (g : Pg) (N n A B : Nat) (d : Pos) : Prop := rowOk g N n d ∧ (d.1 = 0 ∨ d.2.1 < A ∨ (d.2.1 = A ∧ ((d.1 = 1 ∧ 0 < B) ∨ (d.1 = 2 ∧ d.2.2 < B))))
theorem PC_z {g : Pg} {N A B : Nat} (d : Pos) : PC g N 0 A B d ↔ rowOk g N 0 d := by
  unfold PC rowOk
  constructor
  · exact fun z => z.1
  · intro z
    refine ⟨z, Or.inl ?_⟩
    rcases z with y | ⟨y1, y2, y3⟩ | ⟨y1, y2, y3⟩
    · exact y.1
    · omega
    · omega
theorem PC_0 {g : Pg} {N n : Nat} (d : Pos) : PC g N n (cd N 0) 0 d ↔ rowOk g N 0 d := by
  rw [cd_0]
  unfold PC rowOk
  constructor
  · intro ⟨h1, h2⟩
    rcases h1 with y | ⟨y1, y2, y3, y4⟩ | ⟨y1, y2, y3, y4⟩
    · exact Or.inl y
    · have := gv_beg y3; omega
    · have := gv_beg y3; omega
  · intro z
    rcases z with y | ⟨y1, y2, y3⟩ | ⟨y1, y2, y3⟩
    · exact ⟨Or.inl y, Or.inl y.1⟩
    · omega
    · omega
theorem PC_e {g : Pg} {N n : Nat} (h : N ≤ 5) (d : Pos) : PC g N n (cd N (N * N * 9)) 0 d ↔ rowOk g N n d := by
  unfold PC
  constructor
  · exact fun z => z.1
  · intro z
    refine ⟨z, ?_⟩
    rcases z with y | ⟨y1, y2, y3, y4, y5⟩ | ⟨y1, y2, y3, y4, y5⟩
    · exact Or.inl y.1
    · exact Or.inr (Or.inl (gv_end h y4 y3))
    · exact Or.inr (Or.inl (gv_end h y4 y3))
theorem PC_1 {g : Pg} {N n A : Nat} (hn : 1 ≤ n) (hA : A < 500) (p : gvP g g N A) (d : Pos) : PC g N n A 1 d ↔ PC g N n A 0 d ∨ d = (1, A, 0) := by
  obtain ⟨a, b, c⟩ := d
  unfold PC rowOk
  simp only
  constructor
  · intro ⟨h1, h2⟩
    by_cases e : a = 1 ∧ b = A
    · right
      obtain ⟨rfl, rfl⟩ := e
      have : c = 0 := by omega
      rw [this]
    · left
      refine ⟨h1, ?_⟩
      rcases h1 with y | ⟨y1, y2, y3, y4, y5⟩ | ⟨y1, y2, y3, y4, y5, y6⟩
      · omega
      · omega
      · have := gv_beg y5; omega
  · intro z
    rcases z with ⟨h1, h2⟩ | z
    · exact ⟨h1, by omega⟩
    · obtain ⟨rfl, rfl, rfl⟩ : a = 1 ∧ b = A ∧ c = 0 := by
        have := Prod.mk.inj z
        have h2 := Prod.mk.inj this.2
        exact ⟨this.1, h2.1, h2.2⟩
      exact ⟨Or.inr (Or.inl ⟨rfl, hn, p, hA, rfl⟩), by omega⟩
theorem PC_f {g : Pg} {N n q : Nat} (h : N ≤ 5) (hq : q < N * N * 9) (p : ¬ gvP g g N (cd N q)) (d : Pos) : PC g N n (cd N (q + 1)) 0 d ↔ PC g N n (cd N q) 0 d := by
  obtain ⟨a, b, c⟩ := d
  have hs := cd_s h hq
  unfold PC rowOk
  simp only
  constructor
  · intro ⟨h1, h2⟩
    refine ⟨h1, ?_⟩
    rcases h1 with y | ⟨y1, y2, y3, y4, y5⟩ | ⟨y1, y2, y3, y4, y5, y6⟩
    · omega
    · rcases gv_btw h hq y4 y3 (by omega) with z | z
      · omega
      · subst z; exact absurd y3 p
    · rcases gv_btw h hq y4 y3 (by omega) with z | z
      · omega
      · subst z; exact absurd y3 p
  · intro ⟨h1, h2⟩
    exact ⟨h1, by omega⟩
theorem PC_n {g : Pg} {N q : Nat} (h : N ≤ 5) (hq : q < N * N * 9) (d : Pos) : PC g N 1 (cd N (q + 1)) 0 d ↔ PC g N 1 (cd N q) 1 d := by
  obtain ⟨a, b, c⟩ := d
  have hs := cd_s h hq
  unfold PC rowOk
  simp only
  constructor
  · intro ⟨h1, h2⟩
    refine ⟨h1, ?_⟩
    rcases h1 with y | ⟨y1, y2, y3, y4, y5⟩ | ⟨y1, y2, y3, y4, y5, y6⟩
    · omega
    · have := gv_btw h hq y4 y3 (by omega)
      omega
    · omega
  · intro ⟨h1, h2⟩
    exact ⟨h1, by omega⟩
theorem PC_2t {g : Pg} {N q r : Nat} (h : N ≤ 5) (hr : r < N * N * 9) (p : gvP g g N (cd N q)) (hq : cd N q < 500) (p2 : gvP g (gvG g g N (cd N q)) N (cd N r)) (d : Pos) : PC g N 2 (cd N q) (cd N (r + 1)) d ↔ PC g N 2 (cd N q) (cd N r) d ∨ d = (2, cd N q, cd N r) := by
  obtain ⟨a, b, c⟩ := d
  have hs := cd_s h hr
  have hp := cd_pos N r
  have hd := (cd_div h hr).2.2.2
  unfold PC rowOk
  simp only
  constructor
  · intro ⟨h1, h2⟩
    by_cases e : a = 2 ∧ b = cd N q ∧ c = cd N r
    · right
      obtain ⟨rfl, rfl, rfl⟩ := e
      rfl
    · left
      refine ⟨h1, ?_⟩
      rcases h1 with y | ⟨y1, y2, y3, y4, y5⟩ | ⟨y1, y2, y3, y4, y5, y6⟩
      · omega
      · omega
      · by_cases e2 : c < cd N (r + 1)
        · have := gv_btw h hr y6 y5 e2
          omega
        · omega
  · intro z
    rcases z with ⟨h1, h2⟩ | z
    · exact ⟨h1, by omega⟩
    · obtain ⟨rfl, rfl, rfl⟩ : a = 2 ∧ b = cd N q ∧ c = cd N r := by
        have := Prod.mk.inj z
        have h2 := Prod.mk.inj this.2
        exact ⟨this.1, h2.1, h2.2⟩
      exact ⟨Or.inr (Or.inr ⟨rfl, Nat.le_refl _, p, hq, p2, hd⟩), by omega⟩
theorem PC_2f {g : Pg} {N q r : Nat} (h : N ≤ 5) (hr : r < N * N * 9) (p2 : ¬ gvP g (gvG g g N (cd N q)) N (cd N r)) (d : Pos) : PC g N 2 (cd N q) (cd N (r + 1)) d ↔ PC g N 2 (cd N q) (cd N r) d := by
  obtain ⟨a, b, c⟩ := d
  have hs := cd_s h hr
  have hp := cd_pos N r
  unfold PC rowOk
  simp only
  constructor
  · intro ⟨h1, h2⟩
    refine ⟨h1, ?_⟩
    rcases h1 with y | ⟨y1, y2, y3, y4, y5⟩ | ⟨y1, y2, y3, y4, y5, y6⟩
    · omega
    · omega
    · by_cases e2 : c < cd N (r + 1) ∧ b = cd N q
      · obtain ⟨e3, rfl⟩ := e2
        rcases gv_btw h hr y6 y5 e3 with z | z
        · omega
        · subst z; exact absurd y5 p2
      · omega
  · intro ⟨h1, h2⟩
    exact ⟨h1, by omega⟩
theorem PC_2n {g : Pg} {N q : Nat} (h : N ≤ 5) (hq : q < N * N * 9) (d : Pos) : PC g N 2 (cd N (q + 1)) 0 d ↔ PC g N 2 (cd N q) (cd N (N * N * 9)) d := by
  obtain ⟨a, b, c⟩ := d
  have hs := cd_s h hq
  have hp := cd_pos N (N * N * 9)
  unfold PC rowOk
  simp only
  constructor
  · intro ⟨h1, h2⟩
    refine ⟨h1, ?_⟩
    rcases h1 with y | ⟨y1, y2, y3, y4, y5⟩ | ⟨y1, y2, y3, y4, y5, y6⟩
    · omega
    · have := gv_btw h hq y4 y3 (by omega)
      omega
    · have := gv_btw h hq y4 y3 (by omega)
      have := gv_end h y6 y5
      omega
  · intro ⟨h1, h2⟩
    exact ⟨h1, by omega⟩
/-- a number's code stands in the row -/
def isCd (N : Nat) (x : Int32) (c : Nat) : Prop := ∃ q, q < N * N * 9 ∧ x = nI q ∧ cd N q = c
def jC (g : Pg) (N : Nat) (i br : Nat → Int32) (s : Pos) : Prop := i 13 = Rv g N s ∧ i 14 = nI s.1 ∧ i 15 = Lv g N s ∧ s.1 ≤ 2 ∧ (1 ≤ s.1 → isCd N (br 0) s.2.1) ∧ (s.1 = 2 → isCd N (br 1) s.2.2)
theorem jg_j {g : Pg} {N : Nat} {i br : Nat → Int32} {P P' : Pos → Prop} {s c : Pos} {R m L a b : Int32} (hj : jC g N i br s) (h : IsB g N P s) (hP : ∀ d, P' d ↔ P d ∨ d = c) (ho : ∀ d, P d → d.1 = c.1 → (d.2.1 < c.2.1 ∨ (d.2.1 = c.2.1 ∧ d.2.2 < c.2.2))) (hc : c.1 ≤ 2) (eR : R = Rv g N c) (eL : L = Lv g N c) (em : m = nI c.1) (ea : 1 ≤ c.1 → isCd N a c.2.1) (eb : c.1 = 2 → isCd N b c.2.2) : ∃ t, IsB g N P' t ∧ jC g N (jgI i R m L) (jgB br i R m L a b) t := by
  obtain ⟨j1, j2, j3, j4, j5, j6⟩ := hj
  refine ⟨_, cmp_c h hP ho, ?_⟩
  subst eR eL em
  have e : jgP i (Rv g N c) (nI c.1) (Lv g N c) ↔ betC (Rv g N c) (Lv g N c) c.1 g N s := by
    unfold jgP betC
    rw [j1, j2, j3, nI_eq (by omega) (by omega), nI_ltI (by omega) (by omega), Int32.not_le]
  unfold jgB
  by_cases z : betC (Rv g N c) (Lv g N c) c.1 g N s
  · rw [if_pos z, if_pos (e.mpr z)]
    exact ⟨if_pos (e.mpr z), if_pos (e.mpr z), if_pos (e.mpr z), hc, ea, eb⟩
  · have z2 := fun y => z (e.mp y)
    rw [if_neg z, if_neg z2]
    exact ⟨(if_neg z2).trans j1, (if_neg z2).trans j2, (if_neg z2).trans j3, j4, j5, j6⟩
theorem jg_q {i0 i : Nat → Int32} {R m L : Int32} (h : Qx i0 i) : Qx i0 (jgI i R m L) := h
theorem jg_0 {g : Pg} {N : Nat} {i br : Nat → Int32} (hN : N ≤ 5) : jC g N (jgI (upd i 13 (-1)) (bitsTo (rightTo g N) 7) 0 (g 22 - g 22)) (jgB br (upd i 13 (-1)) (bitsTo (rightTo g N) 7) 0 (g 22 - g 22) 0 0) (0, 0, 0) := by
  have b : jgP (upd i 13 (-1)) (bitsTo (rightTo g N) 7) 0 (g 22 - g 22) := by
    left
    rw [upd_s]
    exact right_pos _ hN
  have eR : Rv g N (0, 0, 0) = bitsTo (rightTo g N) 7 := by unfold Rv; rw [rowG_0]
  have eL : Lv g N (0, 0, 0) = g 22 - g 22 := by unfold Lv; rw [rowG_0]
  refine ⟨(if_pos b).trans eR.symm, if_pos b, (if_pos b).trans eL.symm, Nat.zero_le _, fun z => absurd z (by decide), fun z => absurd z (by decide)⟩
theorem PC_o1 {g : Pg} {N n A : Nat} (d : Pos) (h : PC g N n A 0 d) (e : d.1 = 1) : d.2.1 < A ∨ (d.2.1 = A ∧ d.2.2 < 0) := by
  rcases h.2 with z | z | z
  · omega
  · exact Or.inl z
  · omega
theorem PC_o2 {g : Pg} {N n A B : Nat} (d : Pos) (h : PC g N n A B d) (e : d.1 = 2) : d.2.1 < A ∨ (d.2.1 = A ∧ d.2.2 < B) := by
  rcases h.2 with z | z | z
  · omega
  · exact Or.inl z
  · omega
theorem rv_1 {g : Pg} {N A : Nat} {T : Pg} (e : T = gvG g g N A) : bitsTo (rightTo T N) 7 = Rv g N (1, A, 0) ∧ T 22 - g 22 = Lv g N (1, A, 0) := by
  unfold Rv Lv
  rw [rowG_1, e]
  exact ⟨rfl, rfl⟩
theorem rv_2 {g : Pg} {N A B : Nat} {T : Pg} (e : T = gvG g (gvG g g N A) N B) : bitsTo (rightTo T N) 7 = Rv g N (2, A, B) ∧ T 22 - g 22 = Lv g N (2, A, B) := by
  unfold Rv Lv
  rw [rowG_2, e]
  exact ⟨rfl, rfl⟩
