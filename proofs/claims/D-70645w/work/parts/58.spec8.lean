/-! SPEC, eighth part: rows of gifts, the best of them -/
abbrev Pos : Type := Nat × Nat × Nat
def rowG (g : Pg) (N : Nat) (s : Pos) : Pg := if s.1 = 0 then g else if s.1 = 1 then gvG g g N s.2.1 else gvG g (gvG g g N s.2.1) N s.2.2
def rowOk (g : Pg) (N n : Nat) (s : Pos) : Prop := (s.1 = 0 ∧ s.2.1 = 0 ∧ s.2.2 = 0) ∨ (s.1 = 1 ∧ 1 ≤ n ∧ gvP g g N s.2.1 ∧ s.2.1 < 500 ∧ s.2.2 = 0) ∨ (s.1 = 2 ∧ 2 ≤ n ∧ gvP g g N s.2.1 ∧ s.2.1 < 500 ∧ gvP g (gvG g g N s.2.1) N s.2.2 ∧ s.2.2 < 500)
def Rv (g : Pg) (N : Nat) (s : Pos) : Int32 := bitsTo (rightTo (rowG g N s) N) 7
def Lv (g : Pg) (N : Nat) (s : Pos) : Int32 := rowG g N s 22 - g 22
def kLt (g : Pg) (N : Nat) (c s : Pos) : Prop := Rv g N s < Rv g N c ∨ (Rv g N s = Rv g N c ∧ (c.1 < s.1 ∨ (c.1 = s.1 ∧ (Lv g N c < Lv g N s ∨ (Lv g N c = Lv g N s ∧ (c.2.1 < s.2.1 ∨ (c.2.1 = s.2.1 ∧ c.2.2 < s.2.2)))))))
def IsB (g : Pg) (N : Nat) (P : Pos → Prop) (s : Pos) : Prop := P s ∧ ∀ c, P c → ¬ kLt g N c s
theorem IsB.un {g : Pg} {N : Nat} {P : Pos → Prop} {s t : Pos} (h : IsB g N P s) (k : IsB g N P t) : s = t := by
  have h1 := h.2 t k.1
  have h2 := k.2 s h.1
  obtain ⟨a, b, c⟩ := s
  obtain ⟨d, e, f⟩ := t
  unfold kLt at h1 h2
  simp only [Int32.lt_iff_toInt_lt, ← Int32.toInt_inj] at h1 h2
  have : a = d ∧ b = e ∧ c = f := by omega
  obtain ⟨rfl, rfl, rfl⟩ := this
  rfl
abbrev betM (R L : Int32) (M : Nat) (g : Pg) (N : Nat) (s : Pos) : Prop := Rv g N s < R ∨ (R = Rv g N s ∧ M = s.1 ∧ L < Lv g N s)
theorem cmp_s {g : Pg} {N : Nat} {P P' : Pos → Prop} {s c : Pos} (h : IsB g N P s) (hP : ∀ d, P' d ↔ P d ∨ d = c) (ho : ∀ d, P d → (d.1 < c.1 ∨ (d.1 = c.1 ∧ (d.2.1 < c.2.1 ∨ (d.2.1 = c.2.1 ∧ d.2.2 < c.2.2))))) : IsB g N P' (if betM (Rv g N c) (Lv g N c) c.1 g N s then c else s) := by
  have hs := ho s h.1
  by_cases b : betM (Rv g N c) (Lv g N c) c.1 g N s
  · rw [if_pos b]
    refine ⟨(hP c).mpr (Or.inr rfl), fun d hd => ?_⟩
    rcases (hP d).mp hd with z | rfl
    · have h1 := h.2 d z
      have h2 := ho d z
      unfold betM at b
      unfold kLt at h1 ⊢
      simp only [Int32.lt_iff_toInt_lt, ← Int32.toInt_inj] at b h1 ⊢
      omega
    · unfold kLt
      simp only [Int32.lt_iff_toInt_lt, ← Int32.toInt_inj]
      omega
  · rw [if_neg b]
    refine ⟨(hP s).mpr (Or.inl h.1), fun d hd => ?_⟩
    rcases (hP d).mp hd with z | rfl
    · exact h.2 d z
    · unfold betM at b
      unfold kLt
      simp only [Int32.lt_iff_toInt_lt, ← Int32.toInt_inj] at b ⊢
      omega
abbrev betC (R L : Int32) (M : Nat) (g : Pg) (N : Nat) (s : Pos) : Prop := Rv g N s < R ∨ (R = Rv g N s ∧ (M < s.1 ∨ (M = s.1 ∧ L < Lv g N s)))
theorem cmp_c {g : Pg} {N : Nat} {P P' : Pos → Prop} {s c : Pos} (h : IsB g N P s) (hP : ∀ d, P' d ↔ P d ∨ d = c) (ho : ∀ d, P d → d.1 = c.1 → (d.2.1 < c.2.1 ∨ (d.2.1 = c.2.1 ∧ d.2.2 < c.2.2))) : IsB g N P' (if betC (Rv g N c) (Lv g N c) c.1 g N s then c else s) := by
  have hs := ho s h.1
  by_cases b : betC (Rv g N c) (Lv g N c) c.1 g N s
  · rw [if_pos b]
    refine ⟨(hP c).mpr (Or.inr rfl), fun d hd => ?_⟩
    rcases (hP d).mp hd with z | rfl
    · have h1 := h.2 d z
      have h2 := ho d z
      unfold betC at b
      unfold kLt at h1 ⊢
      simp only [Int32.lt_iff_toInt_lt, ← Int32.toInt_inj] at b h1 ⊢
      omega
    · unfold kLt
      simp only [Int32.lt_iff_toInt_lt, ← Int32.toInt_inj]
      omega
  · rw [if_neg b]
    refine ⟨(hP s).mpr (Or.inl h.1), fun d hd => ?_⟩
    rcases (hP d).mp hd with z | rfl
    · exact h.2 d z
    · unfold betC at b
      unfold kLt
      simp only [Int32.lt_iff_toInt_lt, ← Int32.toInt_inj] at b ⊢
      omega
/-- the rows that were tried -/
def PM (g : Pg) (N n q r : Nat) (d : Pos) : Prop := rowOk g N n d ∧ (d.1 = n → d.2.1 < q ∨ (d.2.1 = q ∧ d.2.2 < r))
theorem PM_0 {g : Pg} {N n : Nat} (hn : n = 1 ∨ n = 2) (d : Pos) : PM g N n 0 0 d ↔ rowOk g N (n - 1) d := by
  unfold PM rowOk
  constructor
  · intro ⟨h1, h2⟩
    rcases h1 with y | ⟨y1, y2, y3⟩ | ⟨y1, y2, y3⟩
    · exact Or.inl y
    · exact Or.inr (Or.inl ⟨y1, by omega, y3⟩)
    · exact absurd (h2 (by omega)) (by omega)
  · intro h1
    rcases h1 with y | ⟨y1, y2, y3⟩ | ⟨y1, y2, y3⟩
    · exact ⟨Or.inl y, fun z => by omega⟩
    · exact ⟨Or.inr (Or.inl ⟨y1, by omega, y3⟩), fun z => by omega⟩
    · omega
theorem PM_e {g : Pg} {N n : Nat} (hn : n = 1 ∨ n = 2) (d : Pos) : PM g N n 500 0 d ↔ rowOk g N n d := by
  unfold PM rowOk
  constructor
  · intro h; exact h.1
  · intro h1
    refine ⟨h1, fun z => ?_⟩
    rcases h1 with y | ⟨y1, y2, y3, y4, y5⟩ | ⟨y1, y2, y3, y4, y5⟩
    · omega
    · omega
    · omega
theorem PM1_t {g : Pg} {N q : Nat} (h : gvP g g N q) (hq : q < 500) (d : Pos) : PM g N 1 (q + 1) 0 d ↔ PM g N 1 q 0 d ∨ d = (1, q, 0) := by
  obtain ⟨a, b, c⟩ := d
  unfold PM rowOk
  constructor
  · intro ⟨h1, h2⟩
    by_cases e : a = 1 ∧ b = q
    · obtain ⟨rfl, rfl⟩ := e
      right
      have : c = 0 := by
        simp only at h1
        omega
      rw [this]
    · left
      refine ⟨h1, fun z => ?_⟩
      have := h2 z
      simp only at this z ⊢
      omega
  · intro z
    rcases z with ⟨h1, h2⟩ | z
    · exact ⟨h1, fun z => by have := h2 z; simp only at this ⊢; omega⟩
    · obtain ⟨rfl, rfl, rfl⟩ : a = 1 ∧ b = q ∧ c = 0 := by
        have := Prod.mk.inj z
        have h2 := Prod.mk.inj this.2
        exact ⟨this.1, h2.1, h2.2⟩
      exact ⟨Or.inr (Or.inl ⟨rfl, Nat.le_refl _, h, hq, rfl⟩), fun _ => Or.inl (by simp only; omega)⟩
theorem PM1_f {g : Pg} {N q : Nat} (h : ¬ gvP g g N q) (d : Pos) : PM g N 1 (q + 1) 0 d ↔ PM g N 1 q 0 d := by
  obtain ⟨a, b, c⟩ := d
  unfold PM rowOk
  constructor
  · intro ⟨h1, h2⟩
    refine ⟨h1, fun z => ?_⟩
    have h3 := h2 z
    simp only at h1 h3 z ⊢
    by_cases e : b = q
    · subst e
      rcases h1 with y | y | y
      · omega
      · exact absurd y.2.2.1 h
      · omega
    · omega
  · intro ⟨h1, h2⟩
    exact ⟨h1, fun z => by have := h2 z; simp only at this ⊢; omega⟩
theorem PM2_t {g : Pg} {N q r : Nat} (h : gvP g g N q) (hq : q < 500) (h2 : gvP g (gvG g g N q) N r) (hr : r < 500) (d : Pos) : PM g N 2 q (r + 1) d ↔ PM g N 2 q r d ∨ d = (2, q, r) := by
  obtain ⟨a, b, c⟩ := d
  unfold PM rowOk
  constructor
  · intro ⟨h1, h2⟩
    by_cases e : a = 2 ∧ b = q ∧ c = r
    · obtain ⟨rfl, rfl, rfl⟩ := e
      exact Or.inr rfl
    · left
      refine ⟨h1, fun z => ?_⟩
      have := h2 z
      simp only at this z ⊢
      omega
  · intro z
    rcases z with ⟨h1, h2⟩ | z
    · exact ⟨h1, fun z => by have := h2 z; simp only at this ⊢; omega⟩
    · obtain ⟨rfl, rfl, rfl⟩ : a = 2 ∧ b = q ∧ c = r := by
        have := Prod.mk.inj z
        have h2 := Prod.mk.inj this.2
        exact ⟨this.1, h2.1, h2.2⟩
      exact ⟨Or.inr (Or.inr ⟨rfl, Nat.le_refl _, h, hq, h2, hr⟩), fun _ => Or.inr ⟨rfl, by simp only; omega⟩⟩
theorem PM2_f {g : Pg} {N q r : Nat} (h : ¬ gvP g (gvG g g N q) N r) (d : Pos) : PM g N 2 q (r + 1) d ↔ PM g N 2 q r d := by
  obtain ⟨a, b, c⟩ := d
  unfold PM rowOk
  constructor
  · intro ⟨h1, h2⟩
    refine ⟨h1, fun z => ?_⟩
    have h3 := h2 z
    simp only at h1 h3 z ⊢
    by_cases e : b = q ∧ c = r
    · obtain ⟨rfl, rfl⟩ := e
      rcases h1 with y | y | y
      · omega
      · omega
      · exact absurd y.2.2.2.2.1 h
    · omega
  · intro ⟨h1, h2⟩
    exact ⟨h1, fun z => by have := h2 z; simp only at this ⊢; omega⟩
theorem PM2_n {g : Pg} {N q : Nat} (d : Pos) : PM g N 2 q 500 d ↔ PM g N 2 (q + 1) 0 d := by
  obtain ⟨a, b, c⟩ := d
  unfold PM rowOk
  simp only
  constructor
  · intro ⟨h1, h2⟩
    exact ⟨h1, fun z => by have := h2 z; omega⟩
  · intro ⟨h1, h2⟩
    exact ⟨h1, fun z => by have := h2 z; omega⟩
theorem PM2_x {g : Pg} {N q : Nat} (h : ¬ gvP g g N q) (d : Pos) : PM g N 2 q 0 d ↔ PM g N 2 (q + 1) 0 d := by
  obtain ⟨a, b, c⟩ := d
  unfold PM rowOk
  simp only
  constructor
  · intro ⟨h1, h2⟩
    exact ⟨h1, fun z => by have := h2 z; omega⟩
  · intro ⟨h1, h2⟩
    refine ⟨h1, fun z => ?_⟩
    have h3 := h2 z
    by_cases e : b = q
    · subst e
      rcases h1 with y | y | y
      · omega
      · omega
      · exact absurd y.2.2.1 h
    · omega
theorem IsB.cg {g : Pg} {N : Nat} {P P' : Pos → Prop} {s : Pos} (h : IsB g N P s) (e : ∀ d, P' d ↔ P d) : IsB g N P' s := ⟨(e s).mpr h.1, fun c hc => h.2 c ((e c).mp hc)⟩
