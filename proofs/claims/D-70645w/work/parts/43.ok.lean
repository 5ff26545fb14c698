/-! GOOD PAGES: what holds of every page that a ward holds -/
def okN (g : Pg) (k m : Nat) : Prop := g k = nI (pN g k) ∧ pN g k ≤ m
theorem okN_of {g : Pg} {k j m : Nat} (e : g k = nI j) (h : j ≤ m) (hm : m < 1000) : okN g k m := by
  have h1 : pN g k = j := by unfold pN; rw [e]; exact nI_clamp (by omega)
  unfold okN
  rw [h1]
  exact ⟨e, h⟩
theorem okN_eq {g h : Pg} {k m : Nat} (e : h k = g k) (o : okN g k m) : okN h k m := by
  unfold okN pN at *
  rw [e]
  exact o
def okP (g : Pg) (N n : Nat) : Prop := N ≤ 5 ∧ n ≤ 6 ∧ g 66 = nI n ∧ (∀ c, c < 5 → okN g c 3 ∧ okN g (5 + c) 3 ∧ okN g (10 + c) 6 ∧ okN g (15 + c) 99) ∧ (∃ z, z ≤ 50 ∧ g 20 + 40 = nI z) ∧ (∀ i, i < n → pN g (48 + 3 * i) < N ∧ pN g (48 + 3 * i + 1) < N ∧ pN g (48 + 3 * i) ≠ pN g (48 + 3 * i + 1) ∧ 1 ≤ pN g (48 + 3 * i + 2)) ∧ (∀ k, k < 18 → okN g (48 + k) 9)
theorem okP.w {g : Pg} {N n : Nat} (h : okP g N n) : okW g := by
  obtain ⟨-, -, -, h1, -, -, h2⟩ := h
  constructor
  · intro k hk
    have : k < 5 ∨ (5 ≤ k ∧ k < 10) ∨ (10 ≤ k ∧ k < 15) ∨ (15 ≤ k ∧ k < 20) := by omega
    rcases this with h | h | h | h
    · obtain ⟨⟨e, l⟩, -⟩ := h1 k h
      rw [e]; exact bfit_nI (by omega)
    · obtain ⟨-, ⟨e, l⟩, -⟩ := h1 (k - 5) (by omega)
      rw [show 5 + (k - 5) = k by omega] at e l
      rw [e]; exact bfit_nI (by omega)
    · obtain ⟨-, -, ⟨e, l⟩, -⟩ := h1 (k - 10) (by omega)
      rw [show 10 + (k - 10) = k by omega] at e l
      rw [e]; exact bfit_nI (by omega)
    · obtain ⟨-, -, -, ⟨e, l⟩⟩ := h1 (k - 15) (by omega)
      rw [show 15 + (k - 15) = k by omega] at e l
      rw [e]; exact bfit_nI (by omega)
  · intro k hk
    obtain ⟨e, l⟩ := h2 k hk
    rw [e]; exact bfit_nI (by omega)
theorem okP.pl {g : Pg} {N n : Nat} (h : okP g N n) : okPl g n := by
  obtain ⟨hN, h6, e66, h1, -, h3, h2⟩ := h
  refine ⟨e66, h6, fun i hi => ?_⟩
  obtain ⟨a1, a2, -, -⟩ := h3 i hi
  exact ⟨⟨(h2 (3 * i) (by omega)).1, by omega⟩, ⟨(h2 (3 * i + 1) (by omega)).1, by omega⟩⟩
/-- kinds alone -/
def okK (g : Pg) : Prop := ∀ c, c < 5 → g c = nI (pN g c) ∧ pN g c < 4
theorem okP.k {g : Pg} {N n : Nat} (h : okP g N n) : okK g := fun c hc => ⟨(h.2.2.2.1 c hc).1.1, by have := (h.2.2.2.1 c hc).1.2; omega⟩
theorem nightTo_o {g : Pg} {j : Nat} : ∀ c, (j < 15 ∨ 15 + c ≤ j) → nightTo g c j = g j
  | 0, _ => rfl
  | c + 1, h => by
    show upd (nightTo g c) (15 + c) _ j = g j
    rw [upd_n (by omega)]
    exact nightTo_o c (by omega)
theorem night_o {g : Pg} {N j : Nat} (h : j < 15 ∨ 15 + N ≤ j) (h2 : j ≠ 21) : night g N j = g j := by
  unfold night
  rw [upd_n h2]
  exact nightTo_o N h
theorem okK_nightTo {g : Pg} (h : okK g) (c : Nat) : okK (nightTo g c) := by
  intro k hk
  have e : nightTo g c k = g k := nightTo_o c (by omega)
  unfold pN
  rw [e]
  exact h k hk
theorem okK_night {g : Pg} (h : okK g) (N : Nat) : okK (night g N) := by
  intro k hk
  have e : night g N k = g k := night_o (by omega) (by omega)
  unfold pN
  rw [e]
  exact h k hk
theorem clamp_nat (v : Int32) : ∃ j, j ≤ 99 ∧ clampI v = nI j := by
  unfold clampI
  by_cases h : 0 ≤ v
  · rw [if_pos h]
    by_cases h2 : v ≤ 99
    · rw [if_pos h2]
      exact in_nat (m := 99) (by decide) ⟨h, h2⟩
    · rw [if_neg h2]
      exact ⟨99, by omega, rfl⟩
  · rw [if_neg h]
    exact ⟨0, by omega, rfl⟩
theorem thenI_fit (g : Pg) (c : Nat) : bfit (thenI g c) := by
  obtain ⟨j, hj, e⟩ := clamp_nat (g (15 + c) + gainI (g c) (g (10 + c)))
  unfold thenI
  rw [e]
  exact bfit_nI (by omega)
theorem mm_clamp (v : Int32) : (if 0 < (if v < 99 then v else 99) then (if v < 99 then v else 99) else 0) = clampI v := by
  unfold clampI
  by_cases h : v < 99
  · rw [if_pos h]
    have h3 : v ≤ 99 := Int32.le_of_lt h
    by_cases h2 : 0 < v
    · rw [if_pos h2, if_pos (Int32.le_of_lt h2), if_pos h3]
    · rw [if_neg h2]
      by_cases h4 : 0 ≤ v
      · rw [if_pos h4, if_pos h3]
        exact Int32.le_antisymm h4 (Int32.not_lt.mp h2)
      · rw [if_neg h4]
  · rw [if_neg h]
    have h5 : 99 ≤ v := Int32.not_lt.mp h
    rw [if_pos (by decide), if_pos (Int32.le_trans (by decide) h5)]
    by_cases h6 : v ≤ 99
    · rw [if_pos h6]; exact Int32.le_antisymm h5 h6
    · rw [if_neg h6]
theorem nightTo_t {g : Pg} {k : Nat} : ∀ c, k < c → nightTo g c (15 + k) = thenI (nightTo g k) k
  | 0, h => by omega
  | c + 1, h => by
    show upd (nightTo g c) (15 + c) _ (15 + k) = _
    by_cases e : k = c
    · subst e; rw [upd_s]
    · rw [upd_n (by omega)]
      exact nightTo_t c (by omega)
theorem okP_night {g : Pg} {N n : Nat} (h : okP g N n) : okP (night g N) N n := by
  obtain ⟨hN, h6, e66, h1, ⟨z, hz, ez⟩, h3, h2⟩ := h
  have o : ∀ j, (j < 15 ∨ 20 ≤ j) → j ≠ 21 → night g N j = g j := fun j hj h21 => night_o (by omega) h21
  refine ⟨hN, h6, by rw [o 66 (by omega) (by omega)]; exact e66, fun c hc => ?_, ⟨z, hz, by rw [o 20 (by omega) (by omega)]; exact ez⟩, fun i hi => ?_, fun k hk => okN_eq (o _ (by omega) (by omega)) (h2 k hk)⟩
  · obtain ⟨a1, a2, a3, a4⟩ := h1 c hc
    refine ⟨okN_eq (o _ (by omega) (by omega)) a1, okN_eq (o _ (by omega) (by omega)) a2, okN_eq (o _ (by omega) (by omega)) a3, ?_⟩
    by_cases hcN : c < N
    · have e : night g N (15 + c) = thenI (nightTo g c) c := by
        unfold night
        rw [upd_n (by omega)]
        exact nightTo_t N hcN
      obtain ⟨j, hj, e2⟩ := clamp_nat (nightTo g c (15 + c) + gainI (nightTo g c c) (nightTo g c (10 + c)))
      exact okN_of (e.trans e2) hj (by omega)
    · exact okN_eq (night_o (by omega) (by omega)) a4
  · have e : ∀ k, k < 18 → pN (night g N) (48 + k) = pN g (48 + k) := fun k hk => by unfold pN; rw [o (48 + k) (by omega) (by omega)]
    have := h3 i hi
    rw [e (3 * i) (by omega), show 48 + 3 * i + 1 = 48 + (3 * i + 1) by omega, show 48 + 3 * i + 2 = 48 + (3 * i + 2) by omega, e (3 * i + 1) (by omega), e (3 * i + 2) (by omega)]
    exact this
/-- what a gift leaves -/
theorem give2_o {k g : Pg} {a b j : Nat} {n : Int32} (h1 : j ≠ 15 + a) (h2 : j ≠ 15 + b) (h3 : j ≠ 22) (h4 : j ≠ 23 + 5 * b + a) : give2 k g a b n j = g j := by
  unfold give2
  rw [upd_n h4, upd_n h3, upd_n h2, upd_n h1]
theorem give2_a {k g : Pg} {a b : Nat} {n : Int32} (ha : a < 5) (hb : b < 5) (h : a ≠ b) : give2 k g a b n (15 + a) = g (15 + a) - n := by
  unfold give2
  rw [upd_n (by omega), upd_n (by omega), upd_n (by omega), upd_s]
theorem give2_b {k g : Pg} {a b : Nat} {n : Int32} (ha : a < 5) (hb : b < 5) (h : a ≠ b) : give2 k g a b n (15 + b) = g (15 + b) + gets2 k a b n := by
  unfold give2
  rw [upd_n (by omega), upd_n (by omega), upd_s, upd_n (by omega)]
theorem gets_nat {k : Pg} {a b m : Nat} (hm : m < 1000) : ∃ e, e ≤ m ∧ gets2 k a b (nI m) = nI e := by
  unfold gets2
  by_cases h : k (5 + a) = k (5 + b)
  · rw [if_pos h]; exact ⟨m, Nat.le_refl _, rfl⟩
  · rw [if_neg h]
    refine ⟨m - m / 3, by omega, ?_⟩
    rw [show (3 : Int32) = nI 3 from rfl, pk_div (by omega) (by omega) (by omega), pk_sub (by omega)]
/-- a gift that may be: the numbers it makes -/
theorem may_nat {k g : Pg} {a b m ta tb z : Nat} (hz : z ≤ 50) (ez : k 20 + 40 = nI z) (hm : m ≤ 9) (ha : g (15 + a) = nI ta) (hta : ta ≤ 99) (hb : g (15 + b) = nI tb) (htb : tb ≤ 99) (h : may2 k g a b (nI m)) : m ≤ ta ∧ g (15 + a) - nI m = nI (ta - m) ∧ ∃ e, e ≤ m ∧ gets2 k a b (nI m) = nI e ∧ tb + e ≤ 99 ∧ g (15 + b) + gets2 k a b (nI m) = nI (tb + e) := by
  obtain ⟨-, h1, h2⟩ := h
  obtain ⟨e, he, eg⟩ := gets_nat (k := k) (a := a) (b := b) (m := m) (by omega)
  rw [ha, ez] at h1
  rw [hb, eg, nI_add] at h2
  have hm2 : m ≤ ta := by
    rcases Nat.lt_or_ge ta m with q | q
    · refine absurd ?_ h1
      rw [Int32.lt_iff_toInt_lt, pk_sub_toInt (by omega) (by omega), nI_toInt (by omega)]
      omega
    · exact q
  have h3 : tb + e ≤ 99 := by
    rcases Nat.lt_or_ge 99 (tb + e) with q | q
    · exact absurd (nI_lt q (by omega)) h2
    · exact q
  exact ⟨hm2, by rw [ha, pk_sub hm2], e, he, eg, h3, by rw [hb, eg, nI_add]⟩
theorem okP_give {g : Pg} {N n a b m : Nat} (h : okP g N n) (ha : a < 5) (hb : b < 5) (hab : a ≠ b) (hm : m ≤ 9) (hmay : may2 g g a b (nI m)) : okP (give2 g g a b (nI m)) N n ∧ bfit (g (15 + a) - nI m) ∧ bfit (upd g (15 + a) (g (15 + a) - nI m) (15 + b) + gets2 g a b (nI m)) := by
  obtain ⟨hN, h6, e66, h1, ⟨z, hz, ez⟩, h3, h2⟩ := h
  obtain ⟨ea, la⟩ := (h1 a ha).2.2.2
  obtain ⟨eb, lb⟩ := (h1 b hb).2.2.2
  obtain ⟨m1, m2, e, m3, m4, m5, m6⟩ := may_nat hz ez hm ea la eb lb hmay
  refine ⟨⟨hN, h6, ?_, fun c hc => ?_, ⟨z, hz, ?_⟩, fun i hi => ?_, fun k hk => okN_eq (give2_o (by omega) (by omega) (by omega) (by omega)) (h2 k hk)⟩, ?_, ?_⟩
  · rw [give2_o (by omega) (by omega) (by omega) (by omega)]; exact e66
  · obtain ⟨a1, a2, a3, a4⟩ := h1 c hc
    refine ⟨okN_eq (give2_o (by omega) (by omega) (by omega) (by omega)) a1, okN_eq (give2_o (by omega) (by omega) (by omega) (by omega)) a2, okN_eq (give2_o (by omega) (by omega) (by omega) (by omega)) a3, ?_⟩
    by_cases x : c = a
    · subst x
      exact okN_of ((give2_a ha hb hab).trans m2) (by omega) (by omega)
    · by_cases y : c = b
      · subst y
        exact okN_of ((give2_b ha hb hab).trans m6) (by omega) (by omega)
      · exact okN_eq (give2_o (by omega) (by omega) (by omega) (by omega)) a4
  · rw [give2_o (by omega) (by omega) (by omega) (by omega)]; exact ez
  · have ee : ∀ k, k < 18 → pN (give2 g g a b (nI m)) (48 + k) = pN g (48 + k) := fun k hk => by unfold pN; rw [give2_o (by omega) (by omega) (by omega) (by omega)]
    have := h3 i hi
    rw [ee (3 * i) (by omega), show 48 + 3 * i + 1 = 48 + (3 * i + 1) by omega, show 48 + 3 * i + 2 = 48 + (3 * i + 2) by omega, ee (3 * i + 1) (by omega), ee (3 * i + 2) (by omega)]
    exact this
  · rw [m2]; exact bfit_nI (by omega)
  · rw [upd_n (by omega), m6]; exact bfit_nI (by omega)
/-- kinds, makers, floor as in k -/
def KK (k g : Pg) : Prop := ∀ j, (j < 15 ∨ j = 20 ∨ (48 ≤ j ∧ j < 67)) → g j = k j
theorem KK.rf (g : Pg) : KK g g := fun _ _ => rfl
theorem KK.give {k g : Pg} (h : KK k g) {l : Pg} {a b : Nat} {n : Int32} (ha : a < 5) (hb : b < 5) : KK k (give2 l g a b n) := fun j hj => by rw [give2_o (by omega) (by omega) (by omega) (by omega)]; exact h j hj
theorem KK.night {k g : Pg} (h : KK k g) {N : Nat} (hN : N ≤ 5) : KK k (night g N) := fun j hj => by rw [night_o (by omega) (by omega)]; exact h j hj
theorem KK.gets {k g : Pg} (h : KK k g) {a b : Nat} (ha : a < 5) (hb : b < 5) (n : Int32) : gets2 g a b n = gets2 k a b n := by
  unfold gets2
  rw [h (5 + a) (by omega), h (5 + b) (by omega)]
theorem KK.may {k g : Pg} (h : KK k g) {a b : Nat} (ha : a < 5) (hb : b < 5) (n : Int32) : may2 g g a b n ↔ may2 k g a b n := by
  unfold may2
  rw [h.gets ha hb, h (5 + a) (by omega), h (5 + b) (by omega), h a (by omega), h b (by omega), h 20 (by omega)]
theorem KK.giv {k g : Pg} (h : KK k g) {a b : Nat} (ha : a < 5) (hb : b < 5) (n : Int32) : give2 g g a b n = give2 k g a b n := by
  unfold give2
  rw [h.gets ha hb]
theorem goG_kk {g : Pg} {N n : Nat} (ok : okP g N n) (x : Int32) : ∀ i, i ≤ n → KK g (goG g g x i) ∧ okP (goG g g x i) N n
  | 0, _ => ⟨KK.rf g, ok⟩
  | i + 1, hi => by
    obtain ⟨h1, h2⟩ := goG_kk ok x i (by omega)
    obtain ⟨p1, p2, p3, p4⟩ := ok.2.2.2.2.2.1 i (by omega)
    have hN := ok.1
    by_cases z : goM g (goG g g x i) x i
    · rw [goG_t z]
      have em := ok.2.2.2.2.2.2 (3 * i + 2) (by have := ok.2.1; omega)
      rw [show 48 + (3 * i + 2) = 48 + 3 * i + 2 by omega] at em
      refine ⟨h1.give (by omega) (by omega), ?_⟩
      have zz := z.2
      rw [em.1] at zz ⊢
      have := (okP_give h2 (a := pN g (48 + 3 * i)) (b := pN g (48 + 3 * i + 1)) (m := pN g (48 + 3 * i + 2)) (by omega) (by omega) p3 em.2 ((h1.may (by omega) (by omega) _).mpr zz)).1
      rw [h1.giv (by omega) (by omega)] at this
      exact this
    · rw [goG_f z]
      exact ⟨h1, h2⟩
theorem okP_nights {g : Pg} {N n : Nat} (h : okP g N n) : ∀ k, okP (nightsTo g N k) N n
  | 0 => h
  | k + 1 => okP_night (okP_nights h k)
theorem okK_nights {g : Pg} (h : okK g) (N : Nat) : ∀ k, okK (nightsTo g N k)
  | 0 => h
  | k + 1 => okK_night (okK_nights h N k) N
/-- so many bits -/
theorem bitCnt_ok : ∀ v : Fin 128, bitCnt (nI v.val) = bitsTo (nI v.val) 7 := by decide +kernel
theorem rightTo_nat (g : Pg) : ∀ N, N ≤ 5 → ∃ v, v < 2 ^ N ∧ rightTo g N = nI v
  | 0, _ => ⟨0, by decide, rfl⟩
  | c + 1, h => by
    obtain ⟨v, hv, e⟩ := rightTo_nat g c (by omega)
    have hc : c = 0 ∨ c = 1 ∨ c = 2 ∨ c = 3 ∨ c = 4 := by omega
    have key : ∀ (c : Fin 5) (v : Fin 32), v.val < 2 ^ c.val → ∃ w : Fin 64, w.val < 2 ^ (c.val + 1) ∧ nI v.val ||| ((1 : Int32) <<< (nI c.val &&& 31)) = nI w.val := by decide +kernel
    have h32 : 2 ^ c ≤ 32 := by rcases hc with rfl | rfl | rfl | rfl | rfl <;> decide
    show ∃ w, w < 2 ^ (c + 1) ∧ rightTo g c ||| _ = nI w
    rw [e]
    by_cases x : g (15 + c) = 50
    · rw [if_pos x]
      obtain ⟨w, h1, h2⟩ := key ⟨c, by omega⟩ ⟨v, by omega⟩ hv
      exact ⟨w.val, h1, h2⟩
    · rw [if_neg x]
      refine ⟨v, by rw [Nat.pow_succ]; omega, ?_⟩
      simp
theorem right_bits (g : Pg) {N : Nat} (h : N ≤ 5) : bitCnt (rightTo g N) = bitsTo (rightTo g N) 7 := by
  obtain ⟨v, hv, e⟩ := rightTo_nat g N h
  have h32 : 2 ^ N ≤ 2 ^ 5 := Nat.pow_le_pow_right (by decide) h
  rw [e]
  exact bitCnt_ok ⟨v, by omega⟩
theorem lt4 {k : Nat} (h : k < 4) : k = 0 ∨ k = 1 ∨ k = 2 ∨ k = 3 := by omega
/-- the class's first gift that may not be -/
def goH (k t : Pg) (x : Int32) : Nat → Int32
  | 0 => -4
  | i + 1 => if may2 k (goG k t x i) (pN k (48 + 3 * i)) (pN k (48 + 3 * i + 1)) (k (48 + 3 * i + 2)) then goH k t x i else if goH k t x i = -4 then nI i else goH k t x i
theorem bit_01 (x : Int32) (i : Nat) : bitZ x i = 0 ∨ bitZ x i = 1 := by
  unfold bitZ
  obtain ⟨j, hj, e⟩ := pk_andE (x >>> (nI i &&& 31)) (m := 1) 1 (by decide)
  rw [e]
  have : j = 0 ∨ j = 1 := by omega
  rcases this with rfl | rfl
  · exact Or.inl rfl
  · exact Or.inr rfl
theorem bit_n0 {x : Int32} {i : Nat} (h : ¬ (x >>> (nI i &&& 31)) &&& 1 = 1) : bitZ x i = 0 := (bit_01 x i).resolve_right h
theorem bit_n1 {x : Int32} {i : Nat} (h : (x >>> (nI i &&& 31)) &&& 1 = 1) : ¬ bitZ x i = 0 := fun z => by
  have e : bitZ x i = 1 := h
  rw [z] at e
  exact absurd e (by decide)
theorem bitZ_0 : ∀ i, bitZ 0 i = 0 := by
  intro i
  unfold bitZ
  rw [Int32.zero_shiftRight]
  rfl
theorem goH_0 (k t : Pg) : ∀ i, goH k t 0 i = goF k t 0 i
  | 0 => rfl
  | i + 1 => by
    show (if _ then _ else _) = (if _ then _ else _)
    rw [goH_0 k t i]
    by_cases h : may2 k (goG k t 0 i) (pN k (48 + 3 * i)) (pN k (48 + 3 * i + 1)) (k (48 + 3 * i + 2))
    · rw [if_pos h, if_neg (fun z => z.2 h)]
    · have z : goN k (goG k t 0 i) 0 i := ⟨bitZ_0 i, h⟩
      rw [if_neg h]
      exact (if_pos z).symm
theorem pl_rd {g t : Pg} (h : KK g t) {k : Nat} (hk : k < 18) : wpl t k = g (48 + k) := h (48 + k) (by omega)
theorem go_fit {g t : Pg} {N n i : Nat} (ok : okP g N n) (hi : i < n) (h : KK g t) (ht : okP t N n) (hm : may2 g t (pN g (48 + 3 * i)) (pN g (48 + 3 * i + 1)) (g (48 + 3 * i + 2))) : bfit (t (15 + pN g (48 + 3 * i)) - g (48 + 3 * i + 2)) ∧ bfit (upd t (15 + pN g (48 + 3 * i)) (t (15 + pN g (48 + 3 * i)) - g (48 + 3 * i + 2)) (15 + pN g (48 + 3 * i + 1)) + gets2 t (pN g (48 + 3 * i)) (pN g (48 + 3 * i + 1)) (g (48 + 3 * i + 2))) := by
  obtain ⟨p1, p2, p3, p4⟩ := ok.2.2.2.2.2.1 i hi
  have hN := ok.1
  have h6 := ok.2.1
  have em := ok.2.2.2.2.2.2 (3 * i + 2) (by omega)
  rw [show 48 + (3 * i + 2) = 48 + 3 * i + 2 by omega] at em
  rw [em.1] at hm ⊢
  exact (okP_give ht (a := pN g (48 + 3 * i)) (b := pN g (48 + 3 * i + 1)) (m := pN g (48 + 3 * i + 2)) (by omega) (by omega) p3 em.2 ((h.may (by omega) (by omega) _).mpr hm)).2
theorem okP.n5 {g : Pg} {N n : Nat} (h : okP g N n) : N ≤ 5 := h.1
theorem okP.n6 {g : Pg} {N n : Nat} (h : okP g N n) : n ≤ 6 := h.2.1
theorem in_fit {x : Int32} (h : inI x 0 127) : bfit x := by
  obtain ⟨j, hj, rfl⟩ := in_nat (m := 127) (by decide) h
  exact bfit_nI (by omega)
theorem alt_fit {y v : Int32} (h : inI v 0 (altMost y)) : bfit v := by
  have h2 : altMost y ≤ 127 := by
    unfold altMost
    by_cases a : y = 0
    · rw [if_pos a]; decide
    · rw [if_neg a]
      by_cases b : y = 1
      · rw [if_pos b]; decide
      · rw [if_neg b]
        by_cases c : y = 2
        · rw [if_pos c]; decide
        · rw [if_neg c]; decide
  exact in_fit ⟨h.1, Int32.le_trans h.2 h2⟩
/-- what stays of the class's numbers through an op that only tries -/
def Qx (i j : Nat → Int32) : Prop := j 5 = i 5 ∧ j 7 = i 7 ∧ j 11 = i 11 ∧ j 12 = i 12 ∧ j 23 = i 23
theorem tog_m {a b : Int32} : (if a < b then b else a) = if b ≤ a then a else b := by
  by_cases h : a < b
  · rw [if_pos h, if_neg (fun z => absurd h (Int32.not_lt.mpr z))]
  · rw [if_neg h, if_pos (Int32.not_lt.mp h)]
theorem gets_0 (k : Pg) (a b : Nat) : gets2 k a b 0 = 0 := by
  unfold gets2
  by_cases h : k (5 + a) = k (5 + b)
  · rw [if_pos h]
  · rw [if_neg h]; decide
theorem donG_c {g : Pg} {to a : Nat} : gets2 g a to (if a = to then 0 else mostTo g a to 9) = donG g to a := by
  unfold donG
  by_cases h : a = to
  · rw [if_pos h, if_pos h, gets_0]
  · rw [if_neg h, if_neg h]
theorem sub_add40 (x : Int32) : x - 40 + 40 = x := by
  apply Int32.toBitVec_inj.mp
  simp
theorem wO_floor {a0 a1 a2 a3 N : Nat} {g : Pg} {x : Int32} : wO a0 a1 a2 a3 N (upd g 20 (x - 40)) = (a0, .inr (5, [.int (nI N), .ref a1, .int x, .int (g 21), .int (g 22), .ref a2, .int (g 66), .ref a3])) := by
  unfold wO
  rw [upd_s, sub_add40, upd_n (by omega), upd_n (by omega), upd_n (by omega)]
theorem wO_plan {a0 a1 a2 a3 N : Nat} {g : Pg} {k1 k2 k3 : Nat} {x y z v : Int32} (h1 : 48 ≤ k1) (h1b : k1 < 66) (h2 : 48 ≤ k2) (h2b : k2 < 66) (h3 : 48 ≤ k3) (h3b : k3 < 66) : wO a0 a1 a2 a3 N (upd (upd (upd (upd g k1 x) k2 y) k3 z) 66 v) = (a0, .inr (5, [.int (nI N), .ref a1, .int (g 20 + 40), .int (g 21), .int (g 22), .ref a2, .int v, .ref a3])) := by
  unfold wO
  rw [upd_s]
  rw [upd_n (j := 20) (by omega), upd_n (j := 20) (by omega), upd_n (j := 20) (by omega), upd_n (j := 20) (by omega)]
  rw [upd_n (j := 21) (by omega), upd_n (j := 21) (by omega), upd_n (j := 21) (by omega), upd_n (j := 21) (by omega)]
  rw [upd_n (j := 22) (by omega), upd_n (j := 22) (by omega), upd_n (j := 22) (by omega), upd_n (j := 22) (by omega)]
theorem in_fit19 {x : Int32} (h : inI x 1 9) : bfit x := by
  obtain ⟨j, h1, hj, rfl⟩ := in_nat1 (m := 9) (by decide) h
  exact bfit_nI (by omega)
theorem two_ne {N a b : Nat} (h : isTwo N (nI a) (nI b)) : a ≠ b := fun z => h.2.2 (by rw [z])
