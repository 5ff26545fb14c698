/-! SPEC: a number put; how many rates show the same -/
theorem okP_up {g : Pg} {N n ix v : Nat} (h : okP g N n) (H : (ix < 5 ∧ v ≤ 3) ∨ (5 ≤ ix ∧ ix < 10 ∧ v ≤ 3) ∨ (10 ≤ ix ∧ ix < 15 ∧ v ≤ 6) ∨ (15 ≤ ix ∧ ix < 20 ∧ v ≤ 99)) : okP (upd g ix (nI v)) N n := by
  obtain ⟨hN, h6, e66, h1, ⟨z, hz, ez⟩, h3, h2⟩ := h
  have o : ∀ j, 20 ≤ j → upd g ix (nI v) j = g j := fun j hj => upd_n (by omega)
  have t : ∀ j m, j < 20 → okN g j m → (j = ix → v ≤ m) → m < 1000 → okN (upd g ix (nI v)) j m := fun j m hj ho hv hm => by
    by_cases e : j = ix
    · subst e
      exact okN_of (upd_s _ _ _) (hv rfl) hm
    · exact okN_eq (upd_n e) ho
  refine ⟨hN, h6, (o 66 (by omega)).trans e66, fun c hc => ?_, ⟨z, hz, by rw [o 20 (by omega)]; exact ez⟩, fun i hi => ?_, fun k hk => okN_eq (o _ (by omega)) (h2 k hk)⟩
  · obtain ⟨a1, a2, a3, a4⟩ := h1 c hc
    exact ⟨t _ _ (by omega) a1 (by omega) (by omega), t _ _ (by omega) a2 (by omega) (by omega), t _ _ (by omega) a3 (by omega) (by omega), t _ _ (by omega) a4 (by omega) (by omega)⟩
  · have e : ∀ k, k < 18 → pN (upd g ix (nI v)) (48 + k) = pN g (48 + k) := fun k hk => by unfold pN; rw [o (48 + k) (by omega)]
    have := h3 i hi
    rw [e (3 * i) (by omega), show 48 + 3 * i + 1 = 48 + (3 * i + 1) by omega, show 48 + 3 * i + 2 = 48 + (3 * i + 2) by omega, e (3 * i + 1) (by omega), e (3 * i + 2) (by omega)]
    exact this
section
variable {g se : Pg} {N sm c k : Nat}
def cnN (g se : Pg) (N sm c k : Nat) (x : Int32) : Nat → Nat
  | 0 => 0
  | b + 1 => cnN g se N sm c k x b + (if okR g se N sm c b ∧ x = tmR g N c b k then 1 else 0)
theorem cnN_le (x : Int32) : ∀ r, cnN g se N sm c k x r ≤ r
  | 0 => Nat.le_refl _
  | r + 1 => by
    have := cnN_le x r
    show cnN g se N sm c k x r + (if _ then 1 else 0) ≤ r + 1
    split <;> omega
def wsC (g se : Pg) (N sm c k : Nat) : Nat → Nat
  | 0 => 0
  | r + 1 => if okR g se N sm c r then max (wsC g se N sm c k r) (cnN g se N sm c k (tmR g N c r k) (r + 1)) else wsC g se N sm c k r
theorem cnN_t {x : Int32} {r : Nat} (h : okR g se N sm c r) (e : x = tmR g N c r k) : cnN g se N sm c k x (r + 1) = cnN g se N sm c k x r + 1 := by
  show _ + (if _ then 1 else 0) = _
  rw [if_pos ⟨h, e⟩]
theorem cnN_f {x : Int32} {r : Nat} (h : ¬ (okR g se N sm c r ∧ x = tmR g N c r k)) : cnN g se N sm c k x (r + 1) = cnN g se N sm c k x r := by
  show _ + (if _ then 1 else 0) = _
  rw [if_neg h]
  rfl
theorem wsC_t {r : Nat} (h : okR g se N sm c r) : wsC g se N sm c k (r + 1) = max (wsC g se N sm c k r) (cnN g se N sm c k (tmR g N c r k) (r + 1)) := if_pos h
theorem wsC_f {r : Nat} (h : ¬ okR g se N sm c r) : wsC g se N sm c k (r + 1) = wsC g se N sm c k r := if_neg h
theorem wsC_le : ∀ r, wsC g se N sm c k r ≤ r
  | 0 => Nat.le_refl _
  | r + 1 => by
    have := wsC_le r
    have h2 := cnN_le (g := g) (se := se) (N := N) (sm := sm) (c := c) (k := k) (tmR g N c r k) (r + 1)
    by_cases h : okR g se N sm c r
    · rw [wsC_t h]; omega
    · rw [wsC_f h]; omega
theorem wsC_ub : ∀ r a, a < r → okR g se N sm c a → cnN g se N sm c k (tmR g N c a k) r ≤ wsC g se N sm c k r
  | 0, a, ha, _ => absurd ha (by omega)
  | r + 1, a, ha, hok => by
    by_cases h : okR g se N sm c r
    · rw [wsC_t h]
      by_cases e : tmR g N c a k = tmR g N c r k
      · rw [e]; omega
      · rw [cnN_f (fun z => e z.2)]
        have hne : a ≠ r := fun z => e (by rw [z])
        have := wsC_ub r a (by omega) hok
        omega
    · rw [wsC_f h, cnN_f (fun z => h z.1)]
      have hne : a ≠ r := fun z => h (by rw [← z]; exact hok)
      exact wsC_ub r a (by omega) hok
theorem wsC_at : ∀ r, wsC g se N sm c k r = 0 ∨ ∃ a, a < r ∧ okR g se N sm c a ∧ cnN g se N sm c k (tmR g N c a k) r = wsC g se N sm c k r
  | 0 => Or.inl rfl
  | r + 1 => by
    have ih := wsC_at r
    by_cases h : okR g se N sm c r
    · rw [wsC_t h]
      rcases Nat.lt_or_ge (cnN g se N sm c k (tmR g N c r k) (r + 1)) (wsC g se N sm c k r) with z | z
      · rcases ih with y | ⟨a, ha, hok, e⟩
        · omega
        · right
          refine ⟨a, by omega, hok, ?_⟩
          by_cases e2 : tmR g N c a k = tmR g N c r k
          · rw [← e2] at z
            rw [cnN_t h e2] at z
            omega
          · rw [cnN_f (fun y => e2 y.2), e]
            omega
      · exact Or.inr ⟨r, by omega, h, by omega⟩
    · rw [wsC_f h]
      rcases ih with y | ⟨a, ha, hok, e⟩
      · exact Or.inl y
      · exact Or.inr ⟨a, by omega, hok, by rw [cnN_f (fun y => h y.1), e]⟩
def alN (g se : Pg) (N sm c k a : Nat) : Nat := if okR g se N sm c a then cnN g se N sm c k (tmR g N c a k) 7 else 0
def woN (g se : Pg) (N sm c k : Nat) : Nat → Nat
  | 0 => 0
  | a + 1 => if alN g se N sm c k a ≤ woN g se N sm c k a then woN g se N sm c k a else alN g se N sm c k a
theorem alTo_N (a : Nat) : ∀ b, alTo g se N sm c k a b = nI (cnN g se N sm c k (tmR g N c a k) b)
  | 0 => rfl
  | b + 1 => by
    show alTo g se N sm c k a b + (if _ then 1 else 0) = _
    rw [alTo_N a b]
    by_cases h : okR g se N sm c b ∧ tmR g N c a k = tmR g N c b k
    · rw [if_pos h, cnN_t h.1 h.2, ← nI_add]
      rfl
    · rw [if_neg h, cnN_f h, show (0 : Int32) = nI 0 from rfl, nI_add]
      rfl
theorem alN_le (a : Nat) : alN g se N sm c k a ≤ 7 := by
  unfold alN
  split
  · exact cnN_le _ 7
  · omega
theorem alA_N (a : Nat) : alA g se N sm c k a = nI (alN g se N sm c k a) := by
  unfold alA alN
  by_cases h : okR g se N sm c a
  · rw [if_pos h, if_pos h]; exact alTo_N a 7
  · rw [if_neg h, if_neg h]; rfl
theorem woN_le : ∀ q, woN g se N sm c k q ≤ 7
  | 0 => by show 0 ≤ 7; omega
  | q + 1 => by
    have := woN_le q
    have := alN_le (g := g) (se := se) (N := N) (sm := sm) (c := c) (k := k) q
    show (if _ then _ else _) ≤ 7
    split <;> omega
theorem woTo_N : ∀ q, woTo g se N sm c k q = nI (woN g se N sm c k q)
  | 0 => rfl
  | q + 1 => by
    have h1 := woN_le (g := g) (se := se) (N := N) (sm := sm) (c := c) (k := k) q
    have h2 := alN_le (g := g) (se := se) (N := N) (sm := sm) (c := c) (k := k) q
    show (if alA g se N sm c k q ≤ woTo g se N sm c k q then woTo g se N sm c k q else alA g se N sm c k q) = _
    rw [woTo_N q, alA_N]
    by_cases h : alN g se N sm c k q ≤ woN g se N sm c k q
    · rw [if_pos ((nI_leI (by omega) (by omega)).mpr h)]
      exact congrArg nI (if_pos h).symm
    · rw [if_neg (fun z => h ((nI_leI (by omega) (by omega)).mp z))]
      exact congrArg nI (if_neg h).symm
theorem woN_ub : ∀ q a, a < q → alN g se N sm c k a ≤ woN g se N sm c k q
  | 0, a, ha => absurd ha (by omega)
  | q + 1, a, ha => by
    show _ ≤ (if alN g se N sm c k q ≤ woN g se N sm c k q then woN g se N sm c k q else alN g se N sm c k q)
    by_cases e : a = q
    · subst e; split <;> omega
    · have := woN_ub q a (by omega)
      split <;> omega
theorem woN_at : ∀ q, woN g se N sm c k q = 0 ∨ ∃ a, a < q ∧ alN g se N sm c k a = woN g se N sm c k q
  | 0 => Or.inl rfl
  | q + 1 => by
    have ih := woN_at q
    show (if alN g se N sm c k q ≤ woN g se N sm c k q then woN g se N sm c k q else alN g se N sm c k q) = 0 ∨ ∃ a, a < q + 1 ∧ alN g se N sm c k a = (if alN g se N sm c k q ≤ woN g se N sm c k q then woN g se N sm c k q else alN g se N sm c k q)
    by_cases h : alN g se N sm c k q ≤ woN g se N sm c k q
    · rw [if_pos h]
      rcases ih with y | ⟨a, ha, e⟩
      · exact Or.inl y
      · exact Or.inr ⟨a, by omega, e⟩
    · rw [if_neg h]
      exact Or.inr ⟨q, by omega, rfl⟩
theorem ws_wo {q : Nat} (hq : q = 7) : nI (wsC g se N sm c k q) = woTo g se N sm c k q := by
  rw [woTo_N]
  congr 1
  have a1 := wsC_at (g := g) (se := se) (N := N) (sm := sm) (c := c) (k := k) q
  have a2 := woN_at (g := g) (se := se) (N := N) (sm := sm) (c := c) (k := k) q
  have l1 : wsC g se N sm c k q ≤ woN g se N sm c k q := by
    rcases a1 with y | ⟨a, ha, hok, e⟩
    · omega
    · have := woN_ub (g := g) (se := se) (N := N) (sm := sm) (c := c) (k := k) q a ha
      have e2 : alN g se N sm c k a = cnN g se N sm c k (tmR g N c a k) 7 := if_pos hok
      rw [hq] at e
      rw [hq] at this ⊢
      omega
  have l2 : woN g se N sm c k q ≤ wsC g se N sm c k q := by
    rcases a2 with y | ⟨a, ha, e⟩
    · omega
    · by_cases hok : okR g se N sm c a
      · have := wsC_ub (g := g) (se := se) (N := N) (sm := sm) (c := c) (k := k) q a ha hok
        have e2 : alN g se N sm c k a = cnN g se N sm c k (tmR g N c a k) 7 := if_pos hok
        rw [hq] at this e ⊢
        omega
      · have e2 : alN g se N sm c k a = 0 := if_neg hok
        omega
  omega
/-- by times, of how many rates -/
def hsW (wy g se : Pg) (N sm c k r : Nat) : Pg := fun j => if j < 100 then nI (cnN g se N sm c k (nI j) r) else wy j
theorem hsW_0 (wy : Pg) : zer wy 0 100 = hsW wy g se N sm c k 0 := by
  funext j
  unfold zer hsW
  by_cases h : j < 100
  · rw [if_pos (by omega), if_pos h]; rfl
  · rw [if_neg (by omega), if_neg h]
theorem hsW_f {wy : Pg} {r : Nat} (h : ¬ okR g se N sm c r) : hsW wy g se N sm c k r = hsW wy g se N sm c k (r + 1) := by
  funext j
  unfold hsW
  rw [cnN_f (fun z => h z.1)]
theorem hsW_at {wy : Pg} {r v : Nat} (hv : v ≤ 99) : hsW wy g se N sm c k r v = nI (cnN g se N sm c k (nI v) r) := if_pos (by omega)
theorem hsW_t {wy : Pg} {r v : Nat} (h : okR g se N sm c r) (hv : v ≤ 99) (e : tmR g N c r k = nI v) : upd (hsW wy g se N sm c k r) v (nI (cnN g se N sm c k (nI v) r + 1)) = hsW wy g se N sm c k (r + 1) := by
  funext j
  show (if j = v then _ else hsW wy g se N sm c k r j) = _
  unfold hsW
  by_cases x : j = v
  · subst x
    rw [if_pos rfl, if_pos (by omega), cnN_t h e.symm]
  · rw [if_neg x]
    by_cases y : j < 100
    · rw [if_pos y, if_pos y, cnN_f (fun z => x ((nI_eq (by omega) (by omega)).mp (z.2.trans e)))]
    · rw [if_neg y, if_neg y]
end
theorem nI_max {a b : Nat} (ha : a < 1000) (hb : b < 1000) : (if nI a < nI b then nI b else nI a) = nI (max a b) := by
  by_cases h : a < b
  · rw [if_pos ((nI_ltI (by omega) (by omega)).mpr h), Nat.max_eq_right (by omega)]
  · rw [if_neg (fun z => h ((nI_ltI (by omega) (by omega)).mp z)), Nat.max_eq_left (by omega)]
theorem tm_nat {g : Pg} {N n c r k : Nat} (ok : okP g N n) (hc : c < 5) (hr : r ≤ 6) : ∃ v, v ≤ 99 ∧ tmR g N c r k = nI v := by
  have h := okP_nights (okP_up ok (ix := 10 + c) (v := r) (by omega)) k
  obtain ⟨-, -, -, ⟨e, l⟩⟩ := h.2.2.2.1 c hc
  exact ⟨_, l, e⟩
theorem min_m {a b : Int32} : (if b < a then b else a) = if a ≤ b then a else b := by
  by_cases h : b < a
  · rw [if_pos h, if_neg (fun z => absurd h (Int32.not_lt.mpr z))]
  · rw [if_neg h, if_pos (Int32.not_lt.mp h)]
