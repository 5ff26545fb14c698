/-! SPEC: odds over the gifts that cuckoos may reject -/
abbrev ckB (g : Pg) (n i : Nat) : Prop := i < n ∧ g (pN g (48 + 3 * i + 1)) = 1
def mkI (g : Pg) (n : Nat) : Nat → Int32
  | 0 => 0
  | i + 1 => mkI g n i ||| (if g (pN g (48 + 3 * i + 1)) = 1 then 1 <<< (nI i &&& 31) else 0)
def ckm (g : Pg) (n : Nat) : Nat → Nat
  | 0 => 0
  | i + 1 => ckm g n i + (if g (pN g (48 + 3 * i + 1)) = 1 then 2 ^ i else 0)
theorem ckm_lt (g : Pg) (n : Nat) : ∀ i, ckm g n i < 2 ^ i
  | 0 => by show 0 < 1; omega
  | i + 1 => by
    have := ckm_lt g n i
    show ckm g n i + (if _ then 2 ^ i else 0) < 2 ^ (i + 1)
    rw [Nat.pow_succ]
    generalize 2 ^ i = p at this ⊢
    split <;> omega
theorem mk_nat (g : Pg) (n : Nat) : ∀ i, i ≤ 6 → mkI g n i = nI (ckm g n i) ∧ ∀ b, b < 7 → (bitZ (nI (ckm g n i)) b = if b < i ∧ g (pN g (48 + 3 * b + 1)) = 1 then 1 else 0)
  | 0, _ => ⟨rfl, fun b _ => by rw [if_neg (by omega)]; exact bitZ_0 b⟩
  | i + 1, hi => by
    obtain ⟨e, hb⟩ := mk_nat g n i (by omega)
    have hl := ckm_lt g n i
    have h64 : 2 ^ i ≤ 2 ^ 6 := Nat.pow_le_pow_right (by decide) (by omega)
    obtain ⟨k1, k2, k3⟩ := whTo_key ⟨i, by omega⟩ ⟨ckm g n i, by omega⟩ hl
    show mkI g n i ||| (if g (pN g (48 + 3 * i + 1)) = 1 then 1 <<< (nI i &&& 31) else 0) = nI (ckm g n i + (if g (pN g (48 + 3 * i + 1)) = 1 then 2 ^ i else 0)) ∧ ∀ b, b < 7 → (bitZ (nI (ckm g n i + (if g (pN g (48 + 3 * i + 1)) = 1 then 2 ^ i else 0))) b = _)
    rw [e]
    by_cases x : g (pN g (48 + 3 * i + 1)) = 1
    · rw [if_pos x, if_pos x]
      refine ⟨k1, fun b hb7 => ?_⟩
      have k4 := k3 ⟨b, hb7⟩
      by_cases y : b = i
      · subst y
        rw [if_pos rfl] at k4
        rw [if_pos ⟨by omega, x⟩]
        exact k4
      · rw [if_neg (fun z => y (Fin.mk.inj z))] at k4
        have k5 : bitZ (nI (ckm g n i + 2 ^ i)) b = bitZ (nI (ckm g n i)) b := k4
        rw [k5, hb b hb7]
        by_cases w : b < i ∧ g (pN g (48 + 3 * b + 1)) = 1
        · rw [if_pos w, if_pos ⟨by omega, w.2⟩]
        · rw [if_neg w, if_neg (fun z => w ⟨by omega, z.2⟩)]
    · rw [if_neg x, if_neg x]
      refine ⟨by simp, fun b hb7 => ?_⟩
      rw [Nat.add_zero, hb b hb7]
      by_cases w : b < i ∧ g (pN g (48 + 3 * b + 1)) = 1
      · rw [if_pos w, if_pos ⟨by omega, w.2⟩]
      · rw [if_neg w, if_neg (fun z => ?_)]
        by_cases y : b = i
        · subst y; exact x z.2
        · exact w ⟨by omega, z.2⟩
theorem ck_bit {g : Pg} {n b : Nat} (hn : n ≤ 6) (hb : b < 7) : bitZ (nI (ckm g n n)) b = if ckB g n b then 1 else 0 := (mk_nat g n n hn).2 b hb
theorem ck_1 {g : Pg} {n b : Nat} (hn : n ≤ 6) (hb : b < 7) : bitZ (nI (ckm g n n)) b = 1 ↔ ckB g n b := by
  rw [ck_bit hn hb]
  by_cases w : ckB g n b
  · rw [if_pos w]; exact ⟨fun _ => w, fun _ => rfl⟩
  · rw [if_neg w]; exact ⟨fun z => absurd z (by decide), fun z => absurd z w⟩
theorem ck_0 {g : Pg} {n b : Nat} (hn : n ≤ 6) (hb : b < 7) : bitZ (nI (ckm g n n)) b = 0 ↔ ¬ ckB g n b := by
  rw [ck_bit hn hb]
  by_cases w : ckB g n b
  · rw [if_pos w]; exact ⟨fun z => absurd z (by decide), fun z => absurd w z⟩
  · rw [if_neg w]; exact ⟨fun _ => w, fun _ => rfl⟩
/-- all ways, of ten a cuckoo -/
def awT (g : Pg) (n : Nat) : Nat → Nat
  | 0 => 1
  | i + 1 => awT g n i * (if ckB g n i then 10 else 1)
theorem awT_t {g : Pg} {n i : Nat} (h : ckB g n i) : awT g n (i + 1) = awT g n i * 10 := by
  show _ * (if _ then _ else _) = _
  rw [if_pos h]
theorem awT_f {g : Pg} {n i : Nat} (h : ¬ ckB g n i) : awT g n (i + 1) = awT g n i := by
  show _ * (if _ then _ else _) = _
  rw [if_neg h, Nat.mul_one]
theorem awT_b (g : Pg) (n : Nat) : ∀ i, 0 < awT g n i ∧ awT g n i ≤ 10 ^ i
  | 0 => ⟨by show 0 < 1; omega, Nat.le_refl _⟩
  | i + 1 => by
    obtain ⟨h1, h2⟩ := awT_b g n i
    rw [Nat.pow_succ]
    by_cases h : ckB g n i
    · rw [awT_t h]; omega
    · rw [awT_f h]; omega
theorem awT_e {g : Pg} {n : Nat} : ∀ d, awT g n (n + d) = awT g n n
  | 0 => rfl
  | d + 1 => by
    rw [show n + (d + 1) = n + d + 1 by omega, awT_f (fun z => absurd z.1 (by omega))]
    exact awT_e d
theorem awT_6 {g : Pg} {n : Nat} (h : n ≤ 6) : awT g n 6 = awT g n n := by
  have := awT_e (g := g) (n := n) (6 - n)
  rw [show n + (6 - n) = 6 by omega] at this
  exact this
/-- the ways of one set of gifts -/
def wyT (g : Pg) (n v o : Nat) : Nat → Nat
  | 0 => 1
  | i + 1 => wyT g n v o i * (if ckB g n i then (if bitZ (nI o) i = 1 then v else 10 - v) else 1)
theorem wyT_f {g : Pg} {n v o i : Nat} (h : ¬ ckB g n i) : wyT g n v o (i + 1) = wyT g n v o i * 1 := by
  show _ * (if _ then _ else _) = _
  rw [if_neg h]
theorem wyT_a {g : Pg} {n v o i : Nat} (h : ckB g n i) (b : bitZ (nI o) i = 1) : wyT g n v o (i + 1) = wyT g n v o i * v := by
  show _ * (if _ then _ else _) = _
  rw [if_pos h, if_pos b]
theorem wyT_b {g : Pg} {n v o i : Nat} (h : ckB g n i) (b : ¬ bitZ (nI o) i = 1) : wyT g n v o (i + 1) = wyT g n v o i * (10 - v) := by
  show _ * (if _ then _ else _) = _
  rw [if_pos h, if_neg b]
theorem wyT_le {g : Pg} {n v o : Nat} (hv : v ≤ 10) : ∀ i, wyT g n v o i ≤ 10 ^ i
  | 0 => Nat.le_refl _
  | i + 1 => by
    have ih := wyT_le (g := g) (n := n) (o := o) hv i
    rw [Nat.pow_succ]
    by_cases h : ckB g n i
    · by_cases b : bitZ (nI o) i = 1
      · rw [wyT_a h b]; exact Nat.mul_le_mul ih hv
      · rw [wyT_b h b]; exact Nat.mul_le_mul ih (by omega)
    · rw [wyT_f h]; exact Nat.mul_le_mul ih (by omega)
theorem wyT_e {g : Pg} {n v o : Nat} : ∀ d, wyT g n v o (n + d) = wyT g n v o n
  | 0 => rfl
  | d + 1 => by
    rw [show n + (d + 1) = n + d + 1 by omega, wyT_f (fun z => absurd z.1 (by omega)), Nat.mul_one]
    exact wyT_e d
theorem wyT_6 {g : Pg} {n v o : Nat} (h : n ≤ 6) : wyT g n v o 6 = wyT g n v o n := by
  have := wyT_e (g := g) (n := n) (v := v) (o := o) (6 - n)
  rw [show n + (6 - n) = 6 by omega] at this
  exact this
/-- sums over all sets of gifts that may be rejected -/
abbrev oSub (M o : Nat) : Prop := nI o &&& (nI M ^^^ -1) = 0
def odT (g : Pg) (n v N : Nat) (wt : Int32 → Nat) : Nat → Nat
  | 0 => 0
  | o + 1 => odT g n v N wt o + (if oSub (ckm g n n) o then wyT g n v o n * wt (rightTo (goG g g (nI o) n) N) else 0)
theorem odT_t {g : Pg} {n v N : Nat} {wt : Int32 → Nat} {o : Nat} (h : oSub (ckm g n n) o) : odT g n v N wt (o + 1) = odT g n v N wt o + wyT g n v o n * wt (rightTo (goG g g (nI o) n) N) := by
  show _ + (if _ then _ else _) = _
  rw [if_pos h]
theorem odT_f {g : Pg} {n v N : Nat} {wt : Int32 → Nat} {o : Nat} (h : ¬ oSub (ckm g n n) o) : odT g n v N wt (o + 1) = odT g n v N wt o := by
  show _ + (if _ then _ else _) = _
  rw [if_neg h]
  rfl
theorem odT_le {g : Pg} {n v N : Nat} {wt : Int32 → Nat} (hn : n ≤ 6) (hv : v ≤ 10) (hw : ∀ h, wt (rightTo h N) ≤ 5) : ∀ o, odT g n v N wt o ≤ o * 5000000
  | 0 => Nat.le_refl _
  | o + 1 => by
    have ih := odT_le (g := g) hn hv hw o
    by_cases h : oSub (ckm g n n) o
    · rw [odT_t h]
      have h1 := wyT_le (g := g) (n := n) (o := o) hv n
      have h2 : 10 ^ n ≤ 10 ^ 6 := Nat.pow_le_pow_right (by decide) hn
      have h3 := hw (goG g g (nI o) n)
      have h4 : wyT g n v o n * wt (rightTo (goG g g (nI o) n) N) ≤ 1000000 * 5 := Nat.mul_le_mul (by omega) h3
      omega
    · rw [odT_f h]; exact Nat.le_trans ih (Nat.mul_le_mul_right _ (Nat.le_succ o))
theorem oSub_le : ∀ (M o : Fin 64), oSub M.val o.val → o.val ≤ M.val := by decide +kernel
theorem odT_e {g : Pg} {n v N : Nat} {wt : Int32 → Nat} (hn : n ≤ 6) : ∀ d, 2 ^ n + d ≤ 64 → odT g n v N wt (2 ^ n + d) = odT g n v N wt (2 ^ n)
  | 0, _ => rfl
  | d + 1, h => by
    have hl := ckm_lt g n n
    have h64 : 2 ^ n ≤ 2 ^ 6 := Nat.pow_le_pow_right (by decide) hn
    rw [show 2 ^ n + (d + 1) = 2 ^ n + d + 1 by omega, odT_f (fun z => ?_)]
    · exact odT_e hn d (by omega)
    · have := oSub_le ⟨ckm g n n, by omega⟩ ⟨2 ^ n + d, by omega⟩ z
      simp only at this
      omega
theorem odT_64 {g : Pg} {n v N : Nat} {wt : Int32 → Nat} (hn : n ≤ 6) : odT g n v N wt 64 = odT g n v N wt (2 ^ n) := by
  have h64 : 2 ^ n ≤ 2 ^ 6 := Nat.pow_le_pow_right (by decide) hn
  have := odT_e (g := g) (v := v) (N := N) (wt := wt) hn (64 - 2 ^ n) (by omega)
  rw [show 2 ^ n + (64 - 2 ^ n) = 64 by omega] at this
  exact this
/-- what a set of clocks that are right weighs -/
def wtL (c : Nat) (x : Int32) : Nat := if bitZ x c = 1 then 1 else 0
def wtM (x : Int32) : Nat := cn (bitsTo x 7)
theorem wtL_le (c : Nat) (h : Pg) (N : Nat) : wtL c (rightTo h N) ≤ 5 := by
  unfold wtL
  split <;> omega
theorem wtM_ok : ∀ v : Fin 32, bitsTo (nI v.val) 7 = nI (cn (bitsTo (nI v.val) 7)) ∧ cn (bitsTo (nI v.val) 7) ≤ 5 := by decide +kernel
theorem wtM_r (h : Pg) {N : Nat} (hN : N ≤ 5) : bitsTo (rightTo h N) 7 = nI (wtM (rightTo h N)) ∧ wtM (rightTo h N) ≤ 5 := by
  obtain ⟨v, hv, e⟩ := rightTo_nat h N hN
  have h32 : 2 ^ N ≤ 2 ^ 5 := Nat.pow_le_pow_right (by decide) hN
  unfold wtM
  rw [e]
  exact wtM_ok ⟨v, by omega⟩
theorem bit_nat (x : Int32) (c : Nat) : bitZ x c = nI (wtL c x) := by
  unfold wtL
  rcases bit_01 x c with h | h
  · rw [h, if_neg (by decide)]; rfl
  · rw [h, if_pos rfl]; rfl
def a_luck (g : Pg) (N n : Nat) (v c y : Int32) : Int64 := if inI v 0 10 ∧ isC N c ∧ inI y 0 1 then lowR (odT g n (cn v) N (wtL (cn c)) 64) (awT g n 6) y else -1
def a_mean (g : Pg) (N n : Nat) (v y : Int32) : Int64 := if inI v 0 10 ∧ inI y 0 1 then lowR (odT g n (cn v) N wtM 64) (awT g n 6) y else -1
/-- on pages that agree -/
theorem rt_q {f F : Pg} {n N : Nat} (h : Qf f F) (ok : okPl f n) (hN : N ≤ 5) (x : Int32) : rightTo (goG F (cpP F 0 268) x n) N = rightTo (goG f f x n) N := rightTo_ag (goG_q h ok x) N hN
theorem lN_mul1 (a : Nat) : lN a * 1 = lN (a * 1) := lN_mul a 1
theorem pw_sh : ∀ n : Fin 7, (1 : Int32) <<< (nI n.val &&& 31) = nI (2 ^ n.val) := by decide +kernel
theorem mkI_t {g : Pg} {n i : Nat} (h : g (pN g (48 + 3 * i + 1)) = 1) : mkI g n (i + 1) = mkI g n i ||| (1 <<< (nI i &&& 31)) := by
  show _ ||| (if _ then _ else _) = _
  rw [if_pos h]
theorem mkI_f {g : Pg} {n i : Nat} (h : ¬ g (pN g (48 + 3 * i + 1)) = 1) : mkI g n (i + 1) = mkI g n i ||| 0 := by
  show _ ||| (if _ then _ else _) = _
  rw [if_neg h]
theorem aw_t {g : Pg} {n i : Nat} (h : ckB g n i) : lN (awT g n i) * 10 = lN (awT g n (i + 1)) := by
  rw [awT_t h]
  exact lN_mul _ 10
theorem aw_f {g : Pg} {n i : Nat} (h : ¬ ckB g n i) : lN (awT g n i) * 1 = lN (awT g n (i + 1)) := by
  rw [awT_f h, lN_mul1, Nat.mul_one]
theorem wy_f {g : Pg} {n v o i : Nat} (h : ¬ ckB g n i) : lN (wyT g n v o i) * 1 = lN (wyT g n v o (i + 1)) := by
  rw [wyT_f h]
  exact lN_mul _ 1
theorem wy_a {g : Pg} {n v o i : Nat} (hv : v ≤ 10) (h : ckB g n i) (b : bitZ (nI o) i = 1) : lN (wyT g n v o i) * (nI v).toInt64 = lN (wyT g n v o (i + 1)) := by
  rw [wyT_a h b, nI_l (by omega), lN_mul]
theorem wy_b {g : Pg} {n v o i : Nat} (hv : v ≤ 10) (h : ckB g n i) (b : ¬ bitZ (nI o) i = 1) : lN (wyT g n v o i) * (nI (10 - v)).toInt64 = lN (wyT g n v o (i + 1)) := by
  rw [wyT_b h b, nI_l (by omega), lN_mul]
theorem od_t {g : Pg} {n v N : Nat} {wt : Int32 → Nat} {o : Nat} (hn : n ≤ 6) (h : oSub (ckm g n n) o) : lN (odT g n v N wt o) + lN (wyT g n v o 6) * lN (wt (rightTo (goG g g (nI o) n) N)) = lN (odT g n v N wt (o + 1)) := by
  rw [odT_t h, lN_mul, lN_add, wyT_6 hn]
theorem nc4 {c : Nat} (h : c < 1000) : ¬ nI c = -4 := fun z => by
  have h1 : (nI c).toInt = (-4 : Int32).toInt := by rw [z]
  rw [nI_toInt (by omega), show (-4 : Int32).toInt = -4 by decide] at h1
  omega
theorem od_b {g : Pg} {n v N : Nat} {wt : Int32 → Nat} (hn : n ≤ 6) (hv : v ≤ 10) (hw : ∀ h, wt (rightTo h N) ≤ 5) : odT g n v N wt 64 < 2 ^ 31 := by
  have := odT_le (g := g) hn hv hw 64
  omega
theorem aw_b {g : Pg} {n : Nat} : 0 < awT g n 6 ∧ awT g n 6 < 2 ^ 31 := by
  have := awT_b g n 6
  omega
theorem od_Lt {g : Pg} {n v N c : Nat} {o : Nat} (h : oSub (ckm g n n) o) (b : bitZ (rightTo (goG g g (nI o) n) N) c = 1) : lN (odT g n v N (wtL c) o) + lN (wyT g n v o n) = lN (odT g n v N (wtL c) (o + 1)) := by
  rw [odT_t h, lN_add]
  unfold wtL
  rw [if_pos b, Nat.mul_one]
theorem od_Lf {g : Pg} {n v N c : Nat} {o : Nat} (h : oSub (ckm g n n) o) (b : ¬ bitZ (rightTo (goG g g (nI o) n) N) c = 1) : lN (odT g n v N (wtL c) o) + 0 = lN (odT g n v N (wtL c) (o + 1)) := by
  rw [odT_t h]
  unfold wtL
  rw [if_neg b, Nat.mul_zero, Nat.add_zero]
  exact lN_add _ 0
theorem od_M {g : Pg} {n v N : Nat} {o : Nat} (h : oSub (ckm g n n) o) : lN (odT g n v N wtM o) + lN (wyT g n v o n) * lN (wtM (rightTo (goG g g (nI o) n) N)) = lN (odT g n v N wtM (o + 1)) := by
  rw [odT_t h, lN_mul, lN_add]
theorem pow64 {n : Nat} (h : n ≤ 6) : 2 ^ n ≤ 64 := Nat.pow_le_pow_right (n := 2) (by decide) h
