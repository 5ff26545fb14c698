/-! SPEC: pages of numbers (the model's layout), what is done to them -/
abbrev Pg : Type := Nat → Int32
/-- the page at P; the page at P set -/
def pg (f : Pg) (P : Nat) : Pg := fun k => f (P + k)
def pp (f : Pg) (P : Nat) (g : Pg) : Pg := fun k => if P ≤ k then g (k - P) else f k
theorem pg_0 (f : Pg) : pg f 0 = f := by funext k; simp [pg]
theorem pp_0 (f g : Pg) : pp f 0 g = g := by funext k; simp [pp]
theorem pp_pg (f : Pg) (P : Nat) : pp f P (pg f P) = f := by
  funext k
  unfold pp pg
  by_cases h : P ≤ k
  · rw [if_pos h, Nat.add_sub_cancel' h]
  · rw [if_neg h]
theorem pg_pp (f : Pg) (P : Nat) (g : Pg) : pg (pp f P g) P = g := by
  funext k
  show (if P ≤ P + k then g (P + k - P) else f (P + k)) = g k
  rw [if_pos (Nat.le_add_right _ _), Nat.add_sub_cancel_left]
theorem pp_pp (f : Pg) (P : Nat) (g h : Pg) : pp (pp f P g) P h = pp f P h := by
  funext k
  unfold pp
  by_cases h : P ≤ k
  · rw [if_pos h, if_pos h]
  · rw [if_neg h, if_neg h, if_neg h]
theorem pp_upd (f : Pg) (P : Nat) (g : Pg) (k : Nat) (v : Int32) : upd (pp f P g) (P + k) v = pp f P (upd g k v) := by
  funext j
  show (if j = P + k then v else if P ≤ j then g (j - P) else f j) = if P ≤ j then (if j - P = k then v else g (j - P)) else f j
  by_cases h : j = P + k
  · subst h
    rw [if_pos rfl, if_pos (Nat.le_add_right _ _), if_pos (by omega)]
  · rw [if_neg h]
    by_cases h2 : P ≤ j
    · rw [if_pos h2, if_pos h2, if_neg (by omega)]
    · rw [if_neg h2, if_neg h2]
theorem pg_upd (f : Pg) (P k : Nat) (v : Int32) : pg (upd f (P + k) v) P = upd (pg f P) k v := by
  funext j
  unfold pg upd
  by_cases h : j = k
  · subst h; simp
  · rw [if_neg (by omega), if_neg h]
theorem pp_lo {f : Pg} {P : Nat} {g : Pg} {k : Nat} (h : k < P) : pp f P g k = f k := if_neg (by omega)
theorem pp_at (f : Pg) (P : Nat) (g : Pg) (k : Nat) : pp f P g (P + k) = g k := congrFun (pg_pp f P g) k
theorem pg_at (f : Pg) (P k : Nat) : f (P + k) = pg f P k := rfl
theorem upd_s (f : Pg) (k : Nat) (v : Int32) : upd f k v k = v := if_pos rfl
theorem upd_n {f : Pg} {k j : Nat} {v : Int32} (h : j ≠ k) : upd f k v j = f j := if_neg h
/-- what comes of n minutes -/
def gets2 (k : Pg) (a b : Nat) (n : Int32) : Int32 := if k (5 + a) = k (5 + b) then n else n - n / 3
abbrev may2 (k g : Pg) (a b : Nat) (n : Int32) : Prop := (k (5 + a) = k (5 + b) ∨ (k a = 2 ∧ ¬ k b = 1)) ∧ (¬ g (15 + a) - n < k 20 + 40) ∧ ¬ 99 < g (15 + b) + gets2 k a b n
def give2 (k g : Pg) (a b : Nat) (n : Int32) : Pg :=
  let m := gets2 k a b n
  let g1 := upd g (15 + a) (g (15 + a) - n)
  let g2 := upd g1 (15 + b) (g1 (15 + b) + m)
  let g3 := upd g2 22 (g2 22 + (n - m))
  upd g3 (23 + 5 * b + a) (g3 (23 + 5 * b + a) + m)
/-- a night -/
def gainI (k r : Int32) : Int32 := if k = 0 then r - 3 else if k = 1 then 2 * (r - 3) else if k = 2 then 2 * (r - 3) - 1 else -(r - 3)
def clampI (v : Int32) : Int32 := if 0 ≤ v then (if v ≤ 99 then v else 99) else 0
def thenI (g : Pg) (c : Nat) : Int32 := clampI (g (15 + c) + gainI (g c) (g (10 + c)))
def nightTo (g : Pg) : Nat → Pg
  | 0 => g
  | c + 1 => upd (nightTo g c) (15 + c) (thenI (nightTo g c) c)
def night (g : Pg) (N : Nat) : Pg := upd (nightTo g N) 21 (nightTo g N 21 + 1)
/-- which are right, as bits -/
def rightTo (g : Pg) : Nat → Int32
  | 0 => 0
  | c + 1 => rightTo g c ||| (if g (15 + c) = 50 then 1 <<< (nI c &&& 31) else 0)
def bitsTo (x : Int32) : Nat → Int32
  | 0 => 0
  | k + 1 => bitsTo x k + (x >>> (nI k &&& 31) &&& 1)
/-- a clock's number -/
abbrev isC (N : Nat) (x : Int32) : Prop := 0 ≤ x ∧ x ≤ nI N - 1
abbrev isTwo (N : Nat) (x y : Int32) : Prop := isC N x ∧ isC N y ∧ ¬ x = y
/-- numbers between -/
abbrev inI (x lo hi : Int32) : Prop := lo ≤ x ∧ x ≤ hi
theorem in_nat {x : Int32} {m : Nat} {hi : Int32} (hm : hi.toInt = m) (h : inI x 0 hi) : ∃ j, j ≤ m ∧ x = nI j := by
  obtain ⟨h1, h2⟩ := h
  have h3 := Int32.le_iff_toInt_le.mp h1
  have h4 := Int32.le_iff_toInt_le.mp h2
  have h5 : (0 : Int32).toInt = 0 := by decide
  rw [h5] at h3
  rw [hm] at h4
  refine ⟨x.toInt.toNat, by omega, ?_⟩
  apply Int32.toInt_inj.mp
  have h6 := Int32.toInt_lt x
  rw [nI_toInt (by omega)]
  omega
theorem isC_nat {N : Nat} {x : Int32} (hN : N ≤ 5) (h : isC N x) : ∃ j, j < N ∧ x = nI j := by
  obtain ⟨h1, h2⟩ := h
  have h3 := Int32.le_iff_toInt_le.mp h1
  have h4 := Int32.le_iff_toInt_le.mp h2
  have h5 : (0 : Int32).toInt = 0 := by decide
  have h6 : (nI N - 1).toInt = (N : Int) - 1 := by
    have := pk_sub_toInt (a := N) (b := 1) (by omega) (by omega)
    exact this
  rw [h5] at h3
  rw [h6] at h4
  refine ⟨x.toInt.toNat, by omega, ?_⟩
  apply Int32.toInt_inj.mp
  rw [nI_toInt (by omega)]
  omega
theorem isC_of {N j : Nat} (hN : N ≤ 5) (h : j < N) : isC N (nI j) := by
  have h6 : (nI N - 1).toInt = (N : Int) - 1 := pk_sub_toInt (a := N) (b := 1) (by omega) (by omega)
  constructor
  · exact nI_pos' (by omega)
  · apply Int32.le_iff_toInt_le.mpr
    rw [h6, nI_toInt (by omega)]
    omega
theorem i2l_le {x y : Int32} : x.toInt64 ≤ y.toInt64 ↔ x ≤ y := by
  rw [Int64.le_iff_toInt_le, Int32.toInt_toInt64, Int32.toInt_toInt64, Int32.le_iff_toInt_le]
theorem in_val64 (v lo hi : Int64) : bI (¬ (lg_cmp v lo < 0) ∧ ¬ (0 < lg_cmp v hi)) = bI (lo ≤ v ∧ v ≤ hi) :=
  bI_iff (by rw [lg_cmp_lt, lg_cmp_gt, Int64.not_lt, Int64.not_lt])
theorem in_val (v lo hi : Int32) : bI (¬ (lg_cmp v.toInt64 lo.toInt64 < 0) ∧ ¬ (0 < lg_cmp v.toInt64 hi.toInt64)) = bI (inI v lo hi) := by
  rw [in_val64]
  exact bI_iff (by rw [i2l_le, i2l_le])
/-- pages copied -/
theorem cpy_step (f : Pg) (P Q k : Nat) (h : P + 67 ≤ Q ∨ Q + 67 ≤ P) (hk : k < 67) : upd (va_cpy f f P Q k) (Q + k) (pg (va_cpy f f P Q k) P k) = va_cpy f f P Q (k + 1) := by
  funext j
  have h1 : pg (va_cpy f f P Q k) P k = f (P + k) := pk_cpy_out (by omega)
  rw [h1]
  by_cases hj : j = Q + k
  · subst hj
    rw [upd_s, pk_cpy_in (by omega) (by omega), Nat.add_sub_cancel_left]
  · rw [upd_n hj]
    by_cases h2 : Q ≤ j ∧ j < Q + k
    · rw [pk_cpy_in h2.1 h2.2, pk_cpy_in h2.1 (by omega)]
    · rw [pk_cpy_out (by omega), pk_cpy_out (by omega)]
theorem cpy_0 (f : Pg) (P Q : Nat) : va_cpy f f P Q 0 = f := by
  funext j
  exact pk_cpy_out (by omega)
/-- a number as a Nat; a page's copy -/
def pN (f : Pg) (k : Nat) : Nat := (f k).toNatClampNeg
abbrev cn (x : Int32) : Nat := x.toNatClampNeg
theorem cn_nI {j : Nat} (h : j < 1000) : cn (nI j) = j := nI_clamp (by omega)
def cpP (f : Pg) (P Q : Nat) : Pg := fun k => if k < 67 then f (P + k) else f (Q + k)
theorem cpy_pp (f : Pg) (P Q : Nat) : va_cpy f f P Q 67 = pp f Q (cpP f P Q) := by
  funext k
  show (if Q ≤ k ∧ k < Q + 67 then f (P + (k - Q)) else f k) = if Q ≤ k then (if k - Q < 67 then f (P + (k - Q)) else f (Q + (k - Q))) else f k
  by_cases h : Q ≤ k
  · rw [if_pos h]
    by_cases h2 : k < Q + 67
    · rw [if_pos ⟨h, h2⟩, if_pos (by omega)]
    · rw [if_neg (fun z => h2 z.2), if_neg (by omega), Nat.add_sub_cancel' h]
  · rw [if_neg h, if_neg (fun z => h z.1)]
/-- pages that agree -/
def AgP (g h : Pg) : Prop := ∀ k, k < 67 → g k = h k
theorem AgP.rf (g : Pg) : AgP g g := fun _ _ => rfl
theorem AgP.sy {g h : Pg} (a : AgP g h) : AgP h g := fun k hk => (a k hk).symm
theorem AgP.tr {g h i : Pg} (a : AgP g h) (b : AgP h i) : AgP g i := fun k hk => (a k hk).trans (b k hk)
theorem AgP.up {g h : Pg} (a : AgP g h) (k : Nat) {v w : Int32} (e : v = w) : AgP (upd g k v) (upd h k w) := by
  subst e
  intro j hj
  unfold upd
  by_cases x : j = k
  · rw [if_pos x, if_pos x]
  · rw [if_neg x, if_neg x]; exact a j hj
theorem ag_cp (f : Pg) (Q : Nat) : AgP (cpP f 0 Q) f := by
  intro k hk
  unfold cpP
  rw [if_pos hk, Nat.zero_add]
theorem ag_cp2 (f : Pg) (P Q : Nat) : AgP (cpP f P Q) (pg f P) := by
  intro k hk
  unfold cpP
  rw [if_pos hk]
  rfl
theorem thenI_ag {g h : Pg} (a : AgP g h) {c : Nat} (hc : c < 5) : thenI g c = thenI h c := by
  unfold thenI
  rw [a (15 + c) (by omega), a c (by omega), a (10 + c) (by omega)]
theorem nightTo_ag {g h : Pg} (a : AgP g h) : ∀ c, c ≤ 5 → AgP (nightTo g c) (nightTo h c)
  | 0, _ => a
  | c + 1, hc => (nightTo_ag a c (by omega)).up (15 + c) (thenI_ag (nightTo_ag a c (by omega)) (by omega))
theorem night_ag {g h : Pg} (a : AgP g h) {N : Nat} (hN : N ≤ 5) : AgP (night g N) (night h N) :=
  (nightTo_ag a N hN).up 21 (by rw [nightTo_ag a N hN 21 (by omega)])
theorem rightTo_ag {g h : Pg} (a : AgP g h) : ∀ N, N ≤ 5 → rightTo g N = rightTo h N
  | 0, _ => rfl
  | c + 1, hc => by
    show rightTo g c ||| _ = rightTo h c ||| _
    rw [rightTo_ag a c (by omega), a (15 + c) (by omega)]
theorem gets2_ag {k l : Pg} (a : AgP k l) {x y : Nat} (hx : x < 5) (hy : y < 5) (n : Int32) : gets2 k x y n = gets2 l x y n := by
  unfold gets2
  rw [a (5 + x) (by omega), a (5 + y) (by omega)]
theorem may2_ag {k l g h : Pg} (a : AgP k l) (b : AgP g h) {x y : Nat} (hx : x < 5) (hy : y < 5) (n : Int32) : may2 k g x y n ↔ may2 l h x y n := by
  unfold may2
  rw [gets2_ag a hx hy, a (5 + x) (by omega), a (5 + y) (by omega), a x (by omega), a y (by omega), a 20 (by omega), b (15 + x) (by omega), b (15 + y) (by omega)]
theorem give2_ag {k l g h : Pg} (a : AgP k l) (b : AgP g h) {x y : Nat} (hx : x < 5) (hy : y < 5) (n : Int32) : AgP (give2 k g x y n) (give2 l h x y n) := by
  have e := gets2_ag a hx hy n
  have b1 : AgP (upd g (15 + x) (g (15 + x) - n)) (upd h (15 + x) (h (15 + x) - n)) := b.up _ (by rw [b (15 + x) (by omega)])
  have b2 := b1.up (15 + y) (v := (upd g (15 + x) (g (15 + x) - n)) (15 + y) + gets2 k x y n) (w := (upd h (15 + x) (h (15 + x) - n)) (15 + y) + gets2 l x y n) (by rw [b1 (15 + y) (by omega), e])
  have b3 := b2.up 22 (v := (upd (upd g (15 + x) (g (15 + x) - n)) (15 + y) ((upd g (15 + x) (g (15 + x) - n)) (15 + y) + gets2 k x y n)) 22 + (n - gets2 k x y n)) (w := (upd (upd h (15 + x) (h (15 + x) - n)) (15 + y) ((upd h (15 + x) (h (15 + x) - n)) (15 + y) + gets2 l x y n)) 22 + (n - gets2 l x y n)) (by rw [b2 22 (by omega), e])
  exact b3.up (23 + 5 * y + x) (by rw [b3 (23 + 5 * y + x) (by omega), e])
/-- sums, the most, a plan that goes -/
def sumTo (g : Pg) : Nat → Int32
  | 0 => 0
  | c + 1 => sumTo g c + g (15 + c)
def mostTo (g : Pg) (a b : Nat) : Nat → Int32
  | 0 => 0
  | n + 1 => if may2 g g a b (nI (n + 1)) then nI (n + 1) else mostTo g a b n
def bitZ (x : Int32) (i : Nat) : Int32 := (x >>> (nI i &&& 31)) &&& 1
abbrev goM (k g : Pg) (x : Int32) (i : Nat) : Prop := bitZ x i = 0 ∧ may2 k g (pN k (48 + 3 * i)) (pN k (48 + 3 * i + 1)) (k (48 + 3 * i + 2))
abbrev goN (k g : Pg) (x : Int32) (i : Nat) : Prop := bitZ x i = 0 ∧ ¬ may2 k g (pN k (48 + 3 * i)) (pN k (48 + 3 * i + 1)) (k (48 + 3 * i + 2))
def goG (k t : Pg) (x : Int32) : Nat → Pg
  | 0 => t
  | i + 1 => if goM k (goG k t x i) x i then give2 k (goG k t x i) (pN k (48 + 3 * i)) (pN k (48 + 3 * i + 1)) (k (48 + 3 * i + 2)) else goG k t x i
def goC (k t : Pg) (x : Int32) : Nat → Int32
  | 0 => 0
  | i + 1 => if goM k (goG k t x i) x i then goC k t x i + 1 else goC k t x i
def goF (k t : Pg) (x : Int32) : Nat → Int32
  | 0 => -4
  | i + 1 => if goN k (goG k t x i) x i then (if goF k t x i = -4 then nI i else goF k t x i) else goF k t x i
/-- a plan of n gifts whose clocks are numbers under 5 -/
def okPl (f : Pg) (n : Nat) : Prop := f 66 = nI n ∧ n ≤ 6 ∧ ∀ i, i < n → (f (48 + 3 * i) = nI (pN f (48 + 3 * i)) ∧ pN f (48 + 3 * i) < 5) ∧ (f (48 + 3 * i + 1) = nI (pN f (48 + 3 * i + 1)) ∧ pN f (48 + 3 * i + 1) < 5)
def nightsTo (g : Pg) (N : Nat) : Nat → Pg
  | 0 => g
  | k + 1 => night (nightsTo g N k) N
theorem nightsTo_ag {g h : Pg} (a : AgP g h) {N : Nat} (hN : N ≤ 5) : ∀ k, AgP (nightsTo g N k) (nightsTo h N k)
  | 0 => a
  | k + 1 => night_ag (nightsTo_ag a hN k) hN
theorem goG_ag {k g h : Pg} (b : AgP g h) (x : Int32) {n : Nat} (ok : okPl k n) : ∀ i, i ≤ n → AgP (goG k g x i) (goG k h x i)
  | 0, _ => b
  | i + 1, hi => by
    have a := goG_ag b x ok i (by omega)
    obtain ⟨⟨-, h1⟩, ⟨-, h2⟩⟩ := ok.2.2 i (by omega)
    have e := may2_ag (AgP.rf k) a h1 h2 (k (48 + 3 * i + 2))
    show AgP (if _ then _ else _) (if _ then _ else _)
    by_cases z : goM k (goG k g x i) x i
    · rw [if_pos z, if_pos ⟨z.1, e.mp z.2⟩]
      exact give2_ag (AgP.rf k) a h1 h2 _
    · rw [if_neg z, if_neg (fun w => z ⟨w.1, e.mpr w.2⟩)]
      exact a
theorem goC_ag {k g h : Pg} (b : AgP g h) (x : Int32) {n : Nat} (ok : okPl k n) : ∀ i, i ≤ n → goC k g x i = goC k h x i
  | 0, _ => rfl
  | i + 1, hi => by
    have a := goG_ag b x ok i (by omega)
    obtain ⟨⟨-, h1⟩, ⟨-, h2⟩⟩ := ok.2.2 i (by omega)
    have e := may2_ag (AgP.rf k) a h1 h2 (k (48 + 3 * i + 2))
    show (if _ then _ else _) = (if _ then _ else _)
    by_cases z : goM k (goG k g x i) x i
    · rw [if_pos z, if_pos ⟨z.1, e.mp z.2⟩, goC_ag b x ok i (by omega)]
    · rw [if_neg z, if_neg (fun w => z ⟨w.1, e.mpr w.2⟩), goC_ag b x ok i (by omega)]
theorem goF_ag {k g h : Pg} (b : AgP g h) (x : Int32) {n : Nat} (ok : okPl k n) : ∀ i, i ≤ n → goF k g x i = goF k h x i
  | 0, _ => rfl
  | i + 1, hi => by
    have a := goG_ag b x ok i (by omega)
    obtain ⟨⟨-, h1⟩, ⟨-, h2⟩⟩ := ok.2.2 i (by omega)
    have e := may2_ag (AgP.rf k) a h1 h2 (k (48 + 3 * i + 2))
    show (if _ then _ else _) = (if _ then _ else _)
    by_cases z : goN k (goG k g x i) x i
    · have z2 : goN k (goG k h x i) x i := ⟨z.1, fun w => z.2 (e.mpr w)⟩
      rw [if_pos z, goF_ag b x ok i (by omega), if_pos z2]
    · have z2 : ¬ goN k (goG k h x i) x i := fun w => z ⟨w.1, fun y => w.2 (e.mp y)⟩
      rw [if_neg z, if_neg z2, goF_ag b x ok i (by omega)]
theorem goG_t {k t : Pg} {x : Int32} {i : Nat} (h : goM k (goG k t x i) x i) : goG k t x (i + 1) = give2 k (goG k t x i) (pN k (48 + 3 * i)) (pN k (48 + 3 * i + 1)) (k (48 + 3 * i + 2)) := if_pos h
theorem goG_f {k t : Pg} {x : Int32} {i : Nat} (h : ¬ goM k (goG k t x i) x i) : goG k t x (i + 1) = goG k t x i := if_neg h
theorem goC_t {k t : Pg} {x : Int32} {i : Nat} (h : goM k (goG k t x i) x i) : goC k t x (i + 1) = goC k t x i + 1 := if_pos h
theorem goC_f {k t : Pg} {x : Int32} {i : Nat} (h : ¬ goM k (goG k t x i) x i) : goC k t x (i + 1) = goC k t x i := if_neg h
theorem goF_t {k t : Pg} {x : Int32} {i : Nat} (h : goN k (goG k t x i) x i) : goF k t x (i + 1) = if goF k t x i = -4 then nI i else goF k t x i := if_pos h
theorem goF_f {k t : Pg} {x : Int32} {i : Nat} (h : ¬ goN k (goG k t x i) x i) : goF k t x (i + 1) = goF k t x i := if_neg h
theorem ag_pp {f : Pg} {P : Nat} {G : Pg} (h : 67 ≤ P) : AgP (pp f P G) f := fun k hk => pp_lo (by omega)
theorem may_pp {f : Pg} {P : Nat} {G : Pg} (h : 67 ≤ P) {a b : Nat} (ha : a < 5) (hb : b < 5) {n : Int32} : may2 (pp f P G) (pg (pp f P G) P) a b n ↔ may2 f G a b n := by
  rw [pg_pp]
  exact may2_ag (ag_pp h) (AgP.rf G) ha hb n
theorem gets_pp {f : Pg} {P : Nat} {G : Pg} (h : 67 ≤ P) {a b : Nat} (ha : a < 5) (hb : b < 5) (n : Int32) : gets2 (pp f P G) a b n = gets2 f a b n := gets2_ag (ag_pp h) ha hb n
theorem give_pp {f : Pg} {P : Nat} {G : Pg} (h : 67 ≤ P) {a b : Nat} (ha : a < 5) (hb : b < 5) {n : Int32} : pp (pp f P G) P (give2 (pp f P G) (pg (pp f P G) P) a b n) = pp f P (give2 f G a b n) := by
  rw [pg_pp, pp_pp]
  unfold give2
  rw [gets_pp h ha hb]
theorem pN_ag {k l : Pg} (a : AgP k l) {j : Nat} (h : j < 67) : pN k j = pN l j := by
  unfold pN
  rw [a j h]
theorem goG_ag2 {k l g h : Pg} (c : AgP k l) (b : AgP g h) (x : Int32) {n : Nat} (ok : okPl l n) : ∀ i, i ≤ n → AgP (goG k g x i) (goG l h x i)
  | 0, _ => b
  | i + 1, hi => by
    have a := goG_ag2 c b x ok i (by omega)
    have h6 := ok.2.1
    obtain ⟨⟨-, h1⟩, ⟨-, h2⟩⟩ := ok.2.2 i (by omega)
    have e1 := pN_ag c (j := 48 + 3 * i) (by omega)
    have e2 := pN_ag c (j := 48 + 3 * i + 1) (by omega)
    have e3 := c (48 + 3 * i + 2) (by omega)
    have e := may2_ag c a h1 h2 (l (48 + 3 * i + 2))
    have z1 : goM k (goG k g x i) x i ↔ goM l (goG l h x i) x i := by
      unfold goM
      rw [e1, e2, e3]
      exact and_congr_right fun _ => e
    show AgP (if _ then _ else _) (if _ then _ else _)
    by_cases z : goM k (goG k g x i) x i
    · rw [if_pos z, if_pos (z1.mp z), e1, e2, e3]
      exact give2_ag c a h1 h2 _
    · rw [if_neg z, if_neg (fun w => z (z1.mpr w))]
      exact a
/-- what stays of the model's numbers through an op that only tries -/
def Qf (f g : Pg) : Prop := ∀ k, k < 201 → g k = f k
def Qi (i j : Nat → Int32) : Prop := j 1 = i 1 ∧ j 7 = i 7 ∧ j 8 = i 8 ∧ j 25 = i 25 ∧ j 31 = i 31
theorem Qf.rf (f : Pg) : Qf f f := fun _ _ => rfl
theorem Qf.pp {f : Pg} {P : Nat} {g : Pg} (h : 201 ≤ P) : Qf f (pp f P g) := fun k hk => pp_lo (by omega)
theorem Qf.ag {f F : Pg} (h : Qf f F) : AgP F f := fun k hk => h k (by omega)
theorem Qf.tr {f g h : Pg} (a : Qf f g) (b : Qf g h) : Qf f h := fun k hk => (b k hk).trans (a k hk)
theorem okPl_q {f F : Pg} {n : Nat} (h : Qf f F) (ok : okPl f n) : okPl F n := by
  refine ⟨(h 66 (by omega)).trans ok.1, ok.2.1, fun i hi => ?_⟩
  have h6 := ok.2.1
  obtain ⟨⟨a1, a2⟩, ⟨a3, a4⟩⟩ := ok.2.2 i hi
  have e1 := h (48 + 3 * i) (by omega)
  have e2 := h (48 + 3 * i + 1) (by omega)
  unfold pN at *
  rw [e1, e2]
  exact ⟨⟨a1, a2⟩, ⟨a3, a4⟩⟩
theorem goG_q {f F : Pg} {n : Nat} (h : Qf f F) (ok : okPl f n) (x : Int32) : AgP (goG F (cpP F 0 268) x n) (goG f f x n) :=
  goG_ag2 h.ag ((ag_cp F 268).tr h.ag) x ok n (Nat.le_refl n)
def levB (f : Pg) (N n : Nat) (x : Int32) : Int32 := bitsTo (rightTo (goG f f x n) N) 7
def levM (f : Pg) (N n : Nat) : Nat → Int32
  | 0 => levB f N n 0
  | i + 1 => if levB f N n (1 <<< (nI i &&& 31)) ≤ levM f N n i then levM f N n i else levB f N n (1 <<< (nI i &&& 31))
def levW (f : Pg) (N n : Nat) : Nat → Int32
  | 0 => -4
  | i + 1 => if levB f N n (1 <<< (nI i &&& 31)) ≤ levM f N n i then levW f N n i else nI i
def a_leave (f : Pg) (N n : Nat) (y : Int32) : Int32 := if inI y 0 1 then (if levW f N n n = -4 ∨ y = 0 then levW f N n n else levM f N n n) else -1
/-- what was seen -/
def a_see (N sm : Nat) (x y v : Int32) : Int32 := if isC N x ∧ inI y 0 20 ∧ inI v 0 99 then (if sm = 6 then -3 else nI (sm + 1)) else -1
def n_see (N sm : Nat) (x y v : Int32) : Nat := if isC N x ∧ inI y 0 20 ∧ inI v 0 99 then (if sm = 6 then sm else sm + 1) else sm
def g_see (se : Pg) (N sm : Nat) (x y v : Int32) : Pg := if isC N x ∧ inI y 0 20 ∧ inI v 0 99 then (if sm = 6 then se else upd (upd (upd se (3 * sm) x) (3 * sm + 1) y) (3 * sm + 2) v) else se
/-- the answers -/
def a_rule (g : Pg) (N : Nat) (x : Int32) : Int32 := if x = 0 then nI N else if x = 1 then g 20 + 40 else if x = 2 then g 21 else if x = 3 then g 66 else if x = 4 then rightTo g N else if x = 5 then sumTo g N else if x = 6 then g 22 else -1
def a_clock (g : Pg) (N : Nat) (x y : Int32) : Int32 := if isC N x ∧ inI y 0 4 then (if y = 4 then thenI g (cn x) else g (5 * cn y + cn x)) else -1
def a_got (g : Pg) (N : Nat) (x y : Int32) : Int32 := if isTwo N x y then g (23 + 5 * cn x + cn y) else -1
def a_gift (g : Pg) (x y : Int32) : Int32 := if inI x 0 (g 66 - 1) ∧ inI y 0 2 then g (48 + 3 * cn x + cn y) else -1
abbrev altMost (y : Int32) : Int32 := if y = 0 then 3 else if y = 1 then 3 else if y = 2 then 6 else 99
abbrev altOk (N : Nat) (x y v : Int32) : Prop := isC N x ∧ (inI y 0 3 ∧ inI v 0 (altMost y))
def a_alter (g : Pg) (N : Nat) (x y v : Int32) : Int32 := if altOk N x y v then g (5 * cn y + cn x) else -1
def g_alter (g : Pg) (N : Nat) (x y v : Int32) : Pg := if altOk N x y v then upd g (5 * cn y + cn x) v else g
def a_floor (g : Pg) (v : Int32) : Int32 := if inI v 0 50 then g 20 + 40 else -1
def g_floor (g : Pg) (v : Int32) : Pg := if inI v 0 50 then upd g 20 (v - 40) else g
def a_cut (g : Pg) (v : Int32) : Int32 := if inI v 0 (g 66) then g 66 else -1
def g_cut (g : Pg) (v : Int32) : Pg := if inI v 0 (g 66) then upd g 66 v else g
abbrev plnOk (N : Nat) (x y n : Int32) : Prop := isTwo N x y ∧ inI n 1 9
def a_plan (p N : Nat) (x y n : Int32) : Int32 := if plnOk N x y n then (if p = 6 then -3 else nI (p + 1)) else -1
def g_plan (g : Pg) (p N : Nat) (x y n : Int32) : Pg := if plnOk N x y n then (if p = 6 then g else upd (upd (upd (upd g (48 + 3 * p) x) (48 + 3 * p + 1) y) (48 + 3 * p + 2) n) 66 (nI (p + 1))) else g
def a_most (g : Pg) (N : Nat) (x y : Int32) : Int32 := if isTwo N x y then mostTo g (cn x) (cn y) 9 else -1
def a_give (g : Pg) (N : Nat) (x y n : Int32) : Int32 := if plnOk N x y n then (if may2 g g (cn x) (cn y) n then give2 g g (cn x) (cn y) n (15 + cn y) else -2) else -1
def g_give (g : Pg) (N : Nat) (x y n : Int32) : Pg := if plnOk N x y n then (if may2 g g (cn x) (cn y) n then give2 g g (cn x) (cn y) n else g) else g
def a_nights (g : Pg) (N : Nat) (n : Int32) : Int32 := if inI n 0 30 then (if g 21 + n ≤ 999 then rightTo (nightsTo g N (cn n)) N else -3) else -1
def g_nights (g : Pg) (N : Nat) (n : Int32) : Pg := if inI n 0 30 then (if g 21 + n ≤ 999 then nightsTo g N (cn n) else g) else g
def a_runs (g : Pg) (N n : Nat) (x : Int32) : Int32 := if inI x 0 3 then (if x = 0 then rightTo (goG g g 0 n) N else if x = 1 then goC g g 0 n else if x = 2 then goF g g 0 n else goG g g 0 n 22 - g 22) else -1
def a_ahead (g : Pg) (N n : Nat) (x : Int32) : Int32 := if isC N x then goG g g 0 n (15 + cn x) else -1
def a_later (g : Pg) (N : Nat) (x n : Int32) : Int32 := if isC N x ∧ inI n 0 60 then nightsTo g N (cn n) (15 + cn x) else -1
/-- the first night from k on, of n more, at which it is right -/
def whenFrom (g : Pg) (N c : Nat) : Nat → Nat → Int32
  | _, 0 => -4
  | k, n + 1 => if nightsTo g N k (15 + c) = 50 then nI k else whenFrom g N c (k + 1) n
def whenAt (g : Pg) (N c k : Nat) : Int32 := whenFrom g N c k (61 - k)
theorem whenAt_s {g : Pg} {N c k : Nat} (h : k < 61) (hn : ¬ nightsTo g N k (15 + c) = 50) : whenAt g N c k = whenAt g N c (k + 1) := by
  unfold whenAt
  rw [show 61 - k = (61 - (k + 1)) + 1 by omega]
  show (if _ then _ else _) = _
  rw [if_neg hn]
theorem whenAt_f {g : Pg} {N c k : Nat} (h : k < 61) (hn : nightsTo g N k (15 + c) = 50) : whenAt g N c k = nI k := by
  unfold whenAt
  rw [show 61 - k = (61 - (k + 1)) + 1 by omega]
  show (if _ then _ else _) = _
  rw [if_pos hn]
theorem whenAt_e {g : Pg} {N c : Nat} : whenAt g N c 61 = -4 := rfl
def a_when (g : Pg) (N : Nat) (x : Int32) : Int32 := if isC N x then whenAt g N (cn x) 0 else -1
def togM (g : Pg) (N : Nat) : Nat → Int32
  | 0 => -1
  | k + 1 => if bitsTo (rightTo (nightsTo g N k) N) 7 ≤ togM g N k then togM g N k else bitsTo (rightTo (nightsTo g N k) N) 7
def togW (g : Pg) (N : Nat) : Nat → Int32
  | 0 => 0
  | k + 1 => if bitsTo (rightTo (nightsTo g N k) N) 7 ≤ togM g N k then togW g N k else nI k
def a_tog (g : Pg) (N : Nat) (x : Int32) : Int32 := if inI x 0 1 then (if x = 0 then togW g N 61 else togM g N 61) else -1
def donG (g : Pg) (to a : Nat) : Int32 := if a = to then 0 else gets2 g a to (mostTo g a to 9)
def donM (g : Pg) (to : Nat) : Nat → Int32
  | 0 => 0
  | a + 1 => if donG g to a ≤ donM g to a then donM g to a else donG g to a
def donW (g : Pg) (to : Nat) : Nat → Int32
  | 0 => -4
  | a + 1 => if donG g to a ≤ donM g to a then donW g to a else nI a
def a_donor (g : Pg) (N : Nat) (x y : Int32) : Int32 := if isC N x ∧ inI y 0 1 then (if donW g (cn x) N = -4 ∨ y = 0 then donW g (cn x) N else donM g (cn x) N) else -1
/-- the tape -/
def a_feed (t : Nat) (x : Int32) : Int32 := if inI x 0 127 then (if t = 160 then -3 else nI (t + 1)) else -1
def n_feed (t : Nat) (x : Int32) : Nat := if inI x 0 127 then (if t = 160 then t else t + 1) else t
def g_feed (tp : Pg) (t : Nat) (x : Int32) : Pg := if inI x 0 127 then (if t = 160 then tp else upd tp t x) else tp
def a_end (t : Nat) (x : Int32) : Int32 := if inI x 0 (nI t) then nI t else -1
def n_end (t : Nat) (x : Int32) : Nat := if inI x 0 (nI t) then cn x else t
theorem inI_nat {x : Int32} {m : Nat} (hm : m < 1000) (h : inI x 0 (nI m)) : ∃ j, j ≤ m ∧ x = nI j := in_nat (nI_toInt (by omega)) h
theorem in_nat1 {x : Int32} {m : Nat} {hi : Int32} (hm : hi.toInt = m) (h : inI x 1 hi) : ∃ j, 1 ≤ j ∧ j ≤ m ∧ x = nI j := by
  obtain ⟨h1, h2⟩ := h
  have h3 := Int32.le_iff_toInt_le.mp h1
  have h5 : (1 : Int32).toInt = 1 := by decide
  rw [h5] at h3
  obtain ⟨j, hj, e⟩ := in_nat hm (x := x) ⟨Int32.le_iff_toInt_le.mpr (by rw [show (0 : Int32).toInt = 0 by decide]; omega), h2⟩
  refine ⟨j, ?_, hj, e⟩
  have h4 := Int32.le_iff_toInt_le.mp h2
  have h6 := Int32.toInt_lt hi
  rw [e, nI_toInt (by omega)] at h3
  omega
theorem inC_nat {x : Int32} {m : Nat} (hm : m < 1000) (h : inI x 0 (nI m - 1)) : ∃ j, j < m ∧ x = nI j := by
  obtain ⟨h1, h2⟩ := h
  have h3 := Int32.le_iff_toInt_le.mp h1
  have h4 := Int32.le_iff_toInt_le.mp h2
  have h5 : (0 : Int32).toInt = 0 := by decide
  have h6 : (nI m - 1).toInt = (m : Int) - 1 := pk_sub_toInt (a := m) (b := 1) (by omega) (by omega)
  rw [h5] at h3
  rw [h6] at h4
  refine ⟨x.toInt.toNat, by omega, ?_⟩
  apply Int32.toInt_inj.mp
  rw [nI_toInt (by omega)]
  omega
theorem alt_ix {N : Nat} {x y v : Int32} (hN : N ≤ 5) (h : altOk N x y v) : 5 * y + x = nI (5 * cn y + cn x) ∧ 5 * cn y + cn x < 402 := by
  obtain ⟨j, hj, rfl⟩ := isC_nat hN h.1
  obtain ⟨w, hw, rfl⟩ := in_nat (m := 3) (by decide) h.2.1
  rw [cn_nI (by omega), cn_nI (by omega)]
  refine ⟨?_, by omega⟩
  rw [show (5 : Int32) = nI 5 from rfl, pk_mul, nI_add]
/-- the model's object and its arrays -/
abbrev mO (h : Nat) (ad : Nat → Nat) (i : Nat → Int32) : Nat × va_E := (h, .inr (7, [.ref (ad 0), .int (i 1), .ref (ad 2), .int (i 3), .int (i 4), .int (i 5), .ref (ad 6), .int (i 7), .int (i 8), .int (i 9), .int (i 10), .int (i 11), .int (i 12), .int (i 13), .int (i 14), .ref (ad 15), .ref (ad 16), .int (i 17), .int (i 18), .int (i 19), .int (i 20), .int (i 21), .int (i 22), .int (i 23), .ref (ad 24), .int (i 25), .ref (ad 26), .ref (ad 27), .ref (ad 28), .ref (ad 29), .ref (ad 30), .int (i 31)]))
