/-! SPEC, second part: gifts by codes, drift, what was seen -/
abbrev gvP (k g : Pg) (N c : Nat) : Prop := isTwo N (nI (c / 100)) (nI (c / 10 % 10)) ∧ (¬ nI (c % 10) ≤ 0 ∧ may2 k g (c / 100) (c / 10 % 10) (nI (c % 10)))
def gvG (k g : Pg) (N c : Nat) : Pg := if gvP k g N c then give2 k g (c / 100) (c / 10 % 10) (nI (c % 10)) else g
theorem two_lt {N a b : Nat} (hN : N ≤ 5) (ha : a < 1000) (hb : b < 1000) (h : isTwo N (nI a) (nI b)) : a < N ∧ b < N := by
  obtain ⟨j, hj, e⟩ := isC_nat hN h.1
  obtain ⟨l, hl, e2⟩ := isC_nat hN h.2.1
  have := (nI_eq (a := a) (b := j) (by omega) (by omega)).mp e
  have := (nI_eq (a := b) (b := l) (by omega) (by omega)).mp e2
  omega
theorem two_iff {N a b : Nat} (hN : N ≤ 5) (ha : a < 1000) (hb : b < 1000) : isTwo N (nI a) (nI b) ↔ a < N ∧ b < N ∧ a ≠ b := by
  constructor
  · intro h
    obtain ⟨x, y⟩ := two_lt hN ha hb h
    exact ⟨x, y, two_ne h⟩
  · intro ⟨x, y, z⟩
    exact ⟨isC_of hN x, isC_of hN y, fun e => z ((nI_eq (by omega) (by omega)).mp e)⟩
theorem gv_pp {f : Pg} {P N c : Nat} {g : Pg} : (if gvP f g N c then pp f P (give2 f g (c / 100) (c / 10 % 10) (nI (c % 10))) else pp f P g) = pp f P (gvG f g N c) := by
  unfold gvG
  by_cases h : gvP f g N c
  · rw [if_pos h, if_pos h]
  · rw [if_neg h, if_neg h]
/-- drawn numbers -/
def drv (s : Int32) : Nat → Int32
  | 0 => s
  | k + 1 => drv s k * 1103515245 + 12345
def drd (s : Int32) (k : Nat) : Nat := (drv s (k + 1) >>> ((16 : Int32) &&& 31)).toBitVec.toNat % 2 ^ 15
theorem drd_m (s : Int32) (k : Nat) : (drv s (k + 1) >>> ((16 : Int32) &&& 31)) &&& 32767 = nI (drd s k) := pk_and _ 15 (by decide)
theorem drd_c (s : Int32) (k : Nat) : ((drv s (k + 1)).toUInt32 >>> ((16 : Int32).toUInt32 &&& Int32.toUInt32 31)).toInt32 &&& 32767 = nI (drd s k) := by
  rw [← drd_m]
  have h (x : Int32) : (x.toUInt32 >>> ((16 : Int32).toUInt32 &&& Int32.toUInt32 31)).toInt32 &&& 32767 = (x >>> ((16 : Int32) &&& 31)) &&& 32767 := by
    rw [pk_and _ 15 (by decide), pk_and _ 15 (by decide), pk_ushr x 16 16 (by decide)]
    have h2 := pk_shr x ((16 : Int32) &&& 31) 16 (by decide)
    rw [Int.shiftRight_eq_div_pow] at h2
    have k1 : x.toInt = if 2 * x.toBitVec.toNat < 2 ^ 32 then (x.toBitVec.toNat : Int) else (x.toBitVec.toNat : Int) - ((2 ^ 32 : Nat) : Int) := BitVec.toInt_eq_toNat_cond x.toBitVec
    have k2 : (x >>> ((16 : Int32) &&& 31)).toInt = if 2 * (x >>> ((16 : Int32) &&& 31)).toBitVec.toNat < 2 ^ 32 then ((x >>> ((16 : Int32) &&& 31)).toBitVec.toNat : Int) else ((x >>> ((16 : Int32) &&& 31)).toBitVec.toNat : Int) - ((2 ^ 32 : Nat) : Int) := BitVec.toInt_eq_toNat_cond _
    have l1 := x.toBitVec.isLt
    have l2 := (x >>> ((16 : Int32) &&& 31)).toBitVec.isLt
    generalize (x >>> ((16 : Int32) &&& 31)).toBitVec.toNat = Y at k2 l2 ⊢
    generalize x.toBitVec.toNat = X at k1 l1 ⊢
    rw [k1, k2] at h2
    congr 1
    have e16 : ((2 ^ 16 : Nat) : Int) = 65536 := by decide
    rw [e16] at h2
    split at h2 <;> split at h2 <;> omega
  exact h _
theorem drd_lt (s : Int32) (k : Nat) : drd s k < 32768 := Nat.mod_lt _ (by decide)
abbrev drA (N d : Nat) : Nat := d % N
abbrev drB (N d : Nat) : Nat := d / 8 % N
abbrev drM (d : Nat) : Nat := 1 + d / 64 % 9
abbrev drP (g : Pg) (N d : Nat) : Prop := ¬ drA N d = drB N d ∧ may2 g g (drA N d) (drB N d) (nI (drM d))
def drG (g : Pg) (N : Nat) (s : Int32) : Nat → Pg
  | 0 => g
  | k + 1 => if drP (drG g N s k) N (drd s k) then give2 (drG g N s k) (drG g N s k) (drA N (drd s k)) (drB N (drd s k)) (nI (drM (drd s k))) else night (drG g N s k) N
def drC (g : Pg) (N : Nat) (s : Int32) : Nat → Int32
  | 0 => 0
  | k + 1 => if drP (drG g N s k) N (drd s k) then drC g N s k + 1 else drC g N s k
theorem drG_t {g : Pg} {N : Nat} {s : Int32} {k : Nat} (h : drP (drG g N s k) N (drd s k)) : drG g N s (k + 1) = give2 (drG g N s k) (drG g N s k) (drA N (drd s k)) (drB N (drd s k)) (nI (drM (drd s k))) := if_pos h
theorem drG_f {g : Pg} {N : Nat} {s : Int32} {k : Nat} (h : ¬ drP (drG g N s k) N (drd s k)) : drG g N s (k + 1) = night (drG g N s k) N := if_neg h
theorem drC_t {g : Pg} {N : Nat} {s : Int32} {k : Nat} (h : drP (drG g N s k) N (drd s k)) : drC g N s (k + 1) = drC g N s k + 1 := if_pos h
theorem drC_f {g : Pg} {N : Nat} {s : Int32} {k : Nat} (h : ¬ drP (drG g N s k) N (drd s k)) : drC g N s (k + 1) = drC g N s k := if_neg h
def a_drift (g : Pg) (N : Nat) (s n y : Int32) : Int32 := if inI n 1 60 ∧ inI y 0 1 then (if N = 0 then -2 else if y = 0 then drC g N s (cn n) else rightTo (drG g N s (cn n)) N) else -1
theorem drG_ok {g : Pg} {N n : Nat} (ok : okP g N n) (h0 : 0 < N) (s : Int32) : ∀ k, KK g (drG g N s k) ∧ okP (drG g N s k) N n
  | 0 => ⟨KK.rf g, ok⟩
  | k + 1 => by
    obtain ⟨h1, h2⟩ := drG_ok ok h0 s k
    have hN := ok.1
    have la : drA N (drd s k) < N := Nat.mod_lt _ h0
    have lb : drB N (drd s k) < N := Nat.mod_lt _ h0
    have lm : drM (drd s k) ≤ 9 := by unfold drM; omega
    by_cases z : drP (drG g N s k) N (drd s k)
    · rw [drG_t z]
      exact ⟨h1.give (by omega) (by omega), (okP_give h2 (by omega) (by omega) z.1 lm z.2).1⟩
    · rw [drG_f z]
      exact ⟨h1.night hN, okP_night h2⟩
/-- the code of a drawn gift -/
abbrev drK (N d : Nat) : Nat := 100 * (d % N) + 10 * (d / 8 % N) + 1 + d / 64 % 9
theorem drK_div {N d : Nat} (h0 : 0 < N) (hN : N ≤ 5) : drK N d / 100 = drA N d ∧ drK N d / 10 % 10 = drB N d ∧ drK N d % 10 = drM d ∧ drK N d < 500 := by
  have h1 : d % N < N := Nat.mod_lt _ h0
  have h2 : d / 8 % N < N := Nat.mod_lt _ h0
  unfold drA drB drM drK
  omega
theorem dr_gv {f g : Pg} {N d : Nat} (h0 : 0 < N) (hN : N ≤ 5) (hk : KK f g) : gvP f g N (drK N d) ↔ drP g N d := by
  obtain ⟨e1, e2, e3, -⟩ := drK_div (d := d) h0 hN
  have h1 : drA N d < N := Nat.mod_lt _ h0
  have h2 : drB N d < N := Nat.mod_lt _ h0
  have h3 : drM d ≤ 9 := by unfold drM; omega
  unfold gvP drP
  rw [e1, e2, e3, two_iff hN (by omega) (by omega), ← hk.may (by omega) (by omega)]
  constructor
  · intro h
    exact ⟨h.1.2.2, h.2.2⟩
  · intro h
    refine ⟨⟨h1, h2, h.1⟩, ?_, h.2⟩
    exact nI_nle (by unfold drM; omega) (by omega)
/-- what was seen, held against the nights -/
abbrev chkS (g se : Pg) (N e : Nat) : Prop := nightsTo g N (pN se (3 * e + 1)) (15 + pN se (3 * e)) = se (3 * e + 2)
abbrev seenOk (g se : Pg) (N sm : Nat) : Prop := ∀ e, e < sm → chkS g se N e
abbrev seenK (g se : Pg) (N sm k d : Nat) : Prop := (∀ e, e < sm → pN se (3 * e + 1) < k → chkS g se N e) ∧ ∀ e, e < d → pN se (3 * e + 1) = k → chkS g se N e
def okS (se : Pg) (N sm : Nat) : Prop := sm ≤ 6 ∧ ∀ e, e < sm → (se (3 * e) = nI (pN se (3 * e)) ∧ pN se (3 * e) < N) ∧ (se (3 * e + 1) = nI (pN se (3 * e + 1)) ∧ pN se (3 * e + 1) ≤ 20) ∧ (se (3 * e + 2) = nI (pN se (3 * e + 2)) ∧ pN se (3 * e + 2) ≤ 99)
theorem seenK_s {g se : Pg} {N sm k d : Nat} (ok : okS se N sm) (hd : d < sm) (hk : k ≤ 20) : (seenK g se N sm k d ∧ (¬ se (3 * d + 1) = nI k ∨ nightsTo g N k (15 + pN se (3 * d)) = se (3 * d + 2))) ↔ seenK g se N sm k (d + 1) := by
  obtain ⟨-, ⟨e1, l1⟩, -⟩ := ok.2 d hd
  constructor
  · intro ⟨h, h2⟩
    refine ⟨h.1, fun e he hek => ?_⟩
    by_cases z : e = d
    · subst z
      rcases h2 with h2 | h2
      · exact absurd (by rw [e1, hek]) h2
      · unfold chkS
        rw [hek]
        exact h2
    · exact h.2 e (by omega) hek
  · intro h
    refine ⟨⟨h.1, fun e he => h.2 e (by omega)⟩, ?_⟩
    by_cases z : se (3 * d + 1) = nI k
    · right
      have hk2 : pN se (3 * d + 1) = k := by
        rw [e1] at z
        exact (nI_eq (by omega) (by omega)).mp z
      have := h.2 d (by omega) hk2
      unfold chkS at this
      rw [hk2] at this
      exact this
    · left; exact z
theorem seenK_n {g se : Pg} {N sm k : Nat} : seenK g se N sm k sm ↔ seenK g se N sm (k + 1) 0 := by
  constructor
  · intro h
    refine ⟨fun e he hk => ?_, fun e he => absurd he (by omega)⟩
    rcases Nat.lt_or_ge (pN se (3 * e + 1)) k with z | z
    · exact h.1 e he z
    · exact h.2 e he (by omega)
  · intro h
    exact ⟨fun e he hk => h.1 e he (by omega), fun e he hk => h.1 e he (by omega)⟩
theorem seenK_0 {g se : Pg} {N sm : Nat} : seenK g se N sm 0 0 := ⟨fun e he hk => absurd hk (by omega), fun e he => absurd he (by omega)⟩
theorem seenK_e {g se : Pg} {N sm : Nat} (ok : okS se N sm) : seenK g se N sm 21 0 ↔ seenOk g se N sm := by
  constructor
  · intro h e he
    exact h.1 e he (by have := (ok.2 e he).2.1.2; omega)
  · intro h
    exact ⟨fun e he _ => h e he, fun e he => absurd he (by omega)⟩
theorem seenOk_ag {g h se : Pg} {N sm : Nat} (a : AgP g h) (hN : N ≤ 5) (ok : okS se N sm) : seenOk g se N sm ↔ seenOk h se N sm := by
  have e : ∀ e, e < sm → (chkS g se N e ↔ chkS h se N e) := fun e he => by
    have := (ok.2 e he).1.2
    unfold chkS
    rw [nightsTo_ag a hN _ (15 + pN se (3 * e)) (by omega)]
  exact forall_congr' fun x => forall_congr' fun hx => e x hx
/-- the values v for which all would be as seen, as bits -/
def whTo (g : Pg) (ix : Nat) (se : Pg) (N sm : Nat) : Nat → Int32
  | 0 => 0
  | v + 1 => whTo g ix se N sm v ||| (if seenOk (upd g ix (nI v)) se N sm then 1 <<< (nI v &&& 31) else 0)
def a_kinds (g se : Pg) (N sm : Nat) (x : Int32) : Int32 := if isC N x then whTo g (cn x) se N sm 4 else -1
def a_rates (g se : Pg) (N sm : Nat) (x : Int32) : Int32 := if isC N x then whTo g (10 + cn x) se N sm 7 else -1
/-- a row of times -/
def tbRow (tb g : Pg) (N c r k : Nat) : Pg := fun j => if 21 * r ≤ j ∧ j < 21 * r + k then nightsTo g N (j - 21 * r) (15 + c) else tb j
theorem tbRow_0 (tb g : Pg) (N c r : Nat) : tbRow tb g N c r 0 = tb := by
  funext j
  exact if_neg (by omega)
theorem tbRow_s (tb g : Pg) (N c r k : Nat) : upd (tbRow tb g N c r k) (21 * r + k) (nightsTo g N k (15 + c)) = tbRow tb g N c r (k + 1) := by
  funext j
  show (if j = 21 * r + k then _ else if 21 * r ≤ j ∧ j < 21 * r + k then _ else _) = if 21 * r ≤ j ∧ j < 21 * r + (k + 1) then _ else _
  by_cases h : j = 21 * r + k
  · subst h
    rw [if_pos rfl, if_pos (by omega), Nat.add_sub_cancel_left]
  · rw [if_neg h]
    by_cases h2 : 21 * r ≤ j ∧ j < 21 * r + k
    · rw [if_pos h2, if_pos (by omega)]
    · rw [if_neg h2, if_neg (by omega)]
theorem tbRow_ag {tb g h : Pg} (a : AgP g h) {N c r k : Nat} (hN : N ≤ 5) (hc : c < 5) : tbRow tb g N c r k = tbRow tb h N c r k := by
  funext j
  unfold tbRow
  rw [nightsTo_ag a hN _ (15 + c) (by omega)]
/-- all but one place, and what lies above -/
def Qc (f F : Pg) (ix : Nat) : Prop := ∀ k, k < 201 → k ≠ ix → F k = f k
theorem Qc.ag {f F : Pg} {ix : Nat} (h : Qc f F ix) (v : Int32) : AgP (upd F ix v) (upd f ix v) := by
  intro k hk
  by_cases e : k = ix
  · subst e; rw [upd_s, upd_s]
  · rw [upd_n e, upd_n e]; exact h k (by omega) e
theorem Qc.pp {f F : Pg} {ix : Nat} (h : Qc f F ix) (v : Int32) {P : Nat} {g : Pg} (hP : 201 ≤ P) : Qc f (pp (upd F ix v) P g) ix := by
  intro k hk e
  rw [pp_lo (by omega), upd_n e]
  exact h k hk e
theorem Qc.back {f F : Pg} {ix : Nat} (h : Qc f F ix) : Qf f (upd F ix (f ix)) := by
  intro k hk
  by_cases e : k = ix
  · subst e; rw [upd_s]
  · rw [upd_n e]; exact h k hk e
