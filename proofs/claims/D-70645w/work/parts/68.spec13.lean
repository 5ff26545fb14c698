/-! SPEC, thirteenth part: lowest terms -/
theorem lq_div {a d : Nat} (ha : a < 2 ^ 31) (h0 : 0 < d) (hd : d < 2 ^ 31) : lN a / lN d = lN (a / d) := by
  apply Int64.toInt_inj.mp
  rw [Int64.toInt_div, lN_toInt ha, lN_toInt hd, lN_toInt (Nat.lt_of_le_of_lt (Nat.div_le_self a d) ha)]
  have h1 : (a : Int).tdiv (d : Int) = ((a / d : Nat) : Int) := by
    rw [Int.tdiv_eq_ediv_of_nonneg (by omega)]
    exact (Int.natCast_ediv _ _).symm
  have h2 := Nat.div_le_self a d
  rw [h1]
  generalize a / d = e at h2 ⊢
  exact Int.bmod_eq_of_le (by omega) (by omega)
theorem lq_rem {a d : Nat} (ha : a < 2 ^ 31) (h0 : 0 < d) (hd : d < 2 ^ 31) : lN a - lN a / lN d * lN d = lN (a % d) := by
  rw [lq_div ha h0 hd, lN_mul, lN_sub (Nat.div_mul_le_self a d)]
  exact congrArg lN (by have := Nat.div_add_mod' a d; omega)
theorem gcd_st {a b : Nat} : Nat.gcd b (a % b) = Nat.gcd a b := by
  rw [Nat.gcd_comm b (a % b), ← Nat.gcd_rec, Nat.gcd_comm]
def lowR (up dn : Nat) (y : Int32) : Int64 := if y = 0 then lN (up / Nat.gcd up dn) else lN (dn / Nat.gcd up dn)
theorem lq_nz {b : Nat} (hb : b < 2 ^ 31) (h : 0 < b) : ¬ lN b = 0 := fun z => by
  have := (lN_eq (a := b) (b := 0) hb (by decide)).mp z
  omega
theorem lc_0 {x y : Int64} : lg_cmp x y = 0 ↔ x = y := by
  have h1 := lg_cmp_lt x y
  have h2 := lg_cmp_gt x y
  constructor
  · intro h
    rw [h] at h1 h2
    have a : ¬ x < y := fun z => absurd (h1.mpr z) (by decide)
    have b : ¬ y < x := fun z => absurd (h2.mpr z) (by decide)
    exact Int64.le_antisymm (Int64.not_lt.mp b) (Int64.not_lt.mp a)
  · intro h
    subst h
    have a : ¬ lg_cmp x x < 0 := fun z => Int64.lt_irrefl (h1.mp z)
    have b : ¬ 0 < lg_cmp x x := fun z => Int64.lt_irrefl (h2.mp z)
    exact Int32.le_antisymm (Int32.not_lt.mp b) (Int32.not_lt.mp a)
