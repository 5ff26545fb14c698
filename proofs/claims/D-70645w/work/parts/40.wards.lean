/-! the class's objects, over pages -/
abbrev xO (ad : Nat → Nat) (i : Nat → Int32) (j : Nat → Int64) : Nat × va_E := (ad 0, .inr (0, [.ref (ad 1), .ref (ad 6), .ref (ad 10), .ref (ad 14), .ref (ad 18), .int (i 5), .ref (ad 27), .int (i 7), .int (i 8), .int (i 9), .ref (ad 28), .int (i 11), .int (i 12), .int (i 13), .int (i 14), .int (i 15), .ref (ad 29), .long (j 17), .long (j 18), .long (j 19), .ref (ad 30), .ref (ad 31), .ref (ad 32), .int (i 23)]))
def wcl (g : Pg) : Pg := fun j => g (5 * (j % 4) + j / 4)
def wgt (g : Pg) : Pg := fun j => g (23 + j)
def wpl (g : Pg) : Pg := fun j => g (48 + j)
abbrev wO (a0 a1 a2 a3 N : Nat) (g : Pg) : Nat × va_E := (a0, .inr (5, [.int (nI N), .ref a1, .int (g 20 + 40), .int (g 21), .int (g 22), .ref a2, .int (g 66), .ref a3]))
/-- a clock's number of a kind -/
def wof (g : Pg) (w c : Nat) : Int32 := match w with
  | 0 => g c
  | 1 => g (5 + c)
  | 2 => g (10 + c)
  | _ => g (15 + c)
def wix (w c : Nat) : Nat := match w with
  | 0 => c
  | 1 => 5 + c
  | 2 => 10 + c
  | _ => 15 + c
theorem wof_ix {g : Pg} {w c : Nat} : wof g w c = g (wix w c) := by
  match w with
  | 0 => rfl
  | 1 => rfl
  | 2 => rfl
  | _ + 3 => rfl
theorem wix_eq {w c : Nat} (hw : w < 4) : wix w c = 5 * w + c := by
  match w with
  | 0 => show c = 5 * 0 + c; omega
  | 1 => rfl
  | 2 => rfl
  | 3 => rfl
  | _ + 4 => omega
theorem wcl_of {g : Pg} {w c : Nat} (hw : w < 4) : wcl g (4 * c + w) = wof g w c := by
  rw [wof_ix, wix_eq hw]
  show g (5 * ((4 * c + w) % 4) + (4 * c + w) / 4) = _
  rw [show (4 * c + w) % 4 = w by omega, show (4 * c + w) / 4 = c by omega]
def wput (g : Pg) (w c : Nat) (v : Int32) : Pg := match w with
  | 0 => upd g c v
  | 1 => upd g (5 + c) v
  | 2 => upd g (10 + c) v
  | _ => upd g (15 + c) v
theorem wput_ix {g : Pg} {w c : Nat} {v : Int32} : wput g w c v = upd g (wix w c) v := by
  match w with
  | 0 => rfl
  | 1 => rfl
  | 2 => rfl
  | _ + 3 => rfl
theorem wcl_put {g : Pg} {w c : Nat} {v : Int32} (hw : w < 4) (hc : c < 5) : ∀ j, j < 20 → upd (wcl g) (4 * c + w) v j = wcl (wput g w c v) j := by
  intro j hj
  rw [wput_ix, wix_eq hw]
  show (if j = 4 * c + w then v else g (5 * (j % 4) + j / 4)) = if 5 * (j % 4) + j / 4 = 5 * w + c then v else g (5 * (j % 4) + j / 4)
  by_cases h : j = 4 * c + w
  · subst h
    rw [if_pos rfl, if_pos (by omega)]
  · rw [if_neg h, if_neg (by omega)]
theorem wcl_hi {g : Pg} {k : Nat} {v : Int32} (hk : 20 ≤ k) : ∀ j, j < 20 → wcl g j = wcl (upd g k v) j := by
  intro j hj
  show g (5 * (j % 4) + j / 4) = if 5 * (j % 4) + j / 4 = k then v else g (5 * (j % 4) + j / 4)
  rw [if_neg (by omega)]
theorem wO_lo {a0 a1 a2 a3 N : Nat} {g : Pg} {k : Nat} {v : Int32} (hk : k < 20) : wO a0 a1 a2 a3 N (upd g k v) = wO a0 a1 a2 a3 N g := by
  unfold wO
  rw [upd_n (by omega), upd_n (by omega), upd_n (by omega), upd_n (by omega)]
theorem wgt_lo {g : Pg} {k : Nat} {v : Int32} (hk : k < 23) : wgt (upd g k v) = wgt g := by
  funext j
  unfold wgt upd
  rw [if_neg (by omega)]
theorem wpl_lo {g : Pg} {k : Nat} {v : Int32} (hk : k < 48) : wpl (upd g k v) = wpl g := by
  funext j
  unfold wpl upd
  rw [if_neg (by omega)]
theorem wpl_66 {g : Pg} {v : Int32} : ∀ j, j < 18 → wpl g j = wpl (upd g 66 v) j := by
  intro j hj
  unfold wpl upd
  rw [if_neg (by omega)]
theorem wgt_hi {g : Pg} {k : Nat} {v : Int32} (hk : 48 ≤ k) : ∀ j, j < 25 → wgt g j = wgt (upd g k v) j := by
  intro j hj
  unfold wgt upd
  rw [if_neg (by omega)]
theorem wgt_put {g : Pg} {k : Nat} {v : Int32} : upd (wgt g) k v = wgt (upd g (23 + k) v) := by
  funext j
  unfold wgt upd
  by_cases h : j = k
  · subst h; rw [if_pos rfl, if_pos rfl]
  · rw [if_neg h, if_neg (by omega)]
theorem wpl_put {g : Pg} {k : Nat} {v : Int32} : upd (wpl g) k v = wpl (upd g (48 + k) v) := by
  funext j
  unfold wpl upd
  by_cases h : j = k
  · subst h; rw [if_pos rfl, if_pos rfl]
  · rw [if_neg h, if_neg (by omega)]
theorem wO_got {a0 a1 a2 a3 N : Nat} {g : Pg} {k : Nat} {v : Int32} (hk : k < 43) : wO a0 a1 a2 a3 N (upd g (23 + k) v) = wO a0 a1 a2 a3 N g := by
  unfold wO
  rw [upd_n (by omega), upd_n (by omega), upd_n (by omega), upd_n (by omega)]
/-- it fits a byte -/
def bfit (x : Int32) : Prop := x.toInt8.toInt32 = x
theorem bfit_nI {k : Nat} (h : k < 128) : bfit (nI k) := by
  have : ∀ k : Fin 128, (nI k.val).toInt8.toInt32 = nI k.val := by decide
  exact this ⟨k, h⟩
theorem bfit_fits {x : Int32} (h : bfit x) : fits .byte (.int x) = true := by
  have := pk_fb x
  rw [h] at this
  exact this
/-- a page whose bytes are bytes -/
def okW (g : Pg) : Prop := (∀ k, k < 20 → bfit (g k)) ∧ ∀ k, k < 18 → bfit (g (48 + k))
theorem okW_cl {g : Pg} (h : okW g) : ∀ j, j < 20 → fits .byte (.int (wcl g j)) = true := fun j hj => bfit_fits (h.1 _ (by omega))
theorem okW_pl {g : Pg} (h : okW g) : ∀ j, j < 18 → fits .byte (.int (wpl g j)) = true := fun j hj => bfit_fits (h.2 j hj)
theorem cpy_all {f g : Pg} {n : Nat} : ∀ j, j < n → va_cpy f g 0 0 n j = f j := by
  intro j hj
  rw [pk_cpy_in (Nat.zero_le _) (by omega), Nat.zero_add, Nat.sub_zero]
theorem upd_comm {g : Pg} {a b : Nat} {x y : Int32} (h : a ≠ b) : upd (upd g a x) b y = upd (upd g b y) a x := by
  funext j
  unfold upd
  by_cases h1 : j = b
  · rw [if_pos h1]
    by_cases h2 : j = a
    · omega
    · rw [if_neg h2, if_pos h1]
  · rw [if_neg h1, if_neg h1]
/-- give2, in the class's order -/
theorem give2_cls {g : Pg} {a b : Nat} {n : Int32} (hb : b < 5) (ha : a < 5) : upd (upd (upd (upd g (15 + a) (g (15 + a) - n)) (15 + b) (upd g (15 + a) (g (15 + a) - n) (15 + b) + gets2 g a b n)) (23 + (5 * b + a)) (g (23 + (5 * b + a)) + gets2 g a b n)) 22 (g 22 + (n - gets2 g a b n)) = give2 g g a b n := by
  unfold give2
  dsimp only
  rw [show 23 + 5 * b + a = 23 + (5 * b + a) by omega]
  rw [upd_n (k := 22) (j := 23 + (5 * b + a)) (by omega), upd_n (k := 15 + b) (j := 23 + (5 * b + a)) (by omega), upd_n (k := 15 + a) (j := 23 + (5 * b + a)) (by omega)]
  rw [upd_n (k := 15 + b) (j := 22) (by omega), upd_n (k := 15 + a) (j := 22) (by omega)]
  rw [upd_comm (a := 23 + (5 * b + a)) (b := 22) (by omega)]
theorem wO_lost {a0 a1 a2 a3 N : Nat} {g : Pg} {k : Nat} {v x : Int32} (hk : k < 25) : wO a0 a1 a2 a3 N (upd (upd g (23 + k) v) 22 x) = (a0, .inr (5, [.int (nI N), .ref a1, .int (g 20 + 40), .int (g 21), .int x, .ref a2, .int (g 66), .ref a3])) := by
  unfold wO
  rw [upd_s, upd_n (by omega), upd_n (by omega), upd_n (by omega), upd_n (by omega), upd_n (by omega), upd_n (by omega)]
def bitCnt (x : Int32) : Int32 :=
  let a := x - ((x.toUInt32 >>> ((1 : Int32).toUInt32 &&& Int32.toUInt32 31)).toInt32 &&& 1431655765)
  let b := (a &&& 858993459) + ((a.toUInt32 >>> ((2 : Int32).toUInt32 &&& Int32.toUInt32 31)).toInt32 &&& 858993459)
  let c := (b + (b.toUInt32 >>> ((4 : Int32).toUInt32 &&& Int32.toUInt32 31)).toInt32) &&& 252645135
  let d := c + (c.toUInt32 >>> ((8 : Int32).toUInt32 &&& Int32.toUInt32 31)).toInt32
  let e := d + (d.toUInt32 >>> ((16 : Int32).toUInt32 &&& Int32.toUInt32 31)).toInt32
  e &&& 63
