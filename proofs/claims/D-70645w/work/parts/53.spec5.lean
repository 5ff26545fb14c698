/-! SPEC, fifth part: images, sheets, counts -/
def a_keep (ik : Pg) (x : Int32) : Int32 := if inI x 0 1 then bI (¬ ik (cn x) = 0) else -1
def g_keep (f : Pg) (x : Int32) : Pg := if inI x 0 1 then va_cpy f f 0 (67 * (cn x + 1)) 67 else f
def k_keep (ik : Pg) (x : Int32) : Pg := if inI x 0 1 then upd ik (cn x) 1 else ik
def a_back (f ik : Pg) (x : Int32) : Int32 := if inI x 0 1 then (if ik (cn x) = 0 then -2 else f (67 * (cn x + 1) + 21)) else -1
def g_back (f ik : Pg) (x : Int32) : Pg := if inI x 0 1 then (if ik (cn x) = 0 then f else va_cpy f f (67 * (cn x + 1)) 0 67) else f
abbrev okSh (x y n : Int32) : Prop := inI x 0 3 ∧ inI y 0 2 ∧ n ≤ 40
def a_sheet (x y n : Int32) : Int32 := if okSh x y n then (if 0 ≤ n then 1 else -14) else -1
def l_sheet (la : Pg) (x y n v : Int32) : Pg := if okSh x y n then (if 0 ≤ n then upd la (cn x) v else la) else la
def zer (ce : Pg) (b m : Nat) : Pg := fun j => if b ≤ j ∧ j < b + m then 0 else ce j
theorem zer_0 (ce : Pg) (b : Nat) : zer ce b 0 = ce := by
  funext j
  exact if_neg (by omega)
theorem zer_s (ce : Pg) (b m : Nat) : upd (zer ce b m) (b + m) 0 = zer ce b (m + 1) := by
  funext j
  show (if j = b + m then 0 else if b ≤ j ∧ j < b + m then 0 else ce j) = if b ≤ j ∧ j < b + (m + 1) then 0 else ce j
  by_cases h : j = b + m
  · rw [if_pos h, if_pos (by omega)]
  · rw [if_neg h]
    by_cases h2 : b ≤ j ∧ j < b + m
    · rw [if_pos h2, if_pos (by omega)]
    · rw [if_neg h2, if_neg (by omega)]
def c_sheet (ce : Pg) (x y n : Int32) : Pg := if okSh x y n then (if 0 ≤ n then zer ce (40 * cn x) 40 else ce) else ce
def okLn (ln : Pg) : Prop := ∀ k, k < 4 → ln k = nI (pN ln k) ∧ pN ln k ≤ 40
def lanV (l v : Int32) : Int32 := if l = 0 then (v <<< ((24 : Int32) &&& 31)) >>> ((24 : Int32) &&& 31) else if l = 1 then (v <<< ((16 : Int32) &&& 31)) >>> ((16 : Int32) &&& 31) else v
def a_lay (la ln : Pg) (x y : Int32) : Int32 := if inI x 0 3 then (if la (cn x) = -4 then -11 else if inI y 0 (ln (cn x) - 1) then 1 else -12) else -1
def g_lay (ce la ln : Pg) (x y v : Int32) : Pg := if inI x 0 3 then (if la (cn x) = -4 then ce else if inI y 0 (ln (cn x) - 1) then upd ce (40 * cn x + cn y) (lanV (la (cn x)) v) else ce) else ce
def gotTo (f : Pg) : Nat → Int32
  | 0 => 0
  | k + 1 => gotTo f k + f (23 + k)
def plaTo (f : Pg) : Nat → Int32
  | 0 => 0
  | k + 1 => plaTo f k + f (48 + 3 * k + 2)
def a_count (f ik la ln : Pg) (sm tp : Int32) (n : Nat) (x : Int32) : Int32 := if x = 0 then sm else if x = 1 then bI (¬ ik 0 = 0) + bI (¬ ik 1 = 0) else if x = 2 then tp else if x = 3 then (if la 0 = -4 then -4 else ln 0) else if x = 4 then gotTo f 25 else if x = 5 then plaTo f n else -1
theorem cpy_21 {f : Pg} {P : Nat} : va_cpy f f P 0 67 21 = f (P + 21) := by
  rw [pk_cpy_in (by omega) (by omega)]
