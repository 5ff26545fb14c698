/-! SPEC: the text, as tokens -/
set_option maxRecDepth 100000
def bt (tp : Pg) (td : Nat) : Pg := fun k => if k < td then tp k else -4
/-- the first place from s on where q fails -/
def runB (q : Int32 → Bool) (B : Pg) : Nat → Nat → Nat
  | 0, s => s
  | n + 1, s => if q (B s) = true then runB q B n (s + 1) else s
def isS (c : Int32) : Bool := decide (c = 32)
def isL (c : Int32) : Bool := decide (inI c 97 122)
def isD (c : Int32) : Bool := decide (inI c 48 57)
def rn (q : Int32 → Bool) (B : Pg) (s : Nat) : Nat := runB q B 161 s
theorem runB_at {q : Int32 → Bool} {B : Pg} : ∀ (n s e : Nat), s ≤ e → e ≤ s + n → (∀ x, s ≤ x → x < e → q (B x) = true) → ¬ q (B e) = true → runB q B n s = e
  | 0, s, e, h1, h2, _, _ => by
    show s = e
    omega
  | n + 1, s, e, h1, h2, h3, h4 => by
    show (if q (B s) = true then runB q B n (s + 1) else s) = e
    by_cases z : s = e
    · subst z
      rw [if_neg h4]
    · rw [if_pos (h3 s (Nat.le_refl _) (by omega))]
      exact runB_at n (s + 1) e (by omega) (by omega) (fun x a b => h3 x (by omega) b) h4
theorem rn_at {q : Int32 → Bool} {B : Pg} {s c : Nat} (hc : c ≤ 160) (h3 : ∀ x, x < c → q (B (s + x)) = true) (h4 : ¬ q (B (s + c)) = true) : rn q B s = s + c := by
  refine runB_at 161 s (s + c) (by omega) (by omega) (fun x a b => ?_) h4
  have := h3 (x - s) (by omega)
  rw [show s + (x - s) = x by omega] at this
  exact this
/-- a number's worth: its first two digits -/
def dv (B : Pg) (h : Nat) : Nat → Int32
  | 0 => 0
  | c + 1 => if c < 2 then 10 * dv B h c + B (h + c) - 48 else dv B h c
/-- broken, its place, spot, here, token, value -/
abbrev TS : Type := Int32 × Int32 × Nat × Nat × Int32 × Int32
def tI (i : Pg) (T : TS) : Pg := fun k => if k = 9 then T.1 else if k = 10 then T.2.1 else if k = 11 then nI T.2.2.1 else if k = 12 then nI T.2.2.2.1 else if k = 13 then T.2.2.2.2.1 else if k = 14 then T.2.2.2.2.2 else i k
abbrev fl (c : Int32) (T : TS) : TS := (c, nI T.2.2.2.1, T.2.2)
def sTok (B : Pg) (ba : Int32) (sp : Nat) : TS :=
  if B (rn isS B sp) = -4 then (0, ba, rn isS B sp, rn isS B sp, 0, 0)
  else if inI (B (rn isS B sp)) 97 122 then (0, ba, rn isL B (rn isS B sp), rn isS B sp, 1, 0)
  else if inI (B (rn isS B sp)) 48 57 then
    (if 2 < rn isD B (rn isS B sp) - rn isS B sp then (1, nI (rn isS B sp), rn isD B (rn isS B sp), rn isS B sp, 2, dv B (rn isS B sp) (rn isD B (rn isS B sp) - rn isS B sp))
    else (0, ba, rn isD B (rn isS B sp), rn isS B sp, 2, dv B (rn isS B sp) (rn isD B (rn isS B sp) - rn isS B sp)))
  else if B (rn isS B sp) = 59 then (0, ba, rn isS B sp + 1, rn isS B sp, 3, 0)
  else (1, nI (rn isS B sp), rn isS B sp + 1, rn isS B sp, 3, 0)
abbrev sStep (B : Pg) (T : TS) : TS := sTok B T.2.1 T.2.2.1
def sNum (B : Pg) (lo hi : Int32) (T : TS) : Int32 × TS := if ¬ T.1 = 0 then (lo, T) else if ¬ T.2.2.2.2.1 = 2 then (lo, fl 2 T) else if ¬ inI T.2.2.2.2.2 lo hi then (lo, fl 3 T) else (T.2.2.2.2.2, sStep B T)
theorem bt_lt {tp : Pg} {td k : Nat} (h : ¬ bt tp td k = -4) : k < td := by
  unfold bt at h
  by_cases z : k < td
  · exact z
  · rw [if_neg z] at h
    exact absurd rfl h
theorem bt_in {tp : Pg} {td k : Nat} (h : k < td) : bt tp td k = tp k := if_pos h
theorem bt_out {tp : Pg} {td k : Nat} (h : ¬ k < td) : bt tp td k = -4 := if_neg h
theorem isS_lt {tp : Pg} {td k : Nat} (h : bt tp td k = 32) : k < td := bt_lt (by rw [h]; decide)
theorem in_lt {tp : Pg} {td k : Nat} {a b : Int32} (h : inI (bt tp td k) a b) (ha : ¬ a ≤ -4) : k < td := bt_lt (fun z => by rw [z] at h; exact ha h.1)
theorem allB {q : Int32 → Bool} {B : Pg} {s c : Nat} (h : ∀ x, x < c → q (B (s + x)) = true) (h2 : q (B (s + c)) = true) : ∀ x, x < c + 1 → q (B (s + x)) = true := by
  intro x hx
  by_cases z : x = c
  · rw [z]
    exact h2
  · exact h x (by omega)
theorem dv_in {B : Pg} {h c : Nat} (z : c < 2) : dv B h (c + 1) = 10 * dv B h c + B (h + c) - 48 := if_pos z
theorem dv_out {B : Pg} {h c : Nat} (z : ¬ c < 2) : dv B h (c + 1) = dv B h c := if_neg z
theorem gt_le {x : Int32} (h : 0 < x) : ¬ x ≤ 0 := fun z => by
  have h1 := Int32.lt_iff_toInt_lt.mp h
  have h2 := Int32.le_iff_toInt_le.mp z
  omega
theorem b_pos {x : Int32} (h : x = 0 ∨ 0 < x) (z : ¬ x = 0) : 0 < x := h.resolve_left z
theorem runB_le {q : Int32 → Bool} {tp : Pg} {td : Nat} (hq : ¬ q (-4) = true) : ∀ (n s : Nat), s ≤ td → s ≤ runB q (bt tp td) n s ∧ runB q (bt tp td) n s ≤ td
  | 0, s, h => ⟨Nat.le_refl _, h⟩
  | n + 1, s, h => by
    show s ≤ (if q (bt tp td s) = true then runB q (bt tp td) n (s + 1) else s) ∧ (if q (bt tp td s) = true then runB q (bt tp td) n (s + 1) else s) ≤ td
    by_cases z : q (bt tp td s) = true
    · rw [if_pos z]
      have hs : s < td := bt_lt (fun e => hq (by rw [← e]; exact z))
      have := runB_le (tp := tp) hq n (s + 1) hs
      omega
    · rw [if_neg z]
      exact ⟨Nat.le_refl _, h⟩
/-- a good state of the tokens -/
def okT (td : Nat) (T : TS) : Prop := (T.1 = 0 ∨ 0 < T.1) ∧ T.2.2.2.1 ≤ T.2.2.1 ∧ T.2.2.1 ≤ td
theorem sTok_ok {tp : Pg} {td sp : Nat} {ba : Int32} (h : sp ≤ td) : okT td (sTok (bt tp td) ba sp) := by
  have h1 := runB_le (q := isS) (tp := tp) (by decide) 161 sp h
  have h2 := runB_le (q := isL) (tp := tp) (by decide) 161 _ h1.2
  have h3 := runB_le (q := isD) (tp := tp) (by decide) 161 _ h1.2
  unfold sTok
  by_cases z : bt tp td (rn isS (bt tp td) sp) = -4
  · rw [if_pos z]
    exact ⟨Or.inl rfl, Nat.le_refl _, h1.2⟩
  · have hlt := bt_lt z
    rw [if_neg z]
    by_cases z2 : inI (bt tp td (rn isS (bt tp td) sp)) 97 122
    · rw [if_pos z2]
      exact ⟨Or.inl rfl, h2.1, h2.2⟩
    · rw [if_neg z2]
      by_cases z3 : inI (bt tp td (rn isS (bt tp td) sp)) 48 57
      · rw [if_pos z3]
        by_cases z4 : 2 < rn isD (bt tp td) (rn isS (bt tp td) sp) - rn isS (bt tp td) sp
        · rw [if_pos z4]
          exact ⟨Or.inr (show (0 : Int32) < 1 by decide), h3.1, h3.2⟩
        · rw [if_neg z4]
          exact ⟨Or.inl rfl, h3.1, h3.2⟩
      · rw [if_neg z3]
        by_cases z5 : bt tp td (rn isS (bt tp td) sp) = 59
        · rw [if_pos z5]
          exact ⟨Or.inl rfl, Nat.le_succ _, hlt⟩
        · rw [if_neg z5]
          exact ⟨Or.inr (show (0 : Int32) < 1 by decide), Nat.le_succ _, hlt⟩
theorem fl_ok {td : Nat} {c : Int32} {T : TS} (hc : 0 < c) (h : okT td T) : okT td (fl c T) := ⟨Or.inr hc, h.2⟩
theorem sNum_ok {tp : Pg} {td : Nat} {lo hi : Int32} {T : TS} (h : okT td T) : okT td (sNum (bt tp td) lo hi T).2 := by
  unfold sNum
  by_cases a : ¬ T.1 = 0
  · rw [if_pos a]
    exact h
  · rw [if_neg a]
    by_cases b : ¬ T.2.2.2.2.1 = 2
    · rw [if_pos b]
      exact fl_ok (by decide) h
    · rw [if_neg b]
      by_cases c : ¬ inI T.2.2.2.2.2 lo hi
      · rw [if_pos c]
        exact fl_ok (by decide) h
      · rw [if_neg c]
        exact sTok_ok h.2.2
def hiM (v h : Int32) : Int32 := if v ≤ h then h else v
abbrev tkT (T : TS) : Int32 := T.2.2.2.2.1
abbrev vlT (T : TS) : Int32 := T.2.2.2.2.2
/-- the model's clock: its tokens, its page -/
abbrev k2T (B : Pg) (P : TS) : Int32 × TS := sNum B 0 6 (sNum B 0 3 P).2
abbrev ckP (B : Pg) (P : TS) (rp : Pg) (rc : Nat) (nm : Int32) : Pg := upd (upd (upd (upd rp rc nm) (5 + rc) (sNum B 0 3 P).1) (10 + rc) (k2T B P).1) (15 + rc) 50
def sClk (B : Pg) (P : TS) (rp : Pg) (rc : Nat) (nm : Int32) : TS × Pg := if (k2T B P).2.1 = 0 then (if (k2T B P).2.2.2.2.2.1 = 2 then ((sNum B 0 99 (k2T B P).2).2, upd (ckP B P rp rc nm) (15 + rc) (sNum B 0 99 (k2T B P).2).1) else ((k2T B P).2, ckP B P rp rc nm)) else ((k2T B P).2, ckP B P rp rc nm)
/-- a gift: tokens behind the first clock, the highest, the page -/
def gT1 (B : Pg) (P : TS) : TS := if (sNum B 0 4 P).2.1 = 0 then (if (sNum B 0 4 P).2.2.2.2.2.1 = 2 then (if (sNum B 0 4 P).2.2.2.2.2.2 = (sNum B 0 4 P).1 then fl 3 (sNum B 0 4 P).2 else (sNum B 0 4 P).2) else (sNum B 0 4 P).2) else (sNum B 0 4 P).2
abbrev gT2 (B : Pg) (P : TS) : Int32 × TS := sNum B 0 4 (gT1 B P)
abbrev gT3 (B : Pg) (P : TS) : Int32 × TS := sNum B 1 9 (gT2 B P).2
abbrev gHi (B : Pg) (P : TS) (hi : Int32) : Int32 := hiM (gT2 B P).1 (hiM (sNum B 0 4 P).1 hi)
abbrev gRp (B : Pg) (P : TS) (rp : Pg) (n : Nat) : Pg := upd (upd (upd (upd rp (48 + 3 * n) (sNum B 0 4 P).1) (48 + 3 * n + 1) (gT2 B P).1) (48 + 3 * n + 2) (gT3 B P).1) 66 (nI (n + 1))
theorem gT1_ok {tp : Pg} {td : Nat} {P : TS} (h : okT td P) : okT td (gT1 (bt tp td) P) := by
  have h1 : okT td (sNum (bt tp td) 0 4 P).2 := sNum_ok h
  unfold gT1
  by_cases a : (sNum (bt tp td) 0 4 P).2.1 = 0
  · rw [if_pos a]
    by_cases b : (sNum (bt tp td) 0 4 P).2.2.2.2.2.1 = 2
    · rw [if_pos b]
      by_cases c : (sNum (bt tp td) 0 4 P).2.2.2.2.2.2 = (sNum (bt tp td) 0 4 P).1
      · rw [if_pos c]
        exact fl_ok (by decide) h1
      · rw [if_neg c]
        exact h1
    · rw [if_neg b]
      exact h1
  · rw [if_neg a]
    exact h1
