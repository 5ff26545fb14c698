/-! SPEC: the text, names and lines -/
set_option maxRecDepth 100000
def CUn (k : Nat) : Nat := [0, 5, 11, 16, 20, 25, 29].getD k 0
def LE (k : Nat) : Int32 := [112, 108, 97, 105, 110, 99, 117, 99, 107, 111, 111, 116, 111, 119, 101, 114, 98, 97, 99, 107, 102, 108, 111, 111, 114, 103, 105, 102, 116].getD k 0
theorem six {n : Nat} (h : n < 6) : n = 0 ∨ n = 1 ∨ n = 2 ∨ n = 3 ∨ n = 4 ∨ n = 5 := by omega
theorem cu_ok {n : Nat} (h : n < 6) : CUn n ≤ CUn (n + 1) ∧ CUn (n + 1) ≤ 29 := by
  rcases six h with rfl | rfl | rfl | rfl | rfl | rfl <;> decide
abbrev smT (B : Pg) (hr sp n k : Nat) : Prop := sp - hr = CUn (n + 1) - CUn n ∧ ∀ x, x < k → B (hr + x) = LE (CUn n + x)
def isNm (B : Pg) (T : TS) (n : Nat) : Bool := decide (smT B T.2.2.2.1 T.2.2.1 n (T.2.2.1 - T.2.2.2.1))
def nmI (B : Pg) (T : TS) : Int32 := if T.2.2.2.2.1 = 1 then (if isNm B T 0 = true then 0 else if isNm B T 1 = true then 1 else if isNm B T 2 = true then 2 else if isNm B T 3 = true then 3 else if isNm B T 4 = true then 4 else if isNm B T 5 = true then 5 else -4) else -4
theorem isNm_t {B : Pg} {T : TS} {n : Nat} (h : smT B T.2.2.2.1 T.2.2.1 n (T.2.2.1 - T.2.2.2.1)) : isNm B T n = true := by
  unfold isNm
  exact decide_eq_true h
theorem isNm_f {B : Pg} {T : TS} {n k : Nat} (hk : k ≤ T.2.2.1 - T.2.2.2.1) (h : ¬ smT B T.2.2.2.1 T.2.2.1 n k) : ¬ isNm B T n = true := by
  intro z
  unfold isNm at z
  have z2 := of_decide_eq_true z
  exact h ⟨z2.1, fun x hx => z2.2 x (by omega)⟩
theorem nm_tk {B : Pg} {T : TS} (h : ¬ T.2.2.2.2.1 = 1) : nmI B T = -4 := if_neg h
theorem nm_no {B : Pg} {T : TS} (h : ∀ m, m < 6 → ¬ isNm B T m = true) : nmI B T = -4 := by
  unfold nmI
  by_cases z : T.2.2.2.2.1 = 1
  · rw [if_pos z, if_neg (h 0 (by omega)), if_neg (h 1 (by omega)), if_neg (h 2 (by omega)), if_neg (h 3 (by omega)), if_neg (h 4 (by omega)), if_neg (h 5 (by omega))]
  · rw [if_neg z]
theorem nm_at {B : Pg} {T : TS} {n : Nat} (hn : n < 6) (ht : T.2.2.2.2.1 = 1) (h : ∀ m, m < n → ¬ isNm B T m = true) (h2 : isNm B T n = true) : nmI B T = nI n := by
  unfold nmI
  rw [if_pos ht]
  rcases six hn with rfl | rfl | rfl | rfl | rfl | rfl
  · rw [if_pos h2]; rfl
  · rw [if_neg (h 0 (by omega)), if_pos h2]; rfl
  · rw [if_neg (h 0 (by omega)), if_neg (h 1 (by omega)), if_pos h2]; rfl
  · rw [if_neg (h 0 (by omega)), if_neg (h 1 (by omega)), if_neg (h 2 (by omega)), if_pos h2]; rfl
  · rw [if_neg (h 0 (by omega)), if_neg (h 1 (by omega)), if_neg (h 2 (by omega)), if_neg (h 3 (by omega)), if_pos h2]; rfl
  · rw [if_neg (h 0 (by omega)), if_neg (h 1 (by omega)), if_neg (h 2 (by omega)), if_neg (h 3 (by omega)), if_neg (h 4 (by omega)), if_pos h2]; rfl
theorem sm_0 {B : Pg} {hr sp n : Nat} : sp - hr = CUn (n + 1) - CUn n ↔ smT B hr sp n 0 := ⟨fun h => ⟨h, fun x hx => absurd hx (by omega)⟩, fun h => h.1⟩
theorem sm_s {B : Pg} {hr sp n k : Nat} (h : smT B hr sp n k) : B (hr + k) = LE (CUn n + k) ↔ smT B hr sp n (k + 1) := by
  constructor
  · intro z
    refine ⟨h.1, fun x hx => ?_⟩
    by_cases e : x = k
    · rw [e]
      exact z
    · exact h.2 x (by omega)
  · intro z
    exact z.2 k (by omega)
theorem noN {B : Pg} {T : TS} {n : Nat} (h : ∀ m, m < n → ¬ isNm B T m = true) (h2 : ¬ isNm B T n = true) : ∀ m, m < n + 1 → ¬ isNm B T m = true := by
  intro m hm
  by_cases e : m = n
  · rw [e]
    exact h2
  · exact h m (by omega)
/-- tokens, page, clocks, floor told, highest, gifts -/
abbrev LNS : Type := TS × Pg × Nat × Int32 × Int32 × Nat
def lI (i : Pg) (L : LNS) : Pg := fun k => if k = 3 then nI L.2.2.1 else if k = 4 then L.2.2.2.1 else if k = 5 then L.2.2.2.2.1 else i k
abbrev lT (L : LNS) (T : TS) : LNS := (T, L.2)
/-- behind a line's own words -/
def sEnd (B : Pg) (L : LNS) : LNS := if L.1.1 = 0 then (if L.1.2.2.2.2.1 = 3 then lT L (sStep B L.1) else lT L (fl 2 L.1)) else L
abbrev lC (B : Pg) (T : TS) (L : LNS) (ft nm : Int32) : LNS := ((sClk B T L.2.1 L.2.2.1 nm).1, (sClk B T L.2.1 L.2.2.1 nm).2, L.2.2.1 + 1, ft, L.2.2.2.2.1, L.2.2.2.2.2)
abbrev lF (B : Pg) (T : TS) (L : LNS) (ft : Int32) : LNS := ((sNum B 0 50 T).2, upd L.2.1 20 ((sNum B 0 50 T).1 - 40), L.2.2.1, ft, L.2.2.2.2.1, L.2.2.2.2.2)
abbrev lG (B : Pg) (T : TS) (L : LNS) (ft : Int32) : LNS := ((gT3 B T).2, gRp B T L.2.1 L.2.2.2.2.2, L.2.2.1, ft, gHi B T L.2.2.2.2.1, L.2.2.2.2.2 + 1)
abbrev ftN (ft : Int32) (nm : Int32) : Int32 := bI (¬ ft = 0 ∨ nm = 4)
/-- a line whose name is nm, which is told that it may begin -/
def sGo (B : Pg) (L : LNS) (nm : Int32) : LNS := if (sStep B L.1).1 = 0 then sEnd B (if nm ≤ 3 then lC B (sStep B L.1) L (ftN L.2.2.2.1 nm) nm else if nm = 4 then lF B (sStep B L.1) L (ftN L.2.2.2.1 nm) else lG B (sStep B L.1) L (ftN L.2.2.2.1 nm)) else (sStep B L.1, L.2.1, L.2.2.1, ftN L.2.2.2.1 nm, L.2.2.2.2)
def sLine (B : Pg) (L : LNS) : LNS :=
  if inI (nmI B L.1) 0 5 then
    (if (nmI B L.1 ≤ 3 ∧ L.2.2.1 = 5) ∨ (nmI B L.1 = 5 ∧ L.2.2.2.2.2 = 6) then (fl 5 L.1, L.2.1, L.2.2.1, ftN L.2.2.2.1 (nmI B L.1), L.2.2.2.2)
    else if nmI B L.1 = 4 ∧ ¬ L.2.2.2.1 = 0 then (fl 4 L.1, L.2.1, L.2.2.1, ftN L.2.2.2.1 (nmI B L.1), L.2.2.2.2)
    else sGo B L (nmI B L.1))
  else lT L (fl 2 L.1)
section
variable {B : Pg} {L : LNS} {nm : Int32}
theorem ln_bad (h : ¬ inI (nmI B L.1) 0 5) : sLine B L = lT L (fl 2 L.1) := if_neg h
theorem ln_5 (e : nm = nmI B L.1) (h0 : inI nm 0 5) (h : (nm ≤ 3 ∧ L.2.2.1 = 5) ∨ (nm = 5 ∧ L.2.2.2.2.2 = 6)) : sLine B L = (fl 5 L.1, L.2.1, L.2.2.1, ftN L.2.2.2.1 nm, L.2.2.2.2) := by
  unfold sLine
  rw [← e, if_pos h0, if_pos h]
theorem ln_4 (e : 4 = nmI B L.1) (h : ¬ L.2.2.2.1 = 0) : sLine B L = (fl 4 L.1, L.2.1, L.2.2.1, ftN L.2.2.2.1 4, L.2.2.2.2) := by
  unfold sLine
  rw [← e, if_pos (by decide), if_neg (fun z => z.elim (fun z => absurd z.1 (by decide)) (fun z => absurd z.1 (by decide))), if_pos ⟨rfl, h⟩]
theorem ln_go (e : nm = nmI B L.1) (h0 : inI nm 0 5) (h : ¬ ((nm ≤ 3 ∧ L.2.2.1 = 5) ∨ (nm = 5 ∧ L.2.2.2.2.2 = 6))) (h4 : ¬ (nm = 4 ∧ ¬ L.2.2.2.1 = 0)) : sLine B L = sGo B L nm := by
  unfold sLine
  rw [← e, if_pos h0, if_neg h, if_neg h4]
theorem go_b (h : ¬ (sStep B L.1).1 = 0) : sGo B L nm = (sStep B L.1, L.2.1, L.2.2.1, ftN L.2.2.2.1 nm, L.2.2.2.2) := if_neg h
theorem go_c (h : (sStep B L.1).1 = 0) (h3 : nm ≤ 3) : sGo B L nm = sEnd B (lC B (sStep B L.1) L (ftN L.2.2.2.1 nm) nm) := by
  unfold sGo
  rw [if_pos h, if_pos h3]
theorem go_f (h : (sStep B L.1).1 = 0) : sGo B L 4 = sEnd B (lF B (sStep B L.1) L (ftN L.2.2.2.1 4)) := by
  unfold sGo
  rw [if_pos h, if_neg (by decide), if_pos rfl]
theorem go_g (h : (sStep B L.1).1 = 0) : sGo B L 5 = sEnd B (lG B (sStep B L.1) L (ftN L.2.2.2.1 5)) := by
  unfold sGo
  rw [if_pos h, if_neg (by decide), if_neg (by decide)]
theorem end_0 (h : L.1.1 = 0) (h3 : L.1.2.2.2.2.1 = 3) : sEnd B L = lT L (sStep B L.1) := by
  unfold sEnd
  rw [if_pos h, if_pos h3]
theorem end_2 (h : L.1.1 = 0) (h3 : ¬ L.1.2.2.2.2.1 = 3) : sEnd B L = lT L (fl 2 L.1) := by
  unfold sEnd
  rw [if_pos h, if_neg h3]
theorem end_b (h : ¬ L.1.1 = 0) : sEnd B L = L := if_neg h
end
theorem b_le0 {x : Int32} (h : x = 0 ∨ 0 < x) (z : x ≤ 0) : x = 0 := h.resolve_right (fun y => gt_le y z)
theorem b_gt {x : Int32} (z : ¬ x ≤ 0) : ¬ x = 0 := fun e => z (by rw [e]; decide)
theorem sClk_ok {tp rp : Pg} {td rc : Nat} {nm : Int32} {P : TS} (h : okT td P) : okT td (sClk (bt tp td) P rp rc nm).1 := by
  have h1 : okT td (k2T (bt tp td) P).2 := sNum_ok (sNum_ok h)
  unfold sClk
  by_cases a : (k2T (bt tp td) P).2.1 = 0
  · rw [if_pos a]
    by_cases b : (k2T (bt tp td) P).2.2.2.2.2.1 = 2
    · rw [if_pos b]
      exact sNum_ok h1
    · rw [if_neg b]
      exact h1
  · rw [if_neg a]
    exact h1
theorem gT3_ok {tp : Pg} {td : Nat} {P : TS} (h : okT td P) : okT td (gT3 (bt tp td) P).2 := sNum_ok (sNum_ok (gT1_ok h))
