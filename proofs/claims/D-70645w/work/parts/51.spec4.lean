/-! SPEC, fourth part: what was seen as bits, where to look -/
theorem whTo_key : ∀ (c : Fin 7) (v : Fin 64), v.val < 2 ^ c.val → nI v.val ||| ((1 : Int32) <<< (nI c.val &&& 31)) = nI (v.val + 2 ^ c.val) ∧ bitZ (nI v.val) c.val = 0 ∧ ∀ b : Fin 7, bitZ (nI (v.val + 2 ^ c.val)) b.val = if b = c then 1 else bitZ (nI v.val) b.val := by decide +kernel
theorem whTo_nat (g : Pg) (ix : Nat) (se : Pg) (N sm : Nat) : ∀ n, n ≤ 7 → ∃ v, v < 2 ^ n ∧ whTo g ix se N sm n = nI v ∧ ∀ b, b < n → (bitZ (nI v) b = 1 ↔ seenOk (upd g ix (nI b)) se N sm)
  | 0, _ => ⟨0, by decide, rfl, fun b hb => absurd hb (by omega)⟩
  | c + 1, h => by
    obtain ⟨v, hv, e, hb⟩ := whTo_nat g ix se N sm c (by omega)
    have hc : c = 0 ∨ c = 1 ∨ c = 2 ∨ c = 3 ∨ c = 4 ∨ c = 5 ∨ c = 6 := by omega
    have h64 : 2 ^ c ≤ 64 := by rcases hc with rfl | rfl | rfl | rfl | rfl | rfl | rfl <;> decide
    obtain ⟨k1, k2, k3⟩ := whTo_key ⟨c, by omega⟩ ⟨v, by omega⟩ hv
    show ∃ w, w < 2 ^ (c + 1) ∧ whTo g ix se N sm c ||| _ = nI w ∧ _
    rw [e]
    by_cases x : seenOk (upd g ix (nI c)) se N sm
    · rw [if_pos x]
      refine ⟨v + 2 ^ c, by rw [Nat.pow_succ]; omega, k1, fun b hb2 => ?_⟩
      have k4 := k3 ⟨b, by omega⟩
      by_cases y : b = c
      · subst y
        rw [if_pos rfl] at k4
        exact ⟨fun _ => x, fun _ => k4⟩
      · rw [if_neg (fun z => y (Fin.mk.inj z))] at k4
        have k5 : bitZ (nI (v + 2 ^ c)) b = bitZ (nI v) b := k4
        rw [k5]
        exact hb b (by omega)
    · rw [if_neg x]
      refine ⟨v, by rw [Nat.pow_succ]; omega, by simp, fun b hb2 => ?_⟩
      by_cases y : b = c
      · subst y
        have k6 : bitZ (nI v) b = 0 := k2
        rw [k6]
        exact ⟨fun z => absurd z (by decide), fun z => absurd z x⟩
      · exact hb b (by omega)
theorem whTo_bit (g : Pg) (ix : Nat) (se : Pg) (N sm : Nat) {n b : Nat} (hn : n ≤ 7) (hb : b < n) : bitZ (whTo g ix se N sm n) b = 1 ↔ seenOk (upd g ix (nI b)) se N sm := by
  obtain ⟨v, hv, e, h⟩ := whTo_nat g ix se N sm n hn
  rw [e]
  exact h b hb
theorem wh_bits (g : Pg) (ix : Nat) (se : Pg) (N sm : Nat) {n : Nat} (hn : n ≤ 7) : bitCnt (whTo g ix se N sm n) = bitsTo (whTo g ix se N sm n) 7 := by
  obtain ⟨v, hv, e, -⟩ := whTo_nat g ix se N sm n hn
  have h : 2 ^ n ≤ 2 ^ 7 := Nat.pow_le_pow_right (by decide) hn
  rw [e]
  exact bitCnt_ok ⟨v, by omega⟩
/-- by rates: as seen; the time behind so many nights -/
abbrev okR (g se : Pg) (N sm c r : Nat) : Prop := seenOk (upd g (10 + c) (nI r)) se N sm
def tmR (g : Pg) (N c r k : Nat) : Int32 := nightsTo (upd g (10 + c) (nI r)) N k (15 + c)
def tbAll (Tb g : Pg) (N c v : Nat) : Prop := ∀ r, r < v → ∀ k, k ≤ 20 → Tb (21 * r + k) = tmR g N c r k
theorem tbAll_0 (Tb g : Pg) (N c : Nat) : tbAll Tb g N c 0 := fun r hr => absurd hr (by omega)
theorem tbAll_s {Tb g G : Pg} {N c v : Nat} (h : tbAll Tb g N c v) (a : AgP G (upd g (10 + c) (nI v))) (hN : N ≤ 5) (hc : c < 5) : tbAll (tbRow Tb G N c v 21) g N c (v + 1) := by
  intro r hr k hk
  unfold tbRow
  by_cases e : r = v
  · subst e
    rw [if_pos (by omega), Nat.add_sub_cancel_left]
    exact nightsTo_ag a hN k (15 + c) (by omega)
  · rw [if_neg (by omega)]
    exact h r (by omega) k hk
def alTo (g se : Pg) (N sm c k a : Nat) : Nat → Int32
  | 0 => 0
  | b + 1 => alTo g se N sm c k a b + (if okR g se N sm c b ∧ tmR g N c a k = tmR g N c b k then 1 else 0)
def alA (g se : Pg) (N sm c k a : Nat) : Int32 := if okR g se N sm c a then alTo g se N sm c k a 7 else 0
theorem alA_t {g se : Pg} {N sm c k a : Nat} (h : okR g se N sm c a) : alTo g se N sm c k a 7 = alA g se N sm c k a := (if_pos h).symm
theorem alA_f {g se : Pg} {N sm c k a b : Nat} (h : ¬ okR g se N sm c a) (h2 : okR g se N sm c a ∨ b = 0) : alTo g se N sm c k a b = alA g se N sm c k a := by
  rw [h2.resolve_left h]
  exact (if_neg h).symm
def woTo (g se : Pg) (N sm c k : Nat) : Nat → Int32
  | 0 => 0
  | a + 1 => if alA g se N sm c k a ≤ woTo g se N sm c k a then woTo g se N sm c k a else alA g se N sm c k a
def lkM (g se : Pg) (N sm c q : Nat) : Nat → Int32
  | 0 => bitsTo (whTo g (10 + c) se N sm 7) 7
  | k + 1 => if lkM g se N sm c q k ≤ woTo g se N sm c k q then lkM g se N sm c q k else woTo g se N sm c k q
def lkW (g se : Pg) (N sm c q : Nat) : Nat → Int32
  | 0 => -4
  | k + 1 => if lkM g se N sm c q k ≤ woTo g se N sm c k q then lkW g se N sm c q k else nI k
def a_look (g se : Pg) (N sm q : Nat) (x y : Int32) : Int32 := if isC N x ∧ inI y 0 1 then (if lkW g se N sm (cn x) q 21 = -4 ∨ y = 0 then lkW g se N sm (cn x) q 21 else lkM g se N sm (cn x) q 21) else -1
theorem Qc.cp {f F : Pg} {ix : Nat} (h : Qc f F ix) (v : Int32) : AgP (cpP (upd F ix v) 0 268) (upd f ix v) := (ag_cp _ 268).tr (h.ag v)
theorem Qc.rf (f : Pg) (ix : Nat) : Qc f f ix := fun _ _ _ => rfl
