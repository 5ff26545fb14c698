/-! SPEC: the class's sheets -/
set_option maxRecDepth 100000
theorem cl_nI {i : Int32} {n : Nat} (hn : n ≤ 40) (h : ¬ (i < 0 ∨ n ≤ i.toNatClampNeg)) : nI i.toNatClampNeg = i := by
  have h1 : ¬ i < 0 := fun z => h (Or.inl z)
  have h2 : i.toNatClampNeg < n := Nat.not_le.mp fun z => h (Or.inr z)
  have h3 : (0 : Int) ≤ i.toInt := by
    have := mt Int32.lt_iff_toInt_lt.mpr h1
    have z : (0 : Int32).toInt = 0 := by decide
    rw [z] at this
    omega
  apply Int32.toInt_inj.mp
  rw [nI_toInt (by omega)]
  have h4 : i.toNatClampNeg = i.toInt.toNat := rfl
  rw [h4]
  omega
theorem thr_s {c : Prop} {hc : Decidable c} {u : Nat} {X : String} {x : Nat × String} (h : (if c then some (u, X) else none) = some x) : x = (u, X) ∧ c := by
  by_cases z : c
  · rw [if_pos z] at h
    exact ⟨(Option.some.inj h).symm, z⟩
  · rw [if_neg z] at h
    cases h
theorem thr_n {c : Prop} {hc : Decidable c} {u : Nat} {X : String} (h : (if c then some (u, X) else none) = none) : ¬ c := by
  intro z
  rw [if_pos z] at h
  cases h
theorem ble40 {n : Nat} (h : n ≤ 40) : Nat.ble n 1000000 = true := Nat.ble_eq_true_of_le (by omega)
theorem in_k {k : Nat} (hk : k < 4) : inI (nI k) 0 3 := by
  have : k = 0 ∨ k = 1 ∨ k = 2 ∨ k = 3 := by omega
  rcases this with rfl | rfl | rfl | rfl <;> decide
theorem n40 {n : Nat} (h : n ≤ 40) : nI n ≤ 40 := by
  apply Int32.le_iff_toInt_le.mpr
  rw [nI_toInt (by omega)]
  have : (40 : Int32).toInt = 40 := by decide
  omega
section VS
variable {M : MC} {cc : ByteArray} {own : String} {rm0 : Room} {cells slots : Nat} {ws : va_W} {lv : List (Nat × Value)} {st : List Value} {pc pc' : Nat}
theorem V.newaS (C : Cx M cc own rm0) {atype : ArrayType} {ty : FieldType} (t N : Nat) (hd : decode cc pc = .ok (.newarray atype, 2)) (hp : pc + 2 = pc') (hw : Cond.arrayClass (newarray.typeOf atype) ∈ lw_all) (hty : newarray.typeOf atype = ty) (ht : (TY M.G)[t]? = some (M.G.2 t, ty)) (hpr : va_RA M.s (M.G.2 t) ty → M.s.vm.findClass ("[" ++ ty.toString) = some (M.G.2 t)) (hdf : defaultValue ty = .int 0) (hN : N ≤ 40) (hby : componentBytes ty ≤ 8) (hcl : Nat.ble (cells + 1) rm0.cells = true) (hsl : Nat.ble (slots + 40) rm0.slots = true)
    (kk : ∀ q : Nat, V M (cells + 1) (slots + 40) (ws ++ [(q, .inl (M.G.2 t, N, .inl (fun _ => 0)))]) lv (.ref q :: st) pc') : V M cells slots ws lv (.int (nI N) :: st) pc := by
  have h1 := Nat.le_of_ble_eq_true hsl
  exact V.newa C t N hd hp hw hty ht hpr hdf (by omega) hby hcl (Nat.ble_eq_true_of_le (by omega)) (fun q => V.widen (Nat.ble_eq_true_of_le (Nat.le_refl _)) (Nat.ble_eq_true_of_le (by omega)) (kk q))
end VS
def lyA (y : Int32) (n : Nat) : Int32 := if y < 0 ∨ n ≤ y.toNatClampNeg then -12 else 1
def lyF (f : Pg) (y : Int32) (n : Nat) (w : Int32) : Pg := if y < 0 ∨ n ≤ y.toNatClampNeg then f else upd f y.toNatClampNeg w
def a_countC (g : Pg) (kb sm tp rl : Int32) (n : Nat) (x : Int32) : Int32 := if x = 0 then sm else if x = 1 then bitCnt kb else if x = 2 then tp else if x = 3 then rl else if x = 4 then gotTo g 25 else if x = 5 then plaTo g n else -1
theorem neg40 {n : Int32} (h : n < 0) : n ≤ 40 := by
  apply Int32.le_iff_toInt_le.mpr
  have h1 := Int32.lt_iff_toInt_lt.mp h
  have h2 : (0 : Int32).toInt = 0 := by decide
  have h3 : (40 : Int32).toInt = 40 := by decide
  omega
