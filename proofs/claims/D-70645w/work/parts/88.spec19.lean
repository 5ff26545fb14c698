/-! SPEC: the class's images -/
abbrev kpQ (x : Int32) (e : Nat) : Prop := inI x 0 1 ∧ cn x = e
abbrev bkQ (x : Int32) (i : Nat → Int32) (e : Nat) : Prop := inI x 0 1 ∧ cn x = e ∧ bitZ (i 5) e = 1
def a_keepC (i : Nat → Int32) (x : Int32) : Int32 := if inI x 0 1 then bitZ (i 5) (cn x) else -1
def a_backC (i : Nat → Int32) (g0 g1 : Pg) (x : Int32) : Int32 := if inI x 0 1 then (if bitZ (i 5) (cn x) = 1 then (if cn x = 0 then g0 21 else g1 21) else -2) else -1
