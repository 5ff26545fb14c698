/-! EXCEPTIONS, eighth part: instanceof and checkcast on rows of primitives -/
set_option maxRecDepth 100000
def hm (b : Bool) : String := (if b then "module java.base" else "unnamed module") ++ " of loader " ++ "'bootstrap'"
def ccT (x y : String) (b d w : Bool) : String := "class " ++ x ++ " cannot be cast to class " ++ y ++ " (" ++ (if w then x ++ " and " ++ y ++ " are in " ++ hm b else x ++ " is in " ++ hm b ++ "; " ++ y ++ " is in " ++ hm d) ++ ")"
abbrev arN : List String := ["[B", "[S", "[I"]
theorem arN_len : ∀ x ∈ arN, x.toList.length = 2 := by decide
theorem hm_len (b : Bool) : (hm b).toList.length ≤ 45 := by
  unfold hm
  have h1 : "module java.base".toList.length = 16 := by decide
  have h2 : "unnamed module".toList.length = 14 := by decide
  have h3 : " of loader ".toList.length = 11 := by decide
  have h4 : "'bootstrap'".toList.length = 11 := by decide
  cases b <;> simp only [String.toList_append, List.length_append, if_true, if_false, Bool.false_eq_true] <;> omega
theorem ccT_ok : ∀ x ∈ arN, ∀ y ∈ arN, ∀ b d w : Bool, ((ccT x y b d w) == notModelled) = false ∧ (stringBytes (stringToUtf16 (ccT x y b d w))).size ≤ 1000 := by
  intro x hx y hy b d w
  have h3 := utf16_size_le (ccT x y b d w)
  have h4 := stringBytes_size_le (stringToUtf16 (ccT x y b d w))
  have hlen : (ccT x y b d w).toList.length ≤ 250 := by
    have x2 := arN_len x hx
    have y2 := arN_len y hy
    have b2 := hm_len b
    have d2 := hm_len d
    have c1 : "class ".toList.length = 6 := by decide
    have c2 : " cannot be cast to class ".toList.length = 25 := by decide
    have c3 : " (".toList.length = 2 := by decide
    have c4 : " and ".toList.length = 5 := by decide
    have c5 : " are in ".toList.length = 8 := by decide
    have c6 : " is in ".toList.length = 7 := by decide
    have c7 : "; ".toList.length = 2 := by decide
    have c8 : ")".toList.length = 1 := by decide
    unfold ccT
    cases w <;> simp only [String.toList_append, List.length_append, if_true, if_false, Bool.false_eq_true] <;> omega
  refine ⟨?_, by omega⟩
  rw [beq_eq_false_iff_ne]
  intro h
  have h2 := congrArg String.toList h
  have h5 : ∃ r, (ccT x y b d w).toList = 'c' :: r := by
    unfold ccT
    simp only [String.toList_append, List.append_assoc]
    exact ⟨_, rfl⟩
  obtain ⟨r, h6⟩ := h5
  rw [h6] at h2
  have h7 : notModelled.toList = Char.ofNat 0 :: " a message that is not modelled".toList := by decide
  rw [h7] at h2
  have h8 := (List.cons.inj h2).1
  exact absurd h8 (by decide)
theorem dot_ok : ∀ x ∈ arN, dotted x = x ∧ packageOf x = "" ∧ (withoutBrackets x).length = 1 := by decide +kernel
theorem home_of {U : State} {x : String} {c : ClassId} {k : Class} (hm1 : modulesRight_1 U = true) (hx : x ∈ arN) (hf : U.vm.findClass x = some c) (hk : U.vm.classes[c]? = some k) : k.shown = x ∧ ∃ b, U.vm.home k = hm b := by
  obtain ⟨hlt, hp, -⟩ := Array.findIdx?_eq_some_iff_getElem.mp hf
  have ek : U.vm.classes[c] = k := by rw [Array.getElem?_eq_getElem hlt] at hk; exact Option.some.inj hk
  rw [ek] at hp
  simp only [Bool.and_eq_true, beq_iff_eq, Option.isNone_iff_eq_none] at hp
  obtain ⟨⟨⟨h1, h2⟩, h3⟩, h4⟩ := hp
  obtain ⟨d1, d2, d3⟩ := dot_ok x hx
  refine ⟨by unfold Class.shown; rw [h2, h1]; exact d1, ?_⟩
  have key : U.vm.moduleOf k = none ∨ ∃ mo, U.vm.moduleOf k = some mo ∧ mo.name = "java.base" := by
    cases hmo : U.vm.moduleOf k with
    | none => exact Or.inl rfl
    | some mo =>
      refine Or.inr ⟨mo, rfl, ?_⟩
      unfold Vm.moduleOf at hmo
      split at hmo
      · have := List.find?_some hmo
        simpa using this
      · have g1 := List.find?_some hmo
        have g2 := List.mem_of_find?_eq_some hmo
        have g3 := List.all_eq_true.mp hm1 mo g2
        rw [h4, h1, d2] at g1
        simp only [Bool.and_eq_true, beq_iff_eq] at g1
        obtain ⟨e1, e2⟩ := g1
        rw [e1] at g3
        have e3 : "" ∈ mo.packages := by simpa using e2
        simpa [castPackages_1, e3] using g3
  rcases key with h | ⟨mo, h, e⟩
  · exact ⟨false, by unfold Vm.home; rw [h, h4]; rfl⟩
  · refine ⟨true, ?_⟩
    unfold Vm.home
    rw [h, h4]
    simp only [e]
    rfl
theorem cc_text {U : State} {x y : String} {c d : ClassId} {ks kt : Class} (hm1 : modulesRight_1 U = true) (hx : x ∈ arN) (hy : y ∈ arN) (hf : U.vm.findClass x = some c) (hk : U.vm.classes[c]? = some ks) (hg : U.vm.findClass y = some d) (hkt : U.vm.classes[d]? = some kt) : ∃ b1 b2 w, Op.checkcast.message U.vm ks kt = ccT x y b1 b2 w := by
  obtain ⟨s1, b1, h1⟩ := home_of hm1 hx hf hk
  obtain ⟨s2, b2, h2⟩ := home_of hm1 hy hg hkt
  refine ⟨b1, b2, U.vm.sameModule ks kt, ?_⟩
  unfold Op.checkcast.message Vm.homes ccT
  rw [s1, s2, h1, h2]
  cases U.vm.sameModule ks kt <;> rfl
section XC
variable {M : MC} {cc : ByteArray} {own : String} {rm : Room} {cells slots : Nat} {ws : va_W} {lv : List (Nat × Value)} {st : List Value} {pc pc' : Nat}
theorem V.castNo (C : Cx M cc own rm) (htr : M.l.stackTraces = false) {a index : Nat} {x : vp_A} {cA : ClassId} {ty : FieldType} {X Y : String} (hd : decode cc pc = .ok (.checkcast index, 3)) (q0 t0 : Nat) (hq : ws[q0]? = some (a, .inl (cA, x))) (ht : (TY M.G)[t0]? = some (cA, ty)) (hX : ∀ U : State, va_RA U cA ty → U.vm.findClass X = some cA) (hw : Cond.classLink own index Y ∈ lw_all) (hnc : (X, Y) ∈ ncs) (hXp : X ∈ arN) (hYp : Y ∈ arN)
    (hfr : Nat.ble 8 rm.frames = true) (hlo : Nat.ble (((Value.ref a :: st).map fun v => v.category).sum + 10240) rm.locals = true) (hcl : Nat.ble (cells + 3) rm.cells = true) (hsl : Nat.ble (slots + 1010) rm.slots = true)
    (k : ∀ b : Nat, VT M (cells + 3) (slots + 1010) ws lv pc b "java/lang/ClassCastException") : V M cells slots ws lv (.ref a :: st) pc := by
  have key : ∀ b1 b2 w, VN M cells slots ws lv (.ref a :: st) pc "java/lang/ClassCastException" (some (ccT X Y b1 b2 w)) := fun b1 b2 w => VN.msg C htr arm_cce (by decide +kernel) (by decide +kernel) (by decide) (by decide) rfl (ccT_ok X hXp Y hYp b1 b2 w).1 (ccT_ok X hXp Y hYp b1 b2 w).2 hfr hlo hcl hsl k
  obtain ⟨p, l, e, R, s, m, args, below, meth, c, nL, A, G, Q⟩ := M
  obtain ⟨hx, hb, hml, hown, hts, hlk, hA, hK, hAA, hR⟩ := C
  intro H locs ls hP hD hS hl T hT X0
  have hvm0 : (vp_cell cA x).vm = .none := by
    obtain ⟨n, f | f | f | f | f⟩ := x <;> rfl
  have hcl0 : (vp_cell cA x).cls = cA := by
    obtain ⟨n, f | f | f | f | f⟩ := x <;> rfl
  have hfX := hX s (hK.1.2 t0 _ ht).2
  obtain ⟨c0, cT, f1, f2, f3⟩ := hK.2.2.1 _ hnc
  cases Option.some.inj (f1.symm.trans hfX)
  have hpl : e.platform.magicAccessors = ({} : Platform).magicAccessors := by rw [X0.admits.platform]
  obtain ⟨c', hc', hcl⟩ := Cond.classLink_spec hown (hts _ hw) e.platform hpl
  cases f2.symm.trans hc'
  obtain ⟨dk, _, _, kt, hd', _, _, _, _, hkt, _, hopen⟩ := hcl.here
  have hcl₀ := X0.warmed.classLinks hcl
  have hW' : s.WarmedH (T.vm.noted m.cls index (.cls cT)) := X0.warmed.noted hd' hopen (State.rightAt_cls hcl)
  obtain ⟨ks, hks, -⟩ := Vm.findClass_spec hfX
  obtain ⟨ks', hks', -⟩ := hW'.alike.2.2 _ _ hks
  obtain ⟨kt', hkt', -⟩ := hW'.alike.2.2 _ _ hkt
  have X1 := X0.noted hW'
  have hmod : modulesRight_1 (T.setVm (T.vm.noted m.cls index (.cls cT))) = true := (hK.2.2.2.warm (U := T.setVm (T.vm.noted m.cls index (.cls cT))) hW').2.2.2.2.2.2.2.1
  obtain ⟨b1, b2, w, htx⟩ := cc_text (U := T.setVm (T.vm.noted m.cls index (.cls cT))) hmod hXp hYp (by show (T.vm.noted m.cls index (.cls cT)).findClass X = _; rw [hW'.alike.findClass]; exact hfX) hks' (by show (T.vm.noted m.cls index (.cls cT)).findClass Y = _; rw [hW'.alike.findClass]; exact f2) hkt'
  obtain ⟨t, a1, g1⟩ := key b1 b2 w H locs ls hP hD hS hl (T.setVm (T.vm.noted m.cls index (.cls cT))) hT X1
  refine ⟨t, ?_, g1⟩
  have hstack : (F0 m pc ls (.ref a :: st)).stack = .ref a :: st := rfl
  have hdg : decode c.code (F0 m pc ls (.ref a :: st)).pc = .ok (.checkcast index, 3) := by rw [hb]; exact hd
  have hcell : T.heap[a]? = some (vp_cell cA x) := by rw [hT]; exact hP q0 _ hq
  have h1 : (T.vm.noted m.cls index (Resolved.cls cT)).assignable (vp_cell cA x).cls cT = false := by rw [hW'.alike.assignable, hcl0]; exact f3
  jvm_step X0.here [hx, hdg, checkcast.wp_cold (e := e) (s := T) (f := F0 m pc ls (.ref a :: st)) X0.here.top hstack (resolveClass_links e.toSetting hcl₀) hcl₀.ready,
    checkcast.wp_ready (e := e) (s := T.setVm (T.vm.noted m.cls index (.cls cT))) (f := F0 m pc ls (.ref a :: st)) X0.here.top hcl₀.ready hstack]
  refine ⟨vp_cell cA x, hcell, VmData.noStatics_of (by rw [hvm0]; rfl), ks', by rw [hcl0]; exact hks', kt', hkt', ?_⟩
  simp only [h1]
  rw [if_neg Bool.false_ne_true]
  have htx' : checkcast.message (T.vm.noted m.cls index (Resolved.cls cT)) ks' kt' = ccT X Y b1 b2 w := htx
  rw [htx']
  exact a1
/-- a row of primitives: its class by name -/
theorem V.castYes (C : Cx M cc own rm) {a index : Nat} {x : vp_A} {cA : ClassId} {ty : FieldType} {Y : String} (hd : decode cc pc = .ok (.checkcast index, 3)) (hp : pc + 3 = pc') (q0 t0 : Nat) (hq : ws[q0]? = some (a, .inl (cA, x))) (ht : (TY M.G)[t0]? = some (cA, ty)) (hX : ∀ U : State, va_RA U cA ty → U.vm.findClass Y = some cA) (hw : Cond.classLink own index Y ∈ lw_all) (k : V M cells slots ws lv (.ref a :: st) pc') : V M cells slots ws lv (.ref a :: st) pc := by
  obtain ⟨p, l, e, R, s, m, args, below, meth, c, nL, A, G, Q⟩ := M
  obtain ⟨hx, hb, hml, hown, hts, hlk, hA, hK, hAA, hR⟩ := C
  subst hp
  intro H locs ls hP hD hS hl
  exact va_castA hx hb hown (hts _ hw) hP q0 hq (hX s (hK.1.2 t0 _ ht).2) hd (k H locs ls hP hD hS hl)
theorem V.castNull (C : Cx M cc own rm) {index : Nat} (hd : decode cc pc = .ok (.checkcast index, 3)) (hp : pc + 3 = pc') {Y : String} (hw : Cond.classLink own index Y ∈ lw_all) (k : V M cells slots ws lv (.null :: st) pc') : V M cells slots ws lv (.null :: st) pc := by
  obtain ⟨p, l, e, R, s, m, args, below, meth, c, nL, A, G, Q⟩ := M
  obtain ⟨hx, hb, hml, hown, hts, hlk, hA, hK, hAA, hR⟩ := C
  subst hp
  intro H locs ls hP hD hS hl T hT X0
  obtain ⟨t, a1, b1⟩ := k H locs ls hP hD hS hl T hT X0
  exact ⟨t, checkcastNull X0 hx (g := F0 m pc ls (.null :: st)) rfl rfl (by rw [hb]; exact hd) t a1, b1⟩
theorem row_recv {D : va_G} {cl : List vw_C} {s : State} {H : Heap} {a : Nat} {x : vp_A} {cA : ClassId} {X : String} (h : va_at D cl (a, .inl (cA, x)) H) (hX : s.vm.findClass X = some cA) : ∃ cell : Cell, H[a]? = some cell ∧ cell.vm.isStatics = false ∧ s.vm.findClass X = some cell.cls := by
  have hvm0 : (vp_cell cA x).vm = .none := by
    obtain ⟨n, f | f | f | f | f⟩ := x <;> rfl
  have hcl0 : (vp_cell cA x).cls = cA := by
    obtain ⟨n, f | f | f | f | f⟩ := x <;> rfl
  exact ⟨_, h, by rw [hvm0]; rfl, by rw [hcl0]; exact hX⟩
theorem V.instYes (C : Cx M cc own rm) {a index : Nat} {x : vp_A} {cA : ClassId} {ty : FieldType} {Y : String} (hd : decode cc pc = .ok (.instanceof index, 3)) (hp : pc + 3 = pc') (q0 t0 : Nat) (hq : ws[q0]? = some (a, .inl (cA, x))) (ht : (TY M.G)[t0]? = some (cA, ty)) (hX : ∀ U : State, va_RA U cA ty → U.vm.findClass Y = some cA) (hw : Cond.classLink own index Y ∈ lw_all) (k : V M cells slots ws lv (.int 1 :: st) pc') : V M cells slots ws lv (.ref a :: st) pc := by
  obtain ⟨p, l, e, R, s, m, args, below, meth, c, nL, A, G, Q⟩ := M
  obtain ⟨hx, hb, hml, hown, hts, hlk, hA, hK, hAA, hR⟩ := C
  subst hp
  intro H locs ls hP hD hS hl
  have hf := hX s (hK.1.2 t0 _ ht).2
  obtain ⟨cell, h1, h2, h3⟩ := row_recv (hP q0 _ hq) hf
  intro T hT X0
  obtain ⟨ks, hks, -⟩ := Vm.findClass_spec h3
  obtain ⟨vm', X', st'⟩ := X0.instanceofYes hx hown (hts _ hw) (by rw [hT]; exact h1) h2 hf (by cases Option.some.inj (h3.symm.trans hf); exact va_asg _ _) (g := F0 m pc ls (.ref a :: st)) rfl rfl (by rw [hb]; exact hd)
  obtain ⟨t, a1, b1⟩ := k H locs ls hP hD hS hl (T.setVm vm') hT X'
  exact ⟨t, st' t a1, b1⟩
theorem V.instNo (C : Cx M cc own rm) {a index : Nat} {x : vp_A} {cA : ClassId} {ty : FieldType} {X Y : String} (hd : decode cc pc = .ok (.instanceof index, 3)) (hp : pc + 3 = pc') (q0 t0 : Nat) (hq : ws[q0]? = some (a, .inl (cA, x))) (ht : (TY M.G)[t0]? = some (cA, ty)) (hX : ∀ U : State, va_RA U cA ty → U.vm.findClass X = some cA) (hw : Cond.classLink own index Y ∈ lw_all) (hnc : (X, Y) ∈ ncs) (k : V M cells slots ws lv (.int 0 :: st) pc') : V M cells slots ws lv (.ref a :: st) pc := by
  obtain ⟨p, l, e, R, s, m, args, below, meth, c, nL, A, G, Q⟩ := M
  obtain ⟨hx, hb, hml, hown, hts, hlk, hA, hK, hAA, hR⟩ := C
  subst hp
  intro H locs ls hP hD hS hl
  exact va_instNo hx hb hown (hts _ hw) (hK.2.2.1 _ hnc) (row_recv (hP q0 _ hq) (hX s (hK.1.2 t0 _ ht).2)) hd (k H locs ls hP hD hS hl)
theorem V.instNull (C : Cx M cc own rm) {index : Nat} (hd : decode cc pc = .ok (.instanceof index, 3)) (hp : pc + 3 = pc') {Y : String} (hw : Cond.classLink own index Y ∈ lw_all) (k : V M cells slots ws lv (.int 0 :: st) pc') : V M cells slots ws lv (.null :: st) pc := by
  obtain ⟨p, l, e, R, s, m, args, below, meth, c, nL, A, G, Q⟩ := M
  obtain ⟨hx, hb, hml, hown, hts, hlk, hA, hK, hAA, hR⟩ := C
  subst hp
  intro H locs ls hP hD hS hl T hT X0
  obtain ⟨t, a1, b1⟩ := k H locs ls hP hD hS hl T hT X0
  refine ⟨t, ?_, b1⟩
  have hstack : (F0 m pc ls (.null :: st)).stack = .null :: st := rfl
  have hdg : decode c.code (F0 m pc ls (.null :: st)).pc = .ok (.instanceof index, 3) := by rw [hb]; exact hd
  jvm_step X0.here [hx, hdg, instanceof.sem, hstack]
  exact a1
end XC
