/-! EXCEPTIONS, third part: into a handler -/
set_option maxRecDepth 100000
section XH
variable {E : CtlPost} {e : Env} {d : Bool} {acts : List Action} {s : State} {f : JFrame} {a : Addr} {Q : Handler → Pre}
theorem go_cold {x : ExceptionTableEntry} {t : List ExceptionTableEntry} {c : ClassId} {cell : Cell} {vm' : Vm} (hx : covers x f.pc = true) (h0 : x.catchType ≠ 0)
    (hg : (Jvm.resolveClass f.method.cls x.catchType).Gives e.toSetting s.vm (.ok c) vm') (hsz : vm'.classes.size ≤ s.vm.classes.size) (hcell : s.heap[a]? = some cell) (hobj : ∀ k, cell.vm ≠ .statics k)
    (hk : ∃ k, vm'.classes[cell.cls]? = some k) (hc : ∃ k, vm'.classes[c]? = some k) :
    wp (findHandler.go f a (x :: t)) Q E e d acts s ↔
      if vm'.assignable cell.cls c = true then Q (.found x.handlerPc) d acts (s.setVm vm') else wp (findHandler.go f a t) Q E e d acts (s.setVm vm') := by
  simp only [covers] at hx
  obtain ⟨ha, ht⟩ := hg.op (op := VmOp.resolveClass f.method.cls x.catchType) rfl
  have hcell' : (s.setVm vm').heap[a]? = some cell := hcell
  have hk' : ∃ k, (s.setVm vm').vm.classes[cell.cls]? = some k := hk
  have hc' : ∃ k, (s.setVm vm').vm.classes[c]? = some k := hc
  have ev : (s.setVm vm').vm = vm' := rfl
  cases hfit : vm'.assignable cell.cls c <;>
    simp [findHandler.go, hx, h0, ha, ht, hsz, hcell, hobj, hk, hc, hfit, VmOp.dirties, VmOp.acts]
end XH
/-- the search through a method's table for an exception of class X: it ends at hp -/
def FD (own X : String) (pc : Nat) : List (Nat × Nat × Nat × Nat) → Nat → Prop
  | [], _ => False
  | x :: r, hp => ((decide (x.1 ≤ pc) && decide (pc < x.2.1)) = false ∧ FD own X pc r hp) ∨ ((decide (x.1 ≤ pc) && decide (pc < x.2.1)) = true ∧ x.2.2.2 ≠ 0 ∧ ((∃ Y, Cond.classLink own x.2.2.2 Y ∈ lw_all ∧ (X, Y) ∈ ncs ∧ FD own X pc r hp) ∨ (∃ Y, Cond.classLink own x.2.2.2 Y ∈ lw_all ∧ Cond.castable X Y ∈ lw_tbl ∧ x.2.2.1 = hp)))
section XF
variable {p : Program} {l : Launch} {e : Env} {R : Room} {s : State} {m : MethodId} {args : Array Value} {below : List Frame} {meth : Method} {c : Code} {locs : List Loc} {cells slots : Nat} {own X : String} {G : GG}
theorem go_find {T : State} (X0 : Stand p l e R s m args below meth c T locs cells slots) (hown : s.vm.findClass own = some m.cls) (hts : ∀ w ∈ lw_all, w.before args s = true) (hK : K0 G s) {f : JFrame} (hf : f.method = m) {a hp : Nat} (hX : XAt s X a T.heap) :
    ∀ (tb : List ExceptionTableEntry), FD own X f.pc (tb.map (fun h => (h.startPc, h.endPc, h.handlerPc, h.catchType))) hp → ∀ (U : State), U.heap = T.heap → s.WarmedH U.vm → ∃ vm', s.WarmedH vm' ∧ ∀ (Q : Handler → Pre) (E : CtlPost) (d : Bool) (acts : List Action), wp (findHandler.go f a tb) Q E e d acts U ↔ Q (.found hp) d acts (U.setVm vm')
  | [], h, _, _, _ => h.elim
  | x :: r, h, U, hU, hW => by
    obtain ⟨cell, g1, g2, g3⟩ := hX
    rcases h with ⟨h1, h2⟩ | ⟨h1, h0, h2⟩
    · obtain ⟨vm', w1, w2⟩ := go_find X0 hown hts hK hf ⟨cell, g1, g2, g3⟩ r h2 U hU hW
      exact ⟨vm', w1, fun Q E d acts => (W.findHandler_go_skip h1).trans (w2 Q E d acts)⟩
    · have key : ∀ Y, Cond.classLink own x.catchType Y ∈ lw_all → ∃ cT, s.vm.findClass Y = some cT ∧ s.WarmedH (U.vm.noted m.cls x.catchType (.cls cT)) ∧ ∀ (hex : ∃ k, s.vm.classes[cell.cls]? = some k) (Q : Handler → Pre) (E : CtlPost) (d : Bool) (acts : List Action), (wp (findHandler.go f a (x :: r)) Q E e d acts U ↔ if s.vm.assignable cell.cls cT = true then Q (.found x.handlerPc) d acts (U.setVm (U.vm.noted m.cls x.catchType (.cls cT))) else wp (findHandler.go f a r) Q E e d acts (U.setVm (U.vm.noted m.cls x.catchType (.cls cT)))) := by
        intro Y hY
        have hpl : e.platform.magicAccessors = ({} : Platform).magicAccessors := by rw [X0.admits.platform]
        obtain ⟨cT, hcT, hcl⟩ := Cond.classLink_spec hown (hts _ hY) e.platform hpl
        obtain ⟨dk, _, _, kt, hd, _, _, _, _, hkt, _, hopen⟩ := hcl.here
        have hcl₀ := hW.classLinks hcl
        have hW' : s.WarmedH (U.vm.noted m.cls x.catchType (.cls cT)) := hW.noted hd hopen (State.rightAt_cls hcl)
        refine ⟨cT, hcT, hW', fun ⟨ks, hks⟩ Q E d acts => ?_⟩
        obtain ⟨ks', hks', -⟩ := hW'.alike.2.2 _ _ hks
        obtain ⟨kt', hkt', -⟩ := hW'.alike.2.2 _ _ hkt
        have h3 := go_cold (E := E) (e := e) (d := d) (acts := acts) (s := U) (f := f) (a := a) (Q := Q) (x := x) (t := r) (c := cT) (cell := cell) (vm' := U.vm.noted m.cls x.catchType (.cls cT)) h1 h0 (by rw [hf]; exact resolveClass_links e.toSetting hcl₀) (Nat.le_of_eq (Vm.size_noted _ _ _ _)) (by rw [hU]; exact g1) (VmData.noStatics_of g2) ⟨ks', hks'⟩ ⟨kt', hkt'⟩
        rw [hW'.alike.assignable] at h3
        exact h3
      rcases h2 with ⟨Y, hY, hnc, h2⟩ | ⟨Y, hY, hca, h2⟩
      · obtain ⟨cT, e1, e2, e3⟩ := key Y hY
        obtain ⟨cx, ct, n1, n2, n3⟩ := hK.2.2.1 _ hnc
        cases Option.some.inj (n1.symm.trans g3)
        cases Option.some.inj (n2.symm.trans e1)
        have hex : ∃ k, s.vm.classes[cell.cls]? = some k := Vm.classAt_of_findClass g3
        obtain ⟨vm', w1, w2⟩ := go_find X0 hown hts hK hf ⟨cell, g1, g2, g3⟩ r h2 (U.setVm (U.vm.noted m.cls x.catchType (.cls cT))) hU e2
        refine ⟨vm', w1, fun Q E d acts => ?_⟩
        rw [e3 hex Q E d acts, if_neg (by rw [n3]; decide), w2 Q E d acts]
        rfl
      · obtain ⟨cT, e1, e2, e3⟩ := key Y hY
        obtain ⟨c3, c4, n1, n2, n3⟩ := Cond.castable_spec (va_Nw.use rfl (hK.2.1 _ hca rfl) : (Cond.castable X Y).before args s = true)
        cases Option.some.inj (n1.symm.trans g3)
        cases Option.some.inj (n2.symm.trans e1)
        have hex : ∃ k, s.vm.classes[cell.cls]? = some k := Vm.classAt_of_findClass g3
        refine ⟨_, e2, fun Q E d acts => ?_⟩
        rw [e3 hex Q E d acts, if_pos n3]
        have h2' : x.handlerPc = hp := h2
        rw [h2']
theorem caughtV {T : State} {g : JFrame} {a pc : Nat} {vm' : Vm} (h : At T g.method c below) (hal : T.vm.Alike vm') (hfind : ∀ (Q : Handler → Pre) (E : CtlPost) (d : Bool) (acts : List Action), wp (findHandler g a) Q E e d acts ((T.setTop g).pushFrame (.throwing a)) ↔ Q (.found pc) d acts (((T.setTop g).pushFrame (.throwing a)).setVm vm')) {target : State}
    (hrest : Steps p.tables e below ((T.setVm vm').setTop { g with pc := pc, stack := [.ref a] }) target) : Steps p.tables e below ((T.setTop g).pushFrame (.throwing a)) target := by
  obtain ⟨hgo, hw⟩ := h.throwing a
  refine Steps.head hgo hw ?_
  have hstep : (stepThrowing e ((T.setTop g).pushFrame (.throwing a)) a (.java g :: T.frames.tail)).Is ((((T.setTop g).pushFrame (.throwing a)).setVm vm').setFrames (.java { g with pc := pc, stack := [.ref a] } :: T.frames.tail)) [] := by
    simp only [stepThrowing, searchFrame, vmDo]
    generalize hr : Sem.go _ e false [] _ = res
    obtain ⟨as, rfl, ha⟩ := Sem.eq_ok_of hr (a := Handler.found pc) (s' := ((T.setTop g).pushFrame (.throwing a)).setVm vm') (acts' := []) (by simp [hfind _ _ _ _])
    exact ⟨rfl, ha⟩
  rw [stepThread_throwing (frames_entered h.top _), hstep.1]
  obtain ⟨g₀, hg⟩ := Option.isSome_iff_exists.mp h.top
  obtain ⟨r, hr⟩ := State.topJava?_eq_some.mp hg
  have hr' : (T.setVm vm').frames = .java g₀ :: r := hr
  rw [State.setTop_of_frames _ hr'] at hrest
  have e1 : (((T.setTop g).pushFrame (.throwing a)).setVm vm').setFrames (.java { g with pc := pc, stack := [.ref a] } :: T.frames.tail) = (T.setVm vm').setFrames (.java { g with pc := pc, stack := [.ref a] } :: r) := by
    rw [State.pushFrame, State.setTop_of_frames _ hr, State.setFrames_setFrames, hr]
    have e2 : ∀ F : List Frame, (T.setFrames F).setVm vm' = (T.setVm vm').setFrames F := fun F => rfl
    rw [e2, State.setFrames_setFrames]
    rfl
  rw [e1]
  exact hrest
end XF
section XK
variable {M : MC} {cc : ByteArray} {own : String} {rm : Room} {cells slots : Nat} {ws : va_W} {lv : List (Nat × Value)} {pc : Nat}
theorem VT.catch_ (C : Cx M cc own rm) {tb : List (Nat × Nat × Nat × Nat)} (E : Ex M tb) {a hp : Nat} {X : String} (hf : FD own X pc tb hp) (k : V M cells slots ws lv [.ref a] hp) : VT M cells slots ws lv pc a X := by
  obtain ⟨p, l, e, R, s, m, args, below, meth, c, nL, A, G, Q⟩ := M
  obtain ⟨hx, hb, hml, hown, hts, hlk, hA, hK, hAA, hR⟩ := C
  intro H locs ls st hP hD hS hl hXA T hT X0
  have hE : c.exceptionTable.toList.map (fun h => (h.startPc, h.endPc, h.handlerPc, h.catchType)) = tb := E
  subst hE
  subst hT
  obtain ⟨vm', w1, w2⟩ := go_find (f := F0 m pc ls st) X0 hown hts hK rfl hXA c.exceptionTable.toList hf ((T.setTop (F0 m pc ls st)).pushFrame (.throwing a)) (Stand.throwing_heap T (F0 m pc ls st) a) (by rw [Stand.throwing_vm]; exact X0.warmed)
  have X1 := X0.noted w1
  obtain ⟨t, a1, b1⟩ := k T.heap locs ls hP hD hS hl (T.setVm vm') rfl X1
  refine ⟨t, ?_, b1⟩
  refine caughtV (c := c) (pc := hp) (vm' := vm') X0.here (alike_of X0.warmed w1) (fun Q E d acts => ?_) a1
  rw [W.findHandler_eq (meth := meth) (code := c) (by rw [Stand.throwing_vm]; exact X0.method') X0.code]
  exact w2 Q E d acts
end XK
