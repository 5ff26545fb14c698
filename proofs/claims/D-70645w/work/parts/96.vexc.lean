/-! EXCEPTIONS: contracts that may throw; the machine with an exception over a frame; handlers -/
set_option maxRecDepth 100000
def FrX (st t : State) (L : List Loc) (k n : Nat) : Prop := st.WarmedH t.vm ∧ st.sameButNew ({ t with vm := st.vm } : State) L k n
def MQX (below : List Frame) (Qc : Array Value → State → Outcome → State → Prop) (a : Array Value) (s : State) (mc ms : Nat) (free : Addr → Prop) : State → Prop := fun t =>
  ∃ o, t.status = .running ∧ Ended t below o ∧ Qc a s o t ∧ ∃ L, FrX s t L mc ms ∧ ∀ q ∈ L, free q.base
def MetX (l : Launch) (y : MethodName) (ws : List Cond) (rm : Room) (Pc : Array Value → State → Prop) (Qc : Array Value → State → Outcome → State → Prop) (mc ms : Nat) (free : Addr → Prop) : Prop :=
  MetFree l y (headSpec ws rm) Pc (fun _ _ _ _ _ => True) (fun a st o t => Qc a st o t ∧ ∃ L, FrX st t L mc ms ∧ ∀ q ∈ L, free q.base)
theorem mq_x {below : List Frame} {Qc : Array Value → State → Outcome → State → Prop} {a : Array Value} {s : State} {mc ms : Nat} {free : Addr → Prop} {t : State} (h : MQ below Qc a s mc ms free t) : MQX below Qc a s mc ms free t := by
  obtain ⟨o, h1, h2, h3, L, h4, h5⟩ := h
  exact ⟨o, h1, h2, h3, L, h4.2, h5⟩
section XA
variable {p : Program} {l : Launch} {e : Env} {R : Room} {s : State} {m : MethodId} {args : Array Value} {below : List Frame} {meth : Method} {c : Code} {H : Heap} {locs : List Loc} {cells slots : Nat} {Q Q' : State → Prop}
theorem W.mono {g : JFrame} (h : ∀ t, Q t → Q' t) (k : W p l e R s m args below meth c H locs cells slots Q g) : W p l e R s m args below meth c H locs cells slots Q' g := by
  intro T hT X
  obtain ⟨t, a, b⟩ := k T hT X
  exact ⟨t, a, h t b⟩
theorem MetX.ofW {y : MethodName} {ws ws' : List Cond} {rm : Room} {Pc : Array Value → State → Prop} {Qc : Array Value → State → Outcome → State → Prop} {mc ms : Nat} {free : Addr → Prop} {cc : ByteArray} {maxL : Nat} {ret : Option FieldType}
    (hy : plainName y.cls = true) (hw : ws = Cond.code y cc maxL ret :: ws')
    (body : ∀ p e s m args below meth c s₁, BodyLoose p l y (headSpec ws rm) cc maxL ret e s m args below meth c s₁ → c.maxLocals = maxL → Pc args s →
      W p l e (headSpec ws rm).room s m args below meth c s.heap [] 0 0 (MQX below Qc args s mc ms free) (entryFrame m args maxL)) : MetX l y ws rm Pc Qc mc ms free := by
  refine MetFree.of_bodyS (code := cc) (maxLocals := maxL) (ret := ret) hy ?_ ?_
  · intro args s m h hn
    obtain ⟨meth, c, h1, h2, h3, h4, h5, h6, -, -⟩ := Cond.code_spec hn (atoms_spec (ws := ws) h _ (by rw [hw]; exact List.mem_cons_self))
    exact ⟨meth, c, h1, h2, h3, h4, h5, h6⟩
  · intro p e s m args below meth c s₁ B hml hP _
    have hh0 : s₁.heap = s.heap := by rw [B.state]; rfl
    obtain ⟨t, a1, o, b1, b2, b3⟩ := body p e s m args below meth c s₁ B hml hP s₁ hh0 (Stand.of_body B)
    exact ⟨t, o, a1, b1, b2, ⟨b3.1, b3.2⟩⟩
/-- a method with handlers -/
theorem Met.ofWW {y : MethodName} {ws ws' : List Cond} {rm : Room} {Pc : Array Value → State → Prop} {Qc : Array Value → State → Outcome → State → Prop} {mc ms : Nat} {free : Addr → Prop} {cc : ByteArray} {maxL : Nat} {ret : Option FieldType} {hh : List (Nat × Nat × Nat × Nat)}
    (hy : plainName y.cls = true) (hw : ws = Cond.codeWith y cc maxL ret hh :: ws')
    (body : ∀ p e s m args below meth c s₁, BodyLoose p l y (headSpec ws rm) cc maxL ret e s m args below meth c s₁ → c.maxLocals = maxL → Pc args s →
      W p l e (headSpec ws rm).room s m args below meth c s.heap [] 0 0 (MQ below Qc args s mc ms free) (entryFrame m args maxL)) : Met l y ws rm Pc Qc mc ms free := by
  refine MetFree.of_bodyS (code := cc) (maxLocals := maxL) (ret := ret) hy ?_ ?_
  · intro args s m h hn
    obtain ⟨m', meth, c, h0, h1, h2, h3, h4, -, h5, h6, -⟩ := Cond.codeWith_spec (atoms_spec (ws := ws) h _ (by rw [hw]; exact List.mem_cons_self))
    cases Option.some.inj (hn.symm.trans h0)
    exact ⟨meth, c, h1, h2, h3, h4, h5, h6⟩
  · intro p e s m args below meth c s₁ B hml hP _
    have hh0 : s₁.heap = s.heap := by rw [B.state]; rfl
    obtain ⟨t, a1, o, b1, b2, b3⟩ := body p e s m args below meth c s₁ B hml hP s₁ hh0 (Stand.of_body B)
    exact ⟨t, o, a1, b1, b2, ⟨b3.1, b3.2⟩⟩
/-- the exception's cell -/
def XAt (U : State) (C : String) (a : Nat) (H : Heap) : Prop := ∃ cell : Cell, H[a]? = some cell ∧ cell.vm.isStatics = false ∧ U.vm.findClass C = some cell.cls
/-- an invocation under way, by a contract that may throw -/
theorem invokeX {T : State} (X : Stand p l e R s m args below meth c T locs cells slots) {y : MethodName} {ws : List Cond} {rm : Room} {Pc : Array Value → State → Prop} {Qc : Array Value → State → Outcome → State → Prop} {free : Addr → Prop} {maxL W : Nat} {mk : MethodId} {methY : Method} {cY : Code} {kY : Class}
    (hM : MetX l y ws rm Pc Qc rm.cells rm.slots free) (hbl : FrameBlind Pc) (hfr : rm.frames + 1 ≤ R.frames) (hlo : W + (maxL + 11) + rm.locals ≤ R.locals) (hcl : cells + rm.cells ≤ R.cells) (hsl : slots + rm.slots ≤ R.slots)
    (hws : ∀ w ∈ ws, ∀ (a' : Array Value) (U : State), s.WarmedH U.vm → w.before a' U = true) (hn : T.methodNamed? y = some mk) (hmY : T.vm.method? mk = some methY) (hcY : methY.code = some cY) (hlY : cY.maxLocals = maxL) (hkY : T.vm.classes[mk.cls]? = some kY) (hiY : kY.init = .initialized)
    {g : JFrame} (hg : g.method = m) (hsize : g.locals.size = c.maxLocals) {ig : Instr} {len : Nat} (hdg : decode c.code g.pc = .ok (ig, len)) (hW : 2 * g.monitorRoom + (g.stack.map fun v => v.category).sum ≤ W) (a : Array Value) (hPc : Pc a T) :
    ∃ (o : Outcome) (st₀ t T' : State) (L : List Loc), st₀.heap = T.heap ∧ st₀.vm = T.vm ∧ Stand p l e R s m args below meth c T' (locs ++ L) (cells + rm.cells) (slots + rm.slots) ∧ (∀ q ∈ L, free q.base) ∧ T'.heap = t.heap ∧ T'.vm = t.vm ∧ Qc a st₀ o t ∧
      Steps p.tables e below (doInvoke e (T.setTop g) [] mk a).1 (match o with | .returned v => T'.setTop { g with pc := g.pc + len, stack := v.toList ++ g.stack } | .threw x => (T'.setTop g).pushFrame (.throwing x)) := by
  have h : At T g.method c below := by rw [hg]; exact X.here
  have happ : (headSpec ws rm).appliesLoose y e.platform (T.calling g mk a) = true :=
    Spec.appliesLoose_calling (g := g) h hdg hn hkY hiY
      (X.room_calling (g := g) (R' := (headSpec ws rm).room) hsize hmY hcY hfr (by rw [hlY]; exact Nat.le_trans (Nat.add_le_add_right (Nat.add_le_add_right hW _) _) hlo) hcl hsl) (atoms_intro fun w hw => hws w hw _ _ X.warmed)
  obtain ⟨mid, hmid⟩ := h.above
  have hfr2 : (T.setTop g).frames = (.java g :: mid) ++ below := by rw [State.frames_setTop' g h.top, hmid]; rfl
  obtain ⟨o, s₂, hsteps, -, hend, hq, L, ⟨hW2, hsame⟩, hL⟩ := Steps.callFree hM p X.admits X.cas X.clock (acts := []) hfr2 happ (hbl _ _ g mk hPc) trivial
  rw [State.frames_setTop' g h.top, X.tail] at hend
  cases o with
  | returned v =>
    obtain ⟨T', X', -, -, ht⟩ := X.outOf hg hdg (mk := mk) (a := a) hend hW2 hsame
    exact ⟨.returned v, T.calling g mk a, s₂, T', L, rfl, rfl, X', hL, by rw [ht]; rfl, by rw [ht]; rfl, hq, by dsimp only; rw [← ht]; exact hsteps⟩
  | threw x =>
    obtain ⟨T', X', -, -, ht⟩ := X.outOfThrown hg (mk := mk) (a := a) hend hW2 hsame
    exact ⟨.threw x, T.calling g mk a, s₂, T', L, rfl, rfl, X', hL, by rw [ht]; rfl, by rw [ht]; rfl, hq, by dsimp only; rw [← ht]; exact hsteps⟩
end XA
/-- how a contract that may throw ends -/
def ocX {S : Type} (res : S → Option Value) (thr : S → Option (Nat × String)) (u : S) : Outcome := match thr u with
  | none => .returned (res u)
  | some x => .threw x.1
def xiX {S : Type} (thr : S → Option (Nat × String)) (u : S) (st t : State) : Prop := match thr u with
  | none => True
  | some x => XAt st x.2 x.1 t.heap
def QX {S : Type} (res : S → Option Value) (thr : S → Option (Nat × String)) (post : S → Prop) (B : S → State → Prop) (A : Nat → Prop) : Array Value → State → Outcome → State → Prop := fun _ st oc t => (∃ u : S, oc = ocX res thr u ∧ post u ∧ B u t ∧ xiX thr u st t) ∧ va_F A st t
def CtX (l : Launch) (G : GG) (y : MethodName) (cw : List Cond) (rm : Room) (av : List Value) (ws : va_W) {S : Type} (res : S → Option Value) (thr : S → Option (Nat × String)) (post : S → Prop) (w' : S → va_W) : Prop :=
  ∀ sz : Nat, MetX l y cw rm (va_Pc av (fun U => U.heap.size = sz ∧ va_P G.1.1 CL ws U.heap ∧ K0 G U ∧ va_D (fun _ => True) ws ∧ (∀ q : Nat, va_A ws sz q → A0 G.1.2 q))) (QX res thr post (fun u t => va_P G.1.1 CL (w' u) t.heap ∧ va_D (va_A ws sz) (w' u)) (va_A ws sz)) rm.cells rm.slots (va_A ws sz)
def RtX (M : MC) (rt : Option FieldType) {S : Type} (res : S → Option Value) (thr : S → Option (Nat × String)) (post : S → Prop) (w' : S → va_W) : Prop :=
  match M with
  | (p, l, e, R, s, m, args, below, meth, c, nL, A, G, Q) =>
    ∃ Qc : Array Value → State → Outcome → State → Prop, Q = MQX below Qc args s R.cells R.slots A ∧ meth.sig.returnType = rt ∧
      ∀ (u : S) (H : Heap) (locs : List Loc), post u → va_P G.1.1 CL (w' u) H → va_D A (w' u) → va_S A s.heap H locs → ∀ t : State, t.heap = H → xiX thr u s t → Qc args s (ocX res thr u) t
/-- the method's table of handlers -/
def Ex (M : MC) (tb : List (Nat × Nat × Nat × Nat)) : Prop :=
  match M with
  | (p, l, e, R, s, m, args, below, meth, c, nL, A, G, Q) => c.exceptionTable.toList.map (fun h => (h.startPc, h.endPc, h.handlerPc, h.catchType)) = tb
theorem CtX.of {l : Launch} {G : GG} {y : MethodName} {cc : ByteArray} {nL : Nat} {rt : Option FieldType} {rm : Room} {av : List Value} {ws : va_W} {S : Type} {res : S → Option Value} {thr : S → Option (Nat × String)} {post : S → Prop} {w' : S → va_W}
    (hy : plainName y.cls = true) (hav : Nat.ble (lg_sl av).length nL = true)
    (h : ∀ M : MC, M.l = l → M.G = G → M.nL = nL → Cx M cc y.cls rm → Ex M [] → RtX M rt res thr post w' → V M 0 0 ws (lv_args 0 av) [] 0) : CtX l G y (ws_ y cc nL rt) rm av ws res thr post w' := by
  intro sz
  refine MetX.ofW (cc := cc) (maxL := nL) (ret := rt) hy rfl ?_
  intro p e s m args below meth c s₁ B hml hv
  obtain ⟨rfl, hsz, hP, hK, hD0, hAA⟩ := hv
  subst hsz
  have hts := atoms_spec (ws := ws_ y cc nL rt) B.pre
  have hex : c.exceptionTable.toList.map (fun h => (h.startPc, h.endPc, h.handlerPc, h.catchType)) = [] := by
    have h1 := BodyLoose.noHandlers B (hts _ List.mem_cons_self)
    have h0 : c.exceptionTable.size = 0 := by simpa [Array.isEmpty] using h1
    have h2 : c.exceptionTable.toList = [] := List.eq_nil_of_length_eq_zero (by simpa using h0)
    rw [h2]
    rfl
  have hts : ∀ w ∈ lw_all, w.before _ s = true := fun w h => hts w (List.mem_cons_of_mem _ h)
  have hD := hD0.self (sz := s.heap.size)
  have hA : ∀ q : Nat, s.heap.size ≤ q → va_A ws s.heap.size q := fun q h => Or.inr h
  have hl := lv_entry av (n := nL) (Nat.le_of_ble_eq_true hav)
  rw [lg_entry_eq]
  exact h (p, l, e, rm, s, m, av.toArray, below, meth, c, nL, va_A ws s.heap.size, G, _) rfl rfl rfl
    ⟨B.exec, B.bytes, hml, findClass_of_methodNamed B.named, hts, B.notSynchronized, hA, hK, hAA, rfl⟩ hex
    ⟨_, rfl, B.returns, fun u H locs hp hP' hD' hS t ht hx => ⟨⟨u, rfl, hp, ⟨by rw [ht]; exact hP', hD'⟩, hx⟩, hS.F ht⟩⟩
    s.heap [] _ hP hD va_S.rf hl
theorem Ct.ofW {l : Launch} {G : GG} {y : MethodName} {cc : ByteArray} {nL : Nat} {rt : Option FieldType} {rm : Room} {av : List Value} {ws : va_W} {S : Type} {res : S → Option Value} {post : S → Prop} {w' : S → va_W} {hh : List (Nat × Nat × Nat × Nat)}
    (hy : plainName y.cls = true) (hav : Nat.ble (lg_sl av).length nL = true)
    (h : ∀ M : MC, M.l = l → M.G = G → M.nL = nL → Cx M cc y.cls rm → Ex M hh → Rt M rt res post w' → V M 0 0 ws (lv_args 0 av) [] 0) : Ct l G y (wsW_ y cc nL rt hh) rm av ws res post w' := by
  intro sz
  refine Met.ofWW (cc := cc) (maxL := nL) (ret := rt) (hh := hh) hy rfl ?_
  intro p e s m args below meth c s₁ B hml hv
  obtain ⟨rfl, hsz, hP, hK, hD0, hAA⟩ := hv
  subst hsz
  have hts := atoms_spec (ws := wsW_ y cc nL rt hh) B.pre
  have hex : c.exceptionTable.toList.map (fun h => (h.startPc, h.endPc, h.handlerPc, h.catchType)) = hh := by
    obtain ⟨m', meth', c', h0, h1, h2, h3, h4, h5, -⟩ := Cond.codeWith_spec (hts _ List.mem_cons_self)
    cases Option.some.inj (B.named.symm.trans h0)
    cases B.method.symm.trans h1
    cases (Stand.of_body B).code.symm.trans h2
    exact h5
  have hts : ∀ w ∈ lw_all, w.before _ s = true := fun w h => hts w (List.mem_cons_of_mem _ h)
  have hD := hD0.self (sz := s.heap.size)
  have hA : ∀ q : Nat, s.heap.size ≤ q → va_A ws s.heap.size q := fun q h => Or.inr h
  have hl := lv_entry av (n := nL) (Nat.le_of_ble_eq_true hav)
  rw [lg_entry_eq]
  exact h (p, l, e, rm, s, m, av.toArray, below, meth, c, nL, va_A ws s.heap.size, G, _) rfl rfl rfl
    ⟨B.exec, B.bytes, hml, findClass_of_methodNamed B.named, hts, B.notSynchronized, hA, hK, hAA, rfl⟩ hex
    ⟨_, rfl, B.returns, fun u H locs hp hP' hD' hS t ht => ⟨⟨u, rfl, hp, by rw [ht]; exact hP', hD'⟩, hS.F ht⟩⟩
    s.heap [] _ hP hD va_S.rf hl
/-- the machine with an exception a, of class X, over the frame at pc -/
def VT (M : MC) (cells slots : Nat) (ws : va_W) (lv : List (Nat × Value)) (pc a : Nat) (X : String) : Prop :=
  match M with
  | (p, l, e, R, s, m, args, below, meth, c, nL, A, G, Q) =>
    ∀ (H : Heap) (locs : List Loc) (ls : Array Slot) (st : List Value), va_P G.1.1 CL ws H → va_D A ws → va_S A s.heap H locs → lv_has ls nL lv → XAt s X a H →
      ∀ T : State, T.heap = H → Stand p l e R s m args below meth c T locs cells slots → ∃ t, Steps p.tables e below ((T.setTop (F0 m pc ls st)).pushFrame (.throwing a)) t ∧ Q t
section XR
variable {M : MC} {cc : ByteArray} {own : String} {rm : Room} {cells slots : Nat} {ws : va_W} {lv : List (Nat × Value)} {st : List Value} {pc pc' : Nat} {S : Type} {res : S → Option Value} {thr : S → Option (Nat × String)} {post : S → Prop} {w' : S → va_W}
theorem V.iretX (C : Cx M cc own rm) {rt : Option FieldType} (T : RtX M rt res thr post w') {v : Int32} {ty : FieldType} (hd : decode cc pc = .ok (.ireturn, 1)) (u : S) (hrt : rt = some ty) {v0 : Int32} (ho : thr u = none) (hr : res u = some (.int v0)) (hv : v = v0) (hn : narrow ty (.int v0) = .int v0) (hu : post u) (hw : ws = w' u) (hcl : Nat.ble cells rm.cells = true) (hsl : Nat.ble slots rm.slots = true) : V M cells slots ws lv [.int v] pc := by
  obtain ⟨p, l, e, R, s, m, args, below, meth, c, nL, A, G, Q⟩ := M
  obtain ⟨hx, hb, hml, hown, hts, hlk, hA, hK, hAA, hR⟩ := C
  obtain ⟨Qc, hQ, hret, hfin⟩ := T
  subst hR
  subst hQ
  subst hw
  subst hv
  intro H locs ls hP hD hS hl
  have e1 : ocX res thr u = .returned (res u) := by unfold ocX; rw [ho]
  have e2 : ∀ t, xiX thr u s t := fun t => by unfold xiX; rw [ho]; trivial
  refine W.widen (Nat.le_of_ble_eq_true hcl) (Nat.le_of_ble_eq_true hsl) (W.mono (fun t h => mq_x h) ?_)
  exact W.zret hx hb (hret.trans hrt) hn (fun t ht _ => by have := hfin u H locs hu hP hD hS t ht (e2 t); rw [e1, hr] at this; exact this) hS.2.2 hd hlk
theorem V.vretX (C : Cx M cc own rm) (T : RtX M none res thr post w') (hd : decode cc pc = .ok (.return_, 1)) (u : S) (ho : thr u = none) (hr : res u = none) (hu : post u) (hw : ws = w' u) (hcl : Nat.ble cells rm.cells = true) (hsl : Nat.ble slots rm.slots = true) : V M cells slots ws lv [] pc := by
  obtain ⟨p, l, e, R, s, m, args, below, meth, c, nL, A, G, Q⟩ := M
  obtain ⟨hx, hb, hml, hown, hts, hlk, hA, hK, hAA, hR⟩ := C
  obtain ⟨Qc, hQ, hret, hfin⟩ := T
  subst hR
  subst hQ
  subst hw
  intro H locs ls hP hD hS hl
  have e1 : ocX res thr u = .returned (res u) := by unfold ocX; rw [ho]
  have e2 : ∀ t, xiX thr u s t := fun t => by unfold xiX; rw [ho]; trivial
  refine W.widen (Nat.le_of_ble_eq_true hcl) (Nat.le_of_ble_eq_true hsl) (W.mono (fun t h => mq_x h) ?_)
  exact W.vret hx hb hret (fun t ht _ => by have := hfin u H locs hu hP hD hS t ht (e2 t); rw [e1, hr] at this; exact this) hS.2.2 hd hlk
theorem V.athrow (C : Cx M cc own rm) {a ci N : Nat} {T : u_T} {X : String} {fs : List Value} (hd : decode cc pc = .ok (.athrow, 1)) (q0 : Nat) (hq : ws[q0]? = some (a, .inr (ci, fs))) (hc : CL[ci]? = some (X, T, N)) (k : VT M cells slots ws lv pc a X) : V M cells slots ws lv (.ref a :: st) pc := by
  obtain ⟨p, l, e, R, s, m, args, below, meth, c, nL, A, G, Q⟩ := M
  obtain ⟨hx, hb, hml, hown, hts, hlk, hA, hK, hAA, hR⟩ := C
  intro H locs ls hP hD hS hl T0 hT X0
  obtain ⟨t, a1, b1⟩ := k H locs ls st hP hD hS hl (va_recv hK.1 hP hc hq) T0 hT X0
  refine ⟨t, ?_, b1⟩
  have hstack : (F0 m pc ls (.ref a :: st)).stack = .ref a :: st := rfl
  have hdg : decode c.code (F0 m pc ls (.ref a :: st)).pc = .ok (.athrow, 1) := by rw [hb]; exact hd
  jvm_step X0.here [hx, hdg, athrow.wp_sem, hstack]
  exact a1
/-- out of the method -/
theorem VT.out (C : Cx M cc own rm) (E : Ex M []) {rt : Option FieldType} (T : RtX M rt res thr post w') {a : Nat} {X : String} (u : S) (ho : thr u = some (a, X)) (hu : post u) (hw : ws = w' u) (hcl : Nat.ble cells rm.cells = true) (hsl : Nat.ble slots rm.slots = true) : VT M cells slots ws lv pc a X := by
  obtain ⟨p, l, e, R, s, m, args, below, meth, c, nL, A, G, Q⟩ := M
  obtain ⟨hx, hb, hml, hown, hts, hlk, hA, hK, hAA, hR⟩ := C
  obtain ⟨Qc, hQ, hret, hfin⟩ := T
  subst hR
  subst hQ
  subst hw
  intro H locs ls st hP hD hS hl hXA T0 hT X0
  have X1 := stand_widen X0 (Nat.le_of_ble_eq_true hcl) (Nat.le_of_ble_eq_true hsl)
  have hex : c.exceptionTable.toList = [] := by
    have h1 : c.exceptionTable.toList.map (fun h => (h.startPc, h.endPc, h.handlerPc, h.catchType)) = [] := E
    exact List.map_eq_nil_iff.mp h1
  obtain ⟨h1, h2, h3, h4, h5⟩ := X1.leaveThrown a (g := F0 m pc ls st) rfl rfl rfl (by rw [hex]; intro x hx; cases hx) hlk
  have e1 : ocX res thr u = .threw a := by unfold ocX; rw [ho]
  have e2 : ∀ t : State, t.heap = H → xiX thr u s t := fun t ht => by unfold xiX; rw [ho]; show XAt s X a t.heap; rw [ht]; exact hXA
  have hq := hfin u H locs hu hP hD hS (T0.setFrames (.throwing a :: below)) hT (e2 _ hT)
  rw [e1] at hq
  exact ⟨_, h1, .threw a, h2, h3, hq, locs, ⟨h4, h5⟩, hS.2.2⟩
end XR
