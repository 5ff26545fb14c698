/-! EXCEPTIONS, second part: calls that may throw; handlers -/
set_option maxRecDepth 100000
/-- the word that tells a method's code, with handlers or without -/
def CW (y : MethodName) (n1 : Nat) (w : Cond) : Prop := ∃ (b : ByteArray) (r : Option FieldType), w = .code y b n1 r ∨ ∃ hh, w = .codeWith y b n1 r hh
theorem CW.spec {y : MethodName} {n1 : Nat} {w : Cond} (h : CW y n1 w) {a : Array Value} {s : State} {m : MethodId} (hb : w.before a s = true) (hn : s.methodNamed? y = some m) : ∃ meth c, s.vm.method? m = some meth ∧ meth.code = some c ∧ c.maxLocals = n1 ∧ parseMethodDescriptor y.desc = some meth.sig := by
  obtain ⟨b, r, rfl | ⟨hh, rfl⟩⟩ := h
  · obtain ⟨meth, c, h1, h2, -, h3, -, -, -, h4⟩ := Cond.code_spec hn hb
    exact ⟨meth, c, h1, h2, h3, h4⟩
  · obtain ⟨m', meth, c, h0, h1, h2, -, h3, -, -, -, h4⟩ := Cond.codeWith_spec hb
    cases Option.some.inj (hn.symm.trans h0)
    exact ⟨meth, c, h1, h2, h3, h4⟩
section XC
variable {p : Program} {l : Launch} {e : Env} {R : Room} {s : State} {m : MethodId} {args : Array Value} {below : List Frame} {meth : Method} {c : Code} {locs : List Loc} {cells slots : Nat}
variable {y : MethodName} {ws : List Cond} {rm : Room} {Pc : Array Value → State → Prop} {Qc : Array Value → State → Outcome → State → Prop} {free : Addr → Prop} {n1 : Nat} {w0 : Cond}
def EndX (p : Program) (e : Env) (below : List Frame) (o : Outcome) (T' : State) (g : JFrame) (rest : List Value) (T : State) : Prop :=
  ∀ target, Steps p.tables e below (match o with | .returned v => T'.setTop { g with pc := g.pc + 3, stack := v.toList ++ rest } | .threw x => (T'.setTop { g with stack := rest }).pushFrame (.throwing x)) target → Steps p.tables e below (T.setTop g) target
theorem runVX {T : State} (X : Stand p l e R s m args below meth c T locs cells slots) (hexec : p.tables.exec = Jvm.exec) {own C : String} {index : Nat}
    (hM : MetX l y ws rm Pc Qc rm.cells rm.slots free) (hbl : FrameBlind Pc) (hcw : CW y n1 w0) (hw0 : w0 ∈ ws) (hfr : rm.frames + 1 ≤ R.frames) (hlo : 8 + (n1 + 11) + rm.locals ≤ R.locals) (hcl : cells + rm.cells ≤ R.cells) (hsl : slots + rm.slots ≤ R.slots)
    (hws : ∀ w ∈ ws, ∀ (a' : Array Value) (U : State), s.WarmedH U.vm → w.before a' U = true) (hini : ∀ (a' : Array Value) (U : State), s.WarmedH U.vm → (Cond.initialized y.cls).before a' U = true)
    (hown : s.vm.findClass own = some m.cls) (hlink : (Cond.methodLink own index y).before args s = true) (hinst : (Cond.instanceMethod y).before args s = true) (hsel : (Cond.selects C y y).before args s = true)
    (hy : y.cls ≠ "java/lang/invoke/MethodHandle" ∧ y.cls ≠ "java/lang/invoke/VarHandle") {n : Nat} (hyn : (parseMethodDescriptor y.desc).map (fun d => d.parameters.length) = some n)
    {b : Addr} {cellB : Cell} (hcell : T.heap[b]? = some cellB) (hobj : cellB.vm.isStatics = false) (hcls : s.vm.findClass C = some cellB.cls)
    {g : JFrame} (hg : g.method = m) (hsize : g.locals.size = c.maxLocals) {argsL rest : List Value} (hlen : argsL.length = n)
    (hstack : g.stack = argsL.reverse ++ .ref b :: rest) (hW : 2 * g.monitorRoom + (rest.map fun v => v.category).sum ≤ 8) (hdg : decode c.code g.pc = .ok (.invokevirtual index, 3))
    (hPc : ∀ U : State, U.heap = T.heap → s.WarmedH U.vm → Pc (Value.ref b :: argsL).toArray U) :
    ∃ (o : Outcome) (st₀ t T' : State) (L : List Loc), st₀.heap = T.heap ∧ s.WarmedH st₀.vm ∧ Stand p l e R s m args below meth c T' (locs ++ L) (cells + rm.cells) (slots + rm.slots) ∧ (∀ q ∈ L, free q.base) ∧ T'.heap = t.heap ∧ Qc (Value.ref b :: argsL).toArray st₀ o t ∧ EndX p e below o T' g rest T := by
  obtain ⟨mk, methM, hnamed, hmethM, hstM, habM⟩ := Cond.instanceMethod_spec hinst
  obtain ⟨methM', cM, hmethM', -, -, hsigM⟩ := hcw.spec (hws _ hw0 args s (State.WarmedH.refl s)) hnamed
  cases hmethM.symm.trans hmethM'
  obtain ⟨c2, r2, m2, q1, q2, q3, q4, kP, hkP, hkPi⟩ := Cond.selects_spec hsel
  cases hcls.symm.trans q1
  cases (State.methodFound?_of_named hnamed hy).symm.trans q2
  cases hnamed.symm.trans q3
  have hselP : selectMethod e.platform s.vm cellB.cls mk = .method mk := by rw [Launch.admits_selectMethod X.admits]; exact q4
  have hlen2 : argsL.length = methM.sig.parameters.length := by
    rw [hsigM] at hyn
    exact hlen.trans (Option.some.inj hyn).symm
  obtain ⟨vm₁, X₁, hstep₁⟩ := X.invokevirtual hexec hown hlink hnamed hmethM hstM hkP hkPi hy (a := b) (cell := cellB) hcell
    (fun z h => by rw [h] at hobj; cases hobj) hselP hmethM habM hkP hkPi (g := g) hg (argsL := argsL) (rest := rest) hlen2 hstack hdg
  have hn1 : (T.setVm vm₁).methodNamed? y = some mk := X₁.named hnamed
  obtain ⟨methY, cY, hmY, hcY, hlY, -⟩ := hcw.spec (hws _ hw0 args (T.setVm vm₁) X₁.warmed) hn1
  obtain ⟨kY, hkY, -⟩ := className_of_methodNamed hn1
  have hiY : kY.init = .initialized := Cond.initialized_spec (findClass_of_methodNamed hn1) hkY (hini args _ X₁.warmed)
  obtain ⟨o, st₀, t, T', L, e1, e2, X', hL, e3, e4, hq, hst⟩ := invokeX X₁ hM hbl hfr hlo hcl hsl hws hn1 hmY hcY hlY hkY hiY (g := { g with stack := rest }) hg hsize hdg hW (Value.ref b :: argsL).toArray (hPc _ rfl X₁.warmed)
  refine ⟨o, st₀, t, T', L, e1, by rw [e2]; exact X₁.warmed, X', hL, e3, hq, fun target h => hstep₁ _ fun acts => ?_⟩
  rw [doInvoke_state]
  refine hst.trans ?_
  cases o <;> exact h
theorem runIX {T : State} (X : Stand p l e R s m args below meth c T locs cells slots) (hexec : p.tables.exec = Jvm.exec) {own : String} {index : Nat} {bytes : ByteArray}
    (hM : MetX l y ws rm Pc Qc rm.cells rm.slots free) (hbl : FrameBlind Pc) (hcode : Cond.code y bytes n1 none ∈ ws) (hfr : rm.frames + 1 ≤ R.frames) (hlo : 8 + (n1 + 11) + rm.locals ≤ R.locals) (hcl : cells + rm.cells ≤ R.cells) (hsl : slots + rm.slots ≤ R.slots)
    (hws : ∀ w ∈ ws, ∀ (a' : Array Value) (U : State), s.WarmedH U.vm → w.before a' U = true) (hini : ∀ (a' : Array Value) (U : State), s.WarmedH U.vm → (Cond.initialized y.cls).before a' U = true)
    (hown : s.vm.findClass own = some m.cls) (hy1 : y.name = "<init>") (hlink : (Cond.methodLink own index y).before args s = true) (hinst : (Cond.instanceMethod y).before args s = true)
    (hy : y.cls ≠ "java/lang/invoke/MethodHandle" ∧ y.cls ≠ "java/lang/invoke/VarHandle") {n : Nat} (hyn : (parseMethodDescriptor y.desc).map (fun d => d.parameters.length) = some n)
    {b : Addr} {g : JFrame} (hg : g.method = m) (hsize : g.locals.size = c.maxLocals) {argsL rest : List Value} (hlen : argsL.length = n)
    (hstack : g.stack = argsL.reverse ++ .ref b :: rest) (hW : 2 * g.monitorRoom + (rest.map fun v => v.category).sum ≤ 8) (hdg : decode c.code g.pc = .ok (.invokespecial index, 3))
    (hPc : ∀ U : State, U.heap = T.heap → s.WarmedH U.vm → Pc (Value.ref b :: argsL).toArray U) :
    ∃ (o : Outcome) (st₀ t T' : State) (L : List Loc), st₀.heap = T.heap ∧ s.WarmedH st₀.vm ∧ Stand p l e R s m args below meth c T' (locs ++ L) (cells + rm.cells) (slots + rm.slots) ∧ (∀ q ∈ L, free q.base) ∧ T'.heap = t.heap ∧ Qc (Value.ref b :: argsL).toArray st₀ o t ∧ EndX p e below o T' g rest T := by
  subst hg
  have hpl : e.platform.magicAccessors = ({} : Platform).magicAccessors := by rw [X.admits.platform]
  have hcw : CW y n1 (Cond.code y bytes n1 none) := ⟨bytes, none, Or.inl rfl⟩
  obtain ⟨mk, methM, cM, kP, vm₁, hnamed, hmethM, hcodeM, -, hlocalsM, -, hkP, -, hW₁, hstep₁⟩ := Steps.initColdArgs (e := e) X.here hexec X.warmed hpl hown hy1 hy hlink hinst (hws _ hcode args s (State.WarmedH.refl s)) (f := g) rfl (fun sig h => by rw [h] at hyn; exact hlen.trans (Option.some.inj hyn).symm) hstack hdg
  have X₁ := X.noted hW₁
  have hn1 : (T.setVm vm₁).methodNamed? y = some mk := X₁.named hnamed
  obtain ⟨methY, cY, hmY, hcY, hlY, -⟩ := hcw.spec (hws _ hcode args (T.setVm vm₁) X₁.warmed) hn1
  obtain ⟨kY, hkY, -⟩ := className_of_methodNamed hn1
  have hiY : kY.init = .initialized := Cond.initialized_spec (findClass_of_methodNamed hn1) hkY (hini args _ X₁.warmed)
  obtain ⟨o, st₀, t, T', L, e1, e2, X', hL, e3, e4, hq, hst⟩ := invokeX X₁ hM hbl hfr hlo hcl hsl hws hn1 hmY hcY hlY hkY hiY (g := { g with stack := rest }) rfl hsize hdg hW (Value.ref b :: argsL).toArray (hPc _ rfl X₁.warmed)
  refine ⟨o, st₀, t, T', L, e1, by rw [e2]; exact X₁.warmed, X', hL, e3, hq, fun target h => hstep₁ _ fun acts => ?_⟩
  rw [doInvoke_state]
  refine hst.trans ?_
  cases o <;> exact h
end XC
theorem CtX.blind {G : GG} {av : List Value} {ws : va_W} {sz : Nat} : FrameBlind (va_Pc av (fun U => U.heap.size = sz ∧ va_P G.1.1 CL ws U.heap ∧ K0 G U ∧ va_D (fun _ => True) ws ∧ (∀ q : Nat, va_A ws sz q → A0 G.1.2 q))) := Ct.blind
theorem lw_ini {args : Array Value} {s : State} (hts : ∀ w ∈ lw_all, w.before args s = true) {C : String} (h : Cond.initialized C ∈ lw_all) : ∀ (a' : Array Value) (U : State), s.WarmedH U.vm → (Cond.initialized C).before a' U = true :=
  fun a' U hW => word_at hW (Or.inl (by first | rfl | simp [Cond.onTables, Cond.keeps, Cond.steady])) (hts _ h)
section XV
variable {M : MC} {cc : ByteArray} {own : String} {rm0 rm : Room} {cells slots : Nat} {ws ws1 wr : va_W} {lv : List (Nat × Value)} {st rest As : List Value} {pc pc' idx n n1 ci : Nat} {y : MethodName} {c1 : ByteArray} {rt : Option FieldType} {S : Type} {res : S → Option Value} {thr : S → Option (Nat × String)} {post : S → Prop} {w' : S → va_W} {b : Nat} {r : vw_C} {fs : List Value} {w0 : Cond}
/-- what all such calls share -/
theorem V.coreX {p : Program} {l : Launch} {e : Env} {R : Room} {s : State} {m : MethodId} {args : Array Value} {below : List Frame} {meth : Method} {c : Code} {A : Nat → Prop} {G : GG} {Q : State → Prop} {H : Heap} {locs : List Loc} {ls : Array Slot} {a : Array Value} {T : State}
    (hA : ∀ q : Nat, s.heap.size ≤ q → A q) (hP : va_P G.1.1 CL ws H) (hD : va_D A ws) (hS : va_S A s.heap H locs) (hT : T.heap = H)
    (isC isR isP : List Nat) (hC : isC.map (fun i => ws[i]?) = ws1.map some) (hRs : isR.map (fun i => ws[i]?) = wr.map some) (hpl : PlOk isC isR isP = true) (ws2 : S → va_W) (h2 : ∀ u, isP.map (fun i => (wr ++ w' u)[i]?) = (ws2 u).map some)
    (hrun : ∃ (o : Outcome) (st₀ t T' : State) (L : List Loc), st₀.heap = T.heap ∧ s.WarmedH st₀.vm ∧ Stand p l e R s m args below meth c T' (locs ++ L) (cells + rm.cells) (slots + rm.slots) ∧ (∀ q ∈ L, va_A ws1 H.size q.base) ∧ T'.heap = t.heap ∧ QX res thr post (fun u t => va_P G.1.1 CL (w' u) t.heap ∧ va_D (va_A ws1 H.size) (w' u)) (va_A ws1 H.size) a st₀ o t ∧ EndX p e below o T' (F0 m pc ls st) rest T)
    (kr : ∀ (u : S) (H : Heap) (locs : List Loc), post u → thr u = none → va_P G.1.1 CL (ws2 u) H → va_D A (ws2 u) → va_S A s.heap H locs → W p l e R s m args below meth c H locs (cells + rm.cells) (slots + rm.slots) Q (F0 m (pc + 3) ls ((res u).toList ++ rest)))
    (kt : ∀ (u : S) (x : Nat × String) (H : Heap) (locs : List Loc), post u → thr u = some x → va_P G.1.1 CL (ws2 u) H → va_D A (ws2 u) → va_S A s.heap H locs → XAt s x.2 x.1 H → ∀ T : State, T.heap = H → Stand p l e R s m args below meth c T locs (cells + rm.cells) (slots + rm.slots) → ∃ t, Steps p.tables e below ((T.setTop (F0 m pc ls rest)).pushFrame (.throwing x.1)) t ∧ Q t) :
    ∃ t, Steps p.tables e below (T.setTop (F0 m pc ls st)) t ∧ Q t := by
  obtain ⟨-, n2, n3, hdis⟩ := PlOk.spec hpl
  have hFc := va_free (wc := ws1) hD hS hA isC hC
  obtain ⟨o, st₀, t, T', L, h0, hw, X', hL, e1, ⟨⟨u, ho, hu, ⟨hP1, hD1⟩, hxi⟩, hz, hk⟩, st1⟩ := hrun
  rw [h0, hT] at hz hk
  have hk1 : ∀ q : Nat, q < H.size → ¬ va_A ws1 H.size q → T'.heap[q]? = H[q]? := fun q h1 h2 => by rw [e1]; exact hk q h1 h2
  have hS1 : va_S A s.heap T'.heap (locs ++ L) := ⟨Nat.le_trans hS.1 (by rw [e1]; exact hz), fun q h1 h2 => by rw [hk1 q (Nat.lt_of_lt_of_le h1 hS.1) (fun z => h2 (hFc q z))]; exact hS.2.1 q h1 h2, fun q hq => by
      rcases List.mem_append.mp hq with h | h
      · exact hS.2.2 q h
      · exact hFc _ (hL q h)⟩
  rw [← e1] at hP1
  obtain ⟨hP2, hD2⟩ := va_join (wr := wr) (w1 := w' u) hP hD isC isR hC hRs n2 hdis hk1 hFc hP1 hD1
  have hP3 := wsub hP2 isP (h2 u)
  have hD3 := hD2.sub isP n3 (h2 u)
  cases ht : thr u with
  | none =>
    have eo : o = .returned (res u) := by rw [ho]; unfold ocX; rw [ht]
    subst eo
    obtain ⟨t2, a1, b1⟩ := kr u T'.heap (locs ++ L) hu ht hP3 hD3 hS1 T' rfl X'
    exact ⟨t2, st1 t2 a1, b1⟩
  | some x =>
    have eo : o = .threw x.1 := by rw [ho]; unfold ocX; rw [ht]
    subst eo
    have hx : XAt st₀ x.2 x.1 t.heap := by unfold xiX at hxi; rw [ht] at hxi; exact hxi
    obtain ⟨cell, g1, g2, g3⟩ := hx
    obtain ⟨t2, a1, b1⟩ := kt u x T'.heap (locs ++ L) hu ht hP3 hD3 hS1 ⟨cell, by rw [e1]; exact g1, g2, by rw [← hw.alike.findClass]; exact g3⟩ T' rfl X'
    exact ⟨t2, st1 t2 a1, b1⟩
theorem V.callVX (C : Cx M cc own rm0) (hM : CtX M.l M.G y (w0 :: lw_all) rm (.ref b :: As) ws1 res thr post w') (hcw : CW y n1 w0) (hg : GoodIn lw_all (w0 :: lw_all))
    (hd : decode cc pc = .ok (.invokevirtual idx, 3)) (hp : pc + 3 = pc') (hlk : Cond.methodLink own idx y ∈ lw_all) (hin : Cond.instanceMethod y ∈ lw_all) (hse : Cond.selects r.1 y y ∈ lw_all) (hini : Cond.initialized y.cls ∈ lw_all)
    (hy : y.cls ≠ "java/lang/invoke/MethodHandle" ∧ y.cls ≠ "java/lang/invoke/VarHandle" ∧ (parseMethodDescriptor y.desc).map (fun d => d.parameters.length) = some n) (hn : As.length = n) (hst : st = As.reverse ++ .ref b :: rest)
    (q0 : Nat) (hq : ws1[q0]? = some (b, .inr (ci, fs))) (hc : CL[ci]? = some r)
    (isC isR isP : List Nat) (hC : isC.map (fun i => ws[i]?) = ws1.map some) (hRs : isR.map (fun i => ws[i]?) = wr.map some) (hpl : PlOk isC isR isP = true) (ws2 : S → va_W) (h2 : ∀ u, isP.map (fun i => (wr ++ w' u)[i]?) = (ws2 u).map some) (hrm : RmOk rm rm0 n1 cells slots rest = true)
    (c2 s2 : Nat) (hc2 : cells + rm.cells = c2) (hs2 : slots + rm.slots = s2) (st2 : S → List Value) (hst2 : ∀ u, (res u).toList ++ rest = st2 u)
    (kr : ∀ u : S, post u → thr u = none → V M c2 s2 (ws2 u) lv (st2 u) pc') (kt : ∀ (u : S) (x : Nat × String), post u → thr u = some x → VT M c2 s2 (ws2 u) lv pc x.1 x.2) : V M cells slots ws lv st pc := by
  obtain ⟨p, l, e, R, s, m, args, below, meth, c, nL, A, G, Q⟩ := M
  obtain ⟨hx, hb, hml, hown, hts, hlk2, hA, hK, hAA, hR⟩ := C
  obtain ⟨r1, r2, r3⟩ := RmOk.spec hrm
  subst hp
  subst hR
  subst hb
  intro H locs ls hP hD hS hl T hT X
  have hPc := wsub hP isC hC
  have hDc : va_D A ws1 := hD.sub isC (PlOk.spec hpl).1 hC
  have hFc := va_free (wc := ws1) hD hS hA isC hC
  obtain ⟨cellB, hcB, hoB, hclB⟩ := va_recv hK.1 hPc hc hq
  refine V.coreX (rest := rest) (a := (Value.ref b :: As).toArray) hA hP hD hS hT isC isR isP hC hRs hpl ws2 h2
    (runVX X hx (hM H.size) CtX.blind hcw List.mem_cons_self r1.1 r1.2 r2.1 r2.2 (pay_in hts hg) (lw_ini hts hini) hown (hts _ hlk) (hts _ hin) (hts _ hse) ⟨hy.1, hy.2.1⟩ hy.2.2 (by rw [hT]; exact hcB) hoB hclB rfl (hl.1.trans hml.symm) hn hst (lv_room r3) hd
      (fun U hU hW => ⟨rfl, by rw [hU, hT], by rw [hU, hT]; exact hPc, hK.warm hW (by rw [hU, hT]; exact fun q h1 h2 => hS.2.1 q h1 (fun z => h2 (hAA q z))), hDc.weaken (fun _ _ _ _ => trivial), fun q hq => hAA q (hFc q hq)⟩))
    (fun u H locs hu ht hP hD hS => by have := kr u hu ht H locs ls hP hD hS hl; rw [hst2 u, hc2, hs2]; exact this)
    (fun u x H locs hu ht hP hD hS hX T hT X => by rw [hc2, hs2] at X; exact kt u x hu ht H locs ls rest hP hD hS hl hX T hT X)
theorem V.callIX (C : Cx M cc own rm0) (hM : CtX M.l M.G y (ws_ y c1 n1 none) rm (.ref b :: As) ws1 res thr post w')
    (hd : decode cc pc = .ok (.invokespecial idx, 3)) (hp : pc + 3 = pc') (hg : Cond.code y c1 n1 none ∈ lw_all) (hini : Cond.initialized y.cls ∈ lw_all) (hlk : Cond.methodLink own idx y ∈ lw_all) (hin : Cond.instanceMethod y ∈ lw_all) (hyi : y.name = "<init>")
    (hy : y.cls ≠ "java/lang/invoke/MethodHandle" ∧ y.cls ≠ "java/lang/invoke/VarHandle" ∧ (parseMethodDescriptor y.desc).map (fun d => d.parameters.length) = some n) (hn : As.length = n) (hst : st = As.reverse ++ .ref b :: rest)
    (isC isR isP : List Nat) (hC : isC.map (fun i => ws[i]?) = ws1.map some) (hRs : isR.map (fun i => ws[i]?) = wr.map some) (hpl : PlOk isC isR isP = true) (ws2 : S → va_W) (h2 : ∀ u, isP.map (fun i => (wr ++ w' u)[i]?) = (ws2 u).map some) (hrm : RmOk rm rm0 n1 cells slots rest = true)
    (c2 s2 : Nat) (hc2 : cells + rm.cells = c2) (hs2 : slots + rm.slots = s2) (st2 : S → List Value) (hst2 : ∀ u, (res u).toList ++ rest = st2 u)
    (kr : ∀ u : S, post u → thr u = none → V M c2 s2 (ws2 u) lv (st2 u) pc') (kt : ∀ (u : S) (x : Nat × String), post u → thr u = some x → VT M c2 s2 (ws2 u) lv pc x.1 x.2) : V M cells slots ws lv st pc := by
  obtain ⟨p, l, e, R, s, m, args, below, meth, c, nL, A, G, Q⟩ := M
  obtain ⟨hx, hb, hml, hown, hts, hlk2, hA, hK, hAA, hR⟩ := C
  obtain ⟨r1, r2, r3⟩ := RmOk.spec hrm
  subst hp
  subst hR
  subst hb
  intro H locs ls hP hD hS hl T hT X
  have hPc := wsub hP isC hC
  have hDc : va_D A ws1 := hD.sub isC (PlOk.spec hpl).1 hC
  have hFc := va_free (wc := ws1) hD hS hA isC hC
  refine V.coreX (rest := rest) (a := (Value.ref b :: As).toArray) hA hP hD hS hT isC isR isP hC hRs hpl ws2 h2
    (runIX X hx (hM H.size) CtX.blind List.mem_cons_self r1.1 r1.2 r2.1 r2.2 (pay_in hts (lw_meth hg)) (lw_ini hts hini) hown hyi (hts _ hlk) (hts _ hin) ⟨hy.1, hy.2.1⟩ hy.2.2 rfl (hl.1.trans hml.symm) hn hst (lv_room r3) hd
      (fun U hU hW => ⟨rfl, by rw [hU, hT], by rw [hU, hT]; exact hPc, hK.warm hW (by rw [hU, hT]; exact fun q h1 h2 => hS.2.1 q h1 (fun z => h2 (hAA q z))), hDc.weaken (fun _ _ _ _ => trivial), fun q hq => hAA q (hFc q hq)⟩))
    (fun u H locs hu ht hP hD hS => by have := kr u hu ht H locs ls hP hD hS hl; rw [hst2 u, hc2, hs2]; exact this)
    (fun u x H locs hu ht hP hD hS hX T hT X => by rw [hc2, hs2] at X; exact kt u x hu ht H locs ls rest hP hD hS hl hX T hT X)
end XV
