set_option maxRecDepth 100000
section VC2
variable {M : MC} {cc : ByteArray} {own : String} {rm0 rm : Room} {cells slots : Nat} {ws ws1 wr : va_W} {lv : List (Nat × Value)} {st rest As : List Value} {pc pc' idx n n1 ci : Nat} {y : MethodName} {c1 : ByteArray} {rt : Option FieldType} {S : Type} {res : S → Option Value} {post : S → Prop} {w' : S → va_W} {b : Nat} {r : vw_C} {fs : List Value}
theorem V.callSN (C : Cx M cc own rm0) {host : String} (hM : Ct M.l M.G y (ws_ y c1 n1 rt) rm As ws1 res post w')
    (hd : decode cc pc = .ok (.invokestatic idx, 3)) (hp : pc + 3 = pc') (hk : Cond.methodLinkNest own idx y host ∈ lw_tbl) (hg : Cond.code y c1 n1 rt ∈ lw_all) (hi : Cond.initialized y.cls ∈ lw_all) (hj : Cond.static y ∈ lw_all)
    (hy : y.cls ≠ "java/lang/invoke/MethodHandle" ∧ y.cls ≠ "java/lang/invoke/VarHandle" ∧ (parseMethodDescriptor y.desc).map (fun d => d.parameters.length) = some n) (hn : As.length = n) (hst : st = As.reverse ++ rest)
    (isC isR isP : List Nat) (hC : isC.map (fun i => ws[i]?) = ws1.map some) (hRs : isR.map (fun i => ws[i]?) = wr.map some) (hpl : PlOk isC isR isP = true) (ws2 : S → va_W) (h2 : ∀ u, isP.map (fun i => (wr ++ w' u)[i]?) = (ws2 u).map some) (hrm : RmOk rm rm0 n1 cells slots rest = true)
    (c2 s2 : Nat) (hc2 : cells + rm.cells = c2) (hs2 : slots + rm.slots = s2) (st2 : S → List Value) (hst2 : ∀ u, (res u).toList ++ rest = st2 u)
    (kk : ∀ u : S, post u → V M c2 s2 (ws2 u) lv (st2 u) pc') : V M cells slots ws lv st pc := by
  obtain ⟨p, l, e, R, s, m, args, below, meth, c, nL, A, G, Q⟩ := M
  obtain ⟨hx, hb, hml, hown, hts, hlk, hA, hK, hAA, hR⟩ := C
  obtain ⟨r1, r2, r3⟩ := RmOk.spec hrm
  subst hp
  subst hR
  intro H locs ls hP hD hS hl
  have hPc := wsub hP isC hC
  have hDc : va_D A ws1 := hD.sub isC (PlOk.spec hpl).1 hC
  have hFc := va_free (wc := ws1) hD hS hA isC hC
  refine V.callCore hA hP hD hS isC isR isP hC hRs hpl ws2 h2 (va_runSN (As := As) (rest := rest) (host := host) ⟨hx, hb, hml, hown, hts⟩ (hM H.size) ⟨va_cnB n hts (lw_meth hg) rfl rfl rfl (hK.2.1 _ hk rfl) (hts _ hi) hy r1, hts _ hj, trivial⟩ ⟨Ct.blind, fun U hU hW => ⟨rfl, by rw [hU], by rw [hU]; exact hPc, hK.warm hW (by rw [hU]; exact fun q h1 h2 => hS.2.1 q h1 (fun z => h2 (hAA q z))), hDc.weaken (fun _ _ _ _ => trivial), fun q hq => hAA q (hFc q hq)⟩⟩ rfl hn hl.1 hst (lv_room r3) hd r2) (fun u H locs hu hP hD hS => by have := kk u hu H locs ls hP hD hS hl; rw [hst2 u, hc2, hs2]; exact this)
theorem V.callIN (C : Cx M cc own rm0) {host : String} (hM : Ct M.l M.G y (ws_ y c1 n1 none) rm (.ref b :: As) ws1 res post w')
    (hd : decode cc pc = .ok (.invokespecial idx, 3)) (hp : pc + 3 = pc') (hg : Cond.code y c1 n1 none ∈ lw_all) (hi : Cond.initialized y.cls ∈ lw_all) (hk : Cond.methodLinkNest own idx y host ∈ lw_tbl) (hj : Cond.instanceMethod y ∈ lw_all) (hyi : y.name = "<init>")
    (hy : y.cls ≠ "java/lang/invoke/MethodHandle" ∧ y.cls ≠ "java/lang/invoke/VarHandle" ∧ (parseMethodDescriptor y.desc).map (fun d => d.parameters.length) = some n) (hn : As.length = n) (hst : st = As.reverse ++ .ref b :: rest)
    (isC isR isP : List Nat) (hC : isC.map (fun i => ws[i]?) = ws1.map some) (hRs : isR.map (fun i => ws[i]?) = wr.map some) (hpl : PlOk isC isR isP = true) (ws2 : S → va_W) (h2 : ∀ u, isP.map (fun i => (wr ++ w' u)[i]?) = (ws2 u).map some) (hrm : RmOk rm rm0 n1 cells slots rest = true)
    (c2 s2 : Nat) (hc2 : cells + rm.cells = c2) (hs2 : slots + rm.slots = s2) (st2 : S → List Value) (hst2 : ∀ u, (res u).toList ++ rest = st2 u)
    (kk : ∀ u : S, post u → V M c2 s2 (ws2 u) lv (st2 u) pc') : V M cells slots ws lv st pc := by
  obtain ⟨p, l, e, R, s, m, args, below, meth, c, nL, A, G, Q⟩ := M
  obtain ⟨hx, hb, hml, hown, hts, hlk, hA, hK, hAA, hR⟩ := C
  obtain ⟨r1, r2, r3⟩ := RmOk.spec hrm
  subst hp
  subst hR
  intro H locs ls hP hD hS hl
  have hPc := wsub hP isC hC
  have hDc : va_D A ws1 := hD.sub isC (PlOk.spec hpl).1 hC
  have hFc := va_free (wc := ws1) hD hS hA isC hC
  refine V.callCore hA hP hD hS isC isR isP hC hRs hpl ws2 h2 (va_runIN (As := As) (rest := rest) (b := b) (host := host) ⟨hx, hb, hml, hown, hts⟩ (hM H.size) ⟨va_cnB n hts (lw_meth hg) rfl rfl rfl (hK.2.1 _ hk rfl) (hts _ hi) hy r1, hyi, hts _ hj⟩ ⟨Ct.blind, fun U hU hW => ⟨rfl, by rw [hU], by rw [hU]; exact hPc, hK.warm hW (by rw [hU]; exact fun q h1 h2 => hS.2.1 q h1 (fun z => h2 (hAA q z))), hDc.weaken (fun _ _ _ _ => trivial), fun q hq => hAA q (hFc q hq)⟩⟩ rfl hn hl.1 hst (lv_room r3) hd r2) (fun u H locs hu hP hD hS => by have := kk u hu H locs ls hP hD hS hl; rw [hst2 u, hc2, hs2]; exact this)
theorem V.callO (C : Cx M cc own rm0) {x : MethodName} {owner : String} {b0 : ByteArray} {m0 : Nat} {r0 : Option FieldType} (hM : Ct M.l M.G y (ws_ y c1 n1 rt) rm (.ref b :: As) ws1 res post w')
    (hd : decode cc pc = .ok (.invokevirtual idx, 3)) (hp : pc + 3 = pc') (w1 : Cond.methodLink own idx x ∈ lw_all) (w2 : Cond.sameMethod x.cls owner x.name x.desc ∈ lw_all) (w3 : Cond.instanceMethod ⟨owner, x.name, x.desc⟩ ∈ lw_all) (w4 : Cond.selects r.1 x y ∈ lw_all) (w5 : Cond.instanceMethod y ∈ lw_all) (w6 : Cond.initialized y.cls ∈ lw_all) (w7 : Cond.code y c1 n1 rt ∈ lw_all) (w8 : Cond.code ⟨owner, x.name, x.desc⟩ b0 m0 r0 ∈ lw_all)
    (hy : owner ≠ "java/lang/invoke/MethodHandle" ∧ owner ≠ "java/lang/invoke/VarHandle" ∧ (parseMethodDescriptor x.desc).map (fun d => d.parameters.length) = some n) (hn : As.length = n) (hst : st = As.reverse ++ .ref b :: rest)
    (q0 : Nat) (hq : ws1[q0]? = some (b, .inr (ci, fs))) (hc : CL[ci]? = some r)
    (isC isR isP : List Nat) (hC : isC.map (fun i => ws[i]?) = ws1.map some) (hRs : isR.map (fun i => ws[i]?) = wr.map some) (hpl : PlOk isC isR isP = true) (ws2 : S → va_W) (h2 : ∀ u, isP.map (fun i => (wr ++ w' u)[i]?) = (ws2 u).map some) (hrm : RmOk rm rm0 n1 cells slots rest = true)
    (c2 s2 : Nat) (hc2 : cells + rm.cells = c2) (hs2 : slots + rm.slots = s2) (st2 : S → List Value) (hst2 : ∀ u, (res u).toList ++ rest = st2 u)
    (kk : ∀ u : S, post u → V M c2 s2 (ws2 u) lv (st2 u) pc') : V M cells slots ws lv st pc := by
  obtain ⟨p, l, e, R, s, m, args, below, meth, c, nL, A, G, Q⟩ := M
  obtain ⟨hx, hb, hml, hown, hts, hlk, hA, hK, hAA, hR⟩ := C
  obtain ⟨r1, r2, r3⟩ := RmOk.spec hrm
  subst hp
  subst hR
  intro H locs ls hP hD hS hl
  have hPc := wsub hP isC hC
  have hDc : va_D A ws1 := hD.sub isC (PlOk.spec hpl).1 hC
  have hFc := va_free (wc := ws1) hD hS hA isC hC
  refine V.callCore hA hP hD hS isC isR isP hC hRs hpl ws2 h2 (va_runU (As := As) (rest := rest) (b := b) ⟨hx, hb, hml, hown, hts⟩ (hM H.size) (va_cwO n hts (lw_app (by intro w hw; simp only [List.mem_cons, List.not_mem_nil, or_false] at hw; rcases hw with e | e | e | e | e | e <;> rw [e] <;> assumption) (lw_meth w7)) rfl rfl rfl w8 hy r1) ⟨Ct.blind, va_recv hK.1 hPc hc hq, fun U hU hW => ⟨rfl, by rw [hU], by rw [hU]; exact hPc, hK.warm hW (by rw [hU]; exact fun q h1 h2 => hS.2.1 q h1 (fun z => h2 (hAA q z))), hDc.weaken (fun _ _ _ _ => trivial), fun q hq => hAA q (hFc q hq)⟩⟩ rfl hn hl.1 hst (lv_room r3) hd r2) (fun u H locs hu hP hD hS => by have := kk u hu H locs ls hP hD hS hl; rw [hst2 u, hc2, hs2]; exact this)
theorem V.callSU (C : Cx M cc own rm0) (hM : Ct M.l M.G y (ws_ y c1 n1 rt) rm (.ref b :: As) ws1 res post w')
    (hd : decode cc pc = .ok (.invokespecial idx, 3)) (hp : pc + 3 = pc') (w1 : Cond.methodLink own idx y ∈ lw_all) (w2 : Cond.sameMethod y.cls y.cls y.name y.desc ∈ lw_all) (w3 : Cond.superclass own y.cls ∈ lw_all) (w4 : Cond.instanceMethod y ∈ lw_all) (w5 : Cond.initialized y.cls ∈ lw_all) (w6 : Cond.code y c1 n1 rt ∈ lw_all)
    (hy : y.name ≠ "<init>" ∧ (parseMethodDescriptor y.desc).map (fun d => d.parameters.length) = some n) (hn : As.length = n) (hst : st = As.reverse ++ .ref b :: rest)
    (q0 : Nat) (hq : ws1[q0]? = some (b, .inr (ci, fs))) (hc : CL[ci]? = some r)
    (isC isR isP : List Nat) (hC : isC.map (fun i => ws[i]?) = ws1.map some) (hRs : isR.map (fun i => ws[i]?) = wr.map some) (hpl : PlOk isC isR isP = true) (ws2 : S → va_W) (h2 : ∀ u, isP.map (fun i => (wr ++ w' u)[i]?) = (ws2 u).map some) (hrm : RmOk rm rm0 n1 cells slots rest = true)
    (c2 s2 : Nat) (hc2 : cells + rm.cells = c2) (hs2 : slots + rm.slots = s2) (st2 : S → List Value) (hst2 : ∀ u, (res u).toList ++ rest = st2 u)
    (kk : ∀ u : S, post u → V M c2 s2 (ws2 u) lv (st2 u) pc') : V M cells slots ws lv st pc := by
  obtain ⟨p, l, e, R, s, m, args, below, meth, c, nL, A, G, Q⟩ := M
  obtain ⟨hx, hb, hml, hown, hts, hlk, hA, hK, hAA, hR⟩ := C
  obtain ⟨r1, r2, r3⟩ := RmOk.spec hrm
  subst hp
  subst hR
  intro H locs ls hP hD hS hl
  have hPc := wsub hP isC hC
  have hDc : va_D A ws1 := hD.sub isC (PlOk.spec hpl).1 hC
  have hFc := va_free (wc := ws1) hD hS hA isC hC
  refine V.callCore hA hP hD hS isC isR isP hC hRs hpl ws2 h2 (va_runSU (As := As) (rest := rest) (b := b) (hK.1.1 ci r hc).2 ⟨hx, hb, hml, hown, hts⟩ (hM H.size) (va_cwSU n hts (lw_app (by intro w hw; simp only [List.mem_cons, List.not_mem_nil, or_false] at hw; rcases hw with e | e | e | e | e <;> rw [e] <;> assumption) (lw_meth w6)) rfl rfl rfl hy r1) ⟨Ct.blind, va_recv hK.1 hPc hc hq, fun U hU hW => ⟨rfl, by rw [hU], by rw [hU]; exact hPc, hK.warm hW (by rw [hU]; exact fun q h1 h2 => hS.2.1 q h1 (fun z => h2 (hAA q z))), hDc.weaken (fun _ _ _ _ => trivial), fun q hq => hAA q (hFc q hq)⟩⟩ rfl hn hl.1 hst (lv_room r3) hd r2) (fun u H locs hu hP hD hS => by have := kk u hu H locs ls hP hD hS hl; rw [hst2 u, hc2, hs2]; exact this)
theorem V.acopy (C : Cx M cc own rm0) {a a0 n0 n2 : Nat} {f g : Nat → Int32} {ty : FieldType} (t L : Nat) (ws2 : va_W) (hd : decode cc pc = .ok (.invokestatic idx, 3)) (hp : pc + 3 = pc') (w1 : Cond.methodLink own idx arraycopyName ∈ lw_all) (w2 : Cond.native arraycopyName ∈ lw_all) (w3 : Cond.static arraycopyName ∈ lw_all) (w4 : Cond.initialized "java/lang/System" ∈ lw_all) (q0 q1 : Nat) (ha0 : ws[q0]? = some (a0, .inl (M.G.2 t, n0, .inl f))) (ha1 : ws[q1]? = some (a, .inl (M.G.2 t, n2, .inl g))) (ht : (TY M.G)[t]? = some (M.G.2 t, ty)) (hprim : refKind ty = false)
    (hL : L < 1000000) (hL0 : L ≤ n0) (hL1 : L ≤ n2) (hfit : ∀ i, i < L → fits ty (.int (f i)) = true) (hf : Nat.ble 1 rm0.frames = true) (hlo : Nat.ble ((st.map fun v => v.category).sum + 18) rm0.locals = true) (h2 : ws.set q1 (a, .inl (M.G.2 t, n2, .inl (va_cpy f g 0 0 L))) = ws2)
    (kk : V M cells slots ws2 lv st pc') : V M cells slots ws lv (.int (nI L) :: .int 0 :: .ref a :: .int 0 :: .ref a0 :: st) pc := by
  obtain ⟨p, l, e, R, s, m, args, below, meth, c, nL, A, G, Q⟩ := M
  obtain ⟨hx, hb, hml, hown, hts, hlk, hA, hK, hAA, hR⟩ := C
  subst hp
  subst hR
  intro H locs ls hP hD hS hl
  subst h2
  have e1 : (nI L).toNatClampNeg = L := nI_clamp (by omega)
  have e0 : (0 : Int32).toNatClampNeg = 0 := by decide
  refine va_copyi hx hb (hml.trans hl.1.symm) hown (hts _ w1) (hts _ w2) (hts _ w3) (hts _ w4) hK.1 hP hD hS q0 q1 t t ha0 ha1 ht ht hprim (by decide) (by decide) (nI_pos (by omega)) (by rw [e0, e1]; omega) (by rw [e0, e1]; omega) (by rw [e0, e1]; intro i hi; rw [Nat.zero_add]; exact hfit i hi) (Nat.le_of_ble_eq_true hf) (Nat.le_of_ble_eq_true hlo) hd (fun H locs hP hD hS => ?_)
  rw [e0, e1] at hP hD
  exact kk H locs ls hP hD hS hl
theorem V.newa (C : Cx M cc own rm0) {atype : ArrayType} {ty : FieldType} (t N : Nat) (hd : decode cc pc = .ok (.newarray atype, 2)) (hp : pc + 2 = pc') (hw : Cond.arrayClass (newarray.typeOf atype) ∈ lw_all) (hty : newarray.typeOf atype = ty) (ht : (TY M.G)[t]? = some (M.G.2 t, ty)) (hpr : va_RA M.s (M.G.2 t) ty → M.s.vm.findClass ("[" ++ ty.toString) = some (M.G.2 t)) (hdf : defaultValue ty = .int 0) (hN : N < 100000) (hby : componentBytes ty ≤ 8) (hcl : Nat.ble (cells + 1) rm0.cells = true) (hsl : Nat.ble (slots + N) rm0.slots = true)
    (kk : ∀ q : Nat, V M (cells + 1) (slots + N) (ws ++ [(q, .inl (M.G.2 t, N, .inl (fun _ => 0)))]) lv (.ref q :: st) pc') : V M cells slots ws lv (.int (nI N) :: st) pc := by
  obtain ⟨p, l, e, R, s, m, args, below, meth, c, nL, A, G, Q⟩ := M
  obtain ⟨hx, hb, hml, hown, hts, hlk, hA, hK, hAA, hR⟩ := C
  subst hp
  subst hR
  intro H locs ls hP hD hS hl
  subst hty
  have hfc : s.vm.findClass ("[" ++ (newarray.typeOf atype).toString) = some (G.2 t) := hpr (hK.1.2 t _ ht).2
  refine va_newaK hx hb (hts _ hw) rfl hd rfl (nI_pos (by omega)) (nI_clamp (by omega)) (Nat.le_trans (Nat.mul_le_mul (Nat.le_of_lt hN) hby) (by decide)) (Nat.le_of_ble_eq_true hcl) (Nat.le_of_ble_eq_true hsl) rfl fun H1 cA e1 z1 o1 hAr hNm => ?_
  have hcA : cA = G.2 t := Option.some.inj (hNm.symm.trans hfc)
  subst hcA
  have hk : ∀ (k : Nat) (x : Nat × va_E), ws[k]? = some x → H1[x.1]? = H[x.1]? := fun k x hx => o1 x.1 ((hP k x hx).lt)
  refine kk H.size H1 locs ls ((hP.kept hk).app (fun k x hx => ?_)) (hD.push hP rfl (hA _ hS.1)) ⟨Nat.le_trans hS.1 (by omega), fun x h1 h2 => (o1 x (Nat.lt_of_lt_of_le h1 hS.1)).trans (hS.2.1 x h1 h2), hS.2.2⟩ hl
  have hz : k < 1 := (List.getElem?_eq_some_iff.mp hx).1
  rw [show k = 0 by omega] at hx
  cases hx
  show H1[H.size]? = some (vp_cell _ _)
  rw [vp_cell_i, e1, hdf]
theorem V.mmax (C : Cx M cc own rm0) {x y : Int32} (hd : decode cc pc = .ok (.invokestatic idx, 3)) (hp : pc + 3 = pc') (w1 : Cond.methodLink own idx Lib.Math.max.name ∈ lw_all) (w2 : Cond.static Lib.Math.max.name ∈ lw_all) (w3 : Cond.initialized "java/lang/Math" ∈ lw_all) (w4 : Cond.code Lib.Math.max.name Lib.Math.max.code 2 (some .int) ∈ lw_all) (hf : Nat.ble 1 rm0.frames = true) (hlo : Nat.ble ((st.map fun v => v.category).sum + 13) rm0.locals = true) (hcl : Nat.ble cells rm0.cells = true) (hsl : Nat.ble slots rm0.slots = true)
    (kk : V M cells slots ws lv (.int (if x < y then y else x) :: st) pc') : V M cells slots ws lv (.int y :: .int x :: st) pc := by
  obtain ⟨p, l, e, R, s, m, args, below, meth, c, nL, A, G, Q⟩ := M
  obtain ⟨hx, hb, hml, hown, hts, hlk, hA, hK, hAA, hR⟩ := C
  subst hp
  subst hR
  intro H locs ls hP hD hS hl
  exact va_mmax hx hb (hml.trans hl.1.symm) hown (hts _ w1) (hts _ w2) (hts _ w3) (hts _ w4) (Nat.le_of_ble_eq_true hf) (Nat.le_of_ble_eq_true hlo) (Nat.le_of_ble_eq_true hcl) (Nat.le_of_ble_eq_true hsl) hd (kk H locs ls hP hD hS hl)
theorem V.mmin (C : Cx M cc own rm0) {x y : Int32} (hd : decode cc pc = .ok (.invokestatic idx, 3)) (hp : pc + 3 = pc') (w1 : Cond.methodLink own idx Lib.Math.min.name ∈ lw_all) (w2 : Cond.static Lib.Math.min.name ∈ lw_all) (w3 : Cond.initialized "java/lang/Math" ∈ lw_all) (w4 : Cond.code Lib.Math.min.name Lib.Math.min.code 2 (some .int) ∈ lw_all) (hf : Nat.ble 1 rm0.frames = true) (hlo : Nat.ble ((st.map fun v => v.category).sum + 13) rm0.locals = true) (hcl : Nat.ble cells rm0.cells = true) (hsl : Nat.ble slots rm0.slots = true)
    (kk : V M cells slots ws lv (.int (if y < x then y else x) :: st) pc') : V M cells slots ws lv (.int y :: .int x :: st) pc := by
  obtain ⟨p, l, e, R, s, m, args, below, meth, c, nL, A, G, Q⟩ := M
  obtain ⟨hx, hb, hml, hown, hts, hlk, hA, hK, hAA, hR⟩ := C
  subst hp
  subst hR
  intro H locs ls hP hD hS hl
  exact va_mmin hx hb (hml.trans hl.1.symm) hown (hts _ w1) (hts _ w2) (hts _ w3) (hts _ w4) (Nat.le_of_ble_eq_true hf) (Nat.le_of_ble_eq_true hlo) (Nat.le_of_ble_eq_true hcl) (Nat.le_of_ble_eq_true hsl) hd (kk H locs ls hP hD hS hl)
end VC2
