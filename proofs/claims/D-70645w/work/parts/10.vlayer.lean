/-! THE V LAYER: a walk's judgement over worlds; contracts; one rule an instruction -/
set_option maxRecDepth 100000
abbrev OG : Type := Nat × (Nat → Nat) × (Nat → Nat) × (Nat → Value)
abbrev GG : Type := (va_G × OG) × (Nat → ClassId)
def TZ : u_T := fun _ => ("", "", "", false)
abbrev CL : List vw_C := [(RX0, TX0, 24), (RX1, TZ, 0), (RX2, TZ, 0), (RX3, TZ, 0), (RX4, TZ, 0), (RX5, TX5, 8), (RX6, TX6, 1), (RX7, TX7, 32), (RX8, TX8, 9), (RX9, TX9, 8)]
abbrev TY (G : GG) : List (ClassId × FieldType) := [(G.2 0, .int), (G.2 1, .byte), (G.2 2, .short), (G.2 3, .boolean), (G.2 4, .object "ClockWard$Plain"), (G.2 5, .object "ClockWard$Ward"), (G.2 6, .object "ClockWard$Sheet")]
/-- the words that do not ride in lw_all but stay true in warmer tables -/
def nst : Cond → Bool
  | .fieldLinkNest .. => true
  | .methodLinkNest .. => true
  | .castable .. => true
  | .declares .. => true
  | .arrayOver (.object _) => true
  | _ => false
theorem nst_call {w : Cond} (hw : nst w = true) {u U : State} (h : u.vm = U.vm) (hZ : va_Nw w u) : va_Nw w U := by
  cases w with
  | fieldLinkNest a i b n d hh => exact va_Nw.same rfl h hZ
  | methodLinkNest a i x hh => exact va_Nw.same rfl h hZ
  | castable a b => exact va_Nw.same rfl h hZ
  | declares x => exact va_Nw.same rfl h hZ
  | arrayOver ty =>
    cases ty with
    | object C => exact va_AO.moved (by rw [h]; exact Vm.Alike.refl _) hZ
    | _ => cases hw
  | _ => cases hw
theorem nst_warm {w : Cond} (hw : nst w = true) {s U : State} (h : s.WarmedH U.vm) (hZ : va_Nw w s) : va_Nw w U := by
  cases w with
  | fieldLinkNest a i b n d hh => exact va_Nw.warmF h hZ
  | methodLinkNest a i x hh => exact va_Nw.warmM h hZ
  | castable a b => exact va_Nw.warmC h hZ
  | declares x => exact va_Nw.warmD h hZ
  | arrayOver ty =>
    cases ty with
    | object C => exact va_AO.moved h.alike hZ
    | _ => cases hw
  | _ => cases hw
/-- pairs of classes of which the first is not assignable to the second -/
abbrev ncs : List (String × String) := [("[B", "[S"), ("[B", "[I"), ("[S", "[B"), ("[S", "[I"), ("[I", "[B"), ("[I", "[S"), ("java/lang/ArrayIndexOutOfBoundsException", "java/lang/NullPointerException"), ("java/lang/ArrayIndexOutOfBoundsException", "java/lang/ClassCastException"), ("java/lang/ClassCastException", "java/lang/NullPointerException")]
/-- what was there before the law began, and stays: String constants, statics; all cells of the worlds lie from o.1 on -/
def A0 (o : OG) : Nat → Prop := fun q => o.1 ≤ q
abbrev SL : List Nat := [5, 6, 5, 4, 4, 5]
abbrev SB : List (List Int32) := [[112, 108, 97, 105, 110], [99, 117, 99, 107, 111, 111], [116, 111, 119, 101, 114], [98, 97, 99, 107], [103, 105, 102, 116], [102, 108, 111, 111, 114]]
abbrev SI : List Nat := [47, 49, 51, 53, 55, 57]
abbrev ST : List String := ["plain", "cuckoo", "tower", "back", "gift", "floor"]
abbrev steDs : String := "[Ljava/lang/StackTraceElement;"
abbrev listDs : String := "Ljava/util/List;"
abbrev fmtDs : String := "Ljava/util/function/BiFunction;"
/-- a static field as its class lays it -/
def va_LS (C n d : String) (A : Nat → Prop) (U : State) (H : Heap) : Prop := ∃ (c : ClassId) (k : Class) (i : Nat) (f : Field) (a : Nat) (cell : Cell), U.vm.findClass C = some c ∧ U.fieldFound? C n d = some (c, k, i, f) ∧ f.isStatic = true ∧ k.statics = some a ∧ H[a]? = some cell ∧ cell.vm.isStatics = true ∧ cell.cls = c ∧ f.slot < cell.slots.size ∧ k.staticTypes[f.slot]? = some f.type ∧ ¬ A a
theorem va_LS.moved {C n d : String} {A : Nat → Prop} {u U : State} {H : Heap} (hvm : u.vm.Alike U.vm) (h : va_LS C n d A u H) : va_LS C n d A U H := by
  obtain ⟨c, k, i, f, a, cell, h0, h1, h2, h3, h4, h5, h6, h7, h8, h9⟩ := h
  obtain ⟨k', hi', he⟩ := State.fieldFound?_setVm hvm h1
  exact ⟨c, k', i, f, a, cell, by rw [hvm.findClass]; exact h0, hi', h2, by rw [he]; exact h3, h4, h5, h6, h7, by rw [he]; exact h8, h9⟩
theorem va_LS.kept {C n d : String} {A : Nat → Prop} {U : State} {H H1 : Heap} (h : va_LS C n d A U H) (hq : ∀ a : Nat, a < H.size → ¬ A a → H1[a]? = H[a]?) : va_LS C n d A U H1 := by
  obtain ⟨c, k, i, f, a, cell, h0, h1, h2, h3, h4, h5, h6, h7, h8, h9⟩ := h
  exact ⟨c, k, i, f, a, cell, h0, h1, h2, h3, by rw [hq a (Array.getElem?_eq_some_iff.mp h4).1 h9]; exact h4, h5, h6, h7, h8, h9⟩
theorem va_LS.of {C n d : String} {A : Nat → Prop} {s : State} {args : Array Value} (h : (Cond.laysStatic C n d).before args s = true) (hA : ∀ a : Nat, a < s.heap.size → ¬ A a) : va_LS C n d A s s.heap := by
  obtain ⟨c, k, i, f, a, cell, h0, h1, h2, h3, h4, h5, h6, h7, h8⟩ := Cond.laysStatic_spec h
  exact ⟨c, k, i, f, a, cell, h0, h1, h2, h3, h4, h5, h6, h7, h8, hA a (Array.getElem?_eq_some_iff.mp h4).1⟩
theorem va_LS.use {C n d : String} {A : Nat → Prop} {s : State} {args : Array Value} (h : va_LS C n d A s s.heap) : (Cond.laysStatic C n d).before args s = true := by
  obtain ⟨c, k, i, f, a, cell, h0, h1, h2, h3, h4, h5, h6, h7, h8, -⟩ := h
  exact Cond.laysStatic_of h0 h1 h2 h3 h4 h5 h6 h7 h8
def OldF (o : OG) (U : State) (H : Heap) : Prop := vk_S 6 SL SB o.2.1 o.2.2.1 (A0 o) U H ∧ (∀ k, k < 6 → vk_R "ClockWard$Reader" (SI.getD k 0) (ST.getD k "") (o.2.1 k) U) ∧ va_Z "java/lang/String" "COMPACT_STRINGS" "Z" (.int 1) (A0 o) U H ∧ va_Z "java/lang/Throwable" "UNASSIGNED_STACK" steDs (o.2.2.2 0) (A0 o) U H ∧ va_Z "java/lang/Throwable" "SUPPRESSED_SENTINEL" listDs (o.2.2.2 1) (A0 o) U H ∧ va_Z "jdk/internal/util/Preconditions" "SIOOBE_FORMATTER" fmtDs (o.2.2.2 2) (A0 o) U H ∧ (∀ k, k < 3 → (o.2.2.2 k).isRef = true) ∧ modulesRight_1 U = true ∧ va_LS "java/lang/Throwable" "UNASSIGNED_STACK" steDs (A0 o) U H ∧ va_LS "java/lang/Throwable" "SUPPRESSED_SENTINEL" listDs (A0 o) U H
theorem OldF.same {o : OG} {u U : State} {H : Heap} (h : u.vm = U.vm) (k : OldF o u H) : OldF o U H := by
  have ha : u.vm.Alike U.vm := by rw [h]; exact Vm.Alike.refl _
  obtain ⟨k1, k2, k3, k4, k5, k6, k7, k8, k9, k10⟩ := k
  exact ⟨k1.moved ha, fun q hq => vk_R.same h.symm (k2 q hq), k3.moved ha, k4.moved ha, k5.moved ha, k6.moved ha, k7, by unfold modulesRight_1 at k8 ⊢; rw [← h]; exact k8, k9.moved ha, k10.moved ha⟩
theorem OldF.warm {o : OG} {s U : State} {H : Heap} (h : s.WarmedH U.vm) (k : OldF o s H) : OldF o U H := by
  have ha : s.vm.Alike U.vm := h.alike
  obtain ⟨k1, k2, k3, k4, k5, k6, k7, k8, k9, k10⟩ := k
  refine ⟨k1.moved ha, fun q hq => vk_R.warm h (k2 q hq), k3.moved ha, k4.moved ha, k5.moved ha, k6.moved ha, k7, ?_, k9.moved ha, k10.moved ha⟩
  have e : U.vm.modules = s.vm.modules := by rw [ha.1]
  unfold modulesRight_1 at k8 ⊢
  rw [e]
  exact k8
theorem OldF.kept {o : OG} {U : State} {H H1 : Heap} (hq : ∀ a : Nat, a < H.size → ¬ A0 o a → H1[a]? = H[a]?) (k : OldF o U H) : OldF o U H1 := by
  obtain ⟨k1, k2, k3, k4, k5, k6, k7, k8, k9, k10⟩ := k
  exact ⟨k1.kept hq, k2, k3.kept hq, k4.kept hq, k5.kept hq, k6.kept hq, k7, k8, k9.kept hq, k10.kept hq⟩
def K0 (G : GG) (U : State) : Prop := va_K G.1.1 CL (TY G) U ∧ (∀ w ∈ lw_tbl, nst w = true → va_Nw w U) ∧ (∀ q ∈ ncs, va_Nc q.1 q.2 U) ∧ OldF G.1.2 U U.heap
theorem K0.call {G : GG} {u U : State} (h : u.vm = U.vm) (hh : u.heap = U.heap) (k : K0 G u) : K0 G U :=
  ⟨va_K.moved (by rw [h]; exact Vm.Alike.refl _) k.1, fun w h1 h2 => nst_call h2 h (k.2.1 w h1 h2), fun q hq => va_Nc.moved (by rw [h]; exact Vm.Alike.refl _) (k.2.2.1 q hq), by rw [← hh]; exact k.2.2.2.same h⟩
theorem K0.warm {G : GG} {s U : State} (h : s.WarmedH U.vm) (hq : ∀ a : Nat, a < s.heap.size → ¬ A0 G.1.2 a → U.heap[a]? = s.heap[a]?) (k : K0 G s) : K0 G U :=
  ⟨va_K.moved h.alike k.1, fun w h1 h2 => nst_warm h2 h (k.2.1 w h1 h2), fun q hq => va_Nc.moved h.alike (k.2.2.1 q hq), (k.2.2.2.kept hq).warm h⟩
/-- the machine of a walk -/
abbrev MC : Type := Program × Launch × Env × Room × State × MethodId × Array Value × List Frame × Method × Code × Nat × (Nat → Prop) × GG × (State → Prop)
abbrev MC.l (M : MC) : Launch := M.2.1
abbrev MC.G (M : MC) : GG := M.2.2.2.2.2.2.2.2.2.2.2.2.1
abbrev MC.nL (M : MC) : Nat := M.2.2.2.2.2.2.2.2.2.2.1
abbrev MC.s (M : MC) : State := M.2.2.2.2.1
abbrev MC.args (M : MC) : Array Value := M.2.2.2.2.2.2.1
def V (M : MC) (cells slots : Nat) (ws : va_W) (lv : List (Nat × Value)) (st : List Value) (pc : Nat) : Prop :=
  match M with
  | (p, l, e, R, s, m, args, below, meth, c, nL, A, G, Q) =>
    ∀ (H : Heap) (locs : List Loc) (ls : Array Slot), va_P G.1.1 CL ws H → va_D A ws → va_S A s.heap H locs → lv_has ls nL lv → W p l e R s m args below meth c H locs cells slots Q (F0 m pc ls st)
def Cx (M : MC) (cc : ByteArray) (own : String) (rm : Room) : Prop :=
  match M with
  | (p, l, e, R, s, m, args, below, meth, c, nL, A, G, Q) =>
    p.tables.exec = Jvm.exec ∧ c.code = cc ∧ c.maxLocals = nL ∧ s.vm.findClass own = some m.cls ∧ (∀ w ∈ lw_all, w.before args s = true) ∧ meth.locks = false ∧ (∀ q : Nat, s.heap.size ≤ q → A q) ∧ K0 G s ∧ (∀ q : Nat, A q → A0 G.1.2 q) ∧ R = rm
/-- the end of a contract -/
def QV {S : Type} (res : S → Option Value) (post : S → Prop) (B : S → State → Prop) (A : Nat → Prop) : Array Value → State → Outcome → State → Prop := fun _ st oc t => (∃ u : S, oc = .returned (res u) ∧ post u ∧ B u t) ∧ va_F A st t
/-- a contract: from any heap that holds ws, method y returns res u with the world w' u, and post u -/
def Ct (l : Launch) (G : GG) (y : MethodName) (cw : List Cond) (rm : Room) (av : List Value) (ws : va_W) {S : Type} (res : S → Option Value) (post : S → Prop) (w' : S → va_W) : Prop :=
  ∀ sz : Nat, Met l y cw rm (va_Pc av (fun U => U.heap.size = sz ∧ va_P G.1.1 CL ws U.heap ∧ K0 G U ∧ va_D (fun _ => True) ws ∧ (∀ q : Nat, va_A ws sz q → A0 G.1.2 q))) (QV res post (fun u t => va_P G.1.1 CL (w' u) t.heap ∧ va_D (va_A ws sz) (w' u)) (va_A ws sz)) rm.cells rm.slots (va_A ws sz)
/-- what a return must show -/
def Rt (M : MC) (rt : Option FieldType) {S : Type} (res : S → Option Value) (post : S → Prop) (w' : S → va_W) : Prop :=
  match M with
  | (p, l, e, R, s, m, args, below, meth, c, nL, A, G, Q) =>
    ∃ Qc : Array Value → State → Outcome → State → Prop, Q = MQ below Qc args s R.cells R.slots A ∧ meth.sig.returnType = rt ∧
      ∀ (u : S) (H : Heap) (locs : List Loc), post u → va_P G.1.1 CL (w' u) H → va_D A (w' u) → va_S A s.heap H locs → ∀ t : State, t.heap = H → Qc args s (.returned (res u)) t
theorem Ct.of {l : Launch} {G : GG} {y : MethodName} {cc : ByteArray} {nL : Nat} {rt : Option FieldType} {rm : Room} {av : List Value} {ws : va_W} {S : Type} {res : S → Option Value} {post : S → Prop} {w' : S → va_W}
    (hy : plainName y.cls = true) (hav : Nat.ble (lg_sl av).length nL = true)
    (h : ∀ M : MC, M.l = l → M.G = G → M.nL = nL → Cx M cc y.cls rm → Rt M rt res post w' → V M 0 0 ws (lv_args 0 av) [] 0) : Ct l G y (ws_ y cc nL rt) rm av ws res post w' := by
  intro sz
  refine Met.ofW (cc := cc) (maxL := nL) (ret := rt) hy rfl ?_
  intro p e s m args below meth c s₁ B hml hv
  obtain ⟨rfl, hsz, hP, hK, hD0, hAA⟩ := hv
  subst hsz
  have hts := atoms_spec (ws := ws_ y cc nL rt) B.pre
  have hts : ∀ w ∈ lw_all, w.before _ s = true := fun w h => hts w (List.mem_cons_of_mem _ h)
  have hD := hD0.self (sz := s.heap.size)
  have hA : ∀ q : Nat, s.heap.size ≤ q → va_A ws s.heap.size q := fun q h => Or.inr h
  have hl := lv_entry av (n := nL) (Nat.le_of_ble_eq_true hav)
  rw [lg_entry_eq]
  exact h (p, l, e, rm, s, m, av.toArray, below, meth, c, nL, va_A ws s.heap.size, G, _) rfl rfl rfl
    ⟨B.exec, B.bytes, hml, findClass_of_methodNamed B.named, hts, B.notSynchronized, hA, hK, hAA, rfl⟩
    ⟨_, rfl, B.returns, fun u H locs hp hP' hD' hS t ht => ⟨⟨u, rfl, hp, by rw [ht]; exact hP', hD'⟩, hS.F ht⟩⟩
    s.heap [] _ hP hD va_S.rf hl
/-- a boolean as the machine has it -/
def bI (c : Prop) [Decidable c] : Int32 := if c then 1 else 0
theorem bI_0 {c : Prop} {h : Decidable c} (e : bI c = 0) : ¬ c := by
  intro hc
  rw [bI, if_pos hc] at e
  exact absurd e (by decide)
theorem bI_1 {c : Prop} {h : Decidable c} (e : ¬ bI c = 0) : c := by
  by_cases hc : c
  · exact hc
  · rw [bI, if_neg hc] at e
    exact absurd rfl e
theorem bI_t {c : Prop} {h : Decidable c} (hc : c) : bI c = 1 := if_pos hc
theorem bI_f {c : Prop} {h : Decidable c} (hc : ¬ c) : bI c = 0 := if_neg hc
theorem bI_nar {c : Prop} {h : Decidable c} : narrow .boolean (.int (bI c)) = .int (bI c) := by
  by_cases hc : c
  · rw [bI_t hc]; rfl
  · rw [bI_f hc]; rfl
theorem arrV_congr (cI : ClassId) (N : Nat) {f g : Nat → Value} (h : ∀ j, j < N → f j = g j) : arrV cI N f = arrV cI N g := by
  unfold arrV
  congr 1
  apply Array.ext
  · simp
  · intro i h1 h2
    simp only [Array.getElem_ofFn]
    exact h i (by simpa using h1)
theorem bI_fit {c : Prop} {h : Decidable c} : fits .boolean (.int (bI c)) = true := by
  by_cases hc : c
  · rw [bI_t hc]; rfl
  · rw [bI_f hc]; rfl
theorem ii_N (a k : Nat) {n : Int} (h : Int32.ofInt n = nI k) : nI a + Int32.ofInt n = nI (a + k) := by rw [h, nI_add]
/-- a counted loop: from c on to N -/
theorem loopN (P : Nat → Prop) (N : Nat) (hs : ∀ c, c ≤ N → (c < N → P (c + 1)) → P c) : ∀ c, c ≤ N → P c := by
  have h : ∀ n c, c + n = N → P c := by
    intro n
    induction n with
    | zero => intro c hc; exact hs c (by omega) (fun z => absurd z (by omega))
    | succ n ih => intro c hc; exact hs c (by omega) (fun _ => ih (c + 1) (by omega))
  intro c hc
  exact h (N - c) c (by omega)
theorem it_10 {c : Prop} {h : Decidable c} : (if c then (1 : Int32) else 0) = bI c := rfl
theorem it_01 {c : Prop} {h : Decidable c} : (if c then (0 : Int32) else 1) = bI (¬ c) := by
  by_cases x : c <;> simp [bI, x]
theorem it_1 {c p : Prop} {h : Decidable c} {h2 : Decidable p} {t : Int32} (e : t = bI p) : (if c then (1 : Int32) else t) = bI (c ∨ p) := by
  subst e
  by_cases x : c <;> by_cases y : p <;> simp [bI, x, y]
theorem it_0 {c p : Prop} {h : Decidable c} {h2 : Decidable p} {t : Int32} (e : t = bI p) : (if c then (0 : Int32) else t) = bI (¬ c ∧ p) := by
  subst e
  by_cases x : c <;> by_cases y : p <;> simp [bI, x, y]
theorem it_a {c p : Prop} {h : Decidable c} {h2 : Decidable p} {t : Int32} (e : t = bI p) : (if c then t else (0 : Int32)) = bI (c ∧ p) := by
  subst e
  by_cases x : c <;> by_cases y : p <;> simp [bI, x, y]
theorem it_o {c p : Prop} {h : Decidable c} {h2 : Decidable p} {t : Int32} (e : t = bI p) : (if c then t else (1 : Int32)) = bI (¬ c ∨ p) := by
  subst e
  by_cases x : c <;> by_cases y : p <;> simp [bI, x, y]
theorem it_pq {c p q : Prop} {h : Decidable c} {h2 : Decidable p} {h3 : Decidable q} {t u : Int32} (e : t = bI p) (e2 : u = bI q) : (if c then t else u) = bI ((c ∧ p) ∨ (¬ c ∧ q)) := by
  subst e
  subst e2
  by_cases x : c <;> by_cases y : p <;> by_cases z : q <;> simp [bI, x, y, z]
theorem bI_iff {a b : Prop} {ha : Decidable a} {hb : Decidable b} (h : a ↔ b) : bI a = bI b := by
  by_cases x : a
  · rw [bI_t x, bI_t (h.mp x)]
  · rw [bI_f x, bI_f (fun y => x (h.mpr y))]
section VR
variable {M : MC} {cc : ByteArray} {own : String} {rm : Room} {cells slots : Nat} {ws : va_W} {lv : List (Nat × Value)} {st : List Value} {pc pc' : Nat}
/-- fewer cells, another order -/
theorem V.sub (is : List Nat) {ws2 : va_W} (hnd : va_nd is = true) (h : is.map (fun i => ws[i]?) = ws2.map some) (k : V M cells slots ws2 lv st pc) : V M cells slots ws lv st pc := by
  obtain ⟨p, l, e, R, s, m, args, below, meth, c, nL, A, G, Q⟩ := M
  intro H locs ls hP hD hS hl
  refine k H locs ls ?_ (hD.sub is hnd h) hS hl
  intro j q hq
  have h1 : (is.map (fun i => ws[i]?))[j]? = some (some q) := by rw [h, List.getElem?_map, hq]; rfl
  rw [List.getElem?_map] at h1
  cases hi : is[j]? with
  | none => rw [hi] at h1; cases h1
  | some i => rw [hi] at h1; exact hP i q (Option.some.inj h1)
theorem V.weq {ws2 : va_W} (h : ws = ws2) (k : V M cells slots ws2 lv st pc) : V M cells slots ws lv st pc := h ▸ k
theorem V.steq {st2 : List Value} (h : st = st2) (k : V M cells slots ws lv st2 pc) : V M cells slots ws lv st pc := h ▸ k
theorem V.lvs (ks : List Nat) {lv2 : List (Nat × Value)} (h : lv_pick lv ks = lv2) (k : V M cells slots ws lv2 st pc) : V M cells slots ws lv st pc := by
  obtain ⟨p, l, e, R, s, m, args, below, meth, c, nL, A, G, Q⟩ := M
  intro H locs ls hP hD hS hl
  exact k H locs ls hP hD hS (lv_sub hl ks h)
/-- an array's contents, told otherwise within its length -/
theorem V.arr (q0 : Nat) {a : Nat} {cA : ClassId} {n : Nat} {f : Nat → Int32} (f2 : Nat → Int32) {ws2 : va_W} (ha : ws[q0]? = some (a, .inl (cA, n, .inl f))) (hf : ∀ j, j < n → f j = f2 j) (h2 : ws.set q0 (a, .inl (cA, n, .inl f2)) = ws2) (k : V M cells slots ws2 lv st pc) : V M cells slots ws lv st pc := by
  obtain ⟨p, l, e, R, s, m, args, below, meth, c, nL, A, G, Q⟩ := M
  subst h2
  intro H locs ls hP hD hS hl
  refine k H locs ls (hP.set hD ha ?_ (fun q _ => rfl)) (hD.set ha) hS hl
  have h1 := hP q0 _ ha
  show H[a]? = some (vp_cell cA (n, .inl f2))
  have h2 : H[a]? = some (vp_cell cA (n, .inl f)) := h1
  rw [h2, vp_cell_i, vp_cell_i]
  congr 1
  exact arrV_congr cA n (fun j hj => by rw [hf j hj])
theorem V.widen {k n : Nat} (h1 : Nat.ble cells k = true) (h2 : Nat.ble slots n = true) (kk : V M k n ws lv st pc) : V M cells slots ws lv st pc := by
  obtain ⟨p, l, e, R, s, m, args, below, meth, c, nL, A, G, Q⟩ := M
  intro H locs ls hP hD hS hl
  exact W.widen (Nat.le_of_ble_eq_true h1) (Nat.le_of_ble_eq_true h2) (kk H locs ls hP hD hS hl)
theorem V.topI {x y : Int32} (h : x = y) (k : V M cells slots ws lv (.int y :: st) pc) : V M cells slots ws lv (.int x :: st) pc := h ▸ k
theorem V.topN {a b : Nat} (h : a = b) (k : V M cells slots ws lv (.int (nI b) :: st) pc) : V M cells slots ws lv (.int (nI a) :: st) pc := h ▸ k
theorem V.topL {x y : Int64} (h : x = y) (k : V M cells slots ws lv (.long y :: st) pc) : V M cells slots ws lv (.long x :: st) pc := h ▸ k
theorem V.nameI {x : Int32} (k : ∀ y : Int32, y = x → V M cells slots ws lv (.int y :: st) pc) : V M cells slots ws lv (.int x :: st) pc := k x rfl
theorem V.nameL {x : Int64} (k : ∀ y : Int64, y = x → V M cells slots ws lv (.long y :: st) pc) : V M cells slots ws lv (.long x :: st) pc := k x rfl
theorem V.iconst (C : Cx M cc own rm) {n : Int} {v : Int32} (hd : decode cc pc = .ok (.iconst n, 1)) (hp : pc + 1 = pc') (hv : Int32.ofInt n = v) (k : V M cells slots ws lv (.int v :: st) pc') : V M cells slots ws lv (st) pc := by
  obtain ⟨p, l, e, R, s, m, args, below, meth, c, nL, A, G, Q⟩ := M
  obtain ⟨hx, hb, hml, hown, hts, hlk, hA, hK, hAA, hR⟩ := C
  subst hp
  intro H locs ls hP hD hS hl
  exact lv_iconst hx hb hd hv (k H locs ls hP hD hS hl)
theorem V.bipush (C : Cx M cc own rm) {n : Int} {v : Int32} (hd : decode cc pc = .ok (.bipush n, 2)) (hp : pc + 2 = pc') (hv : (Int8.ofInt n).toInt32 = v) (k : V M cells slots ws lv (.int v :: st) pc') : V M cells slots ws lv (st) pc := by
  obtain ⟨p, l, e, R, s, m, args, below, meth, c, nL, A, G, Q⟩ := M
  obtain ⟨hx, hb, hml, hown, hts, hlk, hA, hK, hAA, hR⟩ := C
  subst hp
  intro H locs ls hP hD hS hl
  exact lv_bipush hx hb hd hv (k H locs ls hP hD hS hl)
theorem V.sipush (C : Cx M cc own rm) {n : Int} {v : Int32} (hd : decode cc pc = .ok (.sipush n, 3)) (hp : pc + 3 = pc') (hv : (Int16.ofInt n).toInt32 = v) (k : V M cells slots ws lv (.int v :: st) pc') : V M cells slots ws lv (st) pc := by
  obtain ⟨p, l, e, R, s, m, args, below, meth, c, nL, A, G, Q⟩ := M
  obtain ⟨hx, hb, hml, hown, hts, hlk, hA, hK, hAA, hR⟩ := C
  subst hp
  intro H locs ls hP hD hS hl
  exact lv_sipush hx hb hd hv (k H locs ls hP hD hS hl)
theorem V.lconst (C : Cx M cc own rm) {n : Fin 2} {v : Int64} (hd : decode cc pc = .ok (.lconst n, 1)) (hp : pc + 1 = pc') (hv : Int64.ofNat (n : Nat) = v) (k : V M cells slots ws lv (.long v :: st) pc') : V M cells slots ws lv (st) pc := by
  obtain ⟨p, l, e, R, s, m, args, below, meth, c, nL, A, G, Q⟩ := M
  obtain ⟨hx, hb, hml, hown, hts, hlk, hA, hK, hAA, hR⟩ := C
  subst hp
  intro H locs ls hP hD hS hl
  exact lv_lconst hx hb hd hv (k H locs ls hP hD hS hl)
theorem V.null (C : Cx M cc own rm)  (hd : decode cc pc = .ok (.aconst_null, 1)) (hp : pc + 1 = pc') (k : V M cells slots ws lv (.null :: st) pc') : V M cells slots ws lv (st) pc := by
  obtain ⟨p, l, e, R, s, m, args, below, meth, c, nL, A, G, Q⟩ := M
  obtain ⟨hx, hb, hml, hown, hts, hlk, hA, hK, hAA, hR⟩ := C
  subst hp
  intro H locs ls hP hD hS hl
  exact lv_null hx hb hd (k H locs ls hP hD hS hl)
theorem V.ldc (C : Cx M cc own rm) {index : Nat} {v : Int32} (hd : decode cc pc = .ok (.ldc index, 2)) (hp : pc + 2 = pc') (hw : Cond.constant own index v ∈ lw_all) (k : V M cells slots ws lv (.int v :: st) pc') : V M cells slots ws lv (st) pc := by
  obtain ⟨p, l, e, R, s, m, args, below, meth, c, nL, A, G, Q⟩ := M
  obtain ⟨hx, hb, hml, hown, hts, hlk, hA, hK, hAA, hR⟩ := C
  subst hp
  intro H locs ls hP hD hS hl
  exact lv_ldc hx hb hown (hts _ hw) hd (k H locs ls hP hD hS hl)
theorem V.ldcw (C : Cx M cc own rm) {index : Nat} {v : Int32} (hd : decode cc pc = .ok (.ldc_w index, 3)) (hp : pc + 3 = pc') (hw : Cond.constant own index v ∈ lw_all) (k : V M cells slots ws lv (.int v :: st) pc') : V M cells slots ws lv (st) pc := by
  obtain ⟨p, l, e, R, s, m, args, below, meth, c, nL, A, G, Q⟩ := M
  obtain ⟨hx, hb, hml, hown, hts, hlk, hA, hK, hAA, hR⟩ := C
  subst hp
  intro H locs ls hP hD hS hl
  exact lv_ldcw hx hb hown (hts _ hw) hd (k H locs ls hP hD hS hl)
theorem V.ldc2 (C : Cx M cc own rm) {index : Nat} {v : Int64} (hd : decode cc pc = .ok (.ldc2_w index, 3)) (hp : pc + 3 = pc') (hw : Cond.constantLong own index v ∈ lw_all) (k : V M cells slots ws lv (.long v :: st) pc') : V M cells slots ws lv (st) pc := by
  obtain ⟨p, l, e, R, s, m, args, below, meth, c, nL, A, G, Q⟩ := M
  obtain ⟨hx, hb, hml, hown, hts, hlk, hA, hK, hAA, hR⟩ := C
  subst hp
  intro H locs ls hP hD hS hl
  exact lv_ldc2 hx hb hown (hts _ hw) hd (k H locs ls hP hD hS hl)
theorem V.iload_n (C : Cx M cc own rm) {i : Fin 4} {x : Int32} (q : Nat) (hd : decode cc pc = .ok (.iload_n i, 1)) (hp : pc + 1 = pc') (hq : lv[q]? = some ((i : Nat), .int x)) (k : V M cells slots ws lv (.int x :: st) pc') : V M cells slots ws lv (st) pc := by
  obtain ⟨p, l, e, R, s, m, args, below, meth, c, nL, A, G, Q⟩ := M
  obtain ⟨hx, hb, hml, hown, hts, hlk, hA, hK, hAA, hR⟩ := C
  subst hp
  intro H locs ls hP hD hS hl
  exact lv_iload_n hx hb hd rfl (lv_at hl q hq) (k H locs ls hP hD hS hl)
theorem V.iload (C : Cx M cc own rm) {i : Nat} {x : Int32} (q : Nat) (hd : decode cc pc = .ok (.iload i, 2)) (hp : pc + 2 = pc') (hq : lv[q]? = some (i, .int x)) (k : V M cells slots ws lv (.int x :: st) pc') : V M cells slots ws lv (st) pc := by
  obtain ⟨p, l, e, R, s, m, args, below, meth, c, nL, A, G, Q⟩ := M
  obtain ⟨hx, hb, hml, hown, hts, hlk, hA, hK, hAA, hR⟩ := C
  subst hp
  intro H locs ls hP hD hS hl
  exact lv_iload hx hb hd (lv_at hl q hq) (k H locs ls hP hD hS hl)
theorem V.lload_n (C : Cx M cc own rm) {i : Fin 4} {x : Int64} (q : Nat) (hd : decode cc pc = .ok (.lload_n i, 1)) (hp : pc + 1 = pc') (hq : lv[q]? = some ((i : Nat), .long x)) (k : V M cells slots ws lv (.long x :: st) pc') : V M cells slots ws lv (st) pc := by
  obtain ⟨p, l, e, R, s, m, args, below, meth, c, nL, A, G, Q⟩ := M
  obtain ⟨hx, hb, hml, hown, hts, hlk, hA, hK, hAA, hR⟩ := C
  subst hp
  intro H locs ls hP hD hS hl
  exact lv_lload_n hx hb hd rfl (lv_at hl q hq) (k H locs ls hP hD hS hl)
theorem V.lload (C : Cx M cc own rm) {i : Nat} {x : Int64} (q : Nat) (hd : decode cc pc = .ok (.lload i, 2)) (hp : pc + 2 = pc') (hq : lv[q]? = some (i, .long x)) (k : V M cells slots ws lv (.long x :: st) pc') : V M cells slots ws lv (st) pc := by
  obtain ⟨p, l, e, R, s, m, args, below, meth, c, nL, A, G, Q⟩ := M
  obtain ⟨hx, hb, hml, hown, hts, hlk, hA, hK, hAA, hR⟩ := C
  subst hp
  intro H locs ls hP hD hS hl
  exact lv_lload hx hb hd (lv_at hl q hq) (k H locs ls hP hD hS hl)
theorem V.aload_n (C : Cx M cc own rm) {i : Fin 4} {x : Nat} (q : Nat) (hd : decode cc pc = .ok (.aload_n i, 1)) (hp : pc + 1 = pc') (hq : lv[q]? = some ((i : Nat), .ref x)) (k : V M cells slots ws lv (.ref x :: st) pc') : V M cells slots ws lv (st) pc := by
  obtain ⟨p, l, e, R, s, m, args, below, meth, c, nL, A, G, Q⟩ := M
  obtain ⟨hx, hb, hml, hown, hts, hlk, hA, hK, hAA, hR⟩ := C
  subst hp
  intro H locs ls hP hD hS hl
  exact lv_aload_n hx hb hd rfl (lv_at hl q hq) (k H locs ls hP hD hS hl)
theorem V.aload (C : Cx M cc own rm) {i : Nat} {x : Nat} (q : Nat) (hd : decode cc pc = .ok (.aload i, 2)) (hp : pc + 2 = pc') (hq : lv[q]? = some (i, .ref x)) (k : V M cells slots ws lv (.ref x :: st) pc') : V M cells slots ws lv (st) pc := by
  obtain ⟨p, l, e, R, s, m, args, below, meth, c, nL, A, G, Q⟩ := M
  obtain ⟨hx, hb, hml, hown, hts, hlk, hA, hK, hAA, hR⟩ := C
  subst hp
  intro H locs ls hP hD hS hl
  exact lv_aload hx hb hd (lv_at hl q hq) (k H locs ls hP hD hS hl)
theorem V.aload_nN (C : Cx M cc own rm) {i : Fin 4} (q : Nat) (hd : decode cc pc = .ok (.aload_n i, 1)) (hp : pc + 1 = pc') (hq : lv[q]? = some ((i : Nat), .null)) (k : V M cells slots ws lv (.null :: st) pc') : V M cells slots ws lv (st) pc := by
  obtain ⟨p, l, e, R, s, m, args, below, meth, c, nL, A, G, Q⟩ := M
  obtain ⟨hx, hb, hml, hown, hts, hlk, hA, hK, hAA, hR⟩ := C
  subst hp
  intro H locs ls hP hD hS hl
  exact lv_aload_nN hx hb hd rfl (lv_at hl q hq) (k H locs ls hP hD hS hl)
theorem V.aloadN (C : Cx M cc own rm) {i : Nat} (q : Nat) (hd : decode cc pc = .ok (.aload i, 2)) (hp : pc + 2 = pc') (hq : lv[q]? = some (i, .null)) (k : V M cells slots ws lv (.null :: st) pc') : V M cells slots ws lv (st) pc := by
  obtain ⟨p, l, e, R, s, m, args, below, meth, c, nL, A, G, Q⟩ := M
  obtain ⟨hx, hb, hml, hown, hts, hlk, hA, hK, hAA, hR⟩ := C
  subst hp
  intro H locs ls hP hD hS hl
  exact lv_aloadN hx hb hd (lv_at hl q hq) (k H locs ls hP hD hS hl)
theorem V.istore_n (C : Cx M cc own rm) {i : Fin 4} {x : Int32} (lv2 : List (Nat × Value)) (hd : decode cc pc = .ok (.istore_n i, 1)) (hp : pc + 1 = pc') (nn : Nat) (hnn : M.nL = nn) (hn : Nat.ble ((i : Nat) + 1) nn = true) (hl2 : ((i : Nat), Value.int x) :: lv.filter (fun q => !(q.1 == (i : Nat)) && !(q.1 + 1 == (i : Nat) && q.2.category == 2)) = lv2) (k : V M cells slots ws lv2 st pc') : V M cells slots ws lv (.int x :: st) pc := by
  obtain ⟨p, l, e, R, s, m, args, below, meth, c, nL, A, G, Q⟩ := M
  obtain ⟨hx, hb, hml, hown, hts, hlk, hA, hK, hAA, hR⟩ := C
  subst hp
  intro H locs ls hP hD hS hl
  subst hnn
  exact lv_istore_n hx hb hd rfl hl (Nat.le_of_ble_eq_true hn) hl2 (fun ls hl => k H locs ls hP hD hS hl)
theorem V.istore (C : Cx M cc own rm) {i : Nat} {x : Int32} (lv2 : List (Nat × Value)) (hd : decode cc pc = .ok (.istore i, 2)) (hp : pc + 2 = pc') (nn : Nat) (hnn : M.nL = nn) (hn : Nat.ble (i + 1) nn = true) (hl2 : (i, Value.int x) :: lv.filter (fun q => !(q.1 == i) && !(q.1 + 1 == i && q.2.category == 2)) = lv2) (k : V M cells slots ws lv2 st pc') : V M cells slots ws lv (.int x :: st) pc := by
  obtain ⟨p, l, e, R, s, m, args, below, meth, c, nL, A, G, Q⟩ := M
  obtain ⟨hx, hb, hml, hown, hts, hlk, hA, hK, hAA, hR⟩ := C
  subst hp
  intro H locs ls hP hD hS hl
  subst hnn
  exact lv_istore hx hb hd hl (Nat.le_of_ble_eq_true hn) hl2 (fun ls hl => k H locs ls hP hD hS hl)
theorem V.lstore_n (C : Cx M cc own rm) {i : Fin 4} {x : Int64} (lv2 : List (Nat × Value)) (hd : decode cc pc = .ok (.lstore_n i, 1)) (hp : pc + 1 = pc') (nn : Nat) (hnn : M.nL = nn) (hn : Nat.ble ((i : Nat) + 2) nn = true) (hl2 : ((i : Nat), Value.long x) :: lv.filter (fun q => !(q.1 == (i : Nat)) && (!(q.1 == (i : Nat) + 1) && !(q.1 + 1 == (i : Nat) && q.2.category == 2))) = lv2) (k : V M cells slots ws lv2 st pc') : V M cells slots ws lv (.long x :: st) pc := by
  obtain ⟨p, l, e, R, s, m, args, below, meth, c, nL, A, G, Q⟩ := M
  obtain ⟨hx, hb, hml, hown, hts, hlk, hA, hK, hAA, hR⟩ := C
  subst hp
  intro H locs ls hP hD hS hl
  subst hnn
  exact lv_lstore_n hx hb hd rfl hl (Nat.le_of_ble_eq_true hn) hl2 (fun ls hl => k H locs ls hP hD hS hl)
theorem V.lstore (C : Cx M cc own rm) {i : Nat} {x : Int64} (lv2 : List (Nat × Value)) (hd : decode cc pc = .ok (.lstore i, 2)) (hp : pc + 2 = pc') (nn : Nat) (hnn : M.nL = nn) (hn : Nat.ble (i + 2) nn = true) (hl2 : (i, Value.long x) :: lv.filter (fun q => !(q.1 == i) && (!(q.1 == i + 1) && !(q.1 + 1 == i && q.2.category == 2))) = lv2) (k : V M cells slots ws lv2 st pc') : V M cells slots ws lv (.long x :: st) pc := by
  obtain ⟨p, l, e, R, s, m, args, below, meth, c, nL, A, G, Q⟩ := M
  obtain ⟨hx, hb, hml, hown, hts, hlk, hA, hK, hAA, hR⟩ := C
  subst hp
  intro H locs ls hP hD hS hl
  subst hnn
  exact lv_lstore hx hb hd hl (Nat.le_of_ble_eq_true hn) hl2 (fun ls hl => k H locs ls hP hD hS hl)
theorem V.astore_n (C : Cx M cc own rm) {i : Fin 4} {x : Nat} (lv2 : List (Nat × Value)) (hd : decode cc pc = .ok (.astore_n i, 1)) (hp : pc + 1 = pc') (nn : Nat) (hnn : M.nL = nn) (hn : Nat.ble ((i : Nat) + 1) nn = true) (hl2 : ((i : Nat), Value.ref x) :: lv.filter (fun q => !(q.1 == (i : Nat)) && !(q.1 + 1 == (i : Nat) && q.2.category == 2)) = lv2) (k : V M cells slots ws lv2 st pc') : V M cells slots ws lv (.ref x :: st) pc := by
  obtain ⟨p, l, e, R, s, m, args, below, meth, c, nL, A, G, Q⟩ := M
  obtain ⟨hx, hb, hml, hown, hts, hlk, hA, hK, hAA, hR⟩ := C
  subst hp
  intro H locs ls hP hD hS hl
  subst hnn
  exact lv_astore_n hx hb hd rfl hl (Nat.le_of_ble_eq_true hn) hl2 (fun ls hl => k H locs ls hP hD hS hl)
theorem V.astore (C : Cx M cc own rm) {i : Nat} {x : Nat} (lv2 : List (Nat × Value)) (hd : decode cc pc = .ok (.astore i, 2)) (hp : pc + 2 = pc') (nn : Nat) (hnn : M.nL = nn) (hn : Nat.ble (i + 1) nn = true) (hl2 : (i, Value.ref x) :: lv.filter (fun q => !(q.1 == i) && !(q.1 + 1 == i && q.2.category == 2)) = lv2) (k : V M cells slots ws lv2 st pc') : V M cells slots ws lv (.ref x :: st) pc := by
  obtain ⟨p, l, e, R, s, m, args, below, meth, c, nL, A, G, Q⟩ := M
  obtain ⟨hx, hb, hml, hown, hts, hlk, hA, hK, hAA, hR⟩ := C
  subst hp
  intro H locs ls hP hD hS hl
  subst hnn
  exact lv_astore hx hb hd hl (Nat.le_of_ble_eq_true hn) hl2 (fun ls hl => k H locs ls hP hD hS hl)
theorem V.astore_nN (C : Cx M cc own rm) {i : Fin 4} (lv2 : List (Nat × Value)) (hd : decode cc pc = .ok (.astore_n i, 1)) (hp : pc + 1 = pc') (nn : Nat) (hnn : M.nL = nn) (hn : Nat.ble ((i : Nat) + 1) nn = true) (hl2 : ((i : Nat), Value.null) :: lv.filter (fun q => !(q.1 == (i : Nat)) && !(q.1 + 1 == (i : Nat) && q.2.category == 2)) = lv2) (k : V M cells slots ws lv2 st pc') : V M cells slots ws lv (.null :: st) pc := by
  obtain ⟨p, l, e, R, s, m, args, below, meth, c, nL, A, G, Q⟩ := M
  obtain ⟨hx, hb, hml, hown, hts, hlk, hA, hK, hAA, hR⟩ := C
  subst hp
  intro H locs ls hP hD hS hl
  subst hnn
  exact lv_astore_nN hx hb hd rfl hl (Nat.le_of_ble_eq_true hn) hl2 (fun ls hl => k H locs ls hP hD hS hl)
theorem V.astoreN (C : Cx M cc own rm) {i : Nat} (lv2 : List (Nat × Value)) (hd : decode cc pc = .ok (.astore i, 2)) (hp : pc + 2 = pc') (nn : Nat) (hnn : M.nL = nn) (hn : Nat.ble (i + 1) nn = true) (hl2 : (i, Value.null) :: lv.filter (fun q => !(q.1 == i) && !(q.1 + 1 == i && q.2.category == 2)) = lv2) (k : V M cells slots ws lv2 st pc') : V M cells slots ws lv (.null :: st) pc := by
  obtain ⟨p, l, e, R, s, m, args, below, meth, c, nL, A, G, Q⟩ := M
  obtain ⟨hx, hb, hml, hown, hts, hlk, hA, hK, hAA, hR⟩ := C
  subst hp
  intro H locs ls hP hD hS hl
  subst hnn
  exact lv_astoreN hx hb hd hl (Nat.le_of_ble_eq_true hn) hl2 (fun ls hl => k H locs ls hP hD hS hl)
theorem V.iinc (C : Cx M cc own rm) {i : Nat} {n : Int} {x : Int32} (v : Int32) (lv2 : List (Nat × Value)) (hd : decode cc pc = .ok (.iinc i n, 3)) (hp : pc + 3 = pc') (nn : Nat) (hnn : M.nL = nn) (hn : Nat.ble (i + 1) nn = true) (q : Nat) (hq : lv[q]? = some (i, .int x)) (hv : x + Int32.ofInt n = v) (hl2 : (i, Value.int v) :: lv.filter (fun q => !(q.1 == i) && !(q.1 + 1 == i && q.2.category == 2)) = lv2) (k : V M cells slots ws lv2 st pc') : V M cells slots ws lv st pc := by
  obtain ⟨p, l, e, R, s, m, args, below, meth, c, nL, A, G, Q⟩ := M
  obtain ⟨hx, hb, hml, hown, hts, hlk, hA, hK, hAA, hR⟩ := C
  subst hp
  intro H locs ls hP hD hS hl
  subst hnn
  exact lv_iinc hx hb hd hl hq hv (Nat.le_of_ble_eq_true hn) hl2 (fun ls hl => k H locs ls hP hD hS hl)
theorem V.iadd (C : Cx M cc own rm) {x y : Int32} (hd : decode cc pc = .ok (.iadd, 1)) (hp : pc + 1 = pc') (k : V M cells slots ws lv (.int (x + y) :: st) pc') : V M cells slots ws lv (.int y :: .int x :: st) pc := by
  obtain ⟨p, l, e, R, s, m, args, below, meth, c, nL, A, G, Q⟩ := M
  obtain ⟨hx, hb, hml, hown, hts, hlk, hA, hK, hAA, hR⟩ := C
  subst hp
  intro H locs ls hP hD hS hl
  exact lv_iadd hx hb hd (k H locs ls hP hD hS hl)
theorem V.isub (C : Cx M cc own rm) {x y : Int32} (hd : decode cc pc = .ok (.isub, 1)) (hp : pc + 1 = pc') (k : V M cells slots ws lv (.int (x - y) :: st) pc') : V M cells slots ws lv (.int y :: .int x :: st) pc := by
  obtain ⟨p, l, e, R, s, m, args, below, meth, c, nL, A, G, Q⟩ := M
  obtain ⟨hx, hb, hml, hown, hts, hlk, hA, hK, hAA, hR⟩ := C
  subst hp
  intro H locs ls hP hD hS hl
  exact lv_isub hx hb hd (k H locs ls hP hD hS hl)
theorem V.imul (C : Cx M cc own rm) {x y : Int32} (hd : decode cc pc = .ok (.imul, 1)) (hp : pc + 1 = pc') (k : V M cells slots ws lv (.int (x * y) :: st) pc') : V M cells slots ws lv (.int y :: .int x :: st) pc := by
  obtain ⟨p, l, e, R, s, m, args, below, meth, c, nL, A, G, Q⟩ := M
  obtain ⟨hx, hb, hml, hown, hts, hlk, hA, hK, hAA, hR⟩ := C
  subst hp
  intro H locs ls hP hD hS hl
  exact lv_imul hx hb hd (k H locs ls hP hD hS hl)
theorem V.iand (C : Cx M cc own rm) {x y : Int32} (hd : decode cc pc = .ok (.iand, 1)) (hp : pc + 1 = pc') (k : V M cells slots ws lv (.int (x &&& y) :: st) pc') : V M cells slots ws lv (.int y :: .int x :: st) pc := by
  obtain ⟨p, l, e, R, s, m, args, below, meth, c, nL, A, G, Q⟩ := M
  obtain ⟨hx, hb, hml, hown, hts, hlk, hA, hK, hAA, hR⟩ := C
  subst hp
  intro H locs ls hP hD hS hl
  exact lv_iand hx hb hd (k H locs ls hP hD hS hl)
theorem V.ior (C : Cx M cc own rm) {x y : Int32} (hd : decode cc pc = .ok (.ior, 1)) (hp : pc + 1 = pc') (k : V M cells slots ws lv (.int (x ||| y) :: st) pc') : V M cells slots ws lv (.int y :: .int x :: st) pc := by
  obtain ⟨p, l, e, R, s, m, args, below, meth, c, nL, A, G, Q⟩ := M
  obtain ⟨hx, hb, hml, hown, hts, hlk, hA, hK, hAA, hR⟩ := C
  subst hp
  intro H locs ls hP hD hS hl
  exact lv_ior hx hb hd (k H locs ls hP hD hS hl)
theorem V.ixor (C : Cx M cc own rm) {x y : Int32} (hd : decode cc pc = .ok (.ixor, 1)) (hp : pc + 1 = pc') (k : V M cells slots ws lv (.int (x ^^^ y) :: st) pc') : V M cells slots ws lv (.int y :: .int x :: st) pc := by
  obtain ⟨p, l, e, R, s, m, args, below, meth, c, nL, A, G, Q⟩ := M
  obtain ⟨hx, hb, hml, hown, hts, hlk, hA, hK, hAA, hR⟩ := C
  subst hp
  intro H locs ls hP hD hS hl
  exact lv_ixor hx hb hd (k H locs ls hP hD hS hl)
theorem V.ishl (C : Cx M cc own rm) {x y : Int32} (hd : decode cc pc = .ok (.ishl, 1)) (hp : pc + 1 = pc') (k : V M cells slots ws lv (.int (x <<< (y &&& 31)) :: st) pc') : V M cells slots ws lv (.int y :: .int x :: st) pc := by
  obtain ⟨p, l, e, R, s, m, args, below, meth, c, nL, A, G, Q⟩ := M
  obtain ⟨hx, hb, hml, hown, hts, hlk, hA, hK, hAA, hR⟩ := C
  subst hp
  intro H locs ls hP hD hS hl
  exact lv_ishl hx hb hd (k H locs ls hP hD hS hl)
theorem V.ishr (C : Cx M cc own rm) {x y : Int32} (hd : decode cc pc = .ok (.ishr, 1)) (hp : pc + 1 = pc') (k : V M cells slots ws lv (.int (x >>> (y &&& 31)) :: st) pc') : V M cells slots ws lv (.int y :: .int x :: st) pc := by
  obtain ⟨p, l, e, R, s, m, args, below, meth, c, nL, A, G, Q⟩ := M
  obtain ⟨hx, hb, hml, hown, hts, hlk, hA, hK, hAA, hR⟩ := C
  subst hp
  intro H locs ls hP hD hS hl
  exact lv_ishr hx hb hd (k H locs ls hP hD hS hl)
theorem V.iaddN (C : Cx M cc own rm) (a b : Nat) (hd : decode cc pc = .ok (.iadd, 1)) (hp : pc + 1 = pc') (k : V M cells slots ws lv (.int (nI (a + b)) :: st) pc') : V M cells slots ws lv (.int (nI b) :: .int (nI a) :: st) pc := by
  obtain ⟨p, l, e, R, s, m, args, below, meth, c, nL, A, G, Q⟩ := M
  obtain ⟨hx, hb, hml, hown, hts, hlk, hA, hK, hAA, hR⟩ := C
  subst hp
  intro H locs ls hP hD hS hl
  exact lv_iadd hx hb hd (by rw [nI_add]; exact (k H locs ls hP hD hS hl))
theorem V.iaddA (C : Cx M cc own rm) (a b d : Nat) (hd : decode cc pc = .ok (.iadd, 1)) (hp : pc + 1 = pc') (k : V M cells slots ws lv (.int (nI (a + (b + d))) :: st) pc') : V M cells slots ws lv (.int (nI d) :: .int (nI (a + b)) :: st) pc := by
  obtain ⟨p, l, e, R, s, m, args, below, meth, c, nL, A, G, Q⟩ := M
  obtain ⟨hx, hb, hml, hown, hts, hlk, hA, hK, hAA, hR⟩ := C
  subst hp
  intro H locs ls hP hD hS hl
  exact lv_iadd hx hb hd (by rw [nI_add, Nat.add_assoc]; exact (k H locs ls hP hD hS hl))
theorem V.imulN (C : Cx M cc own rm) (a b : Nat) (hd : decode cc pc = .ok (.imul, 1)) (hp : pc + 1 = pc') (k : V M cells slots ws lv (.int (nI (a * b)) :: st) pc') : V M cells slots ws lv (.int (nI b) :: .int (nI a) :: st) pc := by
  obtain ⟨p, l, e, R, s, m, args, below, meth, c, nL, A, G, Q⟩ := M
  obtain ⟨hx, hb, hml, hown, hts, hlk, hA, hK, hAA, hR⟩ := C
  subst hp
  intro H locs ls hP hD hS hl
  exact lv_imul hx hb hd (by rw [pk_mul]; exact (k H locs ls hP hD hS hl))
theorem V.isubN (C : Cx M cc own rm) (a b : Nat) (hab : b ≤ a) (hd : decode cc pc = .ok (.isub, 1)) (hp : pc + 1 = pc') (k : V M cells slots ws lv (.int (nI (a - b)) :: st) pc') : V M cells slots ws lv (.int (nI b) :: .int (nI a) :: st) pc := by
  obtain ⟨p, l, e, R, s, m, args, below, meth, c, nL, A, G, Q⟩ := M
  obtain ⟨hx, hb, hml, hown, hts, hlk, hA, hK, hAA, hR⟩ := C
  subst hp
  intro H locs ls hP hD hS hl
  exact lv_isub hx hb hd (by rw [pk_sub hab]; exact (k H locs ls hP hD hS hl))
theorem V.idiv (C : Cx M cc own rm) {x y : Int32} (hne : ¬ y = 0) (hd : decode cc pc = .ok (.idiv, 1)) (hp : pc + 1 = pc') (k : V M cells slots ws lv (.int (x / y) :: st) pc') : V M cells slots ws lv (.int y :: .int x :: st) pc := by
  obtain ⟨p, l, e, R, s, m, args, below, meth, c, nL, A, G, Q⟩ := M
  obtain ⟨hx, hb, hml, hown, hts, hlk, hA, hK, hAA, hR⟩ := C
  subst hp
  intro H locs ls hP hD hS hl
  exact lv_idiv hx hb hd hne (k H locs ls hP hD hS hl)
theorem V.irem (C : Cx M cc own rm) {x y : Int32} (hne : ¬ y = 0) (hd : decode cc pc = .ok (.irem, 1)) (hp : pc + 1 = pc') (k : V M cells slots ws lv (.int (x - x / y * y) :: st) pc') : V M cells slots ws lv (.int y :: .int x :: st) pc := by
  obtain ⟨p, l, e, R, s, m, args, below, meth, c, nL, A, G, Q⟩ := M
  obtain ⟨hx, hb, hml, hown, hts, hlk, hA, hK, hAA, hR⟩ := C
  subst hp
  intro H locs ls hP hD hS hl
  exact lv_irem hx hb hd hne (k H locs ls hP hD hS hl)
theorem V.idivN (C : Cx M cc own rm) (a b : Nat) (ha : a < 2 ^ 31) (hb0 : 0 < b) (hb1 : b < 2 ^ 31) (hd : decode cc pc = .ok (.idiv, 1)) (hp : pc + 1 = pc') (k : V M cells slots ws lv (.int (nI (a / b)) :: st) pc') : V M cells slots ws lv (.int (nI b) :: .int (nI a) :: st) pc := by
  obtain ⟨p, l, e, R, s, m, args, below, meth, c, nL, A, G, Q⟩ := M
  obtain ⟨hx, hb, hml, hown, hts, hlk, hA, hK, hAA, hR⟩ := C
  subst hp
  intro H locs ls hP hD hS hl
  exact lv_idiv hx hb hd (nI_ne0 hb0 hb1) (by rw [pk_div ha hb0 hb1]; exact (k H locs ls hP hD hS hl))
theorem V.iremN (C : Cx M cc own rm) (a b : Nat) (ha : a < 2 ^ 31) (hb0 : 0 < b) (hb1 : b < 2 ^ 31) (hd : decode cc pc = .ok (.irem, 1)) (hp : pc + 1 = pc') (k : V M cells slots ws lv (.int (nI (a % b)) :: st) pc') : V M cells slots ws lv (.int (nI b) :: .int (nI a) :: st) pc := by
  obtain ⟨p, l, e, R, s, m, args, below, meth, c, nL, A, G, Q⟩ := M
  obtain ⟨hx, hb, hml, hown, hts, hlk, hA, hK, hAA, hR⟩ := C
  subst hp
  intro H locs ls hP hD hS hl
  exact lv_irem hx hb hd (nI_ne0 hb0 hb1) (by rw [pk_rem ha hb0 hb1]; exact (k H locs ls hP hD hS hl))
theorem V.ineg (C : Cx M cc own rm) {x : Int32} (hd : decode cc pc = .ok (.ineg, 1)) (hp : pc + 1 = pc') (k : V M cells slots ws lv (.int (-x) :: st) pc') : V M cells slots ws lv (.int x :: st) pc := by
  obtain ⟨p, l, e, R, s, m, args, below, meth, c, nL, A, G, Q⟩ := M
  obtain ⟨hx, hb, hml, hown, hts, hlk, hA, hK, hAA, hR⟩ := C
  subst hp
  intro H locs ls hP hD hS hl
  exact lv_ineg hx hb hd (k H locs ls hP hD hS hl)
theorem V.ladd (C : Cx M cc own rm) {x y : Int64} (hd : decode cc pc = .ok (.ladd, 1)) (hp : pc + 1 = pc') (k : V M cells slots ws lv (.long (x + y) :: st) pc') : V M cells slots ws lv (.long y :: .long x :: st) pc := by
  obtain ⟨p, l, e, R, s, m, args, below, meth, c, nL, A, G, Q⟩ := M
  obtain ⟨hx, hb, hml, hown, hts, hlk, hA, hK, hAA, hR⟩ := C
  subst hp
  intro H locs ls hP hD hS hl
  exact lv_ladd hx hb hd (k H locs ls hP hD hS hl)
theorem V.lmul (C : Cx M cc own rm) {x y : Int64} (hd : decode cc pc = .ok (.lmul, 1)) (hp : pc + 1 = pc') (k : V M cells slots ws lv (.long (x * y) :: st) pc') : V M cells slots ws lv (.long y :: .long x :: st) pc := by
  obtain ⟨p, l, e, R, s, m, args, below, meth, c, nL, A, G, Q⟩ := M
  obtain ⟨hx, hb, hml, hown, hts, hlk, hA, hK, hAA, hR⟩ := C
  subst hp
  intro H locs ls hP hD hS hl
  exact lv_lmul hx hb hd (k H locs ls hP hD hS hl)
theorem V.ldiv (C : Cx M cc own rm) {x y : Int64} (hne : ¬ y = 0) (hd : decode cc pc = .ok (.ldiv, 1)) (hp : pc + 1 = pc') (k : V M cells slots ws lv (.long (x / y) :: st) pc') : V M cells slots ws lv (.long y :: .long x :: st) pc := by
  obtain ⟨p, l, e, R, s, m, args, below, meth, c, nL, A, G, Q⟩ := M
  obtain ⟨hx, hb, hml, hown, hts, hlk, hA, hK, hAA, hR⟩ := C
  subst hp
  intro H locs ls hP hD hS hl
  exact lv_ldiv hx hb hd hne (k H locs ls hP hD hS hl)
theorem V.lrem (C : Cx M cc own rm) {x y : Int64} (hne : ¬ y = 0) (hd : decode cc pc = .ok (.lrem, 1)) (hp : pc + 1 = pc') (k : V M cells slots ws lv (.long (x - x / y * y) :: st) pc') : V M cells slots ws lv (.long y :: .long x :: st) pc := by
  obtain ⟨p, l, e, R, s, m, args, below, meth, c, nL, A, G, Q⟩ := M
  obtain ⟨hx, hb, hml, hown, hts, hlk, hA, hK, hAA, hR⟩ := C
  subst hp
  intro H locs ls hP hD hS hl
  exact lv_lrem hx hb hd hne (k H locs ls hP hD hS hl)
theorem V.i2l (C : Cx M cc own rm) {x : Int32} (hd : decode cc pc = .ok (.i2l, 1)) (hp : pc + 1 = pc') (k : V M cells slots ws lv (.long x.toInt64 :: st) pc') : V M cells slots ws lv (.int x :: st) pc := by
  obtain ⟨p, l, e, R, s, m, args, below, meth, c, nL, A, G, Q⟩ := M
  obtain ⟨hx, hb, hml, hown, hts, hlk, hA, hK, hAA, hR⟩ := C
  subst hp
  intro H locs ls hP hD hS hl
  exact lv_i2l hx hb hd rfl (k H locs ls hP hD hS hl)
theorem V.i2b (C : Cx M cc own rm) {x : Int32} (hd : decode cc pc = .ok (.i2b, 1)) (hp : pc + 1 = pc') (k : V M cells slots ws lv (.int x.toInt8.toInt32 :: st) pc') : V M cells slots ws lv (.int x :: st) pc := by
  obtain ⟨p, l, e, R, s, m, args, below, meth, c, nL, A, G, Q⟩ := M
  obtain ⟨hx, hb, hml, hown, hts, hlk, hA, hK, hAA, hR⟩ := C
  subst hp
  intro H locs ls hP hD hS hl
  exact lv_i2b hx hb hd rfl (k H locs ls hP hD hS hl)
theorem V.i2s (C : Cx M cc own rm) {x : Int32} (hd : decode cc pc = .ok (.i2s, 1)) (hp : pc + 1 = pc') (k : V M cells slots ws lv (.int x.toInt16.toInt32 :: st) pc') : V M cells slots ws lv (.int x :: st) pc := by
  obtain ⟨p, l, e, R, s, m, args, below, meth, c, nL, A, G, Q⟩ := M
  obtain ⟨hx, hb, hml, hown, hts, hlk, hA, hK, hAA, hR⟩ := C
  subst hp
  intro H locs ls hP hD hS hl
  exact lv_i2s hx hb hd rfl (k H locs ls hP hD hS hl)
theorem V.i2c (C : Cx M cc own rm) {x : Int32} (hd : decode cc pc = .ok (.i2c, 1)) (hp : pc + 1 = pc') (k : V M cells slots ws lv (.int (x.toUInt32 % 65536).toInt32 :: st) pc') : V M cells slots ws lv (.int x :: st) pc := by
  obtain ⟨p, l, e, R, s, m, args, below, meth, c, nL, A, G, Q⟩ := M
  obtain ⟨hx, hb, hml, hown, hts, hlk, hA, hK, hAA, hR⟩ := C
  subst hp
  intro H locs ls hP hD hS hl
  exact lv_i2c hx hb hd rfl (k H locs ls hP hD hS hl)
theorem V.iushr (C : Cx M cc own rm) {x y : Int32} (hd : decode cc pc = .ok (.iushr, 1)) (hp : pc + 1 = pc') (k : V M cells slots ws lv (.int (x.toUInt32 >>> (y.toUInt32 &&& Int32.toUInt32 31)).toInt32 :: st) pc') : V M cells slots ws lv (.int y :: .int x :: st) pc := by
  obtain ⟨p, l, e, R, s, m, args, below, meth, c, nL, A, G, Q⟩ := M
  obtain ⟨hx, hb, hml, hown, hts, hlk, hA, hK, hAA, hR⟩ := C
  subst hp
  intro H locs ls hP hD hS hl
  exact lv_iushr hx hb hd rfl (k H locs ls hP hD hS hl)
theorem V.lcmp (C : Cx M cc own rm) {x y : Int64} (hd : decode cc pc = .ok (.lcmp, 1)) (hp : pc + 1 = pc') (k : V M cells slots ws lv (.int (lg_cmp x y) :: st) pc') : V M cells slots ws lv (.long y :: .long x :: st) pc := by
  obtain ⟨p, l, e, R, s, m, args, below, meth, c, nL, A, G, Q⟩ := M
  obtain ⟨hx, hb, hml, hown, hts, hlk, hA, hK, hAA, hR⟩ := C
  subst hp
  intro H locs ls hP hD hS hl
  exact W.lcmp hx hb hd (k H locs ls hP hD hS hl)
theorem V.dup (C : Cx M cc own rm) {va : Value} (hva : va.category = 1) (hd : decode cc pc = .ok (.dup, 1)) (hp : pc + 1 = pc') (k : V M cells slots ws lv (va :: va :: st) pc') : V M cells slots ws lv (va :: st) pc := by
  obtain ⟨p, l, e, R, s, m, args, below, meth, c, nL, A, G, Q⟩ := M
  obtain ⟨hx, hb, hml, hown, hts, hlk, hA, hK, hAA, hR⟩ := C
  subst hp
  intro H locs ls hP hD hS hl
  exact lv_dup hx hb hd hva (k H locs ls hP hD hS hl)
theorem V.pop (C : Cx M cc own rm) {va : Value} (hva : va.category = 1) (hd : decode cc pc = .ok (.pop, 1)) (hp : pc + 1 = pc') (k : V M cells slots ws lv (st) pc') : V M cells slots ws lv (va :: st) pc := by
  obtain ⟨p, l, e, R, s, m, args, below, meth, c, nL, A, G, Q⟩ := M
  obtain ⟨hx, hb, hml, hown, hts, hlk, hA, hK, hAA, hR⟩ := C
  subst hp
  intro H locs ls hP hD hS hl
  exact lv_pop hx hb hd hva (k H locs ls hP hD hS hl)
theorem V.dup2 (C : Cx M cc own rm) {va vb : Value} (hva : va.category = 1) (hvb : vb.category = 1) (hd : decode cc pc = .ok (.dup2, 1)) (hp : pc + 1 = pc') (k : V M cells slots ws lv (va :: vb :: va :: vb :: st) pc') : V M cells slots ws lv (va :: vb :: st) pc := by
  obtain ⟨p, l, e, R, s, m, args, below, meth, c, nL, A, G, Q⟩ := M
  obtain ⟨hx, hb, hml, hown, hts, hlk, hA, hK, hAA, hR⟩ := C
  subst hp
  intro H locs ls hP hD hS hl
  exact lv_dup2_11 hx hb hd hva hvb (k H locs ls hP hD hS hl)
theorem V.icmp_eq (C : Cx M cc own rm) {x y : Int32} {off : Int} (tgt : Nat) (hd : decode cc pc = .ok (.if_icmp .eq off, 3)) (ht : (pc : Int) + off = (tgt : Int)) (hp : pc + 3 = pc') (kt : (x = y) → V M cells slots ws lv st tgt) (kf : (¬ x = y) → V M cells slots ws lv st pc') : V M cells slots ws lv (.int y :: .int x :: st) pc := by
  obtain ⟨p, l, e, R, s, m, args, below, meth, c, nL, A, G, Q⟩ := M
  obtain ⟨hx, hb, hml, hown, hts, hlk, hA, hK, hAA, hR⟩ := C
  subst hp
  intro H locs ls hP hD hS hl
  exact lv_icmp_eq hx hb hd ht (fun h => kt h H locs ls hP hD hS hl) (fun h => kf h H locs ls hP hD hS hl)
theorem V.if_eq (C : Cx M cc own rm) {x : Int32} {off : Int} (tgt : Nat) (hd : decode cc pc = .ok (.ifCond .eq off, 3)) (ht : (pc : Int) + off = (tgt : Int)) (hp : pc + 3 = pc') (kt : (x = 0) → V M cells slots ws lv st tgt) (kf : (¬ x = 0) → V M cells slots ws lv st pc') : V M cells slots ws lv (.int x :: st) pc := by
  obtain ⟨p, l, e, R, s, m, args, below, meth, c, nL, A, G, Q⟩ := M
  obtain ⟨hx, hb, hml, hown, hts, hlk, hA, hK, hAA, hR⟩ := C
  subst hp
  intro H locs ls hP hD hS hl
  exact lv_if_eq hx hb hd ht (fun h => kt h H locs ls hP hD hS hl) (fun h => kf h H locs ls hP hD hS hl)
theorem V.icmp_eqN (C : Cx M cc own rm) (a b : Nat) (ha : a < 2 ^ 31) (hb2 : b < 2 ^ 31) {off : Int} (tgt : Nat) (hd : decode cc pc = .ok (.if_icmp .eq off, 3)) (ht : (pc : Int) + off = (tgt : Int)) (hp : pc + 3 = pc') (kt : (a = b) → V M cells slots ws lv st tgt) (kf : (a ≠ b) → V M cells slots ws lv st pc') : V M cells slots ws lv (.int (nI b) :: .int (nI a) :: st) pc := by
  obtain ⟨p, l, e, R, s, m, args, below, meth, c, nL, A, G, Q⟩ := M
  obtain ⟨hx, hb, hml, hown, hts, hlk, hA, hK, hAA, hR⟩ := C
  subst hp
  intro H locs ls hP hD hS hl
  exact lv_icmp_eq hx hb hd ht (fun h => kt ((nI_eq ha hb2).mp h) H locs ls hP hD hS hl) (fun h => kf (fun z => h (by rw [z])) H locs ls hP hD hS hl)
theorem V.icmp_ne (C : Cx M cc own rm) {x y : Int32} {off : Int} (tgt : Nat) (hd : decode cc pc = .ok (.if_icmp .ne off, 3)) (ht : (pc : Int) + off = (tgt : Int)) (hp : pc + 3 = pc') (kt : (¬ x = y) → V M cells slots ws lv st tgt) (kf : (x = y) → V M cells slots ws lv st pc') : V M cells slots ws lv (.int y :: .int x :: st) pc := by
  obtain ⟨p, l, e, R, s, m, args, below, meth, c, nL, A, G, Q⟩ := M
  obtain ⟨hx, hb, hml, hown, hts, hlk, hA, hK, hAA, hR⟩ := C
  subst hp
  intro H locs ls hP hD hS hl
  exact lv_icmp_ne hx hb hd ht (fun h => kt h H locs ls hP hD hS hl) (fun h => kf h H locs ls hP hD hS hl)
theorem V.if_ne (C : Cx M cc own rm) {x : Int32} {off : Int} (tgt : Nat) (hd : decode cc pc = .ok (.ifCond .ne off, 3)) (ht : (pc : Int) + off = (tgt : Int)) (hp : pc + 3 = pc') (kt : (¬ x = 0) → V M cells slots ws lv st tgt) (kf : (x = 0) → V M cells slots ws lv st pc') : V M cells slots ws lv (.int x :: st) pc := by
  obtain ⟨p, l, e, R, s, m, args, below, meth, c, nL, A, G, Q⟩ := M
  obtain ⟨hx, hb, hml, hown, hts, hlk, hA, hK, hAA, hR⟩ := C
  subst hp
  intro H locs ls hP hD hS hl
  exact lv_if_ne hx hb hd ht (fun h => kt h H locs ls hP hD hS hl) (fun h => kf h H locs ls hP hD hS hl)
theorem V.icmp_neN (C : Cx M cc own rm) (a b : Nat) (ha : a < 2 ^ 31) (hb2 : b < 2 ^ 31) {off : Int} (tgt : Nat) (hd : decode cc pc = .ok (.if_icmp .ne off, 3)) (ht : (pc : Int) + off = (tgt : Int)) (hp : pc + 3 = pc') (kt : (a ≠ b) → V M cells slots ws lv st tgt) (kf : (a = b) → V M cells slots ws lv st pc') : V M cells slots ws lv (.int (nI b) :: .int (nI a) :: st) pc := by
  obtain ⟨p, l, e, R, s, m, args, below, meth, c, nL, A, G, Q⟩ := M
  obtain ⟨hx, hb, hml, hown, hts, hlk, hA, hK, hAA, hR⟩ := C
  subst hp
  intro H locs ls hP hD hS hl
  exact lv_icmp_ne hx hb hd ht (fun h => kt (fun z => h (by rw [z])) H locs ls hP hD hS hl) (fun h => kf ((nI_eq ha hb2).mp h) H locs ls hP hD hS hl)
theorem V.icmp_lt (C : Cx M cc own rm) {x y : Int32} {off : Int} (tgt : Nat) (hd : decode cc pc = .ok (.if_icmp .lt off, 3)) (ht : (pc : Int) + off = (tgt : Int)) (hp : pc + 3 = pc') (kt : (x < y) → V M cells slots ws lv st tgt) (kf : (¬ x < y) → V M cells slots ws lv st pc') : V M cells slots ws lv (.int y :: .int x :: st) pc := by
  obtain ⟨p, l, e, R, s, m, args, below, meth, c, nL, A, G, Q⟩ := M
  obtain ⟨hx, hb, hml, hown, hts, hlk, hA, hK, hAA, hR⟩ := C
  subst hp
  intro H locs ls hP hD hS hl
  exact lv_icmp_lt hx hb hd ht (fun h => kt h H locs ls hP hD hS hl) (fun h => kf h H locs ls hP hD hS hl)
theorem V.if_lt (C : Cx M cc own rm) {x : Int32} {off : Int} (tgt : Nat) (hd : decode cc pc = .ok (.ifCond .lt off, 3)) (ht : (pc : Int) + off = (tgt : Int)) (hp : pc + 3 = pc') (kt : (x < 0) → V M cells slots ws lv st tgt) (kf : (¬ x < 0) → V M cells slots ws lv st pc') : V M cells slots ws lv (.int x :: st) pc := by
  obtain ⟨p, l, e, R, s, m, args, below, meth, c, nL, A, G, Q⟩ := M
  obtain ⟨hx, hb, hml, hown, hts, hlk, hA, hK, hAA, hR⟩ := C
  subst hp
  intro H locs ls hP hD hS hl
  exact lv_if_lt hx hb hd ht (fun h => kt h H locs ls hP hD hS hl) (fun h => kf h H locs ls hP hD hS hl)
theorem V.icmp_ltN (C : Cx M cc own rm) (a b : Nat) (ha : a < 2 ^ 31) (hb2 : b < 2 ^ 31) {off : Int} (tgt : Nat) (hd : decode cc pc = .ok (.if_icmp .lt off, 3)) (ht : (pc : Int) + off = (tgt : Int)) (hp : pc + 3 = pc') (kt : (a < b) → V M cells slots ws lv st tgt) (kf : (b ≤ a) → V M cells slots ws lv st pc') : V M cells slots ws lv (.int (nI b) :: .int (nI a) :: st) pc := by
  obtain ⟨p, l, e, R, s, m, args, below, meth, c, nL, A, G, Q⟩ := M
  obtain ⟨hx, hb, hml, hown, hts, hlk, hA, hK, hAA, hR⟩ := C
  subst hp
  intro H locs ls hP hD hS hl
  exact lv_icmp_lt hx hb hd ht (fun h => kt ((nI_ltI ha hb2).mp h) H locs ls hP hD hS hl) (fun h => kf (Nat.not_lt.mp fun z => h ((nI_ltI ha hb2).mpr z)) H locs ls hP hD hS hl)
theorem V.icmp_ge (C : Cx M cc own rm) {x y : Int32} {off : Int} (tgt : Nat) (hd : decode cc pc = .ok (.if_icmp .ge off, 3)) (ht : (pc : Int) + off = (tgt : Int)) (hp : pc + 3 = pc') (kt : (y ≤ x) → V M cells slots ws lv st tgt) (kf : (¬ y ≤ x) → V M cells slots ws lv st pc') : V M cells slots ws lv (.int y :: .int x :: st) pc := by
  obtain ⟨p, l, e, R, s, m, args, below, meth, c, nL, A, G, Q⟩ := M
  obtain ⟨hx, hb, hml, hown, hts, hlk, hA, hK, hAA, hR⟩ := C
  subst hp
  intro H locs ls hP hD hS hl
  exact lv_icmp_ge hx hb hd ht (fun h => kt h H locs ls hP hD hS hl) (fun h => kf h H locs ls hP hD hS hl)
theorem V.if_ge (C : Cx M cc own rm) {x : Int32} {off : Int} (tgt : Nat) (hd : decode cc pc = .ok (.ifCond .ge off, 3)) (ht : (pc : Int) + off = (tgt : Int)) (hp : pc + 3 = pc') (kt : (0 ≤ x) → V M cells slots ws lv st tgt) (kf : (¬ 0 ≤ x) → V M cells slots ws lv st pc') : V M cells slots ws lv (.int x :: st) pc := by
  obtain ⟨p, l, e, R, s, m, args, below, meth, c, nL, A, G, Q⟩ := M
  obtain ⟨hx, hb, hml, hown, hts, hlk, hA, hK, hAA, hR⟩ := C
  subst hp
  intro H locs ls hP hD hS hl
  exact lv_if_ge hx hb hd ht (fun h => kt h H locs ls hP hD hS hl) (fun h => kf h H locs ls hP hD hS hl)
theorem V.icmp_geN (C : Cx M cc own rm) (a b : Nat) (ha : a < 2 ^ 31) (hb2 : b < 2 ^ 31) {off : Int} (tgt : Nat) (hd : decode cc pc = .ok (.if_icmp .ge off, 3)) (ht : (pc : Int) + off = (tgt : Int)) (hp : pc + 3 = pc') (kt : (b ≤ a) → V M cells slots ws lv st tgt) (kf : (a < b) → V M cells slots ws lv st pc') : V M cells slots ws lv (.int (nI b) :: .int (nI a) :: st) pc := by
  obtain ⟨p, l, e, R, s, m, args, below, meth, c, nL, A, G, Q⟩ := M
  obtain ⟨hx, hb, hml, hown, hts, hlk, hA, hK, hAA, hR⟩ := C
  subst hp
  intro H locs ls hP hD hS hl
  exact lv_icmp_ge hx hb hd ht (fun h => kt ((nI_leI hb2 ha).mp h) H locs ls hP hD hS hl) (fun h => kf (Nat.not_le.mp fun z => h ((nI_leI hb2 ha).mpr z)) H locs ls hP hD hS hl)
theorem V.icmp_gt (C : Cx M cc own rm) {x y : Int32} {off : Int} (tgt : Nat) (hd : decode cc pc = .ok (.if_icmp .gt off, 3)) (ht : (pc : Int) + off = (tgt : Int)) (hp : pc + 3 = pc') (kt : (y < x) → V M cells slots ws lv st tgt) (kf : (¬ y < x) → V M cells slots ws lv st pc') : V M cells slots ws lv (.int y :: .int x :: st) pc := by
  obtain ⟨p, l, e, R, s, m, args, below, meth, c, nL, A, G, Q⟩ := M
  obtain ⟨hx, hb, hml, hown, hts, hlk, hA, hK, hAA, hR⟩ := C
  subst hp
  intro H locs ls hP hD hS hl
  exact lv_icmp_gt hx hb hd ht (fun h => kt h H locs ls hP hD hS hl) (fun h => kf h H locs ls hP hD hS hl)
theorem V.if_gt (C : Cx M cc own rm) {x : Int32} {off : Int} (tgt : Nat) (hd : decode cc pc = .ok (.ifCond .gt off, 3)) (ht : (pc : Int) + off = (tgt : Int)) (hp : pc + 3 = pc') (kt : (0 < x) → V M cells slots ws lv st tgt) (kf : (¬ 0 < x) → V M cells slots ws lv st pc') : V M cells slots ws lv (.int x :: st) pc := by
  obtain ⟨p, l, e, R, s, m, args, below, meth, c, nL, A, G, Q⟩ := M
  obtain ⟨hx, hb, hml, hown, hts, hlk, hA, hK, hAA, hR⟩ := C
  subst hp
  intro H locs ls hP hD hS hl
  exact lv_if_gt hx hb hd ht (fun h => kt h H locs ls hP hD hS hl) (fun h => kf h H locs ls hP hD hS hl)
theorem V.icmp_gtN (C : Cx M cc own rm) (a b : Nat) (ha : a < 2 ^ 31) (hb2 : b < 2 ^ 31) {off : Int} (tgt : Nat) (hd : decode cc pc = .ok (.if_icmp .gt off, 3)) (ht : (pc : Int) + off = (tgt : Int)) (hp : pc + 3 = pc') (kt : (b < a) → V M cells slots ws lv st tgt) (kf : (a ≤ b) → V M cells slots ws lv st pc') : V M cells slots ws lv (.int (nI b) :: .int (nI a) :: st) pc := by
  obtain ⟨p, l, e, R, s, m, args, below, meth, c, nL, A, G, Q⟩ := M
  obtain ⟨hx, hb, hml, hown, hts, hlk, hA, hK, hAA, hR⟩ := C
  subst hp
  intro H locs ls hP hD hS hl
  exact lv_icmp_gt hx hb hd ht (fun h => kt ((nI_ltI hb2 ha).mp h) H locs ls hP hD hS hl) (fun h => kf (Nat.not_lt.mp fun z => h ((nI_ltI hb2 ha).mpr z)) H locs ls hP hD hS hl)
theorem V.icmp_le (C : Cx M cc own rm) {x y : Int32} {off : Int} (tgt : Nat) (hd : decode cc pc = .ok (.if_icmp .le off, 3)) (ht : (pc : Int) + off = (tgt : Int)) (hp : pc + 3 = pc') (kt : (x ≤ y) → V M cells slots ws lv st tgt) (kf : (¬ x ≤ y) → V M cells slots ws lv st pc') : V M cells slots ws lv (.int y :: .int x :: st) pc := by
  obtain ⟨p, l, e, R, s, m, args, below, meth, c, nL, A, G, Q⟩ := M
  obtain ⟨hx, hb, hml, hown, hts, hlk, hA, hK, hAA, hR⟩ := C
  subst hp
  intro H locs ls hP hD hS hl
  exact lv_icmp_le hx hb hd ht (fun h => kt h H locs ls hP hD hS hl) (fun h => kf h H locs ls hP hD hS hl)
theorem V.if_le (C : Cx M cc own rm) {x : Int32} {off : Int} (tgt : Nat) (hd : decode cc pc = .ok (.ifCond .le off, 3)) (ht : (pc : Int) + off = (tgt : Int)) (hp : pc + 3 = pc') (kt : (x ≤ 0) → V M cells slots ws lv st tgt) (kf : (¬ x ≤ 0) → V M cells slots ws lv st pc') : V M cells slots ws lv (.int x :: st) pc := by
  obtain ⟨p, l, e, R, s, m, args, below, meth, c, nL, A, G, Q⟩ := M
  obtain ⟨hx, hb, hml, hown, hts, hlk, hA, hK, hAA, hR⟩ := C
  subst hp
  intro H locs ls hP hD hS hl
  exact lv_if_le hx hb hd ht (fun h => kt h H locs ls hP hD hS hl) (fun h => kf h H locs ls hP hD hS hl)
theorem V.icmp_leN (C : Cx M cc own rm) (a b : Nat) (ha : a < 2 ^ 31) (hb2 : b < 2 ^ 31) {off : Int} (tgt : Nat) (hd : decode cc pc = .ok (.if_icmp .le off, 3)) (ht : (pc : Int) + off = (tgt : Int)) (hp : pc + 3 = pc') (kt : (a ≤ b) → V M cells slots ws lv st tgt) (kf : (b < a) → V M cells slots ws lv st pc') : V M cells slots ws lv (.int (nI b) :: .int (nI a) :: st) pc := by
  obtain ⟨p, l, e, R, s, m, args, below, meth, c, nL, A, G, Q⟩ := M
  obtain ⟨hx, hb, hml, hown, hts, hlk, hA, hK, hAA, hR⟩ := C
  subst hp
  intro H locs ls hP hD hS hl
  exact lv_icmp_le hx hb hd ht (fun h => kt ((nI_leI ha hb2).mp h) H locs ls hP hD hS hl) (fun h => kf (Nat.not_le.mp fun z => h ((nI_leI ha hb2).mpr z)) H locs ls hP hD hS hl)
theorem V.if_eqB (C : Cx M cc own rm) {c0 : Prop} {hc0 : Decidable c0} {off : Int} (tgt : Nat) (hd : decode cc pc = .ok (.ifCond .eq off, 3)) (ht : (pc : Int) + off = (tgt : Int)) (hp : pc + 3 = pc') (kt : ¬ c0 → V M cells slots ws lv st tgt) (kf : c0 → V M cells slots ws lv st pc') : V M cells slots ws lv (.int (bI c0) :: st) pc := by
  obtain ⟨p, l, e, R, s, m, args, below, meth, c, nL, A, G, Q⟩ := M
  obtain ⟨hx, hb, hml, hown, hts, hlk, hA, hK, hAA, hR⟩ := C
  subst hp
  intro H locs ls hP hD hS hl
  exact lv_if_eq hx hb hd ht (fun h => kt (bI_0 h) H locs ls hP hD hS hl) (fun h => kf (bI_1 h) H locs ls hP hD hS hl)
theorem V.if_neB (C : Cx M cc own rm) {c0 : Prop} {hc0 : Decidable c0} {off : Int} (tgt : Nat) (hd : decode cc pc = .ok (.ifCond .ne off, 3)) (ht : (pc : Int) + off = (tgt : Int)) (hp : pc + 3 = pc') (kt : c0 → V M cells slots ws lv st tgt) (kf : ¬ c0 → V M cells slots ws lv st pc') : V M cells slots ws lv (.int (bI c0) :: st) pc := by
  obtain ⟨p, l, e, R, s, m, args, below, meth, c, nL, A, G, Q⟩ := M
  obtain ⟨hx, hb, hml, hown, hts, hlk, hA, hK, hAA, hR⟩ := C
  subst hp
  intro H locs ls hP hD hS hl
  exact lv_if_ne hx hb hd ht (fun h => kt (bI_1 h) H locs ls hP hD hS hl) (fun h => kf (bI_0 h) H locs ls hP hD hS hl)
theorem V.goto (C : Cx M cc own rm) {off : Int} (tgt : Nat) (hd : decode cc pc = .ok (.goto off, 3)) (ht : (pc : Int) + off = (tgt : Int)) (k : V M cells slots ws lv st tgt) : V M cells slots ws lv st pc := by
  obtain ⟨p, l, e, R, s, m, args, below, meth, c, nL, A, G, Q⟩ := M
  obtain ⟨hx, hb, hml, hown, hts, hlk, hA, hK, hAA, hR⟩ := C
  intro H locs ls hP hD hS hl
  exact lv_goto hx hb hd ht (k H locs ls hP hD hS hl)
theorem V.get (C : Cx M cc own rm) {index ci N : Nat} {T : u_T} {Cn : String} {a : Nat} {fs : List Value} {v : Value} (hd : decode cc pc = .ok (.getfield index, 3)) (hp : pc + 3 = pc') (q0 : Nat) (hq : ws[q0]? = some (a, .inr (ci, fs))) (hc : CL[ci]? = some (Cn, T, N)) (hin : ∀ w ∈ u_ws Cn T N, w ∈ lw_all) (k : Nat) (hk : Nat.ble (k + 1) N = true) (hw : Cond.fieldLink own index (T k).1 (T k).2.1 (T k).2.2.1 ∈ lw_all) (hv : fs[k]? = some v) (kk : V M cells slots ws lv (v :: st) pc') : V M cells slots ws lv (.ref a :: st) pc := by
  obtain ⟨p, l, e, R, s, m, args, below, meth, c, nL, A, G, Q⟩ := M
  obtain ⟨hx, hb, hml, hown, hts, hlk, hA, hK, hAA, hR⟩ := C
  subst hp
  intro H locs ls hP hD hS hl
  exact va_get (D := G.1.1) hx hb hts hin hown hK.1 hP q0 hq hc k (Nat.le_of_ble_eq_true hk) (hts _ hw) (fun _ h9 => h9) hv hd (kk H locs ls hP hD hS hl)
theorem V.getN (C : Cx M cc own rm) {index ci N : Nat} {T : u_T} {Cn host : String} {a : Nat} {fs : List Value} {v : Value} (hd : decode cc pc = .ok (.getfield index, 3)) (hp : pc + 3 = pc') (q0 : Nat) (hq : ws[q0]? = some (a, .inr (ci, fs))) (hc : CL[ci]? = some (Cn, T, N)) (hin : ∀ w ∈ u_ws Cn T N, w ∈ lw_all) (k : Nat) (hk : Nat.ble (k + 1) N = true) (hw : Cond.fieldLinkNest own index (T k).1 (T k).2.1 (T k).2.2.1 host ∈ lw_tbl) (hv : fs[k]? = some v) (kk : V M cells slots ws lv (v :: st) pc') : V M cells slots ws lv (.ref a :: st) pc := by
  obtain ⟨p, l, e, R, s, m, args, below, meth, c, nL, A, G, Q⟩ := M
  obtain ⟨hx, hb, hml, hown, hts, hlk, hA, hK, hAA, hR⟩ := C
  subst hp
  intro H locs ls hP hD hS hl
  exact va_getN (D := G.1.1) hx hb hts hin hown hK.1 hP q0 hq hc k (Nat.le_of_ble_eq_true hk) (va_Nw.use rfl (hK.2.1 _ hw rfl)) (fun _ h9 => h9) hv hd (kk H locs ls hP hD hS hl)
theorem V.put (C : Cx M cc own rm) {index ci N : Nat} {T : u_T} {Cn : String} {a : Nat} {fs : List Value} {v : Value} (ws2 : va_W) (hd : decode cc pc = .ok (.putfield index, 3)) (hp : pc + 3 = pc') (q0 : Nat) (hq : ws[q0]? = some (a, .inr (ci, fs))) (hc : CL[ci]? = some (Cn, T, N)) (hin : ∀ w ∈ u_ws Cn T N, w ∈ lw_all) {ty0 : Nat → FieldType} (hty : ∀ k, k < N → parseFieldDescriptor (T k).2.2.1 = some (ty0 k)) (hnm : ∀ a, a < N → ∀ b, b < N → a ≠ b → (T a).2.1 ≠ (T b).2.1) (k : Nat) (hk : Nat.ble (k + 1) N = true) (hw : Cond.fieldLink own index (T k).1 (T k).2.1 (T k).2.2.1 ∈ lw_all) (hfin : (T k).2.2.2 = false) (hn : narrow (ty0 k) v = v) (hfit : fits (ty0 k) v = true) (hl0 : Nat.ble (k + 1) fs.length = true) (h2 : ws.set q0 (a, .inr (ci, fs.set k v)) = ws2) (kk : V M cells slots ws2 lv st pc') : V M cells slots ws lv (v :: .ref a :: st) pc := by
  obtain ⟨p, l, e, R, s, m, args, below, meth, c, nL, A, G, Q⟩ := M
  obtain ⟨hx, hb, hml, hown, hts, hlk, hA, hK, hAA, hR⟩ := C
  subst hp
  intro H locs ls hP hD hS hl
  subst h2
  exact va_put (D := G.1.1) hx hb hts hin ty0 hty hnm hown hK.1 hP hD hS q0 hq hc k (Nat.le_of_ble_eq_true hk) (hts _ hw) (fun _ h9 => h9) hfin (hty k (Nat.le_of_ble_eq_true hk)) hn hfit (Nat.le_of_ble_eq_true hl0) hd (fun H locs hP hD hS => kk H locs ls hP hD hS hl)
theorem V.putN (C : Cx M cc own rm) {index ci N : Nat} {T : u_T} {Cn host : String} {a : Nat} {fs : List Value} {v : Value} (ws2 : va_W) (hd : decode cc pc = .ok (.putfield index, 3)) (hp : pc + 3 = pc') (q0 : Nat) (hq : ws[q0]? = some (a, .inr (ci, fs))) (hc : CL[ci]? = some (Cn, T, N)) (hin : ∀ w ∈ u_ws Cn T N, w ∈ lw_all) {ty0 : Nat → FieldType} (hty : ∀ k, k < N → parseFieldDescriptor (T k).2.2.1 = some (ty0 k)) (hnm : ∀ a, a < N → ∀ b, b < N → a ≠ b → (T a).2.1 ≠ (T b).2.1) (k : Nat) (hk : Nat.ble (k + 1) N = true) (hw : Cond.fieldLinkNest own index (T k).1 (T k).2.1 (T k).2.2.1 host ∈ lw_tbl) (hfin : (T k).2.2.2 = false) (hn : narrow (ty0 k) v = v) (hfit : fits (ty0 k) v = true) (hl0 : Nat.ble (k + 1) fs.length = true) (h2 : ws.set q0 (a, .inr (ci, fs.set k v)) = ws2) (kk : V M cells slots ws2 lv st pc') : V M cells slots ws lv (v :: .ref a :: st) pc := by
  obtain ⟨p, l, e, R, s, m, args, below, meth, c, nL, A, G, Q⟩ := M
  obtain ⟨hx, hb, hml, hown, hts, hlk, hA, hK, hAA, hR⟩ := C
  subst hp
  intro H locs ls hP hD hS hl
  subst h2
  exact va_putN (D := G.1.1) hx hb hts hin ty0 hty hnm hown hK.1 hP hD hS q0 hq hc k (Nat.le_of_ble_eq_true hk) (va_Nw.use rfl (hK.2.1 _ hw rfl)) (fun _ h9 => h9) hfin (hty k (Nat.le_of_ble_eq_true hk)) hn hfit (Nat.le_of_ble_eq_true hl0) hd (fun H locs hP hD hS => kk H locs ls hP hD hS hl)
theorem V.putF (C : Cx M cc own rm) {index ci N : Nat} {T : u_T} {Cn : String} {a : Nat} {fs : List Value} {v : Value} (ws2 : va_W) (hd : decode cc pc = .ok (.putfield index, 3)) (hp : pc + 3 = pc') (q0 : Nat) (hq : ws[q0]? = some (a, .inr (ci, fs))) (hc : CL[ci]? = some (Cn, T, N)) (hin : ∀ w ∈ u_ws Cn T N, w ∈ lw_all) {ty0 : Nat → FieldType} (hty : ∀ k, k < N → parseFieldDescriptor (T k).2.2.1 = some (ty0 k)) (hnm : ∀ a, a < N → ∀ b, b < N → a ≠ b → (T a).2.1 ≠ (T b).2.1) (k : Nat) (hk : Nat.ble (k + 1) N = true) (hw : Cond.fieldLink own index (T k).1 (T k).2.1 (T k).2.2.1 ∈ lw_all) (hfin : (T k).2.2.2 = true) (hin2 : M.2.2.2.2.2.2.2.2.1.name = "<init>") (hdecl : (T k).1 = own) (hn : narrow (ty0 k) v = v) (hfit : fits (ty0 k) v = true) (hl0 : Nat.ble (k + 1) fs.length = true) (h2 : ws.set q0 (a, .inr (ci, fs.set k v)) = ws2) (kk : V M cells slots ws2 lv st pc') : V M cells slots ws lv (v :: .ref a :: st) pc := by
  obtain ⟨p, l, e, R, s, m, args, below, meth, c, nL, A, G, Q⟩ := M
  obtain ⟨hx, hb, hml, hown, hts, hlk, hA, hK, hAA, hR⟩ := C
  subst hp
  intro H locs ls hP hD hS hl
  subst h2
  exact va_putF (D := G.1.1) hx hb hts hin ty0 hty hnm hown hK.1 hP hD hS q0 hq hc k (Nat.le_of_ble_eq_true hk) (hts _ hw) (fun _ h9 => h9) hfin hin2 hdecl (hty k (Nat.le_of_ble_eq_true hk)) hn hfit (Nat.le_of_ble_eq_true hl0) hd (fun H locs hP hD hS => kk H locs ls hP hD hS hl)
theorem V.iald (C : Cx M cc own rm) {a n : Nat} {f : Nat → Int32} (j : Nat) (hd : decode cc pc = .ok (.iaload, 1)) (hp : pc + 1 = pc') (q0 : Nat) (hq : ws[q0]? = some (a, .inl (M.G.2 0, n, .inl f))) (hj : j < n) (hn : Nat.ble n 1000000 = true) (kk : V M cells slots ws lv (.int (f j) :: st) pc') : V M cells slots ws lv (.int (nI j) :: .ref a :: st) pc := by
  obtain ⟨p, l, e, R, s, m, args, below, meth, c, nL, A, G, Q⟩ := M
  obtain ⟨hx, hb, hml, hown, hts, hlk, hA, hK, hAA, hR⟩ := C
  subst hp
  intro H locs ls hP hD hS hl
  have hn2 : n < 2 ^ 31 := Nat.lt_of_le_of_lt (Nat.le_of_ble_eq_true hn) (by decide)
  refine va_iald hx hb hK.1 hP q0 0 hq rfl (vp_in_nI hj hn2) hd ?_
  rw [nI_clamp (Nat.lt_trans hj hn2)]
  exact kk H locs ls hP hD hS hl
theorem V.bald (C : Cx M cc own rm) {a n : Nat} {f : Nat → Int32} (j : Nat) (hd : decode cc pc = .ok (.baload, 1)) (hp : pc + 1 = pc') (q0 : Nat) (hq : ws[q0]? = some (a, .inl (M.G.2 1, n, .inl f))) (hj : j < n) (hn : Nat.ble n 1000000 = true) (kk : V M cells slots ws lv (.int (f j) :: st) pc') : V M cells slots ws lv (.int (nI j) :: .ref a :: st) pc := by
  obtain ⟨p, l, e, R, s, m, args, below, meth, c, nL, A, G, Q⟩ := M
  obtain ⟨hx, hb, hml, hown, hts, hlk, hA, hK, hAA, hR⟩ := C
  subst hp
  intro H locs ls hP hD hS hl
  have hn2 : n < 2 ^ 31 := Nat.lt_of_le_of_lt (Nat.le_of_ble_eq_true hn) (by decide)
  refine va_bald hx hb hK.1 hP q0 1 hq rfl (vp_in_nI hj hn2) hd ?_
  rw [nI_clamp (Nat.lt_trans hj hn2)]
  exact kk H locs ls hP hD hS hl
theorem V.sald (C : Cx M cc own rm) {a n : Nat} {f : Nat → Int32} (j : Nat) (hd : decode cc pc = .ok (.saload, 1)) (hp : pc + 1 = pc') (q0 : Nat) (hq : ws[q0]? = some (a, .inl (M.G.2 2, n, .inl f))) (hj : j < n) (hn : Nat.ble n 1000000 = true) (kk : V M cells slots ws lv (.int (f j) :: st) pc') : V M cells slots ws lv (.int (nI j) :: .ref a :: st) pc := by
  obtain ⟨p, l, e, R, s, m, args, below, meth, c, nL, A, G, Q⟩ := M
  obtain ⟨hx, hb, hml, hown, hts, hlk, hA, hK, hAA, hR⟩ := C
  subst hp
  intro H locs ls hP hD hS hl
  have hn2 : n < 2 ^ 31 := Nat.lt_of_le_of_lt (Nat.le_of_ble_eq_true hn) (by decide)
  refine va_sald hx hb hK.1 hP q0 2 hq rfl (vp_in_nI hj hn2) hd ?_
  rw [nI_clamp (Nat.lt_trans hj hn2)]
  exact kk H locs ls hP hD hS hl
theorem V.zald (C : Cx M cc own rm) {a n : Nat} {f : Nat → Int32} (j : Nat) (hd : decode cc pc = .ok (.baload, 1)) (hp : pc + 1 = pc') (q0 : Nat) (hq : ws[q0]? = some (a, .inl (M.G.2 3, n, .inl f))) (hj : j < n) (hn : Nat.ble n 1000000 = true) (kk : V M cells slots ws lv (.int (f j) :: st) pc') : V M cells slots ws lv (.int (nI j) :: .ref a :: st) pc := by
  obtain ⟨p, l, e, R, s, m, args, below, meth, c, nL, A, G, Q⟩ := M
  obtain ⟨hx, hb, hml, hown, hts, hlk, hA, hK, hAA, hR⟩ := C
  subst hp
  intro H locs ls hP hD hS hl
  have hn2 : n < 2 ^ 31 := Nat.lt_of_le_of_lt (Nat.le_of_ble_eq_true hn) (by decide)
  refine va_zald hx hb hK.1 hP q0 3 hq rfl (vp_in_nI hj hn2) hd ?_
  rw [nI_clamp (Nat.lt_trans hj hn2)]
  exact kk H locs ls hP hD hS hl
theorem V.iast (C : Cx M cc own rm) {a n : Nat} {f : Nat → Int32} {x : Int32} (j : Nat) (ws2 : va_W) (hd : decode cc pc = .ok (.iastore, 1)) (hp : pc + 1 = pc') (q0 : Nat) (hq : ws[q0]? = some (a, .inl (M.G.2 0, n, .inl f))) (hj : j < n) (hn : Nat.ble n 1000000 = true) (y : Int32) (hy : x = y) (h2 : ws.set q0 (a, .inl (M.G.2 0, n, .inl (upd f j y))) = ws2) (kk : V M cells slots ws2 lv st pc') : V M cells slots ws lv (.int x :: .int (nI j) :: .ref a :: st) pc := by
  obtain ⟨p, l, e, R, s, m, args, below, meth, c, nL, A, G, Q⟩ := M
  obtain ⟨hx, hb, hml, hown, hts, hlk, hA, hK, hAA, hR⟩ := C
  subst hp
  intro H locs ls hP hD hS hl
  subst h2
  subst hy
  have hn2 : n < 2 ^ 31 := Nat.lt_of_le_of_lt (Nat.le_of_ble_eq_true hn) (by decide)
  refine va_iast hx hb hK.1 hP hD hS q0 0 hq rfl (vp_in_nI hj hn2) hd (fun H locs hP hD hS => ?_)
  rw [nI_clamp (Nat.lt_trans hj hn2)] at hP hD
  exact kk H locs ls hP hD hS hl
theorem V.bast (C : Cx M cc own rm) {a n : Nat} {f : Nat → Int32} {x : Int32} (j : Nat) (ws2 : va_W) (hd : decode cc pc = .ok (.bastore, 1)) (hp : pc + 1 = pc') (q0 : Nat) (hq : ws[q0]? = some (a, .inl (M.G.2 1, n, .inl f))) (hj : j < n) (hn : Nat.ble n 1000000 = true) (y : Int32) (hy : (vp_nar .byte x) = y) (h2 : ws.set q0 (a, .inl (M.G.2 1, n, .inl (upd f j y))) = ws2) (kk : V M cells slots ws2 lv st pc') : V M cells slots ws lv (.int x :: .int (nI j) :: .ref a :: st) pc := by
  obtain ⟨p, l, e, R, s, m, args, below, meth, c, nL, A, G, Q⟩ := M
  obtain ⟨hx, hb, hml, hown, hts, hlk, hA, hK, hAA, hR⟩ := C
  subst hp
  intro H locs ls hP hD hS hl
  subst h2
  subst hy
  have hn2 : n < 2 ^ 31 := Nat.lt_of_le_of_lt (Nat.le_of_ble_eq_true hn) (by decide)
  refine va_bast hx hb hK.1 hP hD hS q0 1 hq rfl (vp_in_nI hj hn2) hd (fun H locs hP hD hS => ?_)
  rw [nI_clamp (Nat.lt_trans hj hn2)] at hP hD
  exact kk H locs ls hP hD hS hl
theorem V.sast (C : Cx M cc own rm) {a n : Nat} {f : Nat → Int32} {x : Int32} (j : Nat) (ws2 : va_W) (hd : decode cc pc = .ok (.sastore, 1)) (hp : pc + 1 = pc') (q0 : Nat) (hq : ws[q0]? = some (a, .inl (M.G.2 2, n, .inl f))) (hj : j < n) (hn : Nat.ble n 1000000 = true) (y : Int32) (hy : (vp_nar .short x) = y) (h2 : ws.set q0 (a, .inl (M.G.2 2, n, .inl (upd f j y))) = ws2) (kk : V M cells slots ws2 lv st pc') : V M cells slots ws lv (.int x :: .int (nI j) :: .ref a :: st) pc := by
  obtain ⟨p, l, e, R, s, m, args, below, meth, c, nL, A, G, Q⟩ := M
  obtain ⟨hx, hb, hml, hown, hts, hlk, hA, hK, hAA, hR⟩ := C
  subst hp
  intro H locs ls hP hD hS hl
  subst h2
  subst hy
  have hn2 : n < 2 ^ 31 := Nat.lt_of_le_of_lt (Nat.le_of_ble_eq_true hn) (by decide)
  refine va_sast hx hb hK.1 hP hD hS q0 2 hq rfl (vp_in_nI hj hn2) hd (fun H locs hP hD hS => ?_)
  rw [nI_clamp (Nat.lt_trans hj hn2)] at hP hD
  exact kk H locs ls hP hD hS hl
theorem V.zast (C : Cx M cc own rm) {a n : Nat} {f : Nat → Int32} {x : Int32} (j : Nat) (ws2 : va_W) (hd : decode cc pc = .ok (.bastore, 1)) (hp : pc + 1 = pc') (q0 : Nat) (hq : ws[q0]? = some (a, .inl (M.G.2 3, n, .inl f))) (hj : j < n) (hn : Nat.ble n 1000000 = true) (y : Int32) (hy : (vp_nar .boolean x) = y) (h2 : ws.set q0 (a, .inl (M.G.2 3, n, .inl (upd f j y))) = ws2) (kk : V M cells slots ws2 lv st pc') : V M cells slots ws lv (.int x :: .int (nI j) :: .ref a :: st) pc := by
  obtain ⟨p, l, e, R, s, m, args, below, meth, c, nL, A, G, Q⟩ := M
  obtain ⟨hx, hb, hml, hown, hts, hlk, hA, hK, hAA, hR⟩ := C
  subst hp
  intro H locs ls hP hD hS hl
  subst h2
  subst hy
  have hn2 : n < 2 ^ 31 := Nat.lt_of_le_of_lt (Nat.le_of_ble_eq_true hn) (by decide)
  refine va_zast hx hb hK.1 hP hD hS q0 3 hq rfl (vp_in_nI hj hn2) hd (fun H locs hP hD hS => ?_)
  rw [nI_clamp (Nat.lt_trans hj hn2)] at hP hD
  exact kk H locs ls hP hD hS hl
theorem V.alen (C : Cx M cc own rm) {a : Nat} {x : vp_A} {cA : ClassId} {ty : FieldType} (hd : decode cc pc = .ok (.arraylength, 1)) (hp : pc + 1 = pc') (q0 t0 : Nat) (hq : ws[q0]? = some (a, .inl (cA, x))) (ht : (TY M.G)[t0]? = some (cA, ty)) (kk : V M cells slots ws lv (.int (nI x.1) :: st) pc') : V M cells slots ws lv (.ref a :: st) pc := by
  obtain ⟨p, l, e, R, s, m, args, below, meth, c, nL, A, G, Q⟩ := M
  obtain ⟨hx, hb, hml, hown, hts, hlk, hA, hK, hAA, hR⟩ := C
  subst hp
  intro H locs ls hP hD hS hl
  exact va_alen hx hb hK.1 hP q0 t0 hq ht rfl hd (kk H locs ls hP hD hS hl)
theorem V.aald (C : Cx M cc own rm) {a n : Nat} {Cn : String} {cA : ClassId} {f : Nat → Option Nat} {v : Nat} (j : Nat) (hd : decode cc pc = .ok (.aaload, 1)) (hp : pc + 1 = pc') (q0 t0 : Nat) (hq : ws[q0]? = some (a, .inl (cA, n, .inr (.inr (.inr (.inr f)))))) (ht : (TY M.G)[t0]? = some (cA, .object Cn)) (hj : j < n) (hn : Nat.ble n 1000000 = true) (hf : f j = some v) (kk : V M cells slots ws lv (.ref v :: st) pc') : V M cells slots ws lv (.int (nI j) :: .ref a :: st) pc := by
  obtain ⟨p, l, e, R, s, m, args, below, meth, c, nL, A, G, Q⟩ := M
  obtain ⟨hx, hb, hml, hown, hts, hlk, hA, hK, hAA, hR⟩ := C
  subst hp
  intro H locs ls hP hD hS hl
  have hn2 : n < 2 ^ 31 := Nat.lt_of_le_of_lt (Nat.le_of_ble_eq_true hn) (by decide)
  refine va_aldq hx hb hK.1 hP q0 t0 hq ht (vp_in_nI hj hn2) hd ?_
  rw [nI_clamp (Nat.lt_trans hj hn2), hf]
  exact kk H locs ls hP hD hS hl
theorem V.tableIn (C : Cx M cc own rm) {x : Int32} {dflt lo hi off : Int} {offs : Array Int} {len : Nat} (tgt : Nat) (hd : decode cc pc = .ok (.tableswitch dflt lo hi offs, len)) (h1 : ¬ x.toInt < lo) (h2 : ¬ hi < x.toInt) (ho : offs[(x.toInt - lo).toNat]? = some off) (ht : (pc : Int) + off = (tgt : Int)) (k : V M cells slots ws lv st tgt) : V M cells slots ws lv (.int x :: st) pc := by
  obtain ⟨p, l, e, R, s, m, args, below, meth, c, nL, A, G, Q⟩ := M
  obtain ⟨hx, hb, hml, hown, hts, hlk, hA, hK, hAA, hR⟩ := C
  intro H locs ls hP hD hS hl
  exact lv_tableIn hx hb hd h1 h2 ho ht (k H locs ls hP hD hS hl)
theorem V.tableOut (C : Cx M cc own rm) {x : Int32} {dflt lo hi : Int} {offs : Array Int} {len : Nat} (tgt : Nat) (hd : decode cc pc = .ok (.tableswitch dflt lo hi offs, len)) (h : x.toInt < lo ∨ hi < x.toInt) (ht : (pc : Int) + dflt = (tgt : Int)) (k : V M cells slots ws lv st tgt) : V M cells slots ws lv (.int x :: st) pc := by
  obtain ⟨p, l, e, R, s, m, args, below, meth, c, nL, A, G, Q⟩ := M
  obtain ⟨hx, hb, hml, hown, hts, hlk, hA, hK, hAA, hR⟩ := C
  intro H locs ls hP hD hS hl
  exact lv_tableOut hx hb hd h ht (k H locs ls hP hD hS hl)
theorem V.new (C : Cx M cc own rm) {index ci N : Nat} {T : u_T} {Cn : String} {fs : List Value} (ty : Nat → FieldType) (hd : decode cc pc = .ok (.new index, 3)) (hp : pc + 3 = pc') (hc : CL[ci]? = some (Cn, T, N)) (hin : ∀ w ∈ u_ws Cn T N, w ∈ lw_all) (hty : ∀ k, k < N → parseFieldDescriptor (T k).2.2.1 = some (ty k)) (h1 : Cond.classLink own index Cn ∈ lw_all) (h2 : Cond.instantiable Cn N ∈ lw_all) (h3 : Cond.initialized Cn ∈ lw_all) (hfs : ∀ j, j < N → defaultValue (ty j) = vp_V fs j) (hcl : Nat.ble (cells + 1) rm.cells = true) (hsl : Nat.ble (slots + N) rm.slots = true) (kk : ∀ q : Nat, V M (cells + 1) (slots + N) (ws ++ [(q, .inr (ci, fs))]) lv (.ref q :: st) pc') : V M cells slots ws lv st pc := by
  obtain ⟨p, l, e, R, s, m, args, below, meth, c, nL, A, G, Q⟩ := M
  obtain ⟨hx, hb, hml, hown, hts, hlk, hA, hK, hAA, hR⟩ := C
  subst hp
  intro H locs ls hP hD hS hl
  subst hR
  exact va_new hx hb hts hin ty hty hown (hts _ h1) (hts _ h2) (hts _ h3) hK.1 hP hD hS hA hc hfs (Nat.le_of_ble_eq_true hcl) (Nat.le_of_ble_eq_true hsl) hd (fun q H hP hD hS => kk q H locs ls hP hD hS hl)
theorem V.iret (C : Cx M cc own rm) {rt : Option FieldType} {S : Type} {res : S → Option Value} {post : S → Prop} {w' : S → va_W} (T : Rt M rt res post w') {v : Int32} {ty : FieldType} (hd : decode cc pc = .ok (.ireturn, 1)) (u : S) (hrt : rt = some ty) {v0 : Int32} (hr : res u = some (.int v0)) (hv : v = v0) (hn : narrow ty (.int v0) = .int v0) (hu : post u) (hw : ws = w' u) (hcl : Nat.ble cells rm.cells = true) (hsl : Nat.ble slots rm.slots = true) : V M cells slots ws lv [.int v] pc := by
  obtain ⟨p, l, e, R, s, m, args, below, meth, c, nL, A, G, Q⟩ := M
  obtain ⟨hx, hb, hml, hown, hts, hlk, hA, hK, hAA, hR⟩ := C
  obtain ⟨Qc, hQ, hret, hfin⟩ := T
  subst hR
  subst hQ
  subst hw
  subst hv
  intro H locs ls hP hD hS hl
  refine W.widen (Nat.le_of_ble_eq_true hcl) (Nat.le_of_ble_eq_true hsl) ?_
  exact W.zret hx hb (hret.trans hrt) hn (fun t ht _ => by have := hfin u H locs hu hP hD hS t ht; rw [hr] at this; exact this) hS.2.2 hd hlk
theorem V.lret (C : Cx M cc own rm) {S : Type} {res : S → Option Value} {post : S → Prop} {w' : S → va_W} (T : Rt M (some .long) res post w') {v : Int64} (hd : decode cc pc = .ok (.lreturn, 1)) (u : S) {v0 : Int64} (hr : res u = some (.long v0)) (hv : v = v0) (hu : post u) (hw : ws = w' u) (hcl : Nat.ble cells rm.cells = true) (hsl : Nat.ble slots rm.slots = true) : V M cells slots ws lv [.long v] pc := by
  obtain ⟨p, l, e, R, s, m, args, below, meth, c, nL, A, G, Q⟩ := M
  obtain ⟨hx, hb, hml, hown, hts, hlk, hA, hK, hAA, hR⟩ := C
  obtain ⟨Qc, hQ, hret, hfin⟩ := T
  subst hR
  subst hQ
  subst hw
  subst hv
  intro H locs ls hP hD hS hl
  refine W.widen (Nat.le_of_ble_eq_true hcl) (Nat.le_of_ble_eq_true hsl) ?_
  exact W.lret hx hb hret (fun t ht _ => by have := hfin u H locs hu hP hD hS t ht; rw [hr] at this; exact this) hS.2.2 hd hlk
theorem V.vret (C : Cx M cc own rm) {S : Type} {res : S → Option Value} {post : S → Prop} {w' : S → va_W} (T : Rt M none res post w') (hd : decode cc pc = .ok (.return_, 1)) (u : S) (hr : res u = none) (hu : post u) (hw : ws = w' u) (hcl : Nat.ble cells rm.cells = true) (hsl : Nat.ble slots rm.slots = true) : V M cells slots ws lv [] pc := by
  obtain ⟨p, l, e, R, s, m, args, below, meth, c, nL, A, G, Q⟩ := M
  obtain ⟨hx, hb, hml, hown, hts, hlk, hA, hK, hAA, hR⟩ := C
  obtain ⟨Qc, hQ, hret, hfin⟩ := T
  subst hR
  subst hQ
  subst hw
  intro H locs ls hP hD hS hl
  refine W.widen (Nat.le_of_ble_eq_true hcl) (Nat.le_of_ble_eq_true hsl) ?_
  exact W.vret hx hb hret (fun t ht _ => by have := hfin u H locs hu hP hD hS t ht; rw [hr] at this; exact this) hS.2.2 hd hlk
end VR
section VQ
variable {p : Program} {l : Launch} {e : Env} {R : Room} {s : State} {m : MethodId} {args : Array Value} {below : List Frame} {meth : Method} {c : Code} {H : Heap} {locs : List Loc} {cells slots : Nat} {Q : State → Prop}
variable {pc : Nat} {ls : Array Slot} {rest st0 : List Value} {a : Array Value} {A0 A1 : Nat → Prop} {H0 : Heap} {mc ms : Nat} {free : Addr → Prop}
theorem va_callQ {S : Type} {res : S → Option Value} {post : S → Prop} {B : S → State → Prop} (hr : va_Run p l e R s m args below meth c H locs cells slots mc ms (F0 m pc ls st0) rest (QV res post B A1 a) free) (hS : va_S A0 H0 H locs) (hA : ∀ q, q < H.size → A1 q → A0 q) (hf : ∀ q, free q → A0 q)
    (kk : ∀ (u : S) (t : State) (H1 : Heap) (locs1 : List Loc), t.heap = H1 → post u → B u t → H.size ≤ H1.size → (∀ q : Nat, q < H.size → ¬ A1 q → H1[q]? = H[q]?) → va_S A0 H0 H1 locs1 → W p l e R s m args below meth c H1 locs1 (cells + mc) (slots + ms) Q (F0 m (pc + 3) ls ((res u).toList ++ rest))) : W p l e R s m args below meth c H locs cells slots Q (F0 m pc ls st0) := by
  intro T hT X
  obtain ⟨v, st₀, t, T', L, h0, X', hL, e1, e2, ⟨⟨u, hv, hp, hb⟩, hz, hk⟩, st⟩ := hr T hT X
  cases hv
  rw [h0] at hz hk
  obtain ⟨t2, a1, b1⟩ := kk u t T'.heap (locs ++ L) e1.symm hp hb (by rw [e1]; exact hz) (fun q h1 h2 => by rw [e1]; exact hk q h1 h2)
    ⟨Nat.le_trans hS.1 (by rw [e1]; exact hz), fun q h1 h2 => by rw [e1, hk q (Nat.lt_of_lt_of_le h1 hS.1) (fun z => h2 (hA q (Nat.lt_of_lt_of_le h1 hS.1) z))]; exact hS.2.1 q h1 h2, fun q hq => by
      rcases List.mem_append.mp hq with h | h
      · exact hS.2.2 q h
      · exact hf _ (hL q h)⟩ T' rfl X'
  exact ⟨t2, st t2 a1, b1⟩
end VQ
/-- where the callee's cells, the others, and all of them behind the call stand -/
def PlOk (isC isR isP : List Nat) : Bool := va_nd isC && va_nd isR && va_nd isP && isR.all (fun i => !(isC.contains i))
def RmOk (rm rm0 : Room) (n1 cells slots : Nat) (rest : List Value) : Bool := Nat.ble (rm.frames + 1) rm0.frames && Nat.ble (8 + (n1 + 11) + rm.locals) rm0.locals && Nat.ble (cells + rm.cells) rm0.cells && Nat.ble (slots + rm.slots) rm0.slots && Nat.ble ((rest.map fun v => v.category).sum) 8
theorem RmOk.spec {rm rm0 : Room} {n1 cells slots : Nat} {rest : List Value} (h : RmOk rm rm0 n1 cells slots rest = true) : (rm.frames + 1 ≤ rm0.frames ∧ 8 + (n1 + 11) + rm.locals ≤ rm0.locals) ∧ (cells + rm.cells ≤ rm0.cells ∧ slots + rm.slots ≤ rm0.slots) ∧ (rest.map fun v => v.category).sum ≤ 8 := by
  simp only [RmOk, Bool.and_eq_true] at h
  obtain ⟨⟨⟨⟨h1, h2⟩, h3⟩, h4⟩, h5⟩ := h
  exact ⟨⟨Nat.le_of_ble_eq_true h1, Nat.le_of_ble_eq_true h2⟩, ⟨Nat.le_of_ble_eq_true h3, Nat.le_of_ble_eq_true h4⟩, Nat.le_of_ble_eq_true h5⟩
theorem PlOk.spec {isC isR isP : List Nat} (h : PlOk isC isR isP = true) : va_nd isC = true ∧ va_nd isR = true ∧ va_nd isP = true ∧ ∀ i ∈ isR, i ∉ isC := by
  simp only [PlOk, Bool.and_eq_true] at h
  obtain ⟨⟨⟨h1, h2⟩, h3⟩, h4⟩ := h
  refine ⟨h1, h2, h3, fun i hi hc => ?_⟩
  have h5 := List.all_eq_true.mp h4 i hi
  simp only [Bool.not_eq_true', List.contains_eq_mem, decide_eq_false_iff_not] at h5
  exact h5 hc
theorem wsub {D : va_G} {ws ws' : va_W} {H : Heap} (h : va_P D CL ws H) (is : List Nat) (hs : is.map (fun i => ws[i]?) = ws'.map some) : va_P D CL ws' H := by
  intro j q hq
  have h1 : (is.map (fun i => ws[i]?))[j]? = some (some q) := by rw [hs, List.getElem?_map, hq]; rfl
  rw [List.getElem?_map] at h1
  cases hi : is[j]? with
  | none => rw [hi] at h1; cases h1
  | some i => rw [hi] at h1; exact h i q (Option.some.inj h1)
theorem Ct.blind {G : GG} {av : List Value} {ws : va_W} {sz : Nat} : FrameBlind (va_Pc av (fun U => U.heap.size = sz ∧ va_P G.1.1 CL ws U.heap ∧ K0 G U ∧ va_D (fun _ => True) ws ∧ (∀ q : Nat, va_A ws sz q → A0 G.1.2 q))) := by
  intro a U g mk q
  obtain ⟨q0, q1, qP, qK, qD, qA⟩ := q
  exact ⟨q0, q1, qP, K0.call (u := U) rfl rfl qK, qD, qA⟩
section VCALL
variable {M : MC} {cc : ByteArray} {own : String} {rm0 rm : Room} {cells slots : Nat} {ws ws1 wr : va_W} {lv : List (Nat × Value)} {st rest As : List Value} {pc pc' idx n n1 ci : Nat} {y : MethodName} {c1 : ByteArray} {rt : Option FieldType} {S : Type} {res : S → Option Value} {post : S → Prop} {w' : S → va_W} {b : Nat} {r : vw_C} {fs : List Value}
/-- the part that all calls share -/
theorem V.callCore {p : Program} {l : Launch} {e : Env} {R : Room} {s : State} {m : MethodId} {args : Array Value} {below : List Frame} {meth : Method} {c : Code} {A : Nat → Prop} {G : GG} {Q : State → Prop} {H : Heap} {locs : List Loc} {ls : Array Slot} {a : Array Value}
    (hA : ∀ q : Nat, s.heap.size ≤ q → A q) (hP : va_P G.1.1 CL ws H) (hD : va_D A ws) (hS : va_S A s.heap H locs)
    (isC isR isP : List Nat) (hC : isC.map (fun i => ws[i]?) = ws1.map some) (hRs : isR.map (fun i => ws[i]?) = wr.map some) (hpl : PlOk isC isR isP = true) (ws2 : S → va_W) (h2 : ∀ u, isP.map (fun i => (wr ++ w' u)[i]?) = (ws2 u).map some)
    (hrun : va_Run p l e R s m args below meth c H locs cells slots rm.cells rm.slots (F0 m pc ls st) rest (QV res post (fun u t => va_P G.1.1 CL (w' u) t.heap ∧ va_D (va_A ws1 H.size) (w' u)) (va_A ws1 H.size) a) (va_A ws1 H.size))
    (kk : ∀ (u : S) (H : Heap) (locs : List Loc), post u → va_P G.1.1 CL (ws2 u) H → va_D A (ws2 u) → va_S A s.heap H locs → W p l e R s m args below meth c H locs (cells + rm.cells) (slots + rm.slots) Q (F0 m (pc + 3) ls ((res u).toList ++ rest))) : W p l e R s m args below meth c H locs cells slots Q (F0 m pc ls st) := by
  obtain ⟨-, n2, n3, hdis⟩ := PlOk.spec hpl
  have hFc := va_free (wc := ws1) hD hS hA isC hC
  refine va_callQ hrun hS (fun q _ h => hFc q h) hFc (fun u t H1 locs1 ht hu hB hz1 hk1 hS1 => ?_)
  obtain ⟨hP1, hD1⟩ := hB
  rw [ht] at hP1
  obtain ⟨hP2, hD2⟩ := va_join (wr := wr) (w1 := w' u) hP hD isC isR hC hRs n2 hdis hk1 hFc hP1 hD1
  exact kk u H1 locs1 hu (wsub hP2 isP (h2 u)) (hD2.sub isP n3 (h2 u)) hS1
theorem V.callV (C : Cx M cc own rm0) (hM : Ct M.l M.G y (ws_ y c1 n1 rt) rm (.ref b :: As) ws1 res post w')
    (hd : decode cc pc = .ok (.invokevirtual idx, 3)) (hp : pc + 3 = pc') (hg : GoodIn lw_all (wsV own idx r.1 y (ws_ y c1 n1 rt)))
    (hy : y.cls = r.1 ∧ y.cls ≠ "java/lang/invoke/MethodHandle" ∧ y.cls ≠ "java/lang/invoke/VarHandle" ∧ (parseMethodDescriptor y.desc).map (fun d => d.parameters.length) = some n) (hn : As.length = n) (hst : st = As.reverse ++ .ref b :: rest)
    (q0 : Nat) (hq : ws1[q0]? = some (b, .inr (ci, fs))) (hc : CL[ci]? = some r)
    (isC isR isP : List Nat) (hC : isC.map (fun i => ws[i]?) = ws1.map some) (hRs : isR.map (fun i => ws[i]?) = wr.map some) (hpl : PlOk isC isR isP = true) (ws2 : S → va_W) (h2 : ∀ u, isP.map (fun i => (wr ++ w' u)[i]?) = (ws2 u).map some) (hrm : RmOk rm rm0 n1 cells slots rest = true)
    (c2 s2 : Nat) (hc2 : cells + rm.cells = c2) (hs2 : slots + rm.slots = s2) (st2 : S → List Value) (hst2 : ∀ u, (res u).toList ++ rest = st2 u)
    (kk : ∀ u : S, post u → V M c2 s2 (ws2 u) lv (st2 u) pc') : V M cells slots ws lv st pc := by
  obtain ⟨p, l, e, R, s, m, args, below, meth, c, nL, A, G, Q⟩ := M
  obtain ⟨hx, hb, hml, hown, hts, hlk, hA, hK, hAA, hR⟩ := C
  obtain ⟨r1, r2, r3⟩ := RmOk.spec hrm
  subst hp
  subst hR
  intro H locs ls hP hD hS hl
  have hPc := wsub hP isC hC
  have hDc : va_D A ws1 := hD.sub isC (PlOk.spec hpl).1 hC
  have hFc := va_free (wc := ws1) hD hS hA isC hC
  refine V.callCore hA hP hD hS isC isR isP hC hRs hpl ws2 h2 (va_runV (As := As) (rest := rest) (b := b) ⟨hx, hb, hml, hown, hts⟩ (hM H.size) (cwV n hts hg rfl rfl rfl hy r1) ⟨Ct.blind, va_recv hK.1 hPc hc hq, fun U hU hW => ⟨rfl, by rw [hU], by rw [hU]; exact hPc, hK.warm hW (by rw [hU]; exact fun q h1 h2 => hS.2.1 q h1 (fun z => h2 (hAA q z))), hDc.weaken (fun _ _ _ _ => trivial), fun q hq => hAA q (hFc q hq)⟩⟩ rfl hn hl.1 hst (lv_room r3) hd r2) (fun u H locs hu hP hD hS => by have := kk u hu H locs ls hP hD hS hl; rw [hst2 u, hc2, hs2]; exact this)
theorem V.callS (C : Cx M cc own rm0) (hM : Ct M.l M.G y (ws_ y c1 n1 rt) rm As ws1 res post w')
    (hd : decode cc pc = .ok (.invokestatic idx, 3)) (hp : pc + 3 = pc') (hg : GoodIn lw_all (va_wsS own idx y (ws_ y c1 n1 rt)))
    (hy : y.cls ≠ "java/lang/invoke/MethodHandle" ∧ y.cls ≠ "java/lang/invoke/VarHandle" ∧ (parseMethodDescriptor y.desc).map (fun d => d.parameters.length) = some n) (hn : As.length = n) (hst : st = As.reverse ++ rest)
    (isC isR isP : List Nat) (hC : isC.map (fun i => ws[i]?) = ws1.map some) (hRs : isR.map (fun i => ws[i]?) = wr.map some) (hpl : PlOk isC isR isP = true) (ws2 : S → va_W) (h2 : ∀ u, isP.map (fun i => (wr ++ w' u)[i]?) = (ws2 u).map some) (hrm : RmOk rm rm0 n1 cells slots rest = true)
    (c2 s2 : Nat) (hc2 : cells + rm.cells = c2) (hs2 : slots + rm.slots = s2) (st2 : S → List Value) (hst2 : ∀ u, (res u).toList ++ rest = st2 u)
    (kk : ∀ u : S, post u → V M c2 s2 (ws2 u) lv (st2 u) pc') : V M cells slots ws lv st pc := by
  obtain ⟨p, l, e, R, s, m, args, below, meth, c, nL, A, G, Q⟩ := M
  obtain ⟨hx, hb, hml, hown, hts, hlk, hA, hK, hAA, hR⟩ := C
  obtain ⟨r1, r2, r3⟩ := RmOk.spec hrm
  subst hp
  subst hR
  intro H locs ls hP hD hS hl
  have hPc := wsub hP isC hC
  have hDc : va_D A ws1 := hD.sub isC (PlOk.spec hpl).1 hC
  have hFc := va_free (wc := ws1) hD hS hA isC hC
  refine V.callCore hA hP hD hS isC isR isP hC hRs hpl ws2 h2 (va_runS (As := As) (rest := rest) ⟨hx, hb, hml, hown, hts⟩ (hM H.size) (va_cwS n hts hg rfl rfl rfl hy r1) ⟨Ct.blind, fun U hU hW => ⟨rfl, by rw [hU], by rw [hU]; exact hPc, hK.warm hW (by rw [hU]; exact fun q h1 h2 => hS.2.1 q h1 (fun z => h2 (hAA q z))), hDc.weaken (fun _ _ _ _ => trivial), fun q hq => hAA q (hFc q hq)⟩⟩ rfl hn hl.1 hst (lv_room r3) hd r2) (fun u H locs hu hP hD hS => by have := kk u hu H locs ls hP hD hS hl; rw [hst2 u, hc2, hs2]; exact this)
theorem V.callI (C : Cx M cc own rm0) (hM : Ct M.l M.G y (ws_ y c1 n1 none) rm (.ref b :: As) ws1 res post w')
    (hd : decode cc pc = .ok (.invokespecial idx, 3)) (hp : pc + 3 = pc') (hg : Cond.code y c1 n1 none ∈ lw_all) (hi : Cond.initialized y.cls ∈ lw_all) (hk : Cond.methodLink own idx y ∈ lw_all) (hj : Cond.instanceMethod y ∈ lw_all) (hyi : y.name = "<init>")
    (hy : y.cls ≠ "java/lang/invoke/MethodHandle" ∧ y.cls ≠ "java/lang/invoke/VarHandle" ∧ (parseMethodDescriptor y.desc).map (fun d => d.parameters.length) = some n) (hn : As.length = n) (hst : st = As.reverse ++ .ref b :: rest)
    (isC isR isP : List Nat) (hC : isC.map (fun i => ws[i]?) = ws1.map some) (hRs : isR.map (fun i => ws[i]?) = wr.map some) (hpl : PlOk isC isR isP = true) (ws2 : S → va_W) (h2 : ∀ u, isP.map (fun i => (wr ++ w' u)[i]?) = (ws2 u).map some) (hrm : RmOk rm rm0 n1 cells slots rest = true)
    (c2 s2 : Nat) (hc2 : cells + rm.cells = c2) (hs2 : slots + rm.slots = s2) (st2 : S → List Value) (hst2 : ∀ u, (res u).toList ++ rest = st2 u)
    (kk : ∀ u : S, post u → V M c2 s2 (ws2 u) lv (st2 u) pc') : V M cells slots ws lv st pc := by
  obtain ⟨p, l, e, R, s, m, args, below, meth, c, nL, A, G, Q⟩ := M
  obtain ⟨hx, hb, hml, hown, hts, hlk, hA, hK, hAA, hR⟩ := C
  obtain ⟨r1, r2, r3⟩ := RmOk.spec hrm
  subst hp
  subst hR
  intro H locs ls hP hD hS hl
  have hPc := wsub hP isC hC
  have hDc : va_D A ws1 := hD.sub isC (PlOk.spec hpl).1 hC
  have hFc := va_free (wc := ws1) hD hS hA isC hC
  refine V.callCore hA hP hD hS isC isR isP hC hRs hpl ws2 h2 (va_runI (As := As) (rest := rest) (b := b) ⟨hx, hb, hml, hown, hts⟩ (hM H.size) (cwI n hts (lw_meth hg) rfl rfl rfl (hts _ hi) (hts _ hk) (hts _ hj) hyi hy r1) ⟨Ct.blind, fun U hU hW => ⟨rfl, by rw [hU], by rw [hU]; exact hPc, hK.warm hW (by rw [hU]; exact fun q h1 h2 => hS.2.1 q h1 (fun z => h2 (hAA q z))), hDc.weaken (fun _ _ _ _ => trivial), fun q hq => hAA q (hFc q hq)⟩⟩ rfl hn hl.1 hst (lv_room r3) hd r2) (fun u H locs hu hP hD hS => by have := kk u hu H locs ls hP hD hS hl; rw [hst2 u, hc2, hs2]; exact this)
end VCALL
