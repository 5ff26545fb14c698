/-! EXCEPTIONS, seventh part: instructions that throw -/
set_option maxRecDepth 100000
theorem kept_world {D : va_G} {cl : List vw_C} {ws : va_W} {A : Nat → Prop} {H0 H W : Heap} {locs L : List Loc} (hP : va_P D cl ws H) (hS : va_S A H0 H locs) (hA : ∀ q : Nat, H0.size ≤ q → A q) (hsz : H.size ≤ W.size) (hne : ∀ q : Nat, q < H.size → W[q]? = H[q]?) (hL : ∀ q ∈ L, H.size ≤ q.base) : va_P D cl ws W ∧ va_S A H0 W (locs ++ L) := by
  refine ⟨hP.kept fun k q hk => hne _ (hP k q hk).lt, Nat.le_trans hS.1 hsz, fun q h1 h2 => ?_, fun q hq => ?_⟩
  · rw [hne q (Nat.lt_of_lt_of_le h1 hS.1)]
    exact hS.2.1 q h1 h2
  · rcases List.mem_append.mp hq with h | h
    · exact hS.2.2 q h
    · exact hA _ (Nat.le_trans hS.1 (hL q h))
def ixT (i : Int32) (n : Nat) : String := "Index " ++ toString i ++ " out of bounds for length " ++ toString n
/-- what stands when the machine is about to make an exception of its own over the frame -/
def VN (M : MC) (cells slots : Nat) (ws : va_W) (lv : List (Nat × Value)) (st : List Value) (pc : Nat) (X : String) (tx : Option String) : Prop :=
  match M with
  | (p, l, e, R, s, m, args, below, meth, c, nL, A, G, Q) =>
    ∀ (H : Heap) (locs : List Loc) (ls : Array Slot), va_P G.1.1 CL ws H → va_D A ws → va_S A s.heap H locs → lv_has ls nL lv →
      ∀ T : State, T.heap = H → Stand p l e R s m args below meth c T locs cells slots → ∃ t, Steps p.tables e below ((T.setTop (F0 m pc ls st)).pushFrame (.throwNew X tx none)) t ∧ Q t
section XV
variable {M : MC} {cc : ByteArray} {own : String} {rm : Room} {cells slots : Nat} {ws : va_W} {lv : List (Nat × Value)} {st : List Value} {pc : Nat}
theorem VN.npe (C : Cx M cc own rm) (htr : M.l.stackTraces = false) (hfr : Nat.ble 8 rm.frames = true) (hlo : Nat.ble ((st.map fun v => v.category).sum + 10240) rm.locals = true) (hcl : Nat.ble (cells + 1) rm.cells = true) (hsl : Nat.ble (slots + 8) rm.slots = true)
    (k : ∀ a : Nat, VT M (cells + 1) (slots + 8) ws lv pc a "java/lang/NullPointerException") : VN M cells slots ws lv st pc "java/lang/NullPointerException" none := by
  obtain ⟨p, l, e, R, s, m, args, below, meth, c, nL, A, G, Q⟩ := M
  obtain ⟨hx, hb, hml, hown, hts, hlk, hA, hK, hAA, hR⟩ := C
  subst hR
  intro H locs ls hP hD hS hl T hT X0
  have htr' : e.platform.stackTraces = false := by rw [Example.NoTraceControls.admits_follows X0.admits]; exact htr
  have hz : va_Z "java/lang/Throwable" "UNASSIGNED_STACK" steDs (G.1.2.2.2.2 0) A s s.heap := hK.2.2.2.2.2.2.1.narrow hAA
  have hls : (F0 m pc ls st).locals.size = c.maxLocals := by rw [hml]; exact hl.1
  obtain ⟨W, L, X1, hL, hsz, hne, hX, hst⟩ := vmNpe X0 hx htr' (n := 8) (arm_ok hts hK arm_npe) hz hS.2.2 (g := F0 m pc ls st) rfl hls (Nat.le_of_ble_eq_true hfr) (by have := Nat.le_of_ble_eq_true hlo; show 2 * 0 + (st.map fun v => v.category).sum + 10240 ≤ _; omega) (Nat.le_of_ble_eq_true hcl) (Nat.le_of_ble_eq_true hsl)
  subst hT
  obtain ⟨hP', hS'⟩ := kept_world (L := L) hP hS hA hsz hne (fun q hq => by rw [hL q hq]; exact Nat.le_refl _)
  obtain ⟨t, a1, b1⟩ := k T.heap.size W.heap (locs ++ L) ls st hP' hD hS' hl hX W rfl X1
  exact ⟨t, hst t a1, b1⟩
theorem VN.msg (C : Cx M cc own rm) (htr : M.l.stackTraces = false) {cls text : String} {names : List String} (hok : (Bundle.messageArmAtoms cls names).all okAtomB = true) (hcls : Bundle.fit cls = true) (hnames : ∀ n ∈ names, Bundle.fit n = true) (hsoe : (cls == "java/lang/StackOverflowError") = false) (hoom : (cls == "java/lang/OutOfMemoryError") = false) (hnl : Nat.ble names.length 3 = true)
    (htext : (text == notModelled) = false) (hbytes : (stringBytes (stringToUtf16 text)).size ≤ 1000) (hfr : Nat.ble 8 rm.frames = true) (hlo : Nat.ble ((st.map fun v => v.category).sum + 10240) rm.locals = true) (hcl : Nat.ble (cells + 3) rm.cells = true) (hsl : Nat.ble (slots + 1010) rm.slots = true)
    (k : ∀ a : Nat, VT M (cells + 3) (slots + 1010) ws lv pc a cls) : VN M cells slots ws lv st pc cls (some text) := by
  obtain ⟨p, l, e, R, s, m, args, below, meth, c, nL, A, G, Q⟩ := M
  obtain ⟨hx, hb, hml, hown, hts, hlk, hA, hK, hAA, hR⟩ := C
  subst hR
  intro H locs ls hP hD hS hl T hT X0
  have htr' : e.platform.stackTraces = false := by rw [Example.NoTraceControls.admits_follows X0.admits]; exact htr
  have hz : va_Z "java/lang/Throwable" "UNASSIGNED_STACK" steDs (G.1.2.2.2.2 0) A s s.heap := hK.2.2.2.2.2.2.1.narrow hAA
  have hls : (F0 m pc ls st).locals.size = c.maxLocals := by rw [hml]; exact hl.1
  have h3 := Nat.le_of_ble_eq_true hnl
  have h4 := Nat.le_of_ble_eq_true hfr
  have h5 := Nat.le_of_ble_eq_true hsl
  obtain ⟨W, L, X1, hL, hsz, hne, hX, hst⟩ := vmMsg X0 hx htr' hcls hnames hsoe hoom (arm_ok hts hK hok) hz hS.2.2 htext (by rw [X0.admits.platform]; show ¬ _ > 2147483645; omega) (by rw [X0.admits.platform]; show ¬ _ * 1 > 536870912; omega) (g := F0 m pc ls st) rfl hls (by omega) (by have := Nat.le_of_ble_eq_true hlo; show 2 * 0 + (st.map fun v => v.category).sum + 10240 ≤ _; omega) (by omega) (Nat.le_of_ble_eq_true hcl) (by omega)
  subst hT
  obtain ⟨hP', hS'⟩ := kept_world (L := L) hP hS hA hsz hne (fun q hq => by rw [hL q hq]; omega)
  obtain ⟨t, a1, b1⟩ := k (T.heap.size + 2) W.heap (locs ++ L) ls st hP' hD hS' hl hX W rfl (stand_widen X1 (Nat.le_refl _) (by omega))
  exact ⟨t, hst t a1, b1⟩
theorem VN.idx (C : Cx M cc own rm) (htr : M.l.stackTraces = false) {i : Int32} {n : Nat} (hn : n < 2 ^ 31) (hfr : Nat.ble 8 rm.frames = true) (hlo : Nat.ble ((st.map fun v => v.category).sum + 10240) rm.locals = true) (hcl : Nat.ble (cells + 3) rm.cells = true) (hsl : Nat.ble (slots + 1010) rm.slots = true)
    (k : ∀ a : Nat, VT M (cells + 3) (slots + 1010) ws lv pc a "java/lang/ArrayIndexOutOfBoundsException") : VN M cells slots ws lv st pc "java/lang/ArrayIndexOutOfBoundsException" (some (ixT i n)) :=
  VN.msg C htr arm_idx (by decide +kernel) (by decide +kernel) (by decide) (by decide) rfl (index_text_modelled i n) (Nat.le_trans (index_text_bytes i hn) (by decide)) hfr hlo hcl hsl k
theorem VN.neg (C : Cx M cc own rm) (htr : M.l.stackTraces = false) {i : Int32} (hi : i < 0) (hfr : Nat.ble 8 rm.frames = true) (hlo : Nat.ble ((st.map fun v => v.category).sum + 10240) rm.locals = true) (hcl : Nat.ble (cells + 3) rm.cells = true) (hsl : Nat.ble (slots + 1010) rm.slots = true)
    (k : ∀ a : Nat, VT M (cells + 3) (slots + 1010) ws lv pc a "java/lang/NegativeArraySizeException") : VN M cells slots ws lv st pc "java/lang/NegativeArraySizeException" (some (toString i)) :=
  VN.msg C htr arm_nas (by decide +kernel) (by decide +kernel) (by decide) (by decide) rfl (negative_text_modelled hi) (by have := negative_text_bytes i; omega) hfr hlo hcl hsl k
theorem V.newaNeg (C : Cx M cc own rm) {atype : ArrayType} {n : Int32} (hn : n < 0) (hd : decode cc pc = .ok (.newarray atype, 2)) (k : VN M cells slots ws lv st pc "java/lang/NegativeArraySizeException" (some (toString n))) : V M cells slots ws lv (.int n :: st) pc := by
  obtain ⟨p, l, e, R, s, m, args, below, meth, c, nL, A, G, Q⟩ := M
  obtain ⟨hx, hb, hml, hown, hts, hlk, hA, hK, hAA, hR⟩ := C
  intro H locs ls hP hD hS hl T hT X0
  obtain ⟨t, a1, b1⟩ := k H locs ls hP hD hS hl T hT X0
  exact ⟨t, X0.newarrayNegative hx (g := F0 m pc ls (.int n :: st)) rfl hn rfl (by rw [hb]; exact hd) t a1, b1⟩
theorem out_in {i : Int32} {n : Nat} (h : ¬ vp_in i n) : i < 0 ∨ n ≤ i.toNatClampNeg := Classical.byContradiction fun z => h z
theorem V.ialdNull (C : Cx M cc own rm) {i : Int32} (hd : decode cc pc = .ok (.iaload, 1)) (k : VN M cells slots ws lv st pc "java/lang/NullPointerException" none) : V M cells slots ws lv (.int i :: .null :: st) pc := by
  obtain ⟨p, l, e, R, s, m, args, below, meth, c, nL, A, G, Q⟩ := M
  obtain ⟨hx, hb, hml, hown, hts, hlk, hA, hK, hAA, hR⟩ := C
  intro H locs ls hP hD hS hl T hT X0
  obtain ⟨t, a1, b1⟩ := k H locs ls hP hD hS hl T hT X0
  exact ⟨t, X0.ialoadNull hx (g := F0 m pc ls (.int i :: .null :: st)) rfl rfl (by rw [hb]; exact hd) t a1, b1⟩
theorem V.ialdOut (C : Cx M cc own rm) {i : Int32} {a n : Nat} {cA : ClassId} {f : Nat → Int32} (hd : decode cc pc = .ok (.iaload, 1)) (q0 t0 : Nat) (hq : ws[q0]? = some (a, .inl (cA, n, .inl f))) (ht : (TY M.G)[t0]? = some (cA, .int)) (hi : ¬ vp_in i n) (k : VN M cells slots ws lv st pc "java/lang/ArrayIndexOutOfBoundsException" (some (ixT i n))) : V M cells slots ws lv (.int i :: .ref a :: st) pc := by
  obtain ⟨p, l, e, R, s, m, args, below, meth, c, nL, A, G, Q⟩ := M
  obtain ⟨hx, hb, hml, hown, hts, hlk, hA, hK, hAA, hR⟩ := C
  intro H locs ls hP hD hS hl T hT X0
  obtain ⟨t, a1, b1⟩ := k H locs ls hP hD hS hl T hT X0
  have hcell : T.heap[a]? = some (arrV cA n (fun j => .int (f j))) := by rw [hT]; exact hP q0 _ hq
  have hsz : (arrV cA n (fun j => Value.int (f j))).slots.size = n := arrV_size _ _ _
  refine ⟨t, X0.ialoadOut hx hcell ((hK.1.2 t0 _ ht).1 n (fun j => .int (f j))) (by rw [hsz]; exact out_in hi) (g := F0 m pc ls (.int i :: .ref a :: st)) rfl rfl (by rw [hb]; exact hd) t ?_, b1⟩
  rw [hsz]
  exact a1
theorem V.baldNull (C : Cx M cc own rm) {i : Int32} (hd : decode cc pc = .ok (.baload, 1)) (k : VN M cells slots ws lv st pc "java/lang/NullPointerException" none) : V M cells slots ws lv (.int i :: .null :: st) pc := by
  obtain ⟨p, l, e, R, s, m, args, below, meth, c, nL, A, G, Q⟩ := M
  obtain ⟨hx, hb, hml, hown, hts, hlk, hA, hK, hAA, hR⟩ := C
  intro H locs ls hP hD hS hl T hT X0
  obtain ⟨t, a1, b1⟩ := k H locs ls hP hD hS hl T hT X0
  exact ⟨t, X0.baloadNull hx (g := F0 m pc ls (.int i :: .null :: st)) rfl rfl (by rw [hb]; exact hd) t a1, b1⟩
theorem V.baldOut (C : Cx M cc own rm) {i : Int32} {a n : Nat} {cA : ClassId} {f : Nat → Int32} (hd : decode cc pc = .ok (.baload, 1)) (q0 t0 : Nat) (hq : ws[q0]? = some (a, .inl (cA, n, .inl f))) (ht : (TY M.G)[t0]? = some (cA, .byte)) (hi : ¬ vp_in i n) (k : VN M cells slots ws lv st pc "java/lang/ArrayIndexOutOfBoundsException" (some (ixT i n))) : V M cells slots ws lv (.int i :: .ref a :: st) pc := by
  obtain ⟨p, l, e, R, s, m, args, below, meth, c, nL, A, G, Q⟩ := M
  obtain ⟨hx, hb, hml, hown, hts, hlk, hA, hK, hAA, hR⟩ := C
  intro H locs ls hP hD hS hl T hT X0
  obtain ⟨t, a1, b1⟩ := k H locs ls hP hD hS hl T hT X0
  have hcell : T.heap[a]? = some (arrV cA n (fun j => .int (f j))) := by rw [hT]; exact hP q0 _ hq
  have hsz : (arrV cA n (fun j => Value.int (f j))).slots.size = n := arrV_size _ _ _
  refine ⟨t, X0.baloadOut hx hcell ((hK.1.2 t0 _ ht).1 n (fun j => .int (f j))) (by rw [hsz]; exact out_in hi) (g := F0 m pc ls (.int i :: .ref a :: st)) rfl rfl (by rw [hb]; exact hd) t ?_, b1⟩
  rw [hsz]
  exact a1
theorem V.saldNull (C : Cx M cc own rm) {i : Int32} (hd : decode cc pc = .ok (.saload, 1)) (k : VN M cells slots ws lv st pc "java/lang/NullPointerException" none) : V M cells slots ws lv (.int i :: .null :: st) pc := by
  obtain ⟨p, l, e, R, s, m, args, below, meth, c, nL, A, G, Q⟩ := M
  obtain ⟨hx, hb, hml, hown, hts, hlk, hA, hK, hAA, hR⟩ := C
  intro H locs ls hP hD hS hl T hT X0
  obtain ⟨t, a1, b1⟩ := k H locs ls hP hD hS hl T hT X0
  exact ⟨t, X0.saloadNull hx (g := F0 m pc ls (.int i :: .null :: st)) rfl rfl (by rw [hb]; exact hd) t a1, b1⟩
theorem V.saldOut (C : Cx M cc own rm) {i : Int32} {a n : Nat} {cA : ClassId} {f : Nat → Int32} (hd : decode cc pc = .ok (.saload, 1)) (q0 t0 : Nat) (hq : ws[q0]? = some (a, .inl (cA, n, .inl f))) (ht : (TY M.G)[t0]? = some (cA, .short)) (hi : ¬ vp_in i n) (k : VN M cells slots ws lv st pc "java/lang/ArrayIndexOutOfBoundsException" (some (ixT i n))) : V M cells slots ws lv (.int i :: .ref a :: st) pc := by
  obtain ⟨p, l, e, R, s, m, args, below, meth, c, nL, A, G, Q⟩ := M
  obtain ⟨hx, hb, hml, hown, hts, hlk, hA, hK, hAA, hR⟩ := C
  intro H locs ls hP hD hS hl T hT X0
  obtain ⟨t, a1, b1⟩ := k H locs ls hP hD hS hl T hT X0
  have hcell : T.heap[a]? = some (arrV cA n (fun j => .int (f j))) := by rw [hT]; exact hP q0 _ hq
  have hsz : (arrV cA n (fun j => Value.int (f j))).slots.size = n := arrV_size _ _ _
  refine ⟨t, X0.saloadOut hx hcell ((hK.1.2 t0 _ ht).1 n (fun j => .int (f j))) (by rw [hsz]; exact out_in hi) (g := F0 m pc ls (.int i :: .ref a :: st)) rfl rfl (by rw [hb]; exact hd) t ?_, b1⟩
  rw [hsz]
  exact a1
theorem V.iastNull (C : Cx M cc own rm) {i v : Int32} (hd : decode cc pc = .ok (.iastore, 1)) (k : VN M cells slots ws lv st pc "java/lang/NullPointerException" none) : V M cells slots ws lv (.int v :: .int i :: .null :: st) pc := by
  obtain ⟨p, l, e, R, s, m, args, below, meth, c, nL, A, G, Q⟩ := M
  obtain ⟨hx, hb, hml, hown, hts, hlk, hA, hK, hAA, hR⟩ := C
  intro H locs ls hP hD hS hl T hT X0
  obtain ⟨t, a1, b1⟩ := k H locs ls hP hD hS hl T hT X0
  exact ⟨t, X0.iastoreNull hx (g := F0 m pc ls (.int v :: .int i :: .null :: st)) rfl rfl (by rw [hb]; exact hd) t a1, b1⟩
theorem V.iastOut (C : Cx M cc own rm) {i v : Int32} {a n : Nat} {cA : ClassId} {f : Nat → Int32} (hd : decode cc pc = .ok (.iastore, 1)) (q0 t0 : Nat) (hq : ws[q0]? = some (a, .inl (cA, n, .inl f))) (ht : (TY M.G)[t0]? = some (cA, .int)) (hi : ¬ vp_in i n) (k : VN M cells slots ws lv st pc "java/lang/ArrayIndexOutOfBoundsException" (some (ixT i n))) : V M cells slots ws lv (.int v :: .int i :: .ref a :: st) pc := by
  obtain ⟨p, l, e, R, s, m, args, below, meth, c, nL, A, G, Q⟩ := M
  obtain ⟨hx, hb, hml, hown, hts, hlk, hA, hK, hAA, hR⟩ := C
  intro H locs ls hP hD hS hl T hT X0
  obtain ⟨t, a1, b1⟩ := k H locs ls hP hD hS hl T hT X0
  have hcell : T.heap[a]? = some (arrV cA n (fun j => .int (f j))) := by rw [hT]; exact hP q0 _ hq
  have hsz : (arrV cA n (fun j => Value.int (f j))).slots.size = n := arrV_size _ _ _
  refine ⟨t, X0.iastoreOut hx hcell ((hK.1.2 t0 _ ht).1 n (fun j => .int (f j))) (by rw [hsz]; exact out_in hi) (g := F0 m pc ls (.int v :: .int i :: .ref a :: st)) rfl rfl (by rw [hb]; exact hd) t ?_, b1⟩
  rw [hsz]
  exact a1
theorem V.bastNull (C : Cx M cc own rm) {i v : Int32} (hd : decode cc pc = .ok (.bastore, 1)) (k : VN M cells slots ws lv st pc "java/lang/NullPointerException" none) : V M cells slots ws lv (.int v :: .int i :: .null :: st) pc := by
  obtain ⟨p, l, e, R, s, m, args, below, meth, c, nL, A, G, Q⟩ := M
  obtain ⟨hx, hb, hml, hown, hts, hlk, hA, hK, hAA, hR⟩ := C
  intro H locs ls hP hD hS hl T hT X0
  obtain ⟨t, a1, b1⟩ := k H locs ls hP hD hS hl T hT X0
  exact ⟨t, X0.bastoreNull hx (g := F0 m pc ls (.int v :: .int i :: .null :: st)) rfl rfl (by rw [hb]; exact hd) t a1, b1⟩
theorem V.bastOut (C : Cx M cc own rm) {i v : Int32} {a n : Nat} {cA : ClassId} {f : Nat → Int32} (hd : decode cc pc = .ok (.bastore, 1)) (q0 t0 : Nat) (hq : ws[q0]? = some (a, .inl (cA, n, .inl f))) (ht : (TY M.G)[t0]? = some (cA, .byte)) (hi : ¬ vp_in i n) (k : VN M cells slots ws lv st pc "java/lang/ArrayIndexOutOfBoundsException" (some (ixT i n))) : V M cells slots ws lv (.int v :: .int i :: .ref a :: st) pc := by
  obtain ⟨p, l, e, R, s, m, args, below, meth, c, nL, A, G, Q⟩ := M
  obtain ⟨hx, hb, hml, hown, hts, hlk, hA, hK, hAA, hR⟩ := C
  intro H locs ls hP hD hS hl T hT X0
  obtain ⟨t, a1, b1⟩ := k H locs ls hP hD hS hl T hT X0
  have hcell : T.heap[a]? = some (arrV cA n (fun j => .int (f j))) := by rw [hT]; exact hP q0 _ hq
  have hsz : (arrV cA n (fun j => Value.int (f j))).slots.size = n := arrV_size _ _ _
  refine ⟨t, X0.bastoreOut hx hcell ((hK.1.2 t0 _ ht).1 n (fun j => .int (f j))) (by rw [hsz]; exact out_in hi) (g := F0 m pc ls (.int v :: .int i :: .ref a :: st)) rfl rfl (by rw [hb]; exact hd) t ?_, b1⟩
  rw [hsz]
  exact a1
theorem V.sastNull (C : Cx M cc own rm) {i v : Int32} (hd : decode cc pc = .ok (.sastore, 1)) (k : VN M cells slots ws lv st pc "java/lang/NullPointerException" none) : V M cells slots ws lv (.int v :: .int i :: .null :: st) pc := by
  obtain ⟨p, l, e, R, s, m, args, below, meth, c, nL, A, G, Q⟩ := M
  obtain ⟨hx, hb, hml, hown, hts, hlk, hA, hK, hAA, hR⟩ := C
  intro H locs ls hP hD hS hl T hT X0
  obtain ⟨t, a1, b1⟩ := k H locs ls hP hD hS hl T hT X0
  exact ⟨t, X0.sastoreNull hx (g := F0 m pc ls (.int v :: .int i :: .null :: st)) rfl rfl (by rw [hb]; exact hd) t a1, b1⟩
theorem V.sastOut (C : Cx M cc own rm) {i v : Int32} {a n : Nat} {cA : ClassId} {f : Nat → Int32} (hd : decode cc pc = .ok (.sastore, 1)) (q0 t0 : Nat) (hq : ws[q0]? = some (a, .inl (cA, n, .inl f))) (ht : (TY M.G)[t0]? = some (cA, .short)) (hi : ¬ vp_in i n) (k : VN M cells slots ws lv st pc "java/lang/ArrayIndexOutOfBoundsException" (some (ixT i n))) : V M cells slots ws lv (.int v :: .int i :: .ref a :: st) pc := by
  obtain ⟨p, l, e, R, s, m, args, below, meth, c, nL, A, G, Q⟩ := M
  obtain ⟨hx, hb, hml, hown, hts, hlk, hA, hK, hAA, hR⟩ := C
  intro H locs ls hP hD hS hl T hT X0
  obtain ⟨t, a1, b1⟩ := k H locs ls hP hD hS hl T hT X0
  have hcell : T.heap[a]? = some (arrV cA n (fun j => .int (f j))) := by rw [hT]; exact hP q0 _ hq
  have hsz : (arrV cA n (fun j => Value.int (f j))).slots.size = n := arrV_size _ _ _
  refine ⟨t, X0.sastoreOut hx hcell ((hK.1.2 t0 _ ht).1 n (fun j => .int (f j))) (by rw [hsz]; exact out_in hi) (g := F0 m pc ls (.int v :: .int i :: .ref a :: st)) rfl rfl (by rw [hb]; exact hd) t ?_, b1⟩
  rw [hsz]
  exact a1
end XV
