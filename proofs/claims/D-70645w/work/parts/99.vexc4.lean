/-! EXCEPTIONS, fourth part: the machine's own exceptions: their words -/
set_option maxRecDepth 100000
def okAtom (a : Cond) : Prop := a ∈ lw_all ∨ (a ∈ lw_tbl ∧ nst a = true) ∨ a = .isRef (.static "java/lang/Throwable" "UNASSIGNED_STACK" steDs) ∨ a = .isRef (.static "java/lang/Throwable" "SUPPRESSED_SENTINEL" listDs) ∨ a = .laysStatic "java/lang/Throwable" "UNASSIGNED_STACK" steDs ∨ a = .laysStatic "java/lang/Throwable" "SUPPRESSED_SENTINEL" listDs
def okAtomB (a : Cond) : Bool := decide (a ∈ lw_all) || (decide (a ∈ lw_tbl) && nst a) || decide (a = .isRef (.static "java/lang/Throwable" "UNASSIGNED_STACK" steDs)) || decide (a = .isRef (.static "java/lang/Throwable" "SUPPRESSED_SENTINEL" listDs)) || decide (a = .laysStatic "java/lang/Throwable" "UNASSIGNED_STACK" steDs) || decide (a = .laysStatic "java/lang/Throwable" "SUPPRESSED_SENTINEL" listDs)
theorem okAtom_of {a : Cond} (h : okAtomB a = true) : okAtom a := by
  unfold okAtomB at h
  unfold okAtom
  simp only [Bool.or_eq_true, Bool.and_eq_true, decide_eq_true_eq] at h
  rcases h with ((((h | h) | h) | h) | h) | h
  · exact Or.inl h
  · exact Or.inr (Or.inl h)
  · exact Or.inr (Or.inr (Or.inl h))
  · exact Or.inr (Or.inr (Or.inr (Or.inl h)))
  · exact Or.inr (Or.inr (Or.inr (Or.inr (Or.inl h))))
  · exact Or.inr (Or.inr (Or.inr (Or.inr (Or.inr h))))
theorem arm_idx : (Bundle.messageArmAtoms "java/lang/ArrayIndexOutOfBoundsException" ["java/lang/IndexOutOfBoundsException", "java/lang/RuntimeException", "java/lang/Exception"]).all okAtomB = true := by decide +kernel
theorem arm_cce : (Bundle.messageArmAtoms "java/lang/ClassCastException" ["java/lang/RuntimeException", "java/lang/Exception"]).all okAtomB = true := by decide +kernel
theorem arm_nas : (Bundle.messageArmAtoms "java/lang/NegativeArraySizeException" ["java/lang/RuntimeException", "java/lang/Exception"]).all okAtomB = true := by decide +kernel
theorem arm_npe : (Bundle.npeArmAtoms 8).all okAtomB = true := by decide +kernel
/-- a static that is a reference -/
theorem isRef_Z {C n d : String} {v : Value} {A : Nat → Prop} {s : State} {args : Array Value} (h : va_Z C n d v A s s.heap) (hv : v.isRef = true) : (Cond.isRef (.static C n d)).before args s = true := by
  obtain ⟨cf, kf, fi, f, a, cell, h1, h2, h3, h4, h5, h6, h7, h8⟩ := h
  have he : (Term.static C n d).eval args s none [] s = some v := by
    simp [Term.eval, State.fieldNamed?, h1, h2, h4, h5, h6, h7]
  simp only [Cond.before, Cond.holds, Cond.value, he]
  cases v <;> simp [Value.isRef] at hv <;> rfl
theorem arm_ok {G : GG} {s : State} {args : Array Value} (hts : ∀ w ∈ lw_all, w.before args s = true) (hK : K0 G s) {L : List Cond} (h : L.all okAtomB = true) : ∀ a ∈ L, a.before args s = true := by
  intro a ha
  rcases okAtom_of (List.all_eq_true.mp h a ha) with h1 | h1 | h1 | h1 | h1 | h1
  · exact hts a h1
  · cases a with
    | fieldLinkNest => exact va_Nw.use rfl (hK.2.1 _ h1.1 h1.2)
    | methodLinkNest => exact va_Nw.use rfl (hK.2.1 _ h1.1 h1.2)
    | castable => exact va_Nw.use rfl (hK.2.1 _ h1.1 h1.2)
    | declares => exact va_Nw.use rfl (hK.2.1 _ h1.1 h1.2)
    | arrayOver ty =>
      cases ty with
      | object C => exact va_AO.use (hK.2.1 _ h1.1 h1.2)
      | _ => cases h1.2
    | _ => cases h1.2
  · rw [h1]
    exact isRef_Z hK.2.2.2.2.2.2.1 (hK.2.2.2.2.2.2.2.2.2.1 0 (by omega))
  · rw [h1]
    exact isRef_Z hK.2.2.2.2.2.2.2.1 (hK.2.2.2.2.2.2.2.2.2.1 1 (by omega))
  · rw [h1]
    exact hK.2.2.2.2.2.2.2.2.2.2.2.1.use
  · rw [h1]
    exact hK.2.2.2.2.2.2.2.2.2.2.2.2.use
