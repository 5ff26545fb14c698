theorem okN_ag {g h : Pg} {k m : Nat} (a : AgP g h) (hk : k < 67) (o : okN g k m) : okN h k m := okN_eq (a k hk).symm o
theorem okP_ag {g h : Pg} {N n : Nat} (a : AgP g h) (o : okP g N n) : okP h N n := by
  obtain ⟨hN, h6, e66, h1, ⟨z, hz, ez⟩, h3, h2⟩ := o
  refine ⟨hN, h6, (a 66 (by omega)).symm.trans e66, fun c hc => ?_, ⟨z, hz, by rw [← a 20 (by omega)]; exact ez⟩, fun i hi => ?_, fun k hk => okN_ag a (by omega) (h2 k hk)⟩
  · obtain ⟨a1, a2, a3, a4⟩ := h1 c hc
    exact ⟨okN_ag a (by omega) a1, okN_ag a (by omega) a2, okN_ag a (by omega) a3, okN_ag a (by omega) a4⟩
  · have := h3 i hi
    rw [← pN_ag a (j := 48 + 3 * i) (by omega), ← pN_ag a (j := 48 + 3 * i + 1) (by omega), ← pN_ag a (j := 48 + 3 * i + 2) (by omega)]
    exact this
theorem ag_kk {g h : Pg} (a : AgP g h) : KK h g := fun j hj => a j (by omega)
theorem KK.tr {a b c : Pg} (h1 : KK a b) (h2 : KK b c) : KK a c := fun j hj => (h2 j hj).trans (h1 j hj)
theorem gv_k {f : Pg} {P : Nat} {g : Pg} {N c : Nat} (h : 67 ≤ P) (hN : N ≤ 5) (hc : c < 500) : gvP (pp f P g) g N c ↔ gvP f g N c := by
  unfold gvP
  refine and_congr_right fun t => and_congr_right fun _ => ?_
  obtain ⟨l1, l2⟩ := two_lt hN (by omega) (by omega) t
  exact may2_ag (ag_pp h) (AgP.rf g) (by omega) (by omega) _
theorem gv_t {f : Pg} {P : Nat} {G : Pg} {N d : Nat} (h : 67 ≤ P) (h0 : 0 < N) (hN : N ≤ 5) (hk : KK f G) (hdr : drP G N d) : gvG (pp f P G) G N (drK N d) = give2 G G (drA N d) (drB N d) (nI (drM d)) := by
  obtain ⟨e1, e2, e3, e4⟩ := drK_div (d := d) h0 hN
  have h1 : drA N d < N := Nat.mod_lt _ h0
  have h2 : drB N d < N := Nat.mod_lt _ h0
  unfold gvG
  rw [if_pos ((gv_k h hN e4).mpr ((dr_gv h0 hN hk).mpr hdr)), e1, e2, e3]
  unfold give2
  rw [gets_pp h (by omega) (by omega), hk.gets (by omega) (by omega)]
theorem gv_f {f : Pg} {P : Nat} {G : Pg} {N d : Nat} (h : 67 ≤ P) (h0 : 0 < N) (hN : N ≤ 5) (hk : KK f G) (hdr : ¬ drP G N d) : gvG (pp f P G) G N (drK N d) = G := by
  obtain ⟨-, -, -, e4⟩ := drK_div (d := d) h0 hN
  unfold gvG
  rw [if_neg (fun z => hdr ((dr_gv h0 hN hk).mp ((gv_k h hN e4).mp z)))]
theorem dr_ag {g h : Pg} (a : AgP g h) {N : Nat} (hN : N ≤ 5) (h0 : 0 < N) (s : Int32) : ∀ k, AgP (drG g N s k) (drG h N s k) ∧ drC g N s k = drC h N s k
  | 0 => ⟨a, rfl⟩
  | k + 1 => by
    obtain ⟨b, e⟩ := dr_ag a hN h0 s k
    have la : drA N (drd s k) < N := Nat.mod_lt _ h0
    have lb : drB N (drd s k) < N := Nat.mod_lt _ h0
    have z1 : drP (drG g N s k) N (drd s k) ↔ drP (drG h N s k) N (drd s k) := and_congr_right fun _ => may2_ag b b (by omega) (by omega) _
    by_cases z : drP (drG g N s k) N (drd s k)
    · rw [drG_t z, drG_t (z1.mp z), drC_t z, drC_t (z1.mp z), e]
      exact ⟨give2_ag b b (by omega) (by omega) _, rfl⟩
    · have z2 : ¬ drP (drG h N s k) N (drd s k) := fun w => z (z1.mpr w)
      rw [drG_f z, drG_f z2, drC_f z, drC_f z2, e]
      exact ⟨night_ag b hN, rfl⟩
