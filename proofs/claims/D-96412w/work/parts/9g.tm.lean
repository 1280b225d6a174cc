/-! TESTS ARE KEPT while reading goes on (by hand). -/
section ZTMK
variable {Γ : z_W} {M : z_M} {rm : Room} {Q : Outcome → z_H → Prop} {cs ss pc : Nat} {ls : List (Option Value)} {st : List Value} {h : z_H}
/-- behind the next id there is nothing -/
def z_nz (h : z_H) : Prop := ∀ a, z_n h ≤ a → z_T h a = none
theorem z_C.nn {av : List Value} (k : z_nz h → z_C Γ M rm av h Q) : z_C Γ M rm av h Q := by
  intro l p e h1 h2 h3 s m args below h4 h5 h6 h7
  exact k h6.2.2.2.2.2 l p e h1 h2 h3 s m args below h4 h5 h6 h7
theorem z_G.nn (k : z_nz h → z_G Γ M rm Q cs ss pc ls st h) : z_G Γ M rm Q cs ss pc ls st h :=
  fun p l e s m args below meth c H locs la X hR hL hl => k hR.2.2.2 p l e s m args below meth c H locs la X hR hL hl
end ZTMK
theorem z_nz.lt {h : z_H} (hz : z_nz h) {a : Nat} {t : Nat ⊕ (FieldType × Nat)} (ht : z_T h a = some t) : a < z_n h := by
  by_cases c : a < z_n h
  · exact c
  · rw [hz a (by omega)] at ht
    cases ht
theorem z_AL.pg {r L : Nat} {h h' : z_H} {ids : List Nat} (hz : z_nz h) (hr : z_T h r = some (.inl 14)) (hg : z_pg r h h') (hL : z_AL h L ids) : z_AL h' L ids := by
  obtain ⟨h1, h2, h3, A, n, h4, h5, h6, h7, h8⟩ := hL
  have hne : L ≠ r := fun q => by rw [q, hr] at h1; cases h1
  obtain ⟨g1, g2, g3, g4⟩ := hg.2 L (hz.lt h1)
  obtain ⟨k1, k2, k3, k4⟩ := hg.2 A (hz.lt h5)
  exact ⟨g1.trans h1, (g4 2 (fun q => hne q.1)).trans h2, h3, A, n, (g3 1).trans h4, k1.trans h5, h6, h7, fun i b q => (k3 i).trans (h8 i b q)⟩
theorem z_Tm.pg {r : Nat} {h h' : z_H} (hz : z_nz h) (hr : z_T h r = some (.inl 14)) (hg : z_pg r h h') : ∀ (d id : Nat) (P : (Int32 → Int32) → Bool), z_Tm d h id P → z_Tm d h' id P
  | 0, _, _, hm => hm.elim
  | d + 1, id, P, hm => by
    obtain ⟨m1, hm⟩ := hm
    refine ⟨m1, ?_⟩
    have ne : ∀ c, z_T h id = some (.inl c) → c ≠ 14 → id ≠ r := fun c hc hcn q => by
      rw [q, hr] at hc
      cases hc
      exact hcn rfl
    rcases hm with ⟨a1, a2, a3⟩ | ⟨a1, b, P', a2, a3, a4⟩ | ⟨a1, L, ids, Ps, a2, a3, a4, a5, a6, a7⟩
    · obtain ⟨g1, g2, g3, g4⟩ := hg.2 id (hz.lt a1)
      have hne := ne 20 a1 (by decide)
      have e : ∀ k, z_I h' id k = z_I h id k := fun k => g4 k (fun q => hne q.1)
      exact Or.inl ⟨g1.trans a1, by rw [e]; exact a2, fun φ => by rw [e, e, e]; exact a3 φ⟩
    · obtain ⟨g1, g2, g3, g4⟩ := hg.2 id (hz.lt a1)
      exact Or.inr (Or.inl ⟨g1.trans a1, b, P', (g3 0).trans a2, z_Tm.pg hz hr hg d b P' a3, a4⟩)
    · obtain ⟨g1, g2, g3, g4⟩ := hg.2 id (hz.lt a1)
      have hne := ne 18 a1 (by decide)
      have e : z_I h' id 0 = z_I h id 0 := g4 0 (fun q => hne q.1)
      exact Or.inr (Or.inr ⟨g1.trans a1, L, ids, Ps, (g3 1).trans a2, a3, a4.pg hz hr hg, a5, fun i b p q1 q2 => z_Tm.pg hz hr hg d b p (a6 i b p q1 q2), by rw [e]; exact a7⟩)
theorem z_Tm.up : ∀ (d : Nat) (h : z_H) (id : Nat) (P : (Int32 → Int32) → Bool), z_Tm d h id P → z_Tm (d + 1) h id P
  | 0, _, _, _, hm => hm.elim
  | d + 1, h, id, P, hm => by
    obtain ⟨m1, hm⟩ := hm
    refine ⟨m1, ?_⟩
    rcases hm with a | ⟨a1, b, P', a2, a3, a4⟩ | ⟨a1, L, ids, Ps, a2, a3, a4, a5, a6, a7⟩
    · exact Or.inl a
    · exact Or.inr (Or.inl ⟨a1, b, P', a2, z_Tm.up d h b P' a3, a4⟩)
    · exact Or.inr (Or.inr ⟨a1, L, ids, Ps, a2, a3, a4, a5, fun i b p q1 q2 => z_Tm.up d h b p (a6 i b p q1 q2), a7⟩)
theorem z_Tm.le {d d' : Nat} {h : z_H} {id : Nat} {P : (Int32 → Int32) → Bool} (hd : d ≤ d') (hm : z_Tm d h id P) : z_Tm d' h id P := by
  obtain ⟨k, rfl⟩ := Nat.exists_eq_add_of_le hd
  induction k with
  | zero => exact hm
  | succ k ih => exact z_Tm.up _ _ _ _ (ih (by omega))
