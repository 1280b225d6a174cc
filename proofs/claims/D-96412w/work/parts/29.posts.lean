/-! STANDARD ENDS: it returns a given value with a given memory -/
def z_ri (r : Int32) (hh : z_H) : Outcome → z_H → Prop := fun o h' => o = .returned (some (.int r)) ∧ h' = hh
def z_rl (r : Int64) (hh : z_H) : Outcome → z_H → Prop := fun o h' => o = .returned (some (.long r)) ∧ h' = hh
def z_rr (b : Nat) (hh : z_H) : Outcome → z_H → Prop := fun o h' => o = .returned (some (.ref b)) ∧ h' = hh
def z_rv (hh : z_H) : Outcome → z_H → Prop := fun o h' => o = .returned none ∧ h' = hh
/-- .. an int and a memory of which something is said -/
def z_rI (P : Int32 → z_H → Prop) : Outcome → z_H → Prop := fun o h' => ∃ r, o = .returned (some (.int r)) ∧ P r h'
def z_rV (P : z_H → Prop) : Outcome → z_H → Prop := fun o h' => o = .returned none ∧ P h'
section ZPOST
variable {Γ : z_W} {M : z_M} {rm : Room} {Q : Outcome → z_H → Prop} {cs ss pc : Nat} {ls : List (Option Value)} {st rest : List Value} {h hh : z_H}
theorem z_ri_i {v r : Int32} (e1 : v = r) (e2 : h = hh) : z_ri r hh (.returned (some (.int v))) h := ⟨by rw [e1], e2⟩
theorem z_rl_i {v r : Int64} (e1 : v = r) (e2 : h = hh) : z_rl r hh (.returned (some (.long v))) h := ⟨by rw [e1], e2⟩
theorem z_rv_i (e2 : h = hh) : z_rv hh (.returned none) h := ⟨rfl, e2⟩
theorem z_rI_i {P : Int32 → z_H → Prop} {v : Int32} (e : P v h) : z_rI P (.returned (some (.int v))) h := ⟨v, rfl, e⟩
theorem z_rV_i {P : z_H → Prop} (e : P h) : z_rV P (.returned none) h := ⟨rfl, e⟩
theorem z_cI {r : Int32} (kk : z_G Γ M rm Q cs ss pc ls (.int r :: rest) hh) : ∀ v h', z_ri r hh (.returned v) h' → z_G Γ M rm Q cs ss pc ls (v.toList ++ rest) h' := by
  intro v h' q
  obtain ⟨q1, rfl⟩ := q
  cases q1
  exact kk
theorem z_cL {r : Int64} (kk : z_G Γ M rm Q cs ss pc ls (.long r :: rest) hh) : ∀ v h', z_rl r hh (.returned v) h' → z_G Γ M rm Q cs ss pc ls (v.toList ++ rest) h' := by
  intro v h' q
  obtain ⟨q1, rfl⟩ := q
  cases q1
  exact kk
theorem z_cR {b : Nat} (kk : z_G Γ M rm Q cs ss pc ls (.ref b :: rest) hh) : ∀ v h', z_rr b hh (.returned v) h' → z_G Γ M rm Q cs ss pc ls (v.toList ++ rest) h' := by
  intro v h' q
  obtain ⟨q1, rfl⟩ := q
  cases q1
  exact kk
theorem z_cV (kk : z_G Γ M rm Q cs ss pc ls rest hh) : ∀ v h', z_rv hh (.returned v) h' → z_G Γ M rm Q cs ss pc ls (v.toList ++ rest) h' := by
  intro v h' q
  obtain ⟨q1, rfl⟩ := q
  cases q1
  exact kk
theorem z_cPI {P : Int32 → z_H → Prop} (kk : ∀ r h', P r h' → z_G Γ M rm Q cs ss pc ls (.int r :: rest) h') : ∀ v h', z_rI P (.returned v) h' → z_G Γ M rm Q cs ss pc ls (v.toList ++ rest) h' := by
  intro v h' q
  obtain ⟨r, q1, q2⟩ := q
  cases q1
  exact kk r h' q2
theorem z_cPV {P : z_H → Prop} (kk : ∀ h', P h' → z_G Γ M rm Q cs ss pc ls rest h') : ∀ v h', z_rV P (.returned v) h' → z_G Γ M rm Q cs ss pc ls (v.toList ++ rest) h' := by
  intro v h' q
  obtain ⟨q1, q2⟩ := q
  cases q1
  exact kk h' q2
theorem z_tI {r : Int32} {P : Nat → z_H → Prop} : ∀ x h', z_ri r hh (.threw x) h' → P x h' := fun x h' q => by cases q.1
theorem z_tL {r : Int64} {P : Nat → z_H → Prop} : ∀ x h', z_rl r hh (.threw x) h' → P x h' := fun x h' q => by cases q.1
theorem z_tR {b : Nat} {P : Nat → z_H → Prop} : ∀ x h', z_rr b hh (.threw x) h' → P x h' := fun x h' q => by cases q.1
theorem z_tV {P : Nat → z_H → Prop} : ∀ x h', z_rv hh (.threw x) h' → P x h' := fun x h' q => by cases q.1
theorem z_tPI {P' : Int32 → z_H → Prop} {P : Nat → z_H → Prop} : ∀ x h', z_rI P' (.threw x) h' → P x h' := fun x h' q => by obtain ⟨r, q1, -⟩ := q; cases q1
theorem z_tPV {P' : z_H → Prop} {P : Nat → z_H → Prop} : ∀ x h', z_rV P' (.threw x) h' → P x h' := fun x h' q => by cases q.1
theorem z_C.mono {rm : Room} {av : List Value} {Q Q' : Outcome → z_H → Prop} (hC : z_C Γ M rm av h Q) (hq : ∀ o h', Q o h' → Q' o h') : z_C Γ M rm av h Q' := by
  intro l p e h1 h2 h3 s m args below h4 h5 h6 h7
  obtain ⟨n, o, a1, a2, a3, o', h', b1, b2, b3⟩ := hC l p e h1 h2 h3 s m args below h4 h5 h6 h7
  exact ⟨n, o, a1, a2, a3, o', h', b1, hq _ _ b2, b3⟩
end ZPOST
/-! THE FIXED PART OF THE MEMORY: the ids that the two constructors give. 16: the class's object, 17 .. 48 its arrays and objects; 49: the reference's, 50 .. 84 its arrays. -/
def z_tab : List (Option (Nat ⊕ (FieldType × Nat))) := [none, none, none, none, none, none, none, none, none, none, none, none, none, none, none, none,
  some (.inl 0), some (.inr (.object "SomebodysLift$Lift", 6)), some (.inr (.int, 6)), some (.inr (.int, 24)), some (.inl 1), some (.inl 1), some (.inr (.byte, 100)), some (.inl 2), some (.inl 21), some (.inl 3), some (.inl 4), some (.inr (.int, 20)), some (.inr (.int, 4)), some (.inr (.int, 4)), some (.inr (.int, 5)), some (.inr (.int, 8)), some (.inr (.int, 8)), some (.inr (.object "SomebodysLift$Tape", 6)), some (.inl 1), some (.inr (.object "SomebodysLift$Lift", 6)), some (.inr (.int, 6)), some (.inr (.int, 24)), some (.inr (.int, 4)), some (.inr (.int, 4)), some (.inr (.int, 5)), some (.inr (.int, 8)), some (.inr (.int, 8)), some (.inl 5), some (.inl 5), some (.inl 5), some (.inl 5), some (.inl 5), some (.inl 5),
  some (.inl 6), some (.inr (.int, 6)), some (.inr (.int, 6)), some (.inr (.int, 6)), some (.inr (.int, 6)), some (.inr (.int, 24)), some (.inr (.int, 100)), some (.inr (.int, 6)), some (.inr (.int, 60)), some (.inr (.int, 60)), some (.inr (.int, 60)), some (.inr (.int, 60)), some (.inr (.int, 600)), some (.inr (.int, 101)), some (.inr (.int, 14)), some (.inr (.float, 100)), some (.inr (.int, 4)), some (.inr (.int, 4)), some (.inr (.int, 5)), some (.inr (.int, 8)), some (.inr (.int, 8)), some (.inr (.int, 6)), some (.inr (.int, 6)), some (.inr (.int, 6)), some (.inr (.int, 6)), some (.inr (.int, 24)), some (.inr (.int, 4)), some (.inr (.int, 4)), some (.inr (.int, 5)), some (.inr (.int, 8)), some (.inr (.int, 8)), some (.inr (.int, 20)), some (.inr (.int, 6)), some (.inr (.int, 6)), some (.inr (.long, 360)), some (.inr (.long, 60))]
/-- the references that stay -/
def z_rt : Nat → List (Option Nat)
  | 16 => [some 17, some 18, some 19, none, some 20, some 21, none, some 22, none, none, none, some 25, some 26, some 28, some 29, some 30, some 31, some 32, none, none, none, some 33, none, none, none, some 34, some 35, some 36, some 37, some 38, some 39, some 40, some 41, some 42]
  | 26 => [some 27]
  | 33 => [some 43, some 44, some 45, some 46, some 47, some 48]
  | 49 => [none, none, none, none, none, none, some 50, some 51, some 52, some 53, some 54, none, none, none, none, none, some 55, some 56, some 57, some 58, some 59, some 60, some 61, some 62, none, none, none, some 63, some 64, none, none, none, none, none, none, none, none, some 65, some 66, none, some 67, none, some 68, some 69, none, none, none, none, none, none, none, none, none, none, none, some 70, some 71, some 72, some 73, some 74, some 75, some 76, some 77, some 78, some 79, none, some 80, some 81, some 82, some 83, some 84]
  | _ => []
def z_F (h : z_H) : Prop := (∀ a t, z_tab[a]? = some (some t) → z_T h a = some t) ∧ (∀ a k b, (z_rt a)[k]? = some (some b) → z_R h a k = some b) ∧ 85 ≤ z_n h
section ZFIX
variable {h : z_H} {a k : Nat}
theorem z_F.I (hF : z_F h) (v : Int32) : z_F (z_sI h a k v) := hF
theorem z_F.L (hF : z_F h) (v : Int64) : z_F (z_sL h a k v) := hF
theorem z_rt_hi {a : Nat} (ha : 85 ≤ a) : z_rt a = [] := by
  unfold z_rt
  split <;> first | rfl | omega
theorem z_F.R (hF : z_F h) (v : Option Nat) (hn : ∀ b, (z_rt a)[k]? ≠ some (some b)) : z_F (z_sR h a k v) := by
  refine ⟨hF.1, fun a' k' b hb => ?_, hF.2.2⟩
  rw [z_RR]
  by_cases e : a' = a ∧ k' = k
  · obtain ⟨e1, e2⟩ := e
    subst e1; subst e2
    exact absurd hb (hn b)
  · rw [if_neg e]
    exact hF.2.1 a' k' b hb
theorem z_F.Rhi (hF : z_F h) (v : Option Nat) (ha : 85 ≤ a) : z_F (z_sR h a k v) := hF.R v (fun b hb => by rw [z_rt_hi ha] at hb; simp at hb)
theorem z_tab_lt {a : Nat} {t : Nat ⊕ (FieldType × Nat)} (h : z_tab[a]? = some (some t)) : a < 85 := (List.getElem?_eq_some_iff.mp h).1
theorem z_F.new (hF : z_F h) (t : Nat ⊕ (FieldType × Nat)) : z_F (z_new h t) := by
  refine ⟨fun a t' hb => ?_, fun a' k' b hb => ?_, Nat.le_succ_of_le hF.2.2⟩
  · have h1 := z_tab_lt hb
    have h2 := hF.2.2
    rw [z_Tn, if_neg (by omega)]
    exact hF.1 a t' hb
  · have h2 := hF.2.2
    have h1 : a' < 85 := by
      rcases Nat.lt_or_ge a' 85 with q | q
      · exact q
      · rw [z_rt_hi q] at hb
        simp at hb
    rw [z_Rn, if_neg (by omega)]
    exact hF.2.1 a' k' b hb
theorem z_F.skip (hF : z_F h) (k : Nat) : z_F (z_skip h k) := by
  refine ⟨fun a t' hb => ?_, fun a' k' b hb => hF.2.1 a' k' b hb, Nat.le_add_right_of_le hF.2.2⟩
  have h1 := z_tab_lt hb
  have h2 := hF.2.2
  rw [z_Ts, if_neg (by omega)]
  exact hF.1 a t' hb
end ZFIX
