/-! THE PILE READS AS THE GRAMMAR DOES -/
section ZSIM
variable {tx : Nat → Int32} {n : Nat}
theorem a_bd_l {α β : Type} {x : Nat ⊕ α} {k : α → Nat ⊕ β} {p : Nat} (h : a_bd x k = .inl p) : x = .inl p ∨ ∃ y, x = .inr y ∧ k y = .inl p := by
  cases x with
  | inl q =>
    have h2 : (.inl q : Nat ⊕ β) = .inl p := h
    cases h2
    exact Or.inl rfl
  | inr y => exact Or.inr ⟨y, rfl, h⟩
theorem a_bd_r {α β : Type} {x : Nat ⊕ α} {k : α → Nat ⊕ β} {z : β} (h : a_bd x k = .inr z) : ∃ y, x = .inr y ∧ k y = .inr z := by
  cases x with
  | inl q => exact absurd h (by simp [a_bd])
  | inr y => exact ⟨y, rfl, h⟩
theorem a_run_o {g a : Nat} {c : Int32} {W S : List Int32} (hc : a_cr tx n a = c) (h : c = 33 ∨ c = 40) (h4 : ¬ a_op W = 4) : a_run tx n (g + 1) true a W S = a_run tx n g true (a + 1) (c :: W) S := by
  conv => lhs; unfold a_run
  rw [hc, if_pos h, if_neg h4]
theorem a_run_4 {g a : Nat} {c : Int32} {W S : List Int32} (hc : a_cr tx n a = c) (h : c = 33 ∨ c = 40) (h4 : a_op W = 4) : a_run tx n (g + 1) true a W S = .inl a := by
  conv => lhs; unfold a_run
  rw [hc, if_pos h, if_pos h4]
theorem a_run_t {g a : Nat} {W S : List Int32} (h : ¬ a_cr tx n a = 33) (h2 : ¬ a_cr tx n a = 40) : a_run tx n (g + 1) true a W S = a_bd (a_ts tx n a) fun r => a_run tx n g false r.1 (a_wo W (S ++ r.2)).1 (a_wo W (S ++ r.2)).2 := by
  conv => lhs; unfold a_run
  rw [if_neg (fun q => q.elim h h2)]
theorem a_run_b {g a : Nat} {c : Int32} {W S : List Int32} (hc : a_cr tx n a = c) (h : c = 38 ∨ c = 124) : a_run tx n (g + 1) false a W S = a_run tx n g true (a + 1) (c :: (a_sl c W S).1) (a_sl c W S).2 := by
  conv => lhs; unfold a_run
  rw [hc, if_pos h]
theorem a_run_c {g a : Nat} {W V S T : List Int32} (h : ¬ a_cr tx n a = 38) (h2 : ¬ a_cr tx n a = 124) (hs : a_sl 124 W S = (40 :: V, T)) : a_run tx n (g + 1) false a W S = if a_cr tx n a = 41 then a_run tx n g false (a + 1) (a_wo V T).1 (a_wo V T).2 else .inl a := by
  conv => lhs; unfold a_run
  rw [if_neg (fun q => q.elim h h2), hs]
theorem a_run_e {g a : Nat} {W S T : List Int32} (h : ¬ a_cr tx n a = 38) (h2 : ¬ a_cr tx n a = 124) (hs : a_sl 124 W S = ([], T)) : a_run tx n (g + 1) false a W S = .inr (a, T) := by
  conv => lhs; unfold a_run
  rw [if_neg (fun q => q.elim h h2), hs]
/-- what is to be shown of a factor, of all, of some, of what follows -/
def a_s0 (tx : Nat → Int32) (n f : Nat) : Prop := ∀ d a W S g, a_op W = d → 3 * (n - a) + 1 ≤ f → a ≤ n → n - a < g →
  (∀ p, a_ps tx n f 0 d a = .inl p → a_run tx n g true a W S = .inl p) ∧
  (∀ b L, a_ps tx n f 0 d a = .inr (b, L) → ∃ g', n - b < g' ∧ a < b ∧ b ≤ n ∧ a_run tx n g true a W S = a_run tx n g' false b (a_wo W (S ++ L)).1 (a_wo W (S ++ L)).2)
def a_s1 (tx : Nat → Int32) (n f : Nat) : Prop := ∀ d a W S g, a_op W = d → a_nt W 33 → a_nt W 38 → 3 * (n - a) + 2 ≤ f → a ≤ n → n - a < g →
  (∀ p, a_ps tx n f 1 d a = .inl p → a_run tx n g true a W S = .inl p) ∧
  (∀ b L, a_ps tx n f 1 d a = .inr (b, L) → ∃ g' X S', (X = [] ∨ X = [38]) ∧ S' ++ a_em X = S ++ L ∧ n - b < g' ∧ a < b ∧ b ≤ n ∧ ¬ a_cr tx n b = 38 ∧ a_run tx n g true a W S = a_run tx n g' false b (X ++ W) S')
def a_s2 (tx : Nat → Int32) (n f : Nat) : Prop := ∀ d a W S g, a_op W = d → a_nt W 33 → a_nt W 38 → a_nt W 124 → 3 * (n - a) + 3 ≤ f → a ≤ n → n - a < g →
  (∀ p, a_ps tx n f 2 d a = .inl p → a_run tx n g true a W S = .inl p) ∧
  (∀ b L, a_ps tx n f 2 d a = .inr (b, L) → ∃ g' X S', a_xs X ∧ S' ++ a_em X = S ++ L ∧ n - b < g' ∧ a < b ∧ b ≤ n ∧ ¬ a_cr tx n b = 38 ∧ ¬ a_cr tx n b = 124 ∧ a_run tx n g true a W S = a_run tx n g' false b (X ++ W) S')
def a_s3 (tx : Nat → Int32) (n f : Nat) : Prop := ∀ d a W X S S0 g, a_op W = d → a_nt W 33 → a_nt W 38 → (X = [] ∨ X = [38]) → S ++ a_em X = S0 → 3 * (n - a) + 2 ≤ f → a ≤ n → n - a < g →
  (∀ p, a_ps tx n f 3 d a = .inl p → a_run tx n g false a (X ++ W) S = .inl p) ∧
  (∀ b L, a_ps tx n f 3 d a = .inr (b, L) → ∃ g' X' S', (X' = [] ∨ X' = [38]) ∧ S' ++ a_em X' = S0 ++ L ∧ n - b < g' ∧ a ≤ b ∧ b ≤ n ∧ ¬ a_cr tx n b = 38 ∧ a_run tx n g false a (X ++ W) S = a_run tx n g' false b (X' ++ W) S')
def a_s4 (tx : Nat → Int32) (n f : Nat) : Prop := ∀ d a W X S S0 g, a_op W = d → a_nt W 33 → a_nt W 38 → a_nt W 124 → a_xs X → S ++ a_em X = S0 → ¬ a_cr tx n a = 38 → 3 * (n - a) + 2 ≤ f → a ≤ n → n - a < g →
  (∀ p, a_ps tx n f 4 d a = .inl p → a_run tx n g false a (X ++ W) S = .inl p) ∧
  (∀ b L, a_ps tx n f 4 d a = .inr (b, L) → ∃ g' X' S', a_xs X' ∧ S' ++ a_em X' = S0 ++ L ∧ n - b < g' ∧ a ≤ b ∧ b ≤ n ∧ ¬ a_cr tx n b = 38 ∧ ¬ a_cr tx n b = 124 ∧ a_run tx n g false a (X ++ W) S = a_run tx n g' false b (X' ++ W) S')
theorem a_op_x {X W : List Int32} (hX : a_xs X) : a_op (X ++ W) = a_op W := by
  rcases hX with rfl | rfl | rfl | rfl
  · rfl
  · exact a_op_38
  · exact a_op_124
  · show a_op (38 :: 124 :: W) = _
    rw [a_op_38, a_op_124]
theorem a_s0_s {f : Nat} (i0 : a_s0 tx n f) (i2 : a_s2 tx n f) : a_s0 tx n (f + 1) := by
  intro d a W S g hd hf han hg
  obtain ⟨g, rfl⟩ : ∃ g0, g = g0 + 1 := ⟨g - 1, by omega⟩
  have e : a_ps tx n (f + 1) 0 d a = if a_cr tx n a = 33 then (if d = 4 then .inl a else a_bd (a_ps tx n f 0 (d + 1) (a + 1)) fun r => .inr (r.1, r.2 ++ [-33]))
    else if a_cr tx n a = 40 then (if d = 4 then .inl a else a_bd (a_ps tx n f 2 (d + 1) (a + 1)) fun r => if a_cr tx n r.1 = 41 then .inr (r.1 + 1, r.2) else .inl r.1)
    else a_ts tx n a := rfl
  rw [e]
  by_cases c1 : a_cr tx n a = 33
  · have hn : a < n := a_cr_in c1 (by decide)
    rw [if_pos c1]
    by_cases c4 : d = 4
    · rw [if_pos c4]
      refine ⟨fun p hp => ?_, fun b L hp => absurd hp (by simp)⟩
      rw [a_run_4 c1 (Or.inl rfl) (by omega)]
      exact hp
    · rw [if_neg c4]
      have ih := i0 (d + 1) (a + 1) (33 :: W) S g (by rw [a_op_33, hd]) (by omega) (by omega) (by omega)
      rw [a_run_o c1 (Or.inl rfl) (by omega)]
      refine ⟨fun p hp => ?_, fun b L hp => ?_⟩
      · rcases a_bd_l hp with hp | ⟨y, -, hp⟩
        · exact ih.1 p hp
        · exact absurd hp (by simp)
      · obtain ⟨y, hy, hp⟩ := a_bd_r hp
        simp only [Sum.inr.injEq, Prod.mk.injEq] at hp
        obtain ⟨g', q1, q2, q3, q4⟩ := ih.2 y.1 y.2 hy
        refine ⟨g', by omega, by omega, by omega, ?_⟩
        rw [q4]
        have e2 : a_wo (33 :: W) (S ++ y.2) = a_wo W (S ++ L) := by
          conv => lhs; unfold a_wo
          rw [if_pos rfl, List.append_assoc, hp.2]
        rw [e2, hp.1]
  · rw [if_neg c1]
    by_cases c2 : a_cr tx n a = 40
    · have hn : a < n := a_cr_in c2 (by decide)
      rw [if_pos c2]
      by_cases c4 : d = 4
      · rw [if_pos c4]
        refine ⟨fun p hp => ?_, fun b L hp => absurd hp (by simp)⟩
        rw [a_run_4 c2 (Or.inr rfl) (by omega)]
        exact hp
      · rw [if_neg c4]
        have ih := i2 (d + 1) (a + 1) (40 :: W) S g (by rw [a_op_40, hd]) (a_nt_c (by decide)) (a_nt_c (by decide)) (a_nt_c (by decide)) (by omega) (by omega) (by omega)
        rw [a_run_o c2 (Or.inr rfl) (by omega)]
        have fin : ∀ y : Nat × List Int32, a_ps tx n f 2 (d + 1) (a + 1) = .inr y → ∃ g', n - y.1 < g' + 1 ∧ a + 1 < y.1 ∧ y.1 ≤ n ∧ a_run tx n g true (a + 1) (40 :: W) S = if a_cr tx n y.1 = 41 then a_run tx n g' false (y.1 + 1) (a_wo W (S ++ y.2)).1 (a_wo W (S ++ y.2)).2 else .inl y.1 := by
          intro y hy
          obtain ⟨g', X, S', hX, q1, q2, q3, q4, q5, q6, q7⟩ := ih.2 y.1 y.2 hy
          obtain ⟨g', rfl⟩ : ∃ g0, g' = g0 + 1 := ⟨g' - 1, by omega⟩
          refine ⟨g', q2, q3, q4, ?_⟩
          rw [q7]
          refine a_run_c q5 q6 ?_
          rw [a_sl_x hX (a_nt_c (by decide)) (a_nt_c (by decide)), q1]
        refine ⟨fun p hp => ?_, fun b L hp => ?_⟩
        · rcases a_bd_l hp with hp | ⟨y, hy, hp⟩
          · exact ih.1 p hp
          · obtain ⟨g', -, -, -, q⟩ := fin y hy
            rw [q]
            by_cases c5 : a_cr tx n y.1 = 41
            · rw [if_pos c5] at hp; exact absurd hp (by simp)
            · rw [if_neg c5] at hp ⊢; exact hp
        · obtain ⟨y, hy, hp⟩ := a_bd_r hp
          obtain ⟨g', q1, q2, q3, q⟩ := fin y hy
          by_cases c5 : a_cr tx n y.1 = 41
          · have hn2 : y.1 < n := a_cr_in c5 (by decide)
            rw [if_pos c5] at hp q
            simp only [Sum.inr.injEq, Prod.mk.injEq] at hp
            refine ⟨g', by omega, by omega, by omega, ?_⟩
            rw [q, hp.1, hp.2]
          · rw [if_neg c5] at hp
            exact absurd hp (by simp)
    · rw [if_neg c2, a_run_t c1 c2]
      refine ⟨fun p hp => ?_, fun b L hp => ?_⟩
      · rw [hp]; rfl
      · have hb := a_ts_b hp
        rw [hp]
        exact ⟨g, by omega, hb.1, hb.2, rfl⟩
theorem a_s3_s {f : Nat} (i0 : a_s0 tx n f) (i3 : a_s3 tx n f) : a_s3 tx n (f + 1) := by
  intro d a W X S S0 g hd h33 h38 hX hS hf han hg
  obtain ⟨g, rfl⟩ : ∃ g0, g = g0 + 1 := ⟨g - 1, by omega⟩
  have e : a_ps tx n (f + 1) 3 d a = if a_cr tx n a = 38 then a_bd (a_ps tx n f 0 d (a + 1)) fun r => a_bd (a_ps tx n f 3 d r.1) fun q => .inr (q.1, r.2 ++ [-38] ++ q.2) else .inr (a, []) := rfl
  rw [e]
  by_cases c1 : a_cr tx n a = 38
  · have hn : a < n := a_cr_in c1 (by decide)
    rw [if_pos c1, a_run_b c1 (Or.inl rfl)]
    have es : a_sl 38 (X ++ W) S = (W, S0) := by
      rcases hX with rfl | rfl
      · rw [List.nil_append, a_sl_n h38 (Or.inr rfl), ← hS]; simp [a_em]
      · rw [List.cons_append, List.nil_append, a_sl_38, a_sl_n h38 (Or.inr rfl), ← hS]; rfl
    rw [es]
    have ih := i0 d (a + 1) (38 :: W) S0 g (by rw [a_op_38, hd]) (by omega) (by omega) (by omega)
    have fin : ∀ y : Nat × List Int32, a_ps tx n f 0 d (a + 1) = .inr y → ∃ g', n - y.1 < g' ∧ a + 1 < y.1 ∧ y.1 ≤ n ∧ a_run tx n g true (a + 1) (38 :: W) S0 = a_run tx n g' false y.1 ([38] ++ W) (S0 ++ y.2) := by
      intro y hy
      obtain ⟨g', q1, q2, q3, q4⟩ := ih.2 y.1 y.2 hy
      rw [a_wo_n (a_nt_c (by decide))] at q4
      exact ⟨g', q1, q2, q3, q4⟩
    refine ⟨fun p hp => ?_, fun b L hp => ?_⟩
    · rcases a_bd_l hp with hp | ⟨y, hy, hp⟩
      · exact ih.1 p hp
      · obtain ⟨g', q1, q2, q3, q4⟩ := fin y hy
        rw [q4]
        have ih3 := i3 d y.1 W [38] (S0 ++ y.2) _ g' hd h33 h38 (Or.inr rfl) rfl (by omega) q3 q1
        rcases a_bd_l hp with hp | ⟨z, hz, hp⟩
        · exact ih3.1 p hp
        · exact absurd hp (by simp)
    · obtain ⟨y, hy, hp⟩ := a_bd_r hp
      obtain ⟨g', q1, q2, q3, q4⟩ := fin y hy
      have ih3 := i3 d y.1 W [38] (S0 ++ y.2) _ g' hd h33 h38 (Or.inr rfl) rfl (by omega) q3 q1
      obtain ⟨z, hz, hp⟩ := a_bd_r hp
      simp only [Sum.inr.injEq, Prod.mk.injEq] at hp
      obtain ⟨g2, X', S', r1, r2, r3, r4, r5, r6, r7⟩ := ih3.2 z.1 z.2 hz
      refine ⟨g2, X', S', r1, ?_, by omega, by omega, by omega, by rw [← hp.1]; exact r6, ?_⟩
      · rw [r2, ← hp.2]
        simp [a_em, List.append_assoc]
      · rw [q4, r7, hp.1]
  · rw [if_neg c1]
    refine ⟨fun p hp => absurd hp (by simp), fun b L hp => ?_⟩
    simp only [Sum.inr.injEq, Prod.mk.injEq] at hp
    obtain ⟨rfl, rfl⟩ := hp
    exact ⟨g + 1, X, S, hX, by rw [hS, List.append_nil], hg, Nat.le_refl _, han, c1, rfl⟩
theorem a_s1_s {f : Nat} (i0 : a_s0 tx n f) (i3 : a_s3 tx n f) : a_s1 tx n (f + 1) := by
  intro d a W S g hd h33 h38 hf han hg
  have e : a_ps tx n (f + 1) 1 d a = a_bd (a_ps tx n f 0 d a) fun r => a_bd (a_ps tx n f 3 d r.1) fun q => .inr (q.1, r.2 ++ q.2) := rfl
  rw [e]
  have ih := i0 d a W S g hd (by omega) han hg
  have fin : ∀ y : Nat × List Int32, a_ps tx n f 0 d a = .inr y → ∃ g', n - y.1 < g' ∧ a < y.1 ∧ y.1 ≤ n ∧ a_run tx n g true a W S = a_run tx n g' false y.1 ([] ++ W) (S ++ y.2) := by
    intro y hy
    obtain ⟨g', q1, q2, q3, q4⟩ := ih.2 y.1 y.2 hy
    rw [a_wo_n h33] at q4
    exact ⟨g', q1, q2, q3, q4⟩
  refine ⟨fun p hp => ?_, fun b L hp => ?_⟩
  · rcases a_bd_l hp with hp | ⟨y, hy, hp⟩
    · exact ih.1 p hp
    · obtain ⟨g', q1, q2, q3, q4⟩ := fin y hy
      rw [q4]
      have ih3 := i3 d y.1 W [] (S ++ y.2) (S ++ y.2) g' hd h33 h38 (Or.inl rfl) (by simp [a_em]) (by omega) q3 q1
      rcases a_bd_l hp with hp | ⟨z, hz, hp⟩
      · exact ih3.1 p hp
      · exact absurd hp (by simp)
  · obtain ⟨y, hy, hp⟩ := a_bd_r hp
    obtain ⟨g', q1, q2, q3, q4⟩ := fin y hy
    have ih3 := i3 d y.1 W [] (S ++ y.2) (S ++ y.2) g' hd h33 h38 (Or.inl rfl) (by simp [a_em]) (by omega) q3 q1
    obtain ⟨z, hz, hp⟩ := a_bd_r hp
    simp only [Sum.inr.injEq, Prod.mk.injEq] at hp
    obtain ⟨g2, X', S', r1, r2, r3, r4, r5, r6, r7⟩ := ih3.2 z.1 z.2 hz
    refine ⟨g2, X', S', r1, ?_, by omega, by omega, by omega, by rw [← hp.1]; exact r6, ?_⟩
    · rw [r2, ← hp.2, List.append_assoc]
    · rw [q4, r7, hp.1]
theorem a_s4_s {f : Nat} (i1 : a_s1 tx n f) (i4 : a_s4 tx n f) : a_s4 tx n (f + 1) := by
  intro d a W X S S0 g hd h33 h38 h124 hX hS hc han2 han hg
  obtain ⟨g, rfl⟩ : ∃ g0, g = g0 + 1 := ⟨g - 1, by omega⟩
  have e : a_ps tx n (f + 1) 4 d a = if a_cr tx n a = 124 then a_bd (a_ps tx n f 1 d (a + 1)) fun r => a_bd (a_ps tx n f 4 d r.1) fun q => .inr (q.1, r.2 ++ [-124] ++ q.2) else .inr (a, []) := rfl
  rw [e]
  by_cases c1 : a_cr tx n a = 124
  · have hn : a < n := a_cr_in c1 (by decide)
    rw [if_pos c1, a_run_b c1 (Or.inr rfl)]
    rw [a_sl_x hX h38 h124, hS]
    have ih := i1 d (a + 1) (124 :: W) S0 g (by rw [a_op_124, hd]) (a_nt_c (by decide)) (a_nt_c (by decide)) (by omega) (by omega) (by omega)
    have fin : ∀ y : Nat × List Int32, a_ps tx n f 1 d (a + 1) = .inr y → ∃ g' X S', a_xs X ∧ S' ++ a_em X = S0 ++ (y.2 ++ [-124]) ∧ n - y.1 < g' ∧ a + 1 < y.1 ∧ y.1 ≤ n ∧ ¬ a_cr tx n y.1 = 38 ∧ a_run tx n g true (a + 1) (124 :: W) S0 = a_run tx n g' false y.1 (X ++ W) S' := by
      intro y hy
      obtain ⟨g', X, S', q1, q2, q3, q4, q5, q6, q7⟩ := ih.2 y.1 y.2 hy
      refine ⟨g', X ++ [124], S', ?_, ?_, q3, q4, q5, q6, ?_⟩
      · rcases q1 with rfl | rfl
        · exact Or.inr (Or.inr (Or.inl rfl))
        · exact Or.inr (Or.inr (Or.inr rfl))
      · rw [← List.append_assoc, ← q2]
        simp [a_em]
      · rw [q7, List.append_assoc]; rfl
    refine ⟨fun p hp => ?_, fun b L hp => ?_⟩
    · rcases a_bd_l hp with hp | ⟨y, hy, hp⟩
      · exact ih.1 p hp
      · obtain ⟨g', X1, S1, q0, q1, q2, q3, q4, q5, q6⟩ := fin y hy
        rw [q6]
        have ih3 := i4 d y.1 W X1 S1 _ g' hd h33 h38 h124 q0 q1 q5 (by omega) q4 q2
        rcases a_bd_l hp with hp | ⟨z, hz, hp⟩
        · exact ih3.1 p hp
        · exact absurd hp (by simp)
    · obtain ⟨y, hy, hp⟩ := a_bd_r hp
      obtain ⟨g', X1, S1, q0, q1, q2, q3, q4, q5, q6⟩ := fin y hy
      have ih3 := i4 d y.1 W X1 S1 _ g' hd h33 h38 h124 q0 q1 q5 (by omega) q4 q2
      obtain ⟨z, hz, hp⟩ := a_bd_r hp
      simp only [Sum.inr.injEq, Prod.mk.injEq] at hp
      obtain ⟨g2, X', S', r1, r2, r3, r4, r5, r6, r7, r8⟩ := ih3.2 z.1 z.2 hz
      refine ⟨g2, X', S', r1, ?_, by omega, by omega, by omega, by rw [← hp.1]; exact r6, by rw [← hp.1]; exact r7, ?_⟩
      · rw [r2, ← hp.2]
        simp [List.append_assoc]
      · rw [q6, r8, hp.1]
  · rw [if_neg c1]
    refine ⟨fun p hp => absurd hp (by simp), fun b L hp => ?_⟩
    simp only [Sum.inr.injEq, Prod.mk.injEq] at hp
    obtain ⟨rfl, rfl⟩ := hp
    exact ⟨g + 1, X, S, hX, by rw [hS, List.append_nil], hg, Nat.le_refl _, han, hc, c1, rfl⟩
theorem a_s2_s {f : Nat} (i1 : a_s1 tx n f) (i4 : a_s4 tx n f) : a_s2 tx n (f + 1) := by
  intro d a W S g hd h33 h38 h124 hf han hg
  have e : a_ps tx n (f + 1) 2 d a = a_bd (a_ps tx n f 1 d a) fun r => a_bd (a_ps tx n f 4 d r.1) fun q => .inr (q.1, r.2 ++ q.2) := rfl
  rw [e]
  have ih := i1 d a W S g hd h33 h38 (by omega) han hg
  have fin : ∀ y : Nat × List Int32, a_ps tx n f 1 d a = .inr y → ∃ g' X S', a_xs X ∧ S' ++ a_em X = S ++ y.2 ∧ n - y.1 < g' ∧ a < y.1 ∧ y.1 ≤ n ∧ ¬ a_cr tx n y.1 = 38 ∧ a_run tx n g true a W S = a_run tx n g' false y.1 (X ++ W) S' := by
    intro y hy
    obtain ⟨g', X, S', q1, q2⟩ := ih.2 y.1 y.2 hy
    refine ⟨g', X, S', ?_, q2⟩
    rcases q1 with rfl | rfl
    · exact Or.inl rfl
    · exact Or.inr (Or.inl rfl)
  refine ⟨fun p hp => ?_, fun b L hp => ?_⟩
  · rcases a_bd_l hp with hp | ⟨y, hy, hp⟩
    · exact ih.1 p hp
    · obtain ⟨g', X1, S1, q0, q1, q2, q3, q4, q5, q6⟩ := fin y hy
      rw [q6]
      have ih3 := i4 d y.1 W X1 S1 _ g' hd h33 h38 h124 q0 q1 q5 (by omega) q4 q2
      rcases a_bd_l hp with hp | ⟨z, hz, hp⟩
      · exact ih3.1 p hp
      · exact absurd hp (by simp)
  · obtain ⟨y, hy, hp⟩ := a_bd_r hp
    obtain ⟨g', X1, S1, q0, q1, q2, q3, q4, q5, q6⟩ := fin y hy
    have ih3 := i4 d y.1 W X1 S1 _ g' hd h33 h38 h124 q0 q1 q5 (by omega) q4 q2
    obtain ⟨z, hz, hp⟩ := a_bd_r hp
    simp only [Sum.inr.injEq, Prod.mk.injEq] at hp
    obtain ⟨g2, X', S', r1, r2, r3, r4, r5, r6, r7, r8⟩ := ih3.2 z.1 z.2 hz
    refine ⟨g2, X', S', r1, ?_, by omega, by omega, by omega, by rw [← hp.1]; exact r6, by rw [← hp.1]; exact r7, ?_⟩
    · rw [r2, ← hp.2, List.append_assoc]
    · rw [q6, r8, hp.1]
theorem a_s_all : ∀ f, a_s0 tx n f ∧ a_s1 tx n f ∧ a_s2 tx n f ∧ a_s3 tx n f ∧ a_s4 tx n f
  | 0 => ⟨fun d a W S g _ h => absurd h (by omega), fun d a W S g _ _ _ h => absurd h (by omega), fun d a W S g _ _ _ _ h => absurd h (by omega), fun d a W X S S0 g _ _ _ _ _ h => absurd h (by omega), fun d a W X S S0 g _ _ _ _ _ _ _ h => absurd h (by omega)⟩
  | f + 1 => by
    obtain ⟨i0, i1, i2, i3, i4⟩ := a_s_all f
    exact ⟨a_s0_s i0 i2, a_s1_s i0 i3, a_s2_s i1 i4, a_s3_s i0 i3, a_s4_s i1 i4⟩
/-- from an empty pile -/
theorem a_run_ps {a g f : Nat} {S : List Int32} (hf : 3 * (n - a) + 3 ≤ f) (ha : a ≤ n) (hg : n - a < g) :
    (∀ p, a_ps tx n f 2 0 a = .inl p → a_run tx n g true a [] S = .inl p) ∧ (∀ b L, a_ps tx n f 2 0 a = .inr (b, L) → a < b ∧ b ≤ n ∧ a_run tx n g true a [] S = .inr (b, S ++ L)) := by
  have h := (a_s_all (tx := tx) (n := n) f).2.2.1 0 a [] S g rfl (by simp [a_nt]) (by simp [a_nt]) (by simp [a_nt]) hf ha hg
  refine ⟨h.1, fun b L hp => ?_⟩
  obtain ⟨g', X, S', q0, q1, q2, q3, q4, q5, q6, q7⟩ := h.2 b L hp
  refine ⟨q3, q4, ?_⟩
  obtain ⟨g', rfl⟩ : ∃ g0, g' = g0 + 1 := ⟨g' - 1, by omega⟩
  rw [q7]
  refine a_run_e q5 q6 ?_
  rw [a_sl_x q0 (by simp [a_nt]) (by simp [a_nt]), q1]
end ZSIM
