/-! THE CLASS's READER: lists of tests while they are read (printed by class37.py) -/
set_option maxRecDepth 20000
def a_k (m p : Nat) : Nat ⊕ (Nat × List Int32) → Nat
  | .inl e => 4 * (e - p) + 3 + 2 * m
  | .inr (b, _) => 4 * (b - p) + 3 * m
def a_kl (p : Nat) : Nat ⊕ (Nat × List Int32) → Nat
  | .inl e => 4 * (e - p) + 1
  | .inr (b, _) => 4 * (b - p)
def a_dpt (m d : Nat) : Nat := 7 + 3 * (4 - d) + m
def a_D (m d : Nat) : Nat := 1 + 2 * (4 - d) + m
theorem a_kl_bd {n b b' : Nat} {Y : Nat ⊕ (Nat × List Int32)} {g : Nat × List Int32 → List Int32} (hg : a_go n b' 0 Y) (hb : b ≤ b') : a_kl b (a_bd Y fun q => .inr (q.1, g q)) = 4 * (b' - b) + a_kl b' Y := by
  cases Y with
  | inl e =>
    have := hg.1 e rfl
    show 4 * (e - b) + 1 = 4 * (b' - b) + (4 * (e - b') + 1)
    omega
  | inr y =>
    obtain ⟨c, L⟩ := y
    have := (hg.2 c L rfl).1
    show 4 * (c - b) = 4 * (b' - b) + 4 * (c - b')
    omega
theorem a_k_bd {n p b m : Nat} {Y : Nat ⊕ (Nat × List Int32)} {g : Nat × List Int32 → List Int32} (hm : m ≤ 2) (hg : a_go n b 0 Y) (hb : p ≤ b) : 4 * (b - p) + 3 * m + a_kl b Y ≤ a_k m p (a_bd Y fun q => .inr (q.1, g q)) := by
  cases Y with
  | inl e =>
    have := hg.1 e rfl
    show 4 * (b - p) + 3 * m + (4 * (e - b) + 1) ≤ 4 * (e - p) + 3 + 2 * m
    omega
  | inr y =>
    obtain ⟨c, L⟩ := y
    have := (hg.2 c L rfl).1
    show 4 * (b - p) + 3 * m + 4 * (c - b) ≤ 4 * (c - p) + 3 * m
    omega
theorem z_rq {D D' k k' s s' m : Nat} (hd : D' + 1 ≤ D) (hm : m ≤ 45) : (z_rm D' k' s').frames + 1 ≤ (z_rm D k s).frames ∧ 8 + (m + 11) + (z_rm D' k' s').locals ≤ (z_rm D k s).locals := by
  constructor
  · show D' + 64 + 1 ≤ D + 64
    omega
  · show 8 + (m + 11) + (64 * D' + 20000) ≤ 64 * D + 20000
    omega
theorem z_AB.pg {r L A N : Nat} {h h' : z_H} {ids : List Nat} (hr : z_T h r = some (.inl 14)) (hg : z_pg r h h') (hL : z_AB h L A N ids) : z_AB h' L A N ids := by
  obtain ⟨h1, h2, h3, h4, h5, h6, h7, h8, h9, h10, h11, h12⟩ := hL
  have hne : L ≠ r := fun q => by rw [q, hr] at h3; cases h3
  obtain ⟨g1, g2, g3, g4⟩ := hg.2 L h2
  obtain ⟨k1, k2, k3, k4⟩ := hg.2 A h7
  refine ⟨h1, Nat.lt_of_lt_of_le h2 hg.1, g1.trans h3, (g4 2 (fun q => hne q.1)).trans h4, h5, (g3 1).trans h6, Nat.lt_of_lt_of_le h7 hg.1, h8, k1.trans h9, h10, fun i b q => ⟨(k3 i).trans (h11 i b q).1, (h11 i b q).2.mono hg.1 (fun a ha => (hg.2 a ha).1)⟩, fun i q1 q2 => (k3 i).trans (h12 i q1 q2)⟩
/-- while a list of tests is read: the memory h0 at the start, h now -/
def z_lS (r : Nat) (h0 h : z_H) (L A N D : Nat) (ids : List Nat) (Ps : List ((Int32 → Int32) → Bool)) (w : Int32) : Prop :=
  z_pg r h0 h ∧ L = z_n h0 + 1 ∧ z_T h (z_n h0) = some (.inl 18) ∧ z_R h (z_n h0) 1 = some L ∧ z_I h (z_n h0) 0 = w ∧ z_AB h L A N ids ∧ (A = 1 ∨ L < A) ∧ ids.length = Ps.length ∧
  ∀ (i b : Nat) (p : (Int32 → Int32) → Bool), ids[i]? = some b → Ps[i]? = some p → z_Tq (fun a => z_n h0 < a ∧ a < z_n h ∧ a ≠ L ∧ a ≠ A) D h b p
theorem z_sm.pg {r : Nat} {h h' : z_H} {S : Nat → Prop} (hg : z_pg r h h') (hS : ∀ a, S a → a < z_n h ∧ a ≠ r) : z_sm S h h' := fun a ha => by
  obtain ⟨g1, g2, g3, g4⟩ := hg.2 a (hS a ha).1
  exact ⟨g1, fun k => g4 k (fun q => (hS a ha).2 q.1), g3⟩
theorem z_sm.fL {L A : Nat} {h h' : z_H} {S : Nat → Prop} (hg : z_fL L h h') (hA : z_R h L 1 = some A) (hS : ∀ a, S a → a < z_n h ∧ a ≠ L ∧ a ≠ A) : z_sm S h h' := fun a ha => by
  obtain ⟨s1, s2, s3⟩ := hS a ha
  obtain ⟨g1, g2, g3, g4, g5⟩ := hg.2 a s1
  exact ⟨g1, g3 s2, g4 s2 (Or.inl (fun q => s3 (by rw [hA] at q; cases q; rfl)))⟩
theorem z_lS.step {r : Nat} {h0 h h1 h2 : z_H} {L A N D A' N' y : Nat} {ids : List Nat} {Ps : List ((Int32 → Int32) → Bool)} {w : Int32} {P : (Int32 → Int32) → Bool} (hn : 85 ≤ z_n h0) (hrn : r < z_n h0) (hr : z_T h0 r = some (.inl 14)) (hl : z_lS r h0 h L A N D ids Ps w) (hg : z_pg r h h1) (hy : z_Tq (fun a => z_n h ≤ a ∧ a < z_n h1) D h1 y P) (hf : z_fL L h1 h2) (hB : z_AB h2 L A' N' (ids ++ [y])) (hA : A' = A ∨ z_n h1 ≤ A') : z_lS r h0 h2 L A' N' D (ids ++ [y]) (Ps ++ [P]) w := by
  obtain ⟨l1, l2, l3, l4, l5, l6, l7, l8, l9⟩ := hl
  obtain ⟨f0, f1⟩ := hf
  have hr1 : z_T h r = some (.inl 14) := (l1.2 r hrn).1.trans hr
  have l6' := l6.pg hr1 hg
  obtain ⟨b1, b2, b3, b4, b5, b6, b7, b8, b9, b10, b11, b12⟩ := l6
  obtain ⟨c1, c2, c3, c4, c5, c6, c7, c8, c9, c10, c11, c12⟩ := l6'
  obtain ⟨d1, d2, d3, d4, d5, d6, d7, d8, d9, d10, d11, d12⟩ := id hB
  have hg1 := l1.trans hg
  have hn1 := l1.1
  have hn2 := hg.1
  have hy0 : z_n h0 < z_n h := by omega
  obtain ⟨y1, y2, y3, y4⟩ := hg.2 (z_n h0) hy0
  obtain ⟨x1, x2, x3, x4, x5⟩ := f1 (z_n h0) (by omega)
  have hneL : z_n h0 ≠ L := by omega
  have hneA : z_R h1 L 1 ≠ some (z_n h0) := fun q => by rw [c6] at q; cases q; omega
  have hAA : A' ≠ 1 ∧ L < A' := by
    have hl0 : (ids ++ [y]).length = ids.length + 1 := by simp
    omega
  refine ⟨⟨Nat.le_trans hg1.1 f0, fun a ha => ?_⟩, l2, x1.trans (y1.trans l3), (x4 hneL (Or.inl hneA) 1).trans ((y3 1).trans l4), (x3 hneL 0).trans ((y4 0 (by omega)).trans l5), hB, Or.inr hAA.2, by simp [l8], fun i b p q1 q2 => ?_⟩
  · obtain ⟨g1, g2, g3, g4⟩ := hg1.2 a ha
    obtain ⟨e1, e2, e3, e4, e5⟩ := f1 a (by omega)
    have ne : a ≠ L := by omega
    refine ⟨e1.trans g1, fun k => (e2 k).trans (g2 k), fun k => (e4 ne ?_ k).trans (g3 k), fun k hk => (e3 ne k).trans (g4 k hk)⟩
    rcases l7 with q | q
    · by_cases c : a = 1
      · exact Or.inr (by omega)
      · exact Or.inl (fun w => by rw [c6] at w; cases w; omega)
    · exact Or.inl (fun w => by rw [c6] at w; cases w; omega)
  · by_cases c : i < ids.length
    · rw [List.getElem?_append_left c] at q1
      rw [List.getElem?_append_left (by omega)] at q2
      have t0 := l9 i b p q1 q2
      have t1 : z_Tq (fun a => z_n h0 < a ∧ a < z_n h ∧ a ≠ L ∧ a ≠ A) D h1 b p := t0.to (fun _ q => q) (z_sm.pg hg (fun a q => ⟨q.2.1, by omega⟩))
      refine t1.to (fun a q => ⟨q.1, by omega, q.2.2.1, ?_⟩) (z_sm.fL ⟨f0, f1⟩ c6 (fun a q => ⟨by omega, q.2.2.1, q.2.2.2⟩))
      obtain ⟨-, s1, -, s2⟩ := q
      omega
    · have hi : i < (ids ++ [y]).length := (List.getElem?_eq_some_iff.mp q1).1
      rw [List.length_append, List.length_singleton] at hi
      have ei : i = ids.length := by omega
      rw [ei, List.getElem?_append_right (Nat.le_refl _), Nat.sub_self] at q1
      rw [ei, l8, List.getElem?_append_right (Nat.le_refl _), Nat.sub_self] at q2
      cases q1
      cases q2
      refine hy.to (fun a q => ⟨by omega, by omega, by omega, ?_⟩) (z_sm.fL ⟨f0, f1⟩ c6 (fun a q => ⟨q.2, by omega, by omega⟩))
      obtain ⟨s1, s2⟩ := q
      omega
theorem z_lS.ts {r : Nat} {h0 h : z_H} {L A N D : Nat} {ids : List Nat} {Ps : List ((Int32 → Int32) → Bool)} {w : Int32} {P : (Int32 → Int32) → Bool} (hn : 85 ≤ z_n h0) (hl : z_lS r h0 h L A N D ids Ps w) (hA : A ≠ 1) (hP : (w = 1 ∧ ∀ φ, P φ = Ps.all (fun p => p φ)) ∨ (w = 0 ∧ ∀ φ, P φ = Ps.any (fun p => p φ))) : z_Tq (fun a => z_n h0 ≤ a ∧ a < z_n h) (D + 1) h (z_n h0) P := by
  obtain ⟨l1, l2, l3, l4, l5, l6, l7, l8, l9⟩ := hl
  obtain ⟨b1, b2, b3, b4, b5, b6, b7, b8, b9, b10, b11, b12⟩ := id l6
  intro g hg
  obtain ⟨g1, g2, g3⟩ := hg (z_n h0) ⟨Nat.le_refl _, by omega⟩
  obtain ⟨k1, k2, k3⟩ := hg L ⟨by omega, b2⟩
  obtain ⟨m1, m2, m3⟩ := hg A ⟨by omega, b7⟩
  obtain ⟨u1, u2, u3, A2, n2, u4, u5, u6, u7, u8⟩ := l6.al
  have eA : A2 = A := by rw [b6] at u4; cases u4; rfl
  subst eA
  refine ⟨hn, Or.inr (Or.inr ⟨g1.trans l3, L, ids, Ps, (g3 1).trans l4, b1, ⟨k1.trans u1, (k2 2).trans u2, u3, A2, n2, (k3 1).trans u4, m1.trans u5, u6, u7, fun i b q => (m3 i).trans (u8 i b q)⟩, l8, fun i b p q1 q2 => l9 i b p q1 q2 g (fun a ha => hg a ⟨by omega, ha.2.1⟩), ?_⟩)⟩
  rw [g2, l5]
  exact hP
theorem z_lS.new {r : Nat} {h0 : z_H} {D : Nat} (w : Int32) (hn : 85 ≤ z_n h0) (h1 : z_T h0 1 = some (z_oa 0)) : z_lS r h0 (z_sI (z_sR (z_al0 (z_new (z_new h0 (.inl 18)) (.inl 21)) (z_n h0 + 1)) (z_n h0) 1 (some (z_n h0 + 1))) (z_n h0) 0 w) (z_n h0 + 1) 1 0 D [] [] w := by
  have e1 : ∀ a, a < z_n h0 → a ≠ z_n h0 ∧ a ≠ z_n h0 + 1 := fun a ha => ⟨by omega, by omega⟩
  refine ⟨⟨by show z_n h0 ≤ z_n h0 + 1 + 1; omega, fun a ha => ?_⟩, rfl, ?_, ?_, ?_, ⟨by omega, by show z_n h0 + 1 < z_n h0 + 1 + 1; omega, ?_, ?_, Nat.le_refl _, ?_, by show 1 < z_n h0 + 1 + 1; omega, by omega, ?_, Or.inl ⟨rfl, rfl⟩, fun i b q => by simp at q, fun i _ q => by omega⟩, Or.inl rfl, rfl, fun i b p q => by simp at q⟩
  · obtain ⟨n1, n2⟩ := e1 a ha
    refine ⟨?_, fun k => ?_, fun k => ?_, fun k _ => ?_⟩
    · exact (if_neg n2).trans (if_neg n1)
    · exact (if_neg n2).trans (if_neg n1)
    · exact (if_neg (fun q => n1 q.1)).trans ((if_neg (fun q => n2 q.1)).trans ((if_neg n2).trans (if_neg n1)))
    · exact (if_neg (fun q => n1 q.1)).trans ((if_neg (fun q => n2 q.1)).trans ((if_neg n2).trans (if_neg n1)))
  · exact (if_neg (by show ¬ z_n h0 = z_n h0 + 1; omega)).trans (if_pos rfl)
  · exact if_pos ⟨rfl, rfl⟩
  · exact if_pos ⟨rfl, rfl⟩
  · exact if_pos rfl
  · refine (if_neg (fun q => ?_)).trans ((if_neg (fun q => absurd q.2 (by decide))).trans (if_pos rfl))
    omega
  · refine (if_neg (fun q => ?_)).trans (if_pos ⟨rfl, rfl⟩)
    omega
  · exact (if_neg (by show ¬ 1 = z_n h0 + 1; omega)).trans ((if_neg (by show ¬ 1 = z_n h0; omega)).trans h1)
theorem z_el.te {h : z_H} {y : Nat} (hy : y < z_n h) (ht : z_T h y = some (.inl 18) ∨ z_T h y = some (.inl 19) ∨ z_T h y = some (.inl 20)) : z_el h y := by
  rcases ht with q | q | q
  · exact ⟨hy, 18, _, q, rfl, Or.inr q2084⟩
  · exact ⟨hy, 19, _, q, rfl, Or.inr q2085⟩
  · exact ⟨hy, 20, _, q, rfl, Or.inr q2086⟩
