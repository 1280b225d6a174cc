/-! HOW FAR A READ GOES (by hand). -/
/-- from p on: it fails behind p, or ends at a place up to n -/
def a_go (n p k : Nat) {α : Type} (x : Nat ⊕ (Nat × α)) : Prop := (∀ e, x = .inl e → p ≤ e ∧ e ≤ n) ∧ ∀ b L, x = .inr (b, L) → p + k ≤ b ∧ b ≤ n
theorem a_go.bd {α β : Type} {n p q k k' : Nat} {x : Nat ⊕ (Nat × α)} {f : (Nat × α) → Nat ⊕ (Nat × β)} (hx : a_go n q k' x) (hq : p ≤ q) (hf : ∀ b L, x = .inr (b, L) → q + k' ≤ b → b ≤ n → a_go n p k (f (b, L))) : a_go n p k (a_bd x f) := by
  cases x with
  | inl e => exact ⟨fun e' h => by cases h; exact ⟨Nat.le_trans hq (hx.1 e rfl).1, (hx.1 e rfl).2⟩, fun b L h => by cases h⟩
  | inr y =>
    obtain ⟨b, L⟩ := y
    obtain ⟨g1, g2⟩ := hx.2 b L rfl
    exact hf b L rfl g1 g2
theorem a_go.inr {α : Type} {n p k b : Nat} {L : α} (h1 : p + k ≤ b) (h2 : b ≤ n) : a_go n p k (.inr (b, L) : Nat ⊕ (Nat × α)) := ⟨fun e h => (by cases h), fun b' L' h => by cases h; exact ⟨h1, h2⟩⟩
theorem a_go.inl {α : Type} {n p k e : Nat} (h1 : p ≤ e) (h2 : e ≤ n) : a_go n p k (.inl e : Nat ⊕ (Nat × α)) := ⟨fun e' h => by cases h; exact ⟨h1, h2⟩, fun b' L' h => by cases h⟩
theorem a_ts_b3 {tx : Nat → Int32} {n a b : Nat} {L : List Int32} (h : a_ts tx n a = .inr (b, L)) : a + 3 ≤ b := by
  unfold a_ts at h
  split at h
  · split at h
    · unfold a_nm at h
      split at h
      · cases h
      · rename_i q
        split at q
        · split at q
          · cases q; cases h; omega
          · cases q; cases h; omega
        · cases q
    · cases h
  · cases h
theorem a_ts_go {tx : Nat → Int32} {n p : Nat} (hp : p ≤ n) : a_go n p 3 (a_ts tx n p) := by
  refine ⟨fun e h => ?_, fun b L h => ?_⟩
  · rcases a_ts_n h with ⟨-, q⟩ | ⟨q0, -, q⟩ | ⟨-, q0, q1, q⟩
    · omega
    · have := a_cr_lt (tx := tx) (n := n) (p := p) (fun w => by rw [w] at q0; exact absurd q0 (by decide))
      omega
    · have := a_nm_l q1
      have := a_cr_lt (tx := tx) (n := n) (p := p + 1) (fun w => by rw [w] at q0; exact absurd q0.1 (by decide))
      omega
  · have := a_ts_b h
    have := a_ts_b3 h
    omega
theorem a_ps_go {tx : Nat → Int32} {n : Nat} : ∀ (f md d p : Nat), p ≤ n → a_go n p (if md ≤ 2 then 3 else 0) (a_ps tx n f md d p)
  | 0, _, _, _, hp => a_go.inl (Nat.le_refl _) hp
  | f + 1, 0, d, p, hp => by
    show a_go n p 3 _
    rw [a_ps]
    by_cases c1 : a_cr tx n p = 33
    · have hl := a_cr_lt (tx := tx) (n := n) (p := p) (by rw [c1]; decide)
      rw [if_pos c1]
      by_cases c2 : d = 4
      · rw [if_pos c2]; exact a_go.inl (Nat.le_refl _) hp
      · rw [if_neg c2]
        exact a_go.bd (a_ps_go f 0 (d + 1) (p + 1) hl) (by omega) (fun b L _ h1 h2 => a_go.inr (by simp at h1; omega) h2)
    · rw [if_neg c1]
      by_cases c3 : a_cr tx n p = 40
      · have hl := a_cr_lt (tx := tx) (n := n) (p := p) (by rw [c3]; decide)
        rw [if_pos c3]
        by_cases c2 : d = 4
        · rw [if_pos c2]; exact a_go.inl (Nat.le_refl _) hp
        · rw [if_neg c2]
          refine a_go.bd (a_ps_go f 2 (d + 1) (p + 1) hl) (by omega) (fun b L _ h1 h2 => ?_)
          simp at h1
          by_cases c4 : a_cr tx n b = 41
          · have hb := a_cr_lt (tx := tx) (n := n) (p := b) (by rw [c4]; decide)
            rw [show (if a_cr tx n (b, L).1 = 41 then (Sum.inr ((b, L).1 + 1, (b, L).2) : Nat ⊕ (Nat × List Int32)) else .inl (b, L).1) = .inr (b + 1, L) from if_pos c4]
            exact a_go.inr (by omega) hb
          · rw [show (if a_cr tx n (b, L).1 = 41 then (Sum.inr ((b, L).1 + 1, (b, L).2) : Nat ⊕ (Nat × List Int32)) else .inl (b, L).1) = .inl b from if_neg c4]
            exact a_go.inl (by omega) h2
      · rw [if_neg c3]
        exact a_ts_go hp
  | f + 1, 1, d, p, hp => by
    show a_go n p 3 _
    rw [a_ps]
    exact a_go.bd (a_ps_go f 0 d p hp) (Nat.le_refl _) (fun b L _ h1 h2 => a_go.bd (a_ps_go f 3 d b h2) (by simp at h1; omega) (fun b' L' _ h3 h4 => a_go.inr (by simp at h1 h3; omega) h4))
  | f + 1, 2, d, p, hp => by
    show a_go n p 3 _
    rw [a_ps]
    exact a_go.bd (a_ps_go f 1 d p hp) (Nat.le_refl _) (fun b L _ h1 h2 => a_go.bd (a_ps_go f 4 d b h2) (by simp at h1; omega) (fun b' L' _ h3 h4 => a_go.inr (by simp at h1 h3; omega) h4))
  | f + 1, 3, d, p, hp => by
    show a_go n p 0 _
    rw [a_ps]
    by_cases c1 : a_cr tx n p = 38
    · have hl := a_cr_lt (tx := tx) (n := n) (p := p) (by rw [c1]; decide)
      rw [if_pos c1]
      exact a_go.bd (a_ps_go f 0 d (p + 1) hl) (by omega) (fun b L _ h1 h2 => a_go.bd (a_ps_go f 3 d b h2) (by simp at h1; omega) (fun b' L' _ h3 h4 => a_go.inr (by simp at h1 h3; omega) h4))
    · rw [if_neg c1]
      exact a_go.inr (Nat.le_refl _) hp
  | f + 1, md + 4, d, p, hp => by
    show a_go n p (if md + 4 ≤ 2 then 1 else 0) _
    rw [if_neg (by omega), a_ps]
    · by_cases c1 : a_cr tx n p = 124
      · have hl := a_cr_lt (tx := tx) (n := n) (p := p) (by rw [c1]; decide)
        rw [if_pos c1]
        exact a_go.bd (a_ps_go f 1 d (p + 1) hl) (by omega) (fun b L _ h1 h2 => a_go.bd (a_ps_go f 4 d b h2) (by simp at h1; omega) (fun b' L' _ h3 h4 => a_go.inr (by simp at h1 h3; omega) h4))
      · rw [if_neg c1]
        exact a_go.inr (Nat.le_refl _) hp
    all_goals omega
