/-! WHAT SIGNS SAY, as the class's tests say it (by hand). -/
def a_fd (φ : Int32 → Int32) (S : List Int32) (st : List Bool) : List Bool := S.foldl (fun s t => a_ev1 φ t s) st
theorem a_fd_app (φ : Int32 → Int32) (S S' : List Int32) (st : List Bool) : a_fd φ (S ++ S') st = a_fd φ S' (a_fd φ S st) := List.foldl_append
/-- these signs say P -/
def a_me (S : List Int32) (P : (Int32 → Int32) → Bool) : Prop := ∀ φ st, a_fd φ S st = P φ :: st
theorem a_me_not {S : List Int32} {P : (Int32 → Int32) → Bool} (h : a_me S P) : a_me (S ++ [-33]) (fun φ => !P φ) := by
  intro φ st
  rw [a_fd_app, h]
  rfl
theorem a_me_and {S S' : List Int32} {P P' : (Int32 → Int32) → Bool} (h : a_me S P) (h' : a_me S' P') : a_me (S ++ S' ++ [-38]) (fun φ => P φ && P' φ) := by
  intro φ st
  rw [a_fd_app, a_fd_app, h, h']
  rfl
theorem a_me_or {S S' : List Int32} {P P' : (Int32 → Int32) → Bool} (h : a_me S P) (h' : a_me S' P') : a_me (S ++ S' ++ [-124]) (fun φ => P φ || P' φ) := by
  intro φ st
  rw [a_fd_app, a_fd_app, h, h']
  rfl
theorem a_me_eq {S : List Int32} {P P' : (Int32 → Int32) → Bool} (h : a_me S P) (e : ∀ φ, P φ = P' φ) : a_me S P' := fun φ st => by rw [h, e]
theorem a_me_all {S S' : List Int32} {Ps : List ((Int32 → Int32) → Bool)} {P : (Int32 → Int32) → Bool} (h : a_me S (fun φ => Ps.all (fun p => p φ))) (h' : a_me S' P) : a_me (S ++ S' ++ [-38]) (fun φ => (Ps ++ [P]).all (fun p => p φ)) :=
  a_me_eq (a_me_and h h') (fun φ => by simp [List.all_append])
theorem a_me_any {S S' : List Int32} {Ps : List ((Int32 → Int32) → Bool)} {P : (Int32 → Int32) → Bool} (h : a_me S (fun φ => Ps.any (fun p => p φ))) (h' : a_me S' P) : a_me (S ++ S' ++ [-124]) (fun φ => (Ps ++ [P]).any (fun p => p φ)) :=
  a_me_eq (a_me_or h h') (fun φ => by simp [List.any_append])
theorem a_nmr : ∀ k : Fin 6, ∀ j : Fin 3, ∀ v : Fin 100, (1000 * nI k.val + 100 * nI j.val + nI v.val) / 1000 = nI k.val ∧ (1000 * nI k.val + 100 * nI j.val + nI v.val) / 100 - (1000 * nI k.val + 100 * nI j.val + nI v.val) / 100 / 10 * 10 = nI j.val ∧ (1000 * nI k.val + 100 * nI j.val + nI v.val) - (1000 * nI k.val + 100 * nI j.val + nI v.val) / 100 * 100 = nI v.val ∧ 0 ≤ (1000 * nI k.val + 100 * nI j.val + nI v.val) ∧ ¬ (1000 * nI k.val + 100 * nI j.val + nI v.val) = -33 := by decide +kernel
theorem a_me_at {c g : Int32} {v : Nat} (hc : a_ltv c) (hg : z_in g 60 62) (hv : v < 100) : a_me [1000 * a_pc c + 100 * (g - 60) + nI v] (fun φ => a_ag φ c g (nI v)) := by
  have hk : ∃ k : Fin 6, a_pc c = nI k.val := by
    rcases hc with rfl | rfl | rfl | rfl | rfl | rfl
    · exact ⟨2, by decide⟩
    · exact ⟨1, by decide⟩
    · exact ⟨0, by decide⟩
    · exact ⟨5, by decide⟩
    · exact ⟨3, by decide⟩
    · exact ⟨4, by decide⟩
  obtain ⟨k, ek⟩ := hk
  have hg3 : g = 60 ∨ g = 61 ∨ g = 62 := by
    obtain ⟨g1, g2⟩ := hg
    rw [Int32.le_iff_toInt_le] at g1 g2
    have e1 : (60 : Int32).toInt = 60 := rfl
    have e2 : (62 : Int32).toInt = 62 := rfl
    have : g.toInt = 60 ∨ g.toInt = 61 ∨ g.toInt = 62 := by omega
    rcases this with q | q | q
    · exact Or.inl (Int32.toInt_inj.mp q)
    · exact Or.inr (Or.inl (Int32.toInt_inj.mp q))
    · exact Or.inr (Or.inr (Int32.toInt_inj.mp q))
  have hj : ∃ j : Fin 3, g - 60 = nI j.val ∧ g = 60 + nI j.val := by
    rcases hg3 with rfl | rfl | rfl
    · exact ⟨0, by decide, by decide⟩
    · exact ⟨1, by decide, by decide⟩
    · exact ⟨2, by decide, by decide⟩
  obtain ⟨j, ej, ej2⟩ := hj
  obtain ⟨n1, n2, n3, n4, n5⟩ := a_nmr k j ⟨v, hv⟩
  intro φ st
  show a_ev1 φ (1000 * a_pc c + 100 * (g - 60) + nI v) st = _
  rw [ek, ej]
  unfold a_ev1
  rw [if_neg n5, if_pos n4, n1]
  congr 1
  unfold a_tst a_ag
  rw [n2, n3, ek, ej2]
  match j with
  | 0 => rfl
  | 1 => rfl
  | 2 => rfl
