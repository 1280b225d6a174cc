/-! READING AIRS: the grammar as a function (a_ps), the reference's way with a pile as a function (a_run), and that they agree. A read gives the place where it can't go on, or where it ends and its signs -/
def a_cr (tx : Nat → Int32) (n a : Nat) : Int32 := if a < n then tx a else -1
def a_nm (tx : Nat → Int32) (n a : Nat) : Nat ⊕ (Nat × Int32) :=
  if z_in (a_cr tx n a) 48 57 then (if z_in (a_cr tx n (a + 1)) 48 57 then .inr (a + 2, 10 * (10 * 0 + a_cr tx n a - 48) + a_cr tx n (a + 1) - 48) else .inr (a + 1, 10 * 0 + a_cr tx n a - 48)) else .inl a
/-- the place of a letter -/
def a_pc (c : Int32) : Int32 := if c = 104 then 2 else if c = 107 then 1 else if c = 108 then 0 else if c = 109 then 5 else if c = 116 then 3 else if c = 118 then 4 else -1
def a_ts (tx : Nat → Int32) (n a : Nat) : Nat ⊕ (Nat × List Int32) :=
  if 0 ≤ a_pc (a_cr tx n a) then (if z_in (a_cr tx n (a + 1)) 60 62 then (match a_nm tx n (a + 2) with
    | .inl p => .inl p
    | .inr (b, v) => .inr (b, [1000 * a_pc (a_cr tx n a) + 100 * (a_cr tx n (a + 1) - 60) + v])) else .inl (a + 1)) else .inl a
def a_bd {α β : Type} (x : Nat ⊕ α) (k : α → Nat ⊕ β) : Nat ⊕ β := match x with
  | .inl p => .inl p
  | .inr y => k y
/-- 0 a factor, 1 all, 2 some, 3 what follows in all, 4 what follows in some -/
def a_ps (tx : Nat → Int32) (n : Nat) : Nat → Nat → Nat → Nat → Nat ⊕ (Nat × List Int32)
  | 0, _, _, a => .inl a
  | f + 1, 0, d, a =>
    if a_cr tx n a = 33 then (if d = 4 then .inl a else a_bd (a_ps tx n f 0 (d + 1) (a + 1)) fun r => .inr (r.1, r.2 ++ [-33]))
    else if a_cr tx n a = 40 then (if d = 4 then .inl a else a_bd (a_ps tx n f 2 (d + 1) (a + 1)) fun r => if a_cr tx n r.1 = 41 then .inr (r.1 + 1, r.2) else .inl r.1)
    else a_ts tx n a
  | f + 1, 1, d, a => a_bd (a_ps tx n f 0 d a) fun r => a_bd (a_ps tx n f 3 d r.1) fun q => .inr (q.1, r.2 ++ q.2)
  | f + 1, 2, d, a => a_bd (a_ps tx n f 1 d a) fun r => a_bd (a_ps tx n f 4 d r.1) fun q => .inr (q.1, r.2 ++ q.2)
  | f + 1, 3, d, a => if a_cr tx n a = 38 then a_bd (a_ps tx n f 0 d (a + 1)) fun r => a_bd (a_ps tx n f 3 d r.1) fun q => .inr (q.1, r.2 ++ [-38] ++ q.2) else .inr (a, [])
  | f + 1, _, d, a => if a_cr tx n a = 124 then a_bd (a_ps tx n f 1 d (a + 1)) fun r => a_bd (a_ps tx n f 4 d r.1) fun q => .inr (q.1, r.2 ++ [-124] ++ q.2) else .inr (a, [])
/-- the pile: whole, settle, how many are open -/
def a_wo : List Int32 → List Int32 → List Int32 × List Int32
  | [], S => ([], S)
  | c :: W, S => if c = 33 then a_wo W (S ++ [-33]) else (c :: W, S)
def a_sl (b : Int32) : List Int32 → List Int32 → List Int32 × List Int32
  | [], S => ([], S)
  | c :: W, S => if c = 38 then a_sl b W (S ++ [-c]) else if c = 124 then (if b = 38 then (c :: W, S) else a_sl b W (S ++ [-c])) else (c :: W, S)
def a_op : List Int32 → Nat
  | [] => 0
  | c :: W => (if c = 33 then 1 else if c = 40 then 1 else 0) + a_op W
def a_run (tx : Nat → Int32) (n : Nat) : Nat → Bool → Nat → List Int32 → List Int32 → Nat ⊕ (Nat × List Int32)
  | 0, _, a, _, _ => .inl a
  | g + 1, true, a, W, S =>
    if a_cr tx n a = 33 ∨ a_cr tx n a = 40 then (if a_op W = 4 then .inl a else a_run tx n g true (a + 1) (a_cr tx n a :: W) S)
    else a_bd (a_ts tx n a) fun r => a_run tx n g false r.1 (a_wo W (S ++ r.2)).1 (a_wo W (S ++ r.2)).2
  | g + 1, false, a, W, S =>
    if a_cr tx n a = 38 ∨ a_cr tx n a = 124 then a_run tx n g true (a + 1) (a_cr tx n a :: (a_sl (a_cr tx n a) W S).1) (a_sl (a_cr tx n a) W S).2
    else match (a_sl 124 W S).1 with
      | [] => .inr (a, (a_sl 124 W S).2)
      | _ :: V => if a_cr tx n a = 41 then a_run tx n g false (a + 1) (a_wo V (a_sl 124 W S).2).1 (a_wo V (a_sl 124 W S).2).2 else .inl a
theorem a_cr_in {tx : Nat → Int32} {n a : Nat} {c : Int32} (h : a_cr tx n a = c) (hc : ¬ (-1 : Int32) = c) : a < n := by
  unfold a_cr at h
  by_cases q : a < n
  · exact q
  · rw [if_neg q] at h; exact absurd h hc
theorem a_ts_b {tx : Nat → Int32} {n a b : Nat} {L : List Int32} (h : a_ts tx n a = .inr (b, L)) : a < b ∧ b ≤ n := by
  unfold a_ts at h
  by_cases c1 : 0 ≤ a_pc (a_cr tx n a)
  · rw [if_pos c1] at h
    by_cases c2 : z_in (a_cr tx n (a + 1)) 60 62
    · rw [if_pos c2] at h
      unfold a_nm at h
      by_cases c3 : z_in (a_cr tx n (a + 2)) 48 57
      · have h3 : a + 2 < n := by
          unfold a_cr at c3
          by_cases q : a + 2 < n
          · exact q
          · rw [if_neg q] at c3; exact absurd c3.1 (by decide)
        rw [if_pos c3] at h
        by_cases c4 : z_in (a_cr tx n (a + 2 + 1)) 48 57
        · have h4 : a + 2 + 1 < n := by
            unfold a_cr at c4
            by_cases q : a + 2 + 1 < n
            · exact q
            · rw [if_neg q] at c4; exact absurd c4.1 (by decide)
          rw [if_pos c4] at h
          simp only [Sum.inr.injEq, Prod.mk.injEq] at h
          omega
        · rw [if_neg c4] at h
          simp only [Sum.inr.injEq, Prod.mk.injEq] at h
          omega
      · rw [if_neg c3] at h
        simp at h
    · rw [if_neg c2] at h
      simp at h
  · rw [if_neg c1] at h
    simp at h
def a_em (X : List Int32) : List Int32 := X.map (fun c => -c)
/-- the pile's top is none of these -/
def a_nt (W : List Int32) (c : Int32) : Prop := W.head? ≠ some c
theorem a_wo_n {W S : List Int32} (h : a_nt W 33) : a_wo W S = (W, S) := by
  cases W with
  | nil => rfl
  | cons c W =>
    unfold a_wo
    rw [if_neg (fun q => h (by rw [q]; rfl))]
theorem a_nt_c {W : List Int32} {c d : Int32} (h : ¬ c = d) : a_nt (c :: W) d := fun q => h (by simpa using q)
theorem a_sl_n {W S : List Int32} {b : Int32} (h1 : a_nt W 38) (h2 : a_nt W 124 ∨ b = 38) : a_sl b W S = (W, S) := by
  cases W with
  | nil => rfl
  | cons c W =>
    unfold a_sl
    rw [if_neg (fun q => h1 (by rw [q]; rfl))]
    rcases h2 with h2 | h2
    · rw [if_neg (fun q => h2 (by rw [q]; rfl))]
    · by_cases e : c = 124
      · rw [if_pos e, if_pos h2]
      · rw [if_neg e]
theorem a_sl_38 {W S : List Int32} {b : Int32} : a_sl b (38 :: W) S = a_sl b W (S ++ [-38]) := by
  conv => lhs; unfold a_sl
  rw [if_pos rfl]
theorem a_sl_124 {W S : List Int32} {b : Int32} (hb : ¬ b = 38) : a_sl b (124 :: W) S = a_sl b W (S ++ [-124]) := by
  conv => lhs; unfold a_sl
  rw [if_neg (by decide), if_pos rfl, if_neg hb]
/-- the four kinds of what waits over a base -/
def a_xs (X : List Int32) : Prop := X = [] ∨ X = [38] ∨ X = [124] ∨ X = [38, 124]
theorem a_sl_x {X W S : List Int32} (hX : a_xs X) (h1 : a_nt W 38) (h2 : a_nt W 124) : a_sl 124 (X ++ W) S = (W, S ++ a_em X) := by
  rcases hX with rfl | rfl | rfl | rfl
  · rw [List.nil_append, a_sl_n h1 (Or.inl h2)]; simp [a_em]
  · rw [List.cons_append, List.nil_append, a_sl_38, a_sl_n h1 (Or.inl h2)]; rfl
  · rw [List.cons_append, List.nil_append, a_sl_124 (by decide), a_sl_n h1 (Or.inl h2)]; rfl
  · rw [List.cons_append, List.cons_append, List.nil_append, a_sl_38, a_sl_124 (by decide), a_sl_n h1 (Or.inl h2)]; simp [a_em]
theorem a_op_33 {W : List Int32} : a_op (33 :: W) = a_op W + 1 := by
  conv => lhs; unfold a_op
  rw [if_pos rfl, Nat.add_comm]
theorem a_op_40 {W : List Int32} : a_op (40 :: W) = a_op W + 1 := by
  conv => lhs; unfold a_op
  rw [if_neg (by decide), if_pos rfl, Nat.add_comm]
theorem a_op_38 {W : List Int32} : a_op (38 :: W) = a_op W := by
  conv => lhs; unfold a_op
  rw [if_neg (by decide), if_neg (by decide), Nat.zero_add]
theorem a_op_124 {W : List Int32} : a_op (124 :: W) = a_op W := by
  conv => lhs; unfold a_op
  rw [if_neg (by decide), if_neg (by decide), Nat.zero_add]
