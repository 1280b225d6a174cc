/-! THE CLASS's READER: an air while it is read (printed by class39.py) -/
set_option maxRecDepth 20000
theorem z_ldcT {Γ : z_W} {M : z_M} {rm : Room} {Q : Outcome → z_H → Prop} {cs ss pc : Nat} {ls : List (Option Value)} {st : List Value} {h : z_H} {idx q : Nat} {tx : String} (hd : decode M.2.1 pc = .ok (.ldc idx, 2)) (hM : M.1.cls = RX14) (hq : (q, Term.string RX14 idx) ∈ z_old) (hlk : Cond.stringRef RX14 idx tx ∈ lw_tbl) (k : z_G Γ M rm Q cs ss (pc + 2) ls (.ref q :: st) h) : z_G Γ M rm Q cs ss pc ls st h := by
  intro p l e s m args below meth c H locs la X hR hL hl
  obtain ⟨-, -, s0, a0, e1, e2, e3, e4, e5, e6, -⟩ := X.2.2.2.2.2.2.2.2.2.2.2.2.2.2.2.2
  have h1 : vk_R RX14 idx tx (z_ad Γ q) s0 := ⟨e3 _ hlk, e6 (q, .string RX14 idx) hq⟩
  exact va_ldcS X.1 X.2.1 (by rw [← hM]; exact X.2.2.2.2.1) (h1.warm e2) hd (k p l e s m args below meth c H locs la X hR hL hl)
/-- the last number told behind a word -/
def a_la (w v : Int32) (cls : List a_Cl) : Int32 := cls.foldl (fun b x => if x.1 = w then x.2.1 else b) v
theorem a_la_app (w v : Int32) (cls : List a_Cl) (x : a_Cl) : a_la w v (cls ++ [x]) = if x.1 = w then x.2.1 else a_la w v cls := by
  unfold a_la
  rw [List.foldl_append]
  rfl
/-- clauses as the class keeps them -/
def a_tc : List a_Cl → z_Cs → Prop
  | [], Cs => Cs = []
  | x :: r, Cs => (2 ≤ x.1 ∧ a_tc r Cs) ∨ (¬ 2 ≤ x.1 ∧ ∃ (P : (Int32 → Int32) → Bool) (Cs' : z_Cs), Cs = (if x.1 = 0 then x.2.1 else -x.2.1, P) :: Cs' ∧ a_me x.2.2 P ∧ a_tc r Cs')
theorem a_tc_n {x : a_Cl} (hx : 2 ≤ x.1) : ∀ (cls : List a_Cl) (Cs : z_Cs), a_tc cls Cs → a_tc (cls ++ [x]) Cs
  | [], Cs, h => Or.inl ⟨hx, h⟩
  | y :: r, Cs, h => by
    rcases h with ⟨h1, h2⟩ | ⟨h1, P, Cs', h2, h3, h4⟩
    · exact Or.inl ⟨h1, a_tc_n hx r Cs h2⟩
    · exact Or.inr ⟨h1, P, Cs', h2, h3, a_tc_n hx r Cs' h4⟩
theorem a_tc_y {x : a_Cl} {P : (Int32 → Int32) → Bool} (hx : ¬ 2 ≤ x.1) (hP : a_me x.2.2 P) : ∀ (cls : List a_Cl) (Cs : z_Cs), a_tc cls Cs → a_tc (cls ++ [x]) (Cs ++ [(if x.1 = 0 then x.2.1 else -x.2.1, P)])
  | [], Cs, h => by
    have e : Cs = [] := h
    rw [e]
    exact Or.inr ⟨hx, P, [], rfl, hP, rfl⟩
  | y :: r, Cs, h => by
    rcases h with ⟨h1, h2⟩ | ⟨h1, P', Cs', h2, h3, h4⟩
    · exact Or.inl ⟨h1, a_tc_y hx hP r Cs h2⟩
    · exact Or.inr ⟨h1, P', Cs' ++ [(if x.1 = 0 then x.2.1 else -x.2.1, P)], by rw [h2]; rfl, h3, a_tc_y hx hP r Cs' h4⟩
/-- a clause that lies in S -/
def z_Ct (S : Nat → Prop) (h : z_H) (b : Nat) (c : Int32 × ((Int32 → Int32) → Bool)) : Prop := ∀ h', z_sm S h h' → z_T h' b = some (.inl 16) ∧ z_I h' b 0 = c.1 ∧ ∃ t, z_R h' b 1 = some t ∧ z_Tm 12 h' t c.2
theorem z_Ct.to {S S' : Nat → Prop} {h h' : z_H} {b : Nat} {c : Int32 × ((Int32 → Int32) → Bool)} (ht : z_Ct S h b c) (hs : ∀ a, S a → S' a) (hm : z_sm S h h') : z_Ct S' h' b c := fun g hg => ht g (hm.trans (fun a ha => hg a (hs a ha)))
/-- the air while it is read: h0 the memory at the start; the reader, the air, its list lie behind it -/
def z_SB (h0 h : z_H) (tx : Nat → Int32) (n p : Nat) (m bs sf : Int32) (cls : List a_Cl) : Prop :=
  z_gr h0 h ∧ z_Rr h (z_n h0) tx n p 0 (z_n h0 + 1) ∧ z_T h (z_n h0 + 1) = some (.inl 2) ∧ z_I h (z_n h0 + 1) 1 = m ∧ z_I h (z_n h0 + 1) 2 = bs ∧ z_I h (z_n h0 + 1) 3 = sf ∧ z_R h (z_n h0 + 1) 0 = some (z_n h0 + 2) ∧
  ∃ (Ar N : Nat) (ids : List Nat) (Cs : z_Cs), z_AB h (z_n h0 + 2) Ar N ids ∧ (Ar = 1 ∨ z_n h0 + 2 < Ar) ∧ ids.length = Cs.length ∧ ids.length ≤ cls.length ∧ a_tc cls Cs ∧ ∀ (i b : Nat) (c : Int32 × ((Int32 → Int32) → Bool)), ids[i]? = some b → Cs[i]? = some c → z_Ct (fun a => z_n h0 + 2 < a ∧ a < z_n h ∧ a ≠ Ar) h b c
def z_SA (h0 h : z_H) (tx : Nat → Int32) (n p : Nat) (cls : List a_Cl) : Prop := z_SB h0 h tx n p (nI cls.length) (a_la 2 40 cls) (a_la 3 8 cls) cls
theorem z_SB.pg {h0 h h' : z_H} {tx : Nat → Int32} {n p p' : Nat} {m bs sf : Int32} {cls : List a_Cl} (hs : z_SB h0 h tx n p m bs sf cls) (hg : z_pg (z_n h0) h h') (e1 : z_I h' (z_n h0) 2 = nI p') (e2 : z_I h' (z_n h0) 3 = nI 0) (hp : p' ≤ n) : z_SB h0 h' tx n p' m bs sf cls := by
  obtain ⟨s1, s2, s3, s4, s5, s6, s7, Ar, N, ids, Cs, s8, s9, s10, s11, s12, s13⟩ := hs
  obtain ⟨b1, b2, b3, b4, b5, b6, b7, b8, b9, b10, b11, b12⟩ := id s8
  have hr := s2.2.2.1
  obtain ⟨g1, g2, g3, g4⟩ := hg.2 (z_n h0 + 1) (by omega)
  refine ⟨⟨Nat.le_trans s1.1 hg.1, fun a ha => ?_⟩, s2.pg hg e1 e2 hp (Nat.zero_le _), g1.trans s3, (g4 1 (by omega)).trans s4, (g4 2 (by omega)).trans s5, (g4 3 (by omega)).trans s6, (g3 0).trans s7, Ar, N, ids, Cs, s8.pg s2.2.2.2.1 hg, s9, s10, s11, s12, fun i b c q1 q2 => (s13 i b c q1 q2).to (fun a q => ⟨q.1, Nat.lt_of_lt_of_le q.2.1 hg.1, q.2.2⟩) (z_sm.pg hg (fun a q => ⟨q.2.1, by omega⟩))⟩
  obtain ⟨k1, k2, k3, k4⟩ := hg.2 a (by omega)
  obtain ⟨j1, j2, j3, j4⟩ := s1.2 a ha
  exact ⟨fun k => (k4 k (by omega)).trans (j1 k), fun k => (k2 k).trans (j2 k), fun k => (k3 k).trans (j3 k), k1.trans j4⟩
theorem z_pg.gr {h0 h h' : z_H} (hg : z_gr h0 h) (hp : z_pg (z_n h0) h h') : z_gr h0 h' := ⟨Nat.le_trans hg.1 hp.1, fun a ha => by
  obtain ⟨k1, k2, k3, k4⟩ := hp.2 a (Nat.lt_of_lt_of_le ha hg.1)
  obtain ⟨j1, j2, j3, j4⟩ := hg.2 a ha
  exact ⟨fun k => (k4 k (by omega)).trans (j1 k), fun k => (k2 k).trans (j2 k), fun k => (k3 k).trans (j3 k), k1.trans j4⟩⟩
/-- the air's own ints -/
theorem z_SB.sI {h0 h : z_H} {tx : Nat → Int32} {n p : Nat} {m bs sf m' bs' sf' : Int32} {cls : List a_Cl} (hs : z_SB h0 h tx n p m bs sf cls) (k : Nat) (v : Int32) (hk : (k = 1 ∧ m' = v ∧ bs' = bs ∧ sf' = sf) ∨ (k = 2 ∧ m' = m ∧ bs' = v ∧ sf' = sf) ∨ (k = 3 ∧ m' = m ∧ bs' = bs ∧ sf' = v)) : z_SB h0 (z_sI h (z_n h0 + 1) k v) tx n p m' bs' sf' cls := by
  obtain ⟨s1, s2, s3, s4, s5, s6, s7, Ar, N, ids, Cs, s8, s9, s10, s11, s12, s13⟩ := hs
  obtain ⟨r1, r2, r3, r4, r5, r6, r7, r8, r9, r10, r11, r12, r13, r14⟩ := s2
  obtain ⟨b1, b2, b3, b4, b5, b6, b7, b8, b9, b10, b11, b12⟩ := id s8
  have hne : ∀ a j, a ≠ z_n h0 + 1 → z_I (z_sI h (z_n h0 + 1) k v) a j = z_I h a j := fun a j ha => if_neg (fun q => ha q.1)
  have hn := r1.2.2
  have hn0 : 85 ≤ z_n h0 := r2
  refine ⟨s1.sI (by omega), ⟨r1, r2, r3, r4, r5, (hne _ _ (by omega)).trans r6, r7, (hne _ _ (by omega)).trans r8, r9, (hne _ _ (by omega)).trans r10, r11, r12, fun j => (hne _ _ (by omega)).trans (r13 j), r14⟩, s3, ?_, ?_, ?_, s7, Ar, N, ids, Cs, ⟨b1, b2, b3, (hne _ _ (by omega)).trans b4, b5, b6, b7, b8, b9, b10, b11, b12⟩, s9, s10, s11, s12, fun i b c q1 q2 => (s13 i b c q1 q2).to (fun a q => q) (fun a q => ⟨rfl, fun j => hne a j (by omega), fun _ => rfl⟩)⟩
  all_goals
    rcases hk with ⟨rfl, rfl, rfl, rfl⟩ | ⟨rfl, rfl, rfl, rfl⟩ | ⟨rfl, rfl, rfl, rfl⟩ <;> first | exact if_pos ⟨rfl, rfl⟩ | exact (if_neg (fun q => absurd q.2 (by decide))).trans s4 | exact (if_neg (fun q => absurd q.2 (by decide))).trans s5 | exact (if_neg (fun q => absurd q.2 (by decide))).trans s6
/-- a clause is added -/
theorem z_SB.add {h0 h h2 h4 : z_H} {tx : Nat → Int32} {n p b t D Ar N A' N' : Nat} {m bs sf a : Int32} {cls : List a_Cl} {x : a_Cl} {ids : List Nat} {Cs : z_Cs} {P : (Int32 → Int32) → Bool} (hs : z_SB h0 h tx n p m bs sf cls)
    (s8 : z_AB h (z_n h0 + 2) Ar N ids) (s9 : Ar = 1 ∨ z_n h0 + 2 < Ar) (s10 : ids.length = Cs.length) (s11 : ids.length ≤ cls.length) (s12 : a_tc cls Cs) (s13 : ∀ (i b : Nat) (c : Int32 × ((Int32 → Int32) → Bool)), ids[i]? = some b → Cs[i]? = some c → z_Ct (fun a => z_n h0 + 2 < a ∧ a < z_n h ∧ a ≠ Ar) h b c)
    (hg : z_pg (z_n h0) (z_new h (.inl 16)) h2) (hat : z_I h2 (z_n h0) 2 = nI b) (hdp : z_I h2 (z_n h0) 3 = nI 0) (hb : b ≤ n) (ht : z_Tq (fun a => z_n (z_new h (.inl 16)) ≤ a ∧ a < z_n h2) D h2 t P) (hD : D ≤ 12) (hx : ¬ 2 ≤ x.1) (ha : a = if x.1 = 0 then x.2.1 else -x.2.1) (hme : a_me x.2.2 P)
    (hf : z_fL (z_n h0 + 2) (z_sR (z_sI h2 (z_n h) 0 a) (z_n h) 1 (some t)) h4) (hB : z_AB h4 (z_n h0 + 2) A' N' (ids ++ [z_n h])) (hA : A' = Ar ∨ z_n h2 ≤ A') : z_SB h0 h4 tx n b m bs sf (cls ++ [x]) := by
  obtain ⟨s1, s2, s3, s4, s5, s6, s7, -⟩ := hs
  obtain ⟨r1, r2, r3, r4, r5, r6, r7, r8, r9, r10, r11, r12, r13, r14⟩ := id s2
  obtain ⟨b1, b2, b3, b4, b5, b6, b7, b8, b9, b10, b11, b12⟩ := id s8
  have hn1 : z_n (z_new h (.inl 16)) = z_n h + 1 := rfl
  have hn2 := hg.1
  have hn3 : z_n (z_sR (z_sI h2 (z_n h) 0 a) (z_n h) 1 (some t)) = z_n h2 := rfl
  have hf1 := hf.1
  have hgr1 : z_pg (z_n h0) h h2 := (z_pg.of (z_gr.new h (.inl 16))).trans hg
  have hgr3 : z_pg (z_n h0) h (z_sR (z_sI h2 (z_n h) 0 a) (z_n h) 1 (some t)) := (hgr1.wI (Nat.le_refl _) _).wR (Nat.le_refl _) _
  have hL3 : z_R (z_sR (z_sI h2 (z_n h) 0 a) (z_n h) 1 (some t)) (z_n h0 + 2) 1 = some Ar := ((hgr3.2 (z_n h0 + 2) b2).2.2.1 1).trans b6
  have hA1 : A' ≠ 1 ∧ z_n h0 + 2 < A' := by
    obtain ⟨d1, d2, d3, d4, d5, d6, d7, d8, d9, d10, d11, d12⟩ := id hB
    have hl0 : (ids ++ [z_n h]).length = ids.length + 1 := by simp
    omega
  -- what lies ahead of the list, but its array
  have key : ∀ x, x < z_n h0 + 2 → z_T h4 x = z_T h x ∧ (∀ k, z_L h4 x k = z_L h x k) ∧ (∀ k, z_R h4 x k = z_R h x k) ∧ ∀ k, ¬ (x = z_n h0 ∧ (k = 2 ∨ k = 3)) → z_I h4 x k = z_I h x k := fun x hx => by
    obtain ⟨g1, g2, g3, g4⟩ := hgr3.2 x (by omega)
    obtain ⟨e1, e2, e3, e4, e5⟩ := hf.2 x (by omega)
    have ne : x ≠ z_n h0 + 2 := by omega
    refine ⟨e1.trans g1, fun k => (e2 k).trans (g2 k), fun k => (e4 ne ?_ k).trans (g3 k), fun k hk => (e3 ne k).trans (g4 k hk)⟩
    by_cases c : x < 85
    · exact Or.inr c
    · exact Or.inl (fun w => by rw [hL3] at w; cases w; omega)
  have hI4 : ∀ k, z_I h4 (z_n h0) k = z_I h2 (z_n h0) k := fun k => ((hf.2 (z_n h0) (by omega)).2.2.1 (by omega) k).trans (if_neg (fun q => by omega))
  have hgr4 : z_gr h0 h4 := ⟨by have := s1.1; omega, fun x hx => by
    obtain ⟨k1, k2, k3, k4⟩ := key x (by omega)
    obtain ⟨j1, j2, j3, j4⟩ := s1.2 x hx
    exact ⟨fun k => (k4 k (by omega)).trans (j1 k), fun k => (k2 k).trans (j2 k), fun k => (k3 k).trans (j3 k), k1.trans j4⟩⟩
  obtain ⟨k1, k2, k3, k4⟩ := key (z_n h0) (by omega)
  obtain ⟨a1, a2, a3, a4⟩ := key (z_n h0 + 1) (by omega)
  refine ⟨hgr4, ⟨hgr4.F (by
      refine ⟨fun a t q => ?_, fun a k b q => ?_, r2⟩
      · have hlt := (List.getElem?_eq_some_iff.mp q).1
        have e : z_tab.length = 85 := rfl
        rw [← (s1.2 a (by omega)).2.2.2]
        exact r1.1 a t q
      · have hlt : a < 85 := by
          by_cases c : a < 85
          · exact c
          · match a, c, q with
            | a + 85, _, q => cases k <;> cases q
        rw [← (s1.2 a (by omega)).2.2.1]
        exact r1.2.1 a k b q), r2, by omega, k1.trans r4, (k3 0).trans r5, (k4 1 (by omega)).trans r6, r7, (hI4 2).trans hat, hb, (hI4 3).trans hdp, r11, (k3 4).trans r12, fun k => ((key 22 (by omega)).2.2.2 k (by omega)).trans (r13 k), (key 1 (by omega)).1.trans r14⟩, a1.trans s3, (a4 1 (by omega)).trans s4, (a4 2 (by omega)).trans s5, (a4 3 (by omega)).trans s6, (a3 0).trans s7, A', N', ids ++ [z_n h], Cs ++ [(if x.1 = 0 then x.2.1 else -x.2.1, P)], hB, Or.inr hA1.2, by simp [s10], by simp [s11], a_tc_y hx hme cls Cs s12, fun i b c q1 q2 => ?_⟩
  by_cases c0 : i < ids.length
  · rw [List.getElem?_append_left c0] at q1
    rw [List.getElem?_append_left (by omega)] at q2
    have t1 : z_Ct (fun a => z_n h0 + 2 < a ∧ a < z_n h ∧ a ≠ Ar) (z_sR (z_sI h2 (z_n h) 0 a) (z_n h) 1 (some t)) b c := (s13 i b c q1 q2).to (fun _ q => q) (z_sm.pg hgr3 (fun a q => ⟨q.2.1, by omega⟩))
    refine t1.to (fun a q => ⟨q.1, by omega, ?_⟩) (z_sm.fL hf hL3 (fun a q => ⟨by omega, by omega, q.2.2⟩))
    obtain ⟨-, u1, u2⟩ := q
    omega
  · have hi : i < (ids ++ [z_n h]).length := (List.getElem?_eq_some_iff.mp q1).1
    rw [List.length_append, List.length_singleton] at hi
    have ei : i = ids.length := by omega
    rw [ei, List.getElem?_append_right (Nat.le_refl _), Nat.sub_self] at q1
    rw [ei, s10, List.getElem?_append_right (Nat.le_refl _), Nat.sub_self] at q2
    cases q1
    cases q2
    have hT2 : z_T h2 (z_n h) = some (.inl 16) := (hg.2 (z_n h) (by omega)).1.trans (if_pos rfl)
    have t3 : z_Tq (fun a => z_n h + 1 ≤ a ∧ a < z_n h2) 12 (z_sR (z_sI h2 (z_n h) 0 a) (z_n h) 1 (some t)) t P := (ht.le hD).to (fun _ q => q) (fun a q => ⟨rfl, fun j => if_neg (fun w => by have := q.1; omega), fun j => if_neg (fun w => by have := q.1; omega)⟩)
    have c3 : z_Ct (fun a => z_n h ≤ a ∧ a < z_n h2) (z_sR (z_sI h2 (z_n h) 0 a) (z_n h) 1 (some t)) (z_n h) (if x.1 = 0 then x.2.1 else -x.2.1, P) := fun g hgm => by
      obtain ⟨m1, m2, m3⟩ := hgm (z_n h) ⟨Nat.le_refl _, by omega⟩
      exact ⟨m1.trans hT2, (m2 0).trans ((if_pos ⟨rfl, rfl⟩).trans ha), t, (m3 1).trans (if_pos ⟨rfl, rfl⟩), t3 g (fun a q => hgm a ⟨by omega, q.2⟩)⟩
    refine c3.to (fun a q => ⟨by omega, by omega, ?_⟩) (z_sm.fL hf hL3 (fun a q => ⟨q.2, by omega, by omega⟩))
    obtain ⟨u1, u2⟩ := q
    omega
theorem z_Sx.gr {s v : Nat} {h h' : z_H} {ws : List Int32} (hg : z_gr h h') (hs : s < 16) (hv : v < 16) (hn : 85 ≤ z_n h) (hS : z_Sx h s v ws) : z_Sx h' s v ws := by
  obtain ⟨a1, a2, a3, a4, a5, a6⟩ := hS
  obtain ⟨g1, g2, g3, g4⟩ := hg.2 s (by omega)
  obtain ⟨k1, k2, k3, k4⟩ := hg.2 v (by omega)
  exact ⟨g4.trans a1, (g3 0).trans a2, (g1 1).trans a3, k4.trans a4, a5, fun k x hx => ⟨(k1 k).trans (a6 k x hx).1, (a6 k x hx).2⟩⟩
