/-! ArrayList.add (printed by class31.py) -/
set_option maxRecDepth 20000
/-- an element's class is one of ours -/
def z_el (h : z_H) (b : Nat) : Prop := b < z_n h ∧ ∃ c q, z_T h b = some (.inl c) ∧ z_cl[c]? = some q ∧ z_As q.1 "java/lang/Object"
/-- a list with its array A of n places -/
def z_AB (h : z_H) (L A n : Nat) (ids : List Nat) : Prop := 85 ≤ L ∧ L < z_n h ∧ z_T h L = some (.inl 21) ∧ z_I h L 2 = nI ids.length ∧ ids.length ≤ n ∧ z_R h L 1 = some A ∧ A < z_n h ∧ A ≠ L ∧ z_T h A = some (z_oa n) ∧ ((n = 0 ∧ A = 1) ∨ (85 ≤ A ∧ (n = 10 ∨ n = 15 ∨ n = 22 ∨ n = 33))) ∧ (∀ i b, ids[i]? = some b → z_R h A i = some b ∧ z_el h b) ∧ ∀ i, ids.length ≤ i → i < n → z_R h A i = none
theorem z_AB.al {h : z_H} {L A n : Nat} {ids : List Nat} (hA : z_AB h L A n ids) : z_AL h L ids := by
  obtain ⟨h1, h2, h3, h4, h5, h6, h7, h8, h9, h10, h11, h12⟩ := hA
  have hn : n ≤ 33 := by omega
  exact ⟨h3, h4, by omega, A, n, h6, h9, h5, by omega, fun i b q => (h11 i b q).1⟩
theorem z_AB.els {h : z_H} {L A n : Nat} {ids : List Nat} (hA : z_AB h L A n ids) : z_els h A n := by
  obtain ⟨h1, h2, h3, h4, h5, h6, h7, h8, h9, h10, h11, h12⟩ := hA
  intro i b hi hb
  by_cases c : i < ids.length
  · obtain ⟨g1, g2⟩ := h11 i ids[i] (List.getElem?_eq_getElem c)
    rw [g1] at hb
    cases hb
    exact g2
  · rw [h12 i (by omega) hi] at hb
    cases hb
/-- what add leaves alone -/
def z_fL (L : Nat) (h h' : z_H) : Prop := z_n h ≤ z_n h' ∧ ∀ a, a < z_n h → z_T h' a = z_T h a ∧ (∀ k, z_L h' a k = z_L h a k) ∧ (a ≠ L → ∀ k, z_I h' a k = z_I h a k) ∧ (a ≠ L → (z_R h L 1 ≠ some a ∨ a < 85) → ∀ k, z_R h' a k = z_R h a k) ∧ ∀ k, k ≠ 1 → z_R h' L k = z_R h L k
/-- modCount is one more -/
def z_mc (h : z_H) (L : Nat) : z_H := z_sI h L 0 (z_I h L 0 + 1)
theorem c_J2_add_y {Γ : z_W} {h : z_H} {L A n e : Nat} {ids : List Nat} (hA : z_AB h L A n ids) (hk : ids.length < n) (he : z_el h e) : z_C Γ M_J2_add (z_rm 7 1 33) [.ref L, .ref e] h (z_ri 1 (z_ap (z_mc h L) L A ids.length e)) := by
  obtain ⟨h1, h2, h3, h4, h5, h6, h7, h8, h9, h10, h11, h12⟩ := id hA
  obtain ⟨g0, c, q, g1, g2, g3⟩ := he
  have hn : n ≤ 33 := by omega
  have C : z_C Γ M_J2_add_2 (z_rm 6 1 33) [.ref L, .ref e, .ref A, .int (nI ids.length)] (z_mc h L) (z_rv (z_ap (z_mc h L) L A ids.length e)) := by
    refine z_C.ofF (by decide +kernel) rfl [some (.ref L), some (.ref e), some (.ref A), some (.int (nI ids.length))] (Nat.le_of_ble_eq_true rfl) rfl ?_
    refine z_iload_n dJ2_add_2_0 rfl rfl ?_
    refine z_aload_n dJ2_add_2_1 rfl rfl ?_
    refine z_alen dJ2_add_2_2 h9 (by simp [z_at]) ?_
    refine z_icmp_ne 11 dJ2_add_2_3 (by decide) (fun _ => ?_) (fun q => by rw [nI_eq (by omega) (by omega)] at q; omega)
    exact k_J2_add_2 (n := n) (Nat.le_trans (by decide) h1) h3 h9 (show 16 ≤ A by omega) hk (by omega) g1 g2 g3 (Nat.zero_le _) (Nat.zero_le _)
  refine z_C.ofF (by decide +kernel) rfl [some (.ref L), some (.ref e)] (Nat.le_of_ble_eq_true rfl) rfl ?_
  refine z_aload_n dJ2_add_0 rfl rfl ?_
  refine z_dup dJ2_add_1 rfl ?_
  refine z_getI dJ2_add_2 fl_J2_63_21 h3 rfl ?_
  refine z_iconst (v := 1) dJ2_add_5 rfl ?_
  refine z_iadd dJ2_add_6 ?_
  refine z_putI dJ2_add_7 (pl_J2_63_21 rfl) h3 (Nat.le_trans (by decide) h1) rfl ?_
  refine z_aload_n dJ2_add_10 rfl rfl ?_
  refine z_aload_n dJ2_add_11 rfl rfl ?_
  refine z_aload_n dJ2_add_12 rfl rfl ?_
  refine z_getR A dJ2_add_13 fl_J2_9_21 h3 rfl h6 ?_
  refine z_aload_n dJ2_add_16 rfl rfl ?_
  refine z_getI dJ2_add_17 fl_J2_48_21 h3 rfl ?_
  refine z_eqi (nI ids.length) ((if_neg (fun q => absurd q.2 (by decide))).trans h4) ?_
  refine z_vcall vl_J2_131_21 C dJ2_add_20 rfl rfl h3 ⟨by decide, by decide⟩ (Nat.le_of_ble_eq_true rfl) (Nat.le_refl _) (Nat.le_refl _) (z_cV ?_) z_tV
  refine z_iconst (v := 1) dJ2_add_23 rfl ?_
  exact z_iret dJ2_add_24 rfl rfl (Nat.le_refl _) (Nat.le_refl _) (z_ri_i rfl rfl)
/-- the length of the new array -/
def z_nx (n : Nat) : Nat := if n = 0 then 10 else n + n / 2
theorem z_gw_T {h : z_H} {L A n : Nat} : z_T (z_gw h L A n) (z_n h) = some (z_oa (z_nx n)) := by
  unfold z_gw z_nx
  by_cases c : n = 0
  · rw [if_pos c, if_pos c]
    exact if_pos rfl
  · rw [if_neg c, if_neg c]
    exact if_pos rfl
theorem z_gw_To {h : z_H} {L A n b : Nat} (hb : b < z_n h) : z_T (z_gw h L A n) b = z_T h b := by
  unfold z_gw
  by_cases c : n = 0
  · rw [if_pos c]
    exact if_neg (Nat.ne_of_lt hb)
  · rw [if_neg c]
    exact if_neg (Nat.ne_of_lt hb)
theorem c_J2_add_g {Γ : z_W} {h : z_H} {L A n e : Nat} {ids : List Nat} (hn85 : 85 ≤ z_n h) (hA : z_AB h L A n ids) (hk : ids.length = n) (h33 : n < 33) (he : z_el h e) : z_C Γ M_J2_add (z_rm 7 1 33) [.ref L, .ref e] h (z_ri 1 (z_ap (z_gw (z_mc h L) L A n) L (z_n h) n e)) := by
  obtain ⟨h1, h2, h3, h4, h5, h6, h7, h8, h9, h10, h11, h12⟩ := id hA
  obtain ⟨g0, c, q, g1, g2, g3⟩ := he
  rw [hk] at h4
  have hs : z_I (z_mc h L) L 2 = nI n := (if_neg (fun q => absurd q.2 (by decide))).trans h4
  have hcap : z_cap n := by unfold z_cap; omega
  have C0 : z_C Γ M_J2_grow (z_rm 5 1 33) [.ref L] (z_mc h L) (z_rr (z_n h) (z_gw (z_mc h L) L A n)) := c_J2_grow (h := z_mc h L) hn85 (Nat.le_trans (by decide) h1) h2 h3 hcap (fun q => by omega) h6 h7 h9 hA.els hs
  have hnx : n < z_nx n ∧ z_nx n ≤ 33 := by unfold z_nx; rcases hcap with rfl | rfl | rfl | rfl <;> decide
  have C : z_C Γ M_J2_add_2 (z_rm 6 1 33) [.ref L, .ref e, .ref A, .int (nI n)] (z_mc h L) (z_rv (z_ap (z_gw (z_mc h L) L A n) L (z_n h) n e)) := by
    refine z_C.ofF (by decide +kernel) rfl [some (.ref L), some (.ref e), some (.ref A), some (.int (nI n))] (Nat.le_of_ble_eq_true rfl) rfl ?_
    refine z_iload_n dJ2_add_2_0 rfl rfl ?_
    refine z_aload_n dJ2_add_2_1 rfl rfl ?_
    refine z_alen dJ2_add_2_2 h9 (by simp [z_at]) ?_
    refine z_icmp_ne 11 dJ2_add_2_3 (by decide) (fun q => absurd rfl q) (fun _ => ?_)
    refine z_aload_n dJ2_add_2_6 rfl rfl ?_
    refine z_vcall vl_J2_129_21 C0 dJ2_add_2_7 rfl rfl h3 ⟨by decide, by decide⟩ (Nat.le_of_ble_eq_true rfl) (Nat.le_refl _) (Nat.le_refl _) (z_cR ?_) z_tR
    refine z_astore_n dJ2_add_2_10 rfl (by decide) rfl ?_
    exact k_J2_add_2 (n := z_nx n) (Nat.le_trans (by decide) h1) ((z_gw_To (h := z_mc h L) h2).trans h3) (z_gw_T (h := z_mc h L)) (Nat.le_trans (by decide) hn85) hnx.1 (by omega) ((z_gw_To (h := z_mc h L) g0).trans g1) g2 g3 (Nat.le_refl _) (Nat.le_refl _)
  refine z_C.ofF (by decide +kernel) rfl [some (.ref L), some (.ref e)] (Nat.le_of_ble_eq_true rfl) rfl ?_
  refine z_aload_n dJ2_add_0 rfl rfl ?_
  refine z_dup dJ2_add_1 rfl ?_
  refine z_getI dJ2_add_2 fl_J2_63_21 h3 rfl ?_
  refine z_iconst (v := 1) dJ2_add_5 rfl ?_
  refine z_iadd dJ2_add_6 ?_
  refine z_putI dJ2_add_7 (pl_J2_63_21 rfl) h3 (Nat.le_trans (by decide) h1) rfl ?_
  refine z_aload_n dJ2_add_10 rfl rfl ?_
  refine z_aload_n dJ2_add_11 rfl rfl ?_
  refine z_aload_n dJ2_add_12 rfl rfl ?_
  refine z_getR A dJ2_add_13 fl_J2_9_21 h3 rfl h6 ?_
  refine z_aload_n dJ2_add_16 rfl rfl ?_
  refine z_getI dJ2_add_17 fl_J2_48_21 h3 rfl ?_
  refine z_eqi (nI n) hs ?_
  refine z_vcall vl_J2_131_21 C dJ2_add_20 rfl rfl h3 ⟨by decide, by decide⟩ (Nat.le_of_ble_eq_true rfl) (Nat.le_refl _) (Nat.le_refl _) (z_cV ?_) z_tV
  refine z_iconst (v := 1) dJ2_add_23 rfl ?_
  exact z_iret dJ2_add_24 rfl rfl (Nat.le_refl _) (Nat.le_refl _) (z_ri_i rfl rfl)
theorem z_el.mono {h h' : z_H} {b : Nat} (hn : z_n h ≤ z_n h') (hT : ∀ a, a < z_n h → z_T h' a = z_T h a) (he : z_el h b) : z_el h' b := by
  obtain ⟨g0, c, q, g1, g2, g3⟩ := he
  exact ⟨by omega, c, q, (hT b g0).trans g1, g2, g3⟩
theorem z_gw_R {h : z_H} {L A n b k : Nat} (hb : b < z_n h) : z_R (z_gw h L A n) b k = if b = L ∧ k = 1 then some (z_n h) else z_R h b k := by
  unfold z_gw
  rw [z_RR]
  by_cases e : b = L ∧ k = 1
  · rw [if_pos e, if_pos e]
  · rw [if_neg e, if_neg e]
    by_cases c : n = 0
    · rw [if_pos c]
      exact if_neg (Nat.ne_of_lt hb)
    · rw [if_neg c]
      show (if b = z_n h then _ else z_R (z_new h _) b k) = _
      rw [if_neg (Nat.ne_of_lt hb)]
      exact if_neg (Nat.ne_of_lt hb)
theorem z_gw_Rn {h : z_H} {L A n k : Nat} (hL : L < z_n h) (hA : A < z_n h) : z_R (z_gw h L A n) (z_n h) k = if k < n then z_R h A k else none := by
  unfold z_gw
  rw [z_RR, if_neg (fun q => by omega)]
  by_cases c : n = 0
  · rw [if_pos c, z_Rn, if_pos rfl, if_neg (by omega)]
  · rw [if_neg c]
    show (if z_n h = z_n h then va_cpy ((z_new h _).2.2.1 A) ((z_new h _).2.2.1 (z_n h)) 0 0 n k else _) = _
    rw [if_pos rfl]
    unfold va_cpy
    by_cases q : k < n
    · rw [if_pos ⟨Nat.zero_le _, by omega⟩, if_pos q]
      show z_R (z_new h _) A (0 + (k - 0)) = _
      rw [Nat.zero_add, Nat.sub_zero, z_Rn, if_neg (Nat.ne_of_lt hA)]
    · rw [if_neg (fun w => q (by omega)), if_neg q]
      show z_R (z_new h _) (z_n h) k = _
      rw [z_Rn, if_pos rfl]
theorem z_gw_I {h : z_H} {L A n b k : Nat} (hb : b < z_n h) : z_I (z_gw h L A n) b k = z_I h b k := by
  unfold z_gw
  rw [z_IR]
  by_cases c : n = 0
  · rw [if_pos c]
    exact if_neg (Nat.ne_of_lt hb)
  · rw [if_neg c]
    show (if b = z_n h then _ else z_I (z_new h _) b k) = _
    rw [if_neg (Nat.ne_of_lt hb)]
    exact if_neg (Nat.ne_of_lt hb)
theorem z_gw_L {h : z_H} {L A n b k : Nat} (hb : b < z_n h) : z_L (z_gw h L A n) b k = z_L h b k := by
  unfold z_gw
  rw [z_LR]
  by_cases c : n = 0
  · rw [if_pos c]
    exact if_neg (Nat.ne_of_lt hb)
  · rw [if_neg c]
    show (if b = z_n h then _ else z_L (z_new h _) b k) = _
    rw [if_neg (Nat.ne_of_lt hb)]
    exact if_neg (Nat.ne_of_lt hb)
theorem z_gw_n {h : z_H} {L A n : Nat} : z_n (z_gw h L A n) = z_n h + 1 := by
  unfold z_gw
  split <;> rfl
/-- what add leaves -/
def z_adQ (h : z_H) (L A : Nat) (ids : List Nat) (e : Nat) (r : Int32) (h' : z_H) : Prop := r = 1 ∧ z_fL L h h' ∧ ∃ A' n', z_AB h' L A' n' (ids ++ [e]) ∧ (A' = A ∨ z_n h ≤ A')
theorem c_J2_addQ {Γ : z_W} {h : z_H} {L A n e : Nat} {ids : List Nat} (hn85 : 85 ≤ z_n h) (hA : z_AB h L A n ids) (h33 : ids.length < 33) (he : z_el h e) : z_C Γ M_J2_add (z_rm 7 1 33) [.ref L, .ref e] h (z_rI (z_adQ h L A ids e)) := by
  obtain ⟨h1, h2, h3, h4, h5, h6, h7, h8, h9, h10, h11, h12⟩ := id hA
  by_cases hk : ids.length < n
  · refine (c_J2_add_y hA hk he).mono ?_
    rintro o h' ⟨rfl, rfl⟩
    refine ⟨1, rfl, rfl, ⟨Nat.le_refl _, fun a ha => ⟨rfl, fun _ => rfl, fun ne k => ?_, fun n1 n2 k => ?_, fun k hk1 => ?_⟩⟩, A, n, ⟨h1, h2, h3, ?_, ?_, ?_, h7, h8, h9, h10, fun i b hi => ?_, fun i h8i hi => ?_⟩, Or.inl rfl⟩
    · show (if a = L ∧ k = 2 then _ else if a = L ∧ k = 0 then _ else z_I h a k) = _
      rw [if_neg (fun q => ne q.1), if_neg (fun q => ne q.1)]
    · show (if a = A ∧ k = ids.length then _ else z_R h a k) = _
      rw [if_neg (fun q => n2.elim (fun w => w (by rw [h6, q.1])) (fun w => by omega))]
    · show (if L = A ∧ k = ids.length then _ else z_R h L k) = _
      rw [if_neg (fun q => h8 q.1.symm)]
    · rw [List.length_append]
      exact if_pos ⟨rfl, rfl⟩
    · rw [List.length_append, List.length_singleton]
      omega
    · show (if L = A ∧ 1 = ids.length then _ else z_R h L 1) = _
      rw [if_neg (fun q => h8 q.1.symm)]
      exact h6
    · show (if A = A ∧ i = ids.length then some e else z_R h A i) = some b ∧ z_el h b
      by_cases c : i = ids.length
      · rw [if_pos ⟨rfl, c⟩]
        rw [c, List.getElem?_append_right (Nat.le_refl _), Nat.sub_self] at hi
        cases hi
        exact ⟨rfl, he⟩
      · rw [if_neg (fun q => c q.2)]
        have hlt : i < ids.length := by
          have := (List.getElem?_eq_some_iff.mp hi).1
          rw [List.length_append, List.length_singleton] at this
          omega
        rw [List.getElem?_append_left hlt] at hi
        exact h11 i b hi
    · rw [List.length_append, List.length_singleton] at h8i
      show (if A = A ∧ i = ids.length then some e else z_R h A i) = none
      rw [if_neg (fun q => by omega)]
      exact h12 i (by omega) hi
  · have ek : ids.length = n := by omega
    refine (c_J2_add_g hn85 hA ek (by omega) he).mono ?_
    rintro o h' ⟨rfl, rfl⟩
    have hcap : z_cap n := by unfold z_cap; omega
    have hTm : ∀ a, a < z_n h → z_T (z_ap (z_gw (z_mc h L) L A n) L (z_n h) n e) a = z_T h a := fun a ha => z_gw_To (h := z_mc h L) (L := L) ha
    have hnn : z_n (z_ap (z_gw (z_mc h L) L A n) L (z_n h) n e) = z_n h + 1 := z_gw_n (h := z_mc h L) (L := L)
    refine ⟨1, rfl, rfl, ⟨by omega, fun a ha => ⟨hTm a ha, fun k => z_gw_L (h := z_mc h L) (L := L) ha, fun ne k => ?_, fun n1 n2 k => ?_, fun k hk1 => ?_⟩⟩, z_n h, z_nx n, ⟨h1, by omega, (hTm L h2).trans h3, ?_, ?_, ?_, by omega, by omega, z_gw_T (h := z_mc h L) (L := L), Or.inr ⟨hn85, ?_⟩, fun i b hi => ?_, fun i h8i hi => ?_⟩, Or.inr (Nat.le_refl _)⟩
    · show (if a = L ∧ k = 2 then _ else z_I (z_gw (z_mc h L) L A n) a k) = _
      rw [if_neg (fun q => ne q.1), z_gw_I (h := z_mc h L) ha]
      exact if_neg (fun q => ne q.1)
    · show (if a = z_n h ∧ k = n then _ else z_R (z_gw (z_mc h L) L A n) a k) = _
      rw [if_neg (fun q => by omega), z_gw_R (h := z_mc h L) ha, if_neg (fun q => n1 q.1)]
      rfl
    · show (if L = z_n h ∧ k = n then _ else z_R (z_gw (z_mc h L) L A n) L k) = _
      rw [if_neg (fun q => by omega), z_gw_R (h := z_mc h L) h2, if_neg (fun q => hk1 q.2)]
      rfl
    · rw [List.length_append, ek]
      exact if_pos ⟨rfl, rfl⟩
    · rw [List.length_append, List.length_singleton, ek]
      unfold z_nx
      rcases hcap with rfl | rfl | rfl | rfl <;> decide
    · show (if L = z_n h ∧ 1 = n then _ else z_R (z_gw (z_mc h L) L A n) L 1) = _
      rw [if_neg (fun q => by omega), z_gw_R (h := z_mc h L) h2, if_pos ⟨rfl, rfl⟩]
      rfl
    · unfold z_nx
      rcases hcap with rfl | rfl | rfl | rfl <;> decide
    · show (if z_n h = z_n h ∧ i = n then some e else z_R (z_gw (z_mc h L) L A n) (z_n h) i) = some b ∧ z_el _ b
      by_cases c : i = n
      · rw [if_pos ⟨rfl, c⟩]
        rw [c, ← ek, List.getElem?_append_right (Nat.le_refl _), Nat.sub_self] at hi
        cases hi
        exact ⟨rfl, he.mono (by omega) hTm⟩
      · rw [if_neg (fun q => c q.2)]
        have hlt : i < ids.length := by
          have := (List.getElem?_eq_some_iff.mp hi).1
          rw [List.length_append, List.length_singleton] at this
          omega
        rw [List.getElem?_append_left hlt] at hi
        obtain ⟨w1, w2⟩ := h11 i b hi
        refine ⟨?_, w2.mono (by omega) hTm⟩
        rw [show z_R (z_gw (z_mc h L) L A n) (z_n h) i = if i < n then z_R h A i else none from z_gw_Rn (h := z_mc h L) h2 h7, if_pos (by omega)]
        exact w1
    · rw [List.length_append, List.length_singleton, ek] at h8i
      show (if z_n h = z_n h ∧ i = n then some e else z_R (z_gw (z_mc h L) L A n) (z_n h) i) = none
      rw [if_neg (fun q => by omega), show z_R (z_gw (z_mc h L) L A n) (z_n h) i = if i < n then z_R h A i else none from z_gw_Rn (h := z_mc h L) h2 h7, if_neg (by omega)]
