/-! THE CLASS's READER: factor, all, some (printed by class38.py) -/
set_option maxRecDepth 20000
theorem z_hq {Γ : z_W} {M : z_M} {rm : Room} {Q : Outcome → z_H → Prop} {cs ss pc : Nat} {ls : List (Option Value)} {st : List Value} {h h' : z_H} (e : h = h') (kk : z_G Γ M rm Q cs ss pc ls st h') : z_G Γ M rm Q cs ss pc ls st h := by rw [e]; exact kk
def z_P0 (Γ : z_W) (r n A : Nat) (tx : Nat → Int32) (f : Nat) : Prop := ∀ (h : z_H) (d p : Nat), z_Rr h r tx n p d A → 3 * (n - p) + 1 ≤ f → z_C Γ M_X14_factor (z_rm (a_dpt 0 d) (a_k 0 p (a_ps tx n f 0 d p)) (33 * a_k 0 p (a_ps tx n f 0 d p))) [.ref r] h (z_rP r d (a_D 0 d) h (a_ps tx n f 0 d p))
def z_P1 (Γ : z_W) (r n A : Nat) (tx : Nat → Int32) (f : Nat) : Prop := ∀ (h : z_H) (d p : Nat), z_Rr h r tx n p d A → 3 * (n - p) + 2 ≤ f → z_C Γ M_X14_all (z_rm (a_dpt 1 d) (a_k 1 p (a_ps tx n f 1 d p)) (33 * a_k 1 p (a_ps tx n f 1 d p))) [.ref r] h (z_rP r d (a_D 1 d) h (a_ps tx n f 1 d p))
def z_P2 (Γ : z_W) (r n A : Nat) (tx : Nat → Int32) (f : Nat) : Prop := ∀ (h : z_H) (d p : Nat), z_Rr h r tx n p d A → 3 * (n - p) + 3 ≤ f → z_C Γ M_X14_some (z_rm (a_dpt 2 d) (a_k 2 p (a_ps tx n f 2 d p)) (33 * a_k 2 p (a_ps tx n f 2 d p))) [.ref r] h (z_rP r d (a_D 2 d) h (a_ps tx n f 2 d p))
def z_P3 (Γ : z_W) (r n A : Nat) (tx : Nat → Int32) (f : Nat) : Prop := ∀ (h0 h : z_H) (d p0 b L Ar N : Nat) (ids : List Nat) (Ps : List ((Int32 → Int32) → Bool)) (S : List Int32) (cs ss kk : Nat), z_Rr h0 r tx n p0 d A → z_Rr h r tx n b d A → z_lS r h0 h L Ar N (a_D 0 d) ids Ps 1 → 4 * ids.length ≤ b - p0 + 1 → p0 ≤ b → 1 ≤ ids.length → a_me S (fun φ => Ps.all (fun p => p φ)) → 3 * (n - b) + 2 ≤ f → ss ≤ 33 * cs → cs + a_kl b (a_ps tx n f 3 d b) ≤ kk → z_G Γ M_X14_all (z_rm (a_dpt 1 d) kk (33 * kk)) (z_rP r d (a_D 1 d) h0 (a_bd (a_ps tx n f 3 d b) fun q => .inr (q.1, S ++ q.2))) cs ss 21 [some (.ref r), some (.ref (z_n h0))] [] h
def z_P4 (Γ : z_W) (r n A : Nat) (tx : Nat → Int32) (f : Nat) : Prop := ∀ (h0 h : z_H) (d p0 b L Ar N : Nat) (ids : List Nat) (Ps : List ((Int32 → Int32) → Bool)) (S : List Int32) (cs ss kk : Nat), z_Rr h0 r tx n p0 d A → z_Rr h r tx n b d A → z_lS r h0 h L Ar N (a_D 1 d) ids Ps 0 → 4 * ids.length ≤ b - p0 + 1 → p0 ≤ b → 1 ≤ ids.length → a_me S (fun φ => Ps.any (fun p => p φ)) → 3 * (n - b) + 2 ≤ f → ss ≤ 33 * cs → cs + a_kl b (a_ps tx n f 4 d b) ≤ kk → z_G Γ M_X14_some (z_rm (a_dpt 2 d) kk (33 * kk)) (z_rP r d (a_D 2 d) h0 (a_bd (a_ps tx n f 4 d b) fun q => .inr (q.1, S ++ q.2))) cs ss 21 [some (.ref r), some (.ref (z_n h0))] [] h
theorem k_X14_all_loop {Γ : z_W} {r n A : Nat} {tx : Nat → Int32} {f : Nat} (H0 : z_P0 Γ r n A tx f) (H3 : z_P3 Γ r n A tx f) : z_P3 Γ r n A tx (f + 1) := by
  intro h0 h d p0 b L Ar N ids Ps S cs ss kk hr0 hr hl hi hb hi1 hme hf hss hk
  have hal : ∀ {x : Nat}, (z_rm (a_dpt 1 d) x (33 * x)).cells = x := rfl
  obtain ⟨r1, r2, r3, r4, r5, r6, r7, r8, r9, r10, r11, r12, r13, r14⟩ := id hr0
  have hn85 := r1.2.2
  have hA1 : Ar ≠ 1 := by
    obtain ⟨l1, l2, l3, l4, l5, l6, l7, l8, l9⟩ := id hl
    obtain ⟨b1, b2, b3, b4, b5, b6, b7, b8, b9, b10, b11, b12⟩ := l6
    omega
  have hk0 : cs ≤ kk := by omega
  have hs0 : ss ≤ 33 * kk := by omega
  refine z_aload_n dX14_all_21 rfl rfl ?_
  refine z_vcall vl_X14_34_14 (c_X14_here hr) dX14_all_22 rfl rfl hr.2.2.2.1 (z_rq (by unfold a_dpt; omega) (by decide)) (Nat.le_of_ble_eq_true rfl) hk0 hs0 (z_cI ?_) z_tI
  refine z_wid cs ss (Nat.le_refl _) (Nat.le_refl _) ?_
  refine z_bipush (v := 38) dX14_all_25 rfl ?_
  refine z_icmp_ne 55 dX14_all_27 (by decide) (fun c27 => ?_) (fun c27 => ?_)
  · refine z_aload_n dX14_all_55 rfl rfl ?_
    refine z_aret dX14_all_56 rfl (Or.inl ⟨_, rfl⟩) (Or.inr ⟨_, rfl⟩) hk0 hs0 ?_
    have eX : a_ps tx n (f + 1) 3 d b = .inr (b, []) := by
      rw [a_ps]
      · exact if_neg c27
      all_goals omega
    rw [eX]
    show z_rP r d (a_D 1 d) h0 (.inr (b, S ++ [])) _ _
    rw [List.append_nil]
    obtain ⟨l1, l2, l3, l4, l5, l6, l7, l8, l9⟩ := id hl
    have lB := l6.2.1
    exact ⟨z_n h0, fun φ => Ps.all (fun p => p φ), rfl, l1, hr.2.2.2.2.2.2.2.1, hr.2.2.2.2.2.2.2.2.2.1, Nat.le_refl _, by show z_n h0 < z_n h; omega, hl.ts hn85 hA1 (Or.inl ⟨rfl, fun _ => rfl⟩), Or.inl l3, hme⟩
  · have hbn : b < n := a_cr_lt (by rw [c27]; decide)
    have g1 : z_pg r h (z_sI h r 2 (nI (b + 1))) := z_pg.sI r h (Or.inl rfl) _
    have hr1 : z_Rr (z_sI h r 2 (nI (b + 1))) r tx n (b + 1) d A := hr.pg g1 (if_pos ⟨rfl, rfl⟩) ((if_neg (fun q => absurd q.2 (by decide))).trans hr.2.2.2.2.2.2.2.2.2.1) hbn hr.2.2.2.2.2.2.2.2.2.2.1
    refine z_aload_n dX14_all_30 rfl rfl ?_
    refine z_dup dX14_all_31 rfl ?_
    refine z_getI dX14_all_32 fl_X14_26_14 hr.2.2.2.1 rfl ?_
    refine z_eqi (nI b) hr.2.2.2.2.2.2.2.1 ?_
    refine z_iconst (v := 1) dX14_all_35 rfl ?_
    refine z_iadd dX14_all_36 ?_
    refine z_eqi (nI (b + 1)) (nI_succ b).symm ?_
    refine z_putI dX14_all_37 (pl_X14_26_14 rfl) hr.2.2.2.1 (Nat.le_trans (by decide) r2) rfl ?_
    obtain ⟨l1, l2, l3, l4, l5, l6, l7, l8, l9⟩ := id hl
    refine z_aload_n dX14_all_40 rfl rfl ?_
    refine z_getR L dX14_all_41 fl_X14_89_18 l3 rfl l4 ?_
    refine z_aload_n dX14_all_44 rfl rfl ?_
    have C := H0 (z_sI h r 2 (nI (b + 1))) d (b + 1) hr1 (by omega)
    have hgo : a_go n (b + 1) 3 (a_ps tx n f 0 d (b + 1)) := a_ps_go f 0 d (b + 1) hbn
    have eX : a_ps tx n (f + 1) 3 d b = a_bd (a_ps tx n f 0 d (b + 1)) fun r => a_bd (a_ps tx n f 3 d r.1) fun q => .inr (q.1, r.2 ++ [-38] ++ q.2) := by
      rw [a_ps]
      · exact if_pos c27
      all_goals omega
    rw [eX] at hk ⊢
    cases hX : a_ps tx n f 0 d (b + 1) with
    | inl e =>
      rw [hX] at C hk hgo
      have he := hgo.1 e rfl
      have hk2 : cs + (4 * (e - b) + 1) ≤ kk := hk
      refine z_vcall vl_X14_66_14 C dX14_all_45 rfl rfl hr1.2.2.2.1 (z_rq (by unfold a_dpt; omega) (by decide)) (Nat.le_of_ble_eq_true rfl) (by show cs + (4 * (e - (b + 1)) + 3 + 2 * 0) ≤ kk; omega) (by show ss + 33 * (4 * (e - (b + 1)) + 3 + 2 * 0) ≤ 33 * kk; omega) (fun v h' q => ?_) (fun y h' q => ?_)
      · obtain ⟨y, q1, -⟩ := q
        cases q1
      · refine z_thOut (by decide) (by show cs + (4 * (e - (b + 1)) + 3 + 2 * 0) ≤ kk; omega) (by show ss + 33 * (4 * (e - (b + 1)) + 3 + 2 * 0) ≤ 33 * kk; omega) ?_
        exact z_rT.pg (l1.trans g1) q
    | inr bS =>
      obtain ⟨b', S'⟩ := bS
      rw [hX] at C hk hgo
      have hb' := hgo.2 b' S' rfl
      have hgo2 : a_go n b' 0 (a_ps tx n f 3 d b') := a_ps_go f 3 d b' hb'.2
      have hk2 : cs + a_kl b (a_bd (a_ps tx n f 3 d b') fun q => .inr (q.1, S' ++ [-38] ++ q.2)) ≤ kk := hk
      rw [a_kl_bd hgo2 (by omega)] at hk2
      refine z_vcall vl_X14_66_14 C dX14_all_45 rfl rfl hr1.2.2.2.1 (z_rq (by unfold a_dpt; omega) (by decide)) (Nat.le_of_ble_eq_true rfl) (by show cs + (4 * (b' - (b + 1)) + 3 * 0) ≤ kk; omega) (by show ss + 33 * (4 * (b' - (b + 1)) + 3 * 0) ≤ 33 * kk; omega) (fun v h' q => ?_) (fun y h' q => ?_)
      · obtain ⟨y, P, q1, q2, q3, q4, q5, q6, q7, q8, q9⟩ := q
        cases q1
        refine z_wid (cs + (4 * (b' - (b + 1)) + 3 * 0)) (ss + 33 * (4 * (b' - (b + 1)) + 3 * 0)) (Nat.le_refl _) (Nat.le_refl _) ?_
        have l6' := l6.pg hr.2.2.2.1 (g1.trans q2)
        refine z_vcall vl_X14_93_21 (c_J2_addQ (by have := l1.1; have := g1.1; have := q2.1; omega) l6' (by omega) (z_el.te q6 q8)) dX14_all_48 rfl rfl l6'.2.2.1 (z_rq (by unfold a_dpt; omega) (by decide)) (Nat.le_of_ble_eq_true rfl) (by show cs + (4 * (b' - (b + 1)) + 3 * 0) + 1 ≤ kk; omega) (by show ss + 33 * (4 * (b' - (b + 1)) + 3 * 0) + 33 ≤ 33 * kk; omega) (fun v2 h2 q => ?_) (fun y2 h2 q => ?_)
        · obtain ⟨x, x1, x2, x3, A', N', x4, x5⟩ := q
          cases x1
          refine z_wid (cs + (4 * (b' - (b + 1)) + 3 * 0) + 1) (ss + 33 * (4 * (b' - (b + 1)) + 3 * 0) + 33) (Nat.le_refl _) (Nat.le_refl _) ?_
          refine z_pop dX14_all_51 rfl ?_
          refine z_goto 21 dX14_all_52 (by decide) ?_
          have hT0 := r4
          have hl2 := hl.step hn85 r3 r4 (g1.trans q2) q7 x3 x4 x5
          have hneL : r ≠ L := by omega
          have hx : ∀ k, z_I h2 r k = z_I h' r k := (x3.2 r (by have := l1.1; have := g1.1; have := q2.1; omega)).2.2.1 hneL
          have hr2 : z_Rr h2 r tx n b' d A := hr0.pg hl2.1 ((hx 2).trans q3) ((hx 3).trans q4) hb'.2 r11
          have kR := H3 h0 h2 d p0 b' L A' N' (ids ++ [y]) (Ps ++ [P]) (S ++ S' ++ [-38]) (cs + (4 * (b' - (b + 1)) + 3 * 0) + 1) (ss + 33 * (4 * (b' - (b + 1)) + 3 * 0) + 33) kk hr0 hr2 hl2 (by rw [List.length_append, List.length_singleton]; omega) (by omega) (by rw [List.length_append, List.length_singleton]; omega) (a_me_all hme q9) (by omega) (by omega) (by omega)
          refine z_G.mono kR (fun o g hq => ?_)
          show z_rP r d (a_D 1 d) h0 (a_bd (a_bd (a_ps tx n f 3 d b') fun q => .inr (q.1, S' ++ [-38] ++ q.2)) fun q => .inr (q.1, S ++ q.2)) o g
          cases hY : a_ps tx n f 3 d b' with
          | inl e =>
            rw [hY] at hq
            exact hq
          | inr w =>
            rw [hY] at hq
            have e3 : S ++ S' ++ [-38] ++ w.2 = S ++ (S' ++ [-38] ++ w.2) := by simp
            have hq2 : z_rP r d (a_D 1 d) h0 (.inr (w.1, S ++ S' ++ [-38] ++ w.2)) o g := hq
            rw [e3] at hq2
            exact hq2
        · obtain ⟨x, x1, -⟩ := q
          cases x1
      · obtain ⟨y, P, q1, -⟩ := q
        cases q1
theorem k_X14_all {Γ : z_W} {r n A : Nat} {tx : Nat → Int32} {f : Nat} (H0 : z_P0 Γ r n A tx f) (H3 : z_P3 Γ r n A tx f) : z_P1 Γ r n A tx (f + 1) := by
  intro h d p hr hf
  obtain ⟨r1, r2, r3, r4, r5, r6, r7, r8, r9, r10, r11, r12, r13, r14⟩ := id hr
  have hn85 := r1.2.2
  have eX : a_ps tx n (f + 1) 1 d p = a_bd (a_ps tx n f 0 d p) fun r => a_bd (a_ps tx n f 3 d r.1) fun q => .inr (q.1, r.2 ++ q.2) := by
    rw [a_ps]
  have hgo : a_go n p 3 (a_ps tx n f 0 d p) := a_ps_go f 0 d p r9
  rw [eX]
  refine z_C.of (by decide +kernel) rfl [some (.ref r), none] (Nat.le_of_ble_eq_true rfl) rfl ?_
  have hS := z_lS.new (r := r) (h0 := h) (D := a_D 0 d) 1 hn85 r14
  obtain ⟨h2, hg2⟩ : ∃ g, g = z_sI (z_sR (z_al0 (z_new (z_new h (.inl 18)) (.inl 21)) (z_n h + 1)) (z_n h) 1 (some (z_n h + 1))) (z_n h) 0 1 := ⟨_, rfl⟩
  rw [← hg2] at hS
  obtain ⟨l1, l2, l3, l4, l5, l6, l7, l8, l9⟩ := id hS
  have hrE : ∀ k, z_I h2 r k = z_I h r k := fun k => by
    rw [hg2]
    exact (if_neg (fun q => by omega)).trans ((if_neg (fun q => by omega)).trans ((if_neg (by show ¬ r = z_n h + 1; omega)).trans (if_neg (by show ¬ r = z_n h; omega))))
  have hr1 : z_Rr h2 r tx n p d A := hr.pg l1 ((hrE 2).trans r8) ((hrE 3).trans r10) r9 r11
  have C := H0 _ d p hr1 (by omega)
  cases hX : a_ps tx n f 0 d p with
  | inl e =>
    rw [hX] at C hgo
    have he := hgo.1 e rfl
    show z_G Γ M_X14_all (z_rm (a_dpt 1 d) (4 * (e - p) + 3 + 2 * 1) (33 * (4 * (e - p) + 3 + 2 * 1))) (z_rT r e h) 0 0 0 _ [] h
    refine z_newo dX14_all_0 (c := 18) rfl q844 q845 q117 (by show 0 + 1 ≤ 4 * (e - p) + 3 + 2 * 1; omega) (by show 0 + 2 ≤ 33 * (4 * (e - p) + 3 + 2 * 1); omega) ?_
    refine z_dup dX14_all_3 rfl ?_
    refine z_iconst (v := 1) dX14_all_4 rfl ?_
    refine z_icall il_X14_86 (c_X18_init (h := z_new h (.inl 18)) (L := z_n h) (a := 1) (if_pos rfl) hn85 (by show 85 ≤ z_n h + 1; omega) (Nat.lt_succ_self _) ⟨by decide, by decide⟩) dX14_all_5 rfl rfl (z_rq (by unfold a_dpt; omega) (by decide)) (Nat.le_of_ble_eq_true rfl) (by show 1 + 1 ≤ 4 * (e - p) + 3 + 2 * 1; omega) (by show 2 + 3 ≤ 33 * (4 * (e - p) + 3 + 2 * 1); omega) (z_cV ?_) z_tV
    refine z_wid 2 5 (Nat.le_refl _) (Nat.le_refl _) ?_
    refine z_hq hg2.symm ?_
    refine z_astore_n dX14_all_8 rfl (by decide) rfl ?_
    refine z_lsq [some (.ref r), some (.ref (z_n h))] rfl ?_
    refine z_aload_n dX14_all_9 rfl rfl ?_
    refine z_getR (z_n h + 1) dX14_all_10 fl_X14_89_18 l3 rfl l4 ?_
    refine z_aload_n dX14_all_13 rfl rfl ?_
    refine z_vcall vl_X14_66_14 C dX14_all_14 rfl rfl hr1.2.2.2.1 (z_rq (by unfold a_dpt; omega) (by decide)) (Nat.le_of_ble_eq_true rfl) (by show 2 + (4 * (e - p) + 3 + 2 * 0) ≤ 4 * (e - p) + 3 + 2 * 1; omega) (by show 5 + 33 * (4 * (e - p) + 3 + 2 * 0) ≤ 33 * (4 * (e - p) + 3 + 2 * 1); omega) (fun v h' q => ?_) (fun y h' q => ?_)
    · obtain ⟨y, q1, -⟩ := q
      cases q1
    · refine z_thOut (by decide) (by show 2 + (4 * (e - p) + 3 + 2 * 0) ≤ 4 * (e - p) + 3 + 2 * 1; omega) (by show 5 + 33 * (4 * (e - p) + 3 + 2 * 0) ≤ 33 * (4 * (e - p) + 3 + 2 * 1); omega) ?_
      exact z_rT.pg l1 q
  | inr bS =>
    obtain ⟨b', S'⟩ := bS
    rw [hX] at C hgo
    have hb' := hgo.2 b' S' rfl
    have hgo2 : a_go n b' 0 (a_ps tx n f 3 d b') := a_ps_go f 3 d b' hb'.2
    show z_G Γ M_X14_all (z_rm (a_dpt 1 d) (a_k 1 p (a_bd (a_ps tx n f 3 d b') fun q => .inr (q.1, S' ++ q.2))) (33 * a_k 1 p (a_bd (a_ps tx n f 3 d b') fun q => .inr (q.1, S' ++ q.2)))) (z_rP r d (a_D 1 d) h (a_bd (a_ps tx n f 3 d b') fun q => .inr (q.1, S' ++ q.2))) 0 0 0 _ [] h
    have hkk := a_k_bd (n := n) (p := p) (b := b') (m := 1) (g := fun q => S' ++ q.2) (by decide) hgo2 (by omega)
    generalize hK : a_k 1 p (a_bd (a_ps tx n f 3 d b') fun q => .inr (q.1, S' ++ q.2)) = kk at hkk ⊢
    refine z_newo dX14_all_0 (c := 18) rfl q844 q845 q117 (by show 0 + 1 ≤ kk; omega) (by show 0 + 2 ≤ 33 * (kk); omega) ?_
    refine z_dup dX14_all_3 rfl ?_
    refine z_iconst (v := 1) dX14_all_4 rfl ?_
    refine z_icall il_X14_86 (c_X18_init (h := z_new h (.inl 18)) (L := z_n h) (a := 1) (if_pos rfl) hn85 (by show 85 ≤ z_n h + 1; omega) (Nat.lt_succ_self _) ⟨by decide, by decide⟩) dX14_all_5 rfl rfl (z_rq (by unfold a_dpt; omega) (by decide)) (Nat.le_of_ble_eq_true rfl) (by show 1 + 1 ≤ kk; omega) (by show 2 + 3 ≤ 33 * (kk); omega) (z_cV ?_) z_tV
    refine z_wid 2 5 (Nat.le_refl _) (Nat.le_refl _) ?_
    refine z_hq hg2.symm ?_
    refine z_astore_n dX14_all_8 rfl (by decide) rfl ?_
    refine z_lsq [some (.ref r), some (.ref (z_n h))] rfl ?_
    refine z_aload_n dX14_all_9 rfl rfl ?_
    refine z_getR (z_n h + 1) dX14_all_10 fl_X14_89_18 l3 rfl l4 ?_
    refine z_aload_n dX14_all_13 rfl rfl ?_
    refine z_vcall vl_X14_66_14 C dX14_all_14 rfl rfl hr1.2.2.2.1 (z_rq (by unfold a_dpt; omega) (by decide)) (Nat.le_of_ble_eq_true rfl) (by show 2 + (4 * (b' - p) + 3 * 0) ≤ kk; omega) (by show 5 + 33 * (4 * (b' - p) + 3 * 0) ≤ 33 * kk; omega) (fun v h' q => ?_) (fun y h' q => ?_)
    · obtain ⟨y, P, q1, q2, q3, q4, q5, q6, q7, q8, q9⟩ := q
      cases q1
      refine z_wid (2 + (4 * (b' - p) + 3 * 0)) (5 + 33 * (4 * (b' - p) + 3 * 0)) (Nat.le_refl _) (Nat.le_refl _) ?_
      have l6' := l6.pg hr1.2.2.2.1 q2
      refine z_vcall vl_X14_93_21 (c_J2_addQ (by have := l1.1; have := q2.1; omega) l6' (by decide) (z_el.te q6 q8)) dX14_all_17 rfl rfl l6'.2.2.1 (z_rq (by unfold a_dpt; omega) (by decide)) (Nat.le_of_ble_eq_true rfl) (by show 2 + (4 * (b' - p) + 3 * 0) + 1 ≤ kk; omega) (by show 5 + 33 * (4 * (b' - p) + 3 * 0) + 33 ≤ 33 * kk; omega) (fun v2 h3 q => ?_) (fun y2 h3 q => ?_)
      · obtain ⟨x, x1, x2, x3, A', N', x4, x5⟩ := q
        cases x1
        refine z_wid (2 + (4 * (b' - p) + 3 * 0) + 1) (5 + 33 * (4 * (b' - p) + 3 * 0) + 33) (Nat.le_refl _) (Nat.le_refl _) ?_
        refine z_pop dX14_all_20 rfl ?_
        have hl2 := hS.step hn85 r3 r4 q2 q7 x3 x4 x5
        have hneL : r ≠ z_n h + 1 := by omega
        have hx : ∀ k, z_I h3 r k = z_I h' r k := (x3.2 r (by have := l1.1; have := q2.1; omega)).2.2.1 hneL
        have hr2 : z_Rr h3 r tx n b' d A := hr.pg hl2.1 ((hx 2).trans q3) ((hx 3).trans q4) hb'.2 r11
        exact H3 h h3 d p b' (z_n h + 1) A' N' ([] ++ [y]) ([] ++ [P]) S' (2 + (4 * (b' - p) + 3 * 0) + 1) (5 + 33 * (4 * (b' - p) + 3 * 0) + 33) kk hr hr2 hl2 (by show 4 * 1 ≤ _; omega) (by omega) (Nat.le_refl _) (a_me_eq q9 (fun φ => by simp)) (by omega) (by omega) (by omega)
      · obtain ⟨x, x1, -⟩ := q
        cases x1
    · obtain ⟨y, P, q1, -⟩ := q
      cases q1
theorem k_X14_some_loop {Γ : z_W} {r n A : Nat} {tx : Nat → Int32} {f : Nat} (H0 : z_P1 Γ r n A tx f) (H3 : z_P4 Γ r n A tx f) : z_P4 Γ r n A tx (f + 1) := by
  intro h0 h d p0 b L Ar N ids Ps S cs ss kk hr0 hr hl hi hb hi1 hme hf hss hk
  have hal : ∀ {x : Nat}, (z_rm (a_dpt 2 d) x (33 * x)).cells = x := rfl
  obtain ⟨r1, r2, r3, r4, r5, r6, r7, r8, r9, r10, r11, r12, r13, r14⟩ := id hr0
  have hn85 := r1.2.2
  have hA1 : Ar ≠ 1 := by
    obtain ⟨l1, l2, l3, l4, l5, l6, l7, l8, l9⟩ := id hl
    obtain ⟨b1, b2, b3, b4, b5, b6, b7, b8, b9, b10, b11, b12⟩ := l6
    omega
  have hk0 : cs ≤ kk := by omega
  have hs0 : ss ≤ 33 * kk := by omega
  refine z_aload_n dX14_some_21 rfl rfl ?_
  refine z_vcall vl_X14_34_14 (c_X14_here hr) dX14_some_22 rfl rfl hr.2.2.2.1 (z_rq (by unfold a_dpt; omega) (by decide)) (Nat.le_of_ble_eq_true rfl) hk0 hs0 (z_cI ?_) z_tI
  refine z_wid cs ss (Nat.le_refl _) (Nat.le_refl _) ?_
  refine z_bipush (v := 124) dX14_some_25 rfl ?_
  refine z_icmp_ne 55 dX14_some_27 (by decide) (fun c27 => ?_) (fun c27 => ?_)
  · refine z_aload_n dX14_some_55 rfl rfl ?_
    refine z_aret dX14_some_56 rfl (Or.inl ⟨_, rfl⟩) (Or.inr ⟨_, rfl⟩) hk0 hs0 ?_
    have eX : a_ps tx n (f + 1) 4 d b = .inr (b, []) := by
      rw [a_ps]
      · exact if_neg c27
      all_goals omega
    rw [eX]
    show z_rP r d (a_D 2 d) h0 (.inr (b, S ++ [])) _ _
    rw [List.append_nil]
    obtain ⟨l1, l2, l3, l4, l5, l6, l7, l8, l9⟩ := id hl
    have lB := l6.2.1
    exact ⟨z_n h0, fun φ => Ps.any (fun p => p φ), rfl, l1, hr.2.2.2.2.2.2.2.1, hr.2.2.2.2.2.2.2.2.2.1, Nat.le_refl _, by show z_n h0 < z_n h; omega, hl.ts hn85 hA1 (Or.inr ⟨rfl, fun _ => rfl⟩), Or.inl l3, hme⟩
  · have hbn : b < n := a_cr_lt (by rw [c27]; decide)
    have g1 : z_pg r h (z_sI h r 2 (nI (b + 1))) := z_pg.sI r h (Or.inl rfl) _
    have hr1 : z_Rr (z_sI h r 2 (nI (b + 1))) r tx n (b + 1) d A := hr.pg g1 (if_pos ⟨rfl, rfl⟩) ((if_neg (fun q => absurd q.2 (by decide))).trans hr.2.2.2.2.2.2.2.2.2.1) hbn hr.2.2.2.2.2.2.2.2.2.2.1
    refine z_aload_n dX14_some_30 rfl rfl ?_
    refine z_dup dX14_some_31 rfl ?_
    refine z_getI dX14_some_32 fl_X14_26_14 hr.2.2.2.1 rfl ?_
    refine z_eqi (nI b) hr.2.2.2.2.2.2.2.1 ?_
    refine z_iconst (v := 1) dX14_some_35 rfl ?_
    refine z_iadd dX14_some_36 ?_
    refine z_eqi (nI (b + 1)) (nI_succ b).symm ?_
    refine z_putI dX14_some_37 (pl_X14_26_14 rfl) hr.2.2.2.1 (Nat.le_trans (by decide) r2) rfl ?_
    obtain ⟨l1, l2, l3, l4, l5, l6, l7, l8, l9⟩ := id hl
    refine z_aload_n dX14_some_40 rfl rfl ?_
    refine z_getR L dX14_some_41 fl_X14_89_18 l3 rfl l4 ?_
    refine z_aload_n dX14_some_44 rfl rfl ?_
    have C := H0 (z_sI h r 2 (nI (b + 1))) d (b + 1) hr1 (by omega)
    have hgo : a_go n (b + 1) 3 (a_ps tx n f 1 d (b + 1)) := a_ps_go f 1 d (b + 1) hbn
    have eX : a_ps tx n (f + 1) 4 d b = a_bd (a_ps tx n f 1 d (b + 1)) fun r => a_bd (a_ps tx n f 4 d r.1) fun q => .inr (q.1, r.2 ++ [-124] ++ q.2) := by
      rw [a_ps]
      · exact if_pos c27
      all_goals omega
    rw [eX] at hk ⊢
    cases hX : a_ps tx n f 1 d (b + 1) with
    | inl e =>
      rw [hX] at C hk hgo
      have he := hgo.1 e rfl
      have hk2 : cs + (4 * (e - b) + 1) ≤ kk := hk
      refine z_vcall vl_X14_99_14 C dX14_some_45 rfl rfl hr1.2.2.2.1 (z_rq (by unfold a_dpt; omega) (by decide)) (Nat.le_of_ble_eq_true rfl) (by show cs + (4 * (e - (b + 1)) + 3 + 2 * 1) ≤ kk; omega) (by show ss + 33 * (4 * (e - (b + 1)) + 3 + 2 * 1) ≤ 33 * kk; omega) (fun v h' q => ?_) (fun y h' q => ?_)
      · obtain ⟨y, q1, -⟩ := q
        cases q1
      · refine z_thOut (by decide) (by show cs + (4 * (e - (b + 1)) + 3 + 2 * 1) ≤ kk; omega) (by show ss + 33 * (4 * (e - (b + 1)) + 3 + 2 * 1) ≤ 33 * kk; omega) ?_
        exact z_rT.pg (l1.trans g1) q
    | inr bS =>
      obtain ⟨b', S'⟩ := bS
      rw [hX] at C hk hgo
      have hb' := hgo.2 b' S' rfl
      have hgo2 : a_go n b' 0 (a_ps tx n f 4 d b') := a_ps_go f 4 d b' hb'.2
      have hk2 : cs + a_kl b (a_bd (a_ps tx n f 4 d b') fun q => .inr (q.1, S' ++ [-124] ++ q.2)) ≤ kk := hk
      rw [a_kl_bd hgo2 (by omega)] at hk2
      refine z_vcall vl_X14_99_14 C dX14_some_45 rfl rfl hr1.2.2.2.1 (z_rq (by unfold a_dpt; omega) (by decide)) (Nat.le_of_ble_eq_true rfl) (by show cs + (4 * (b' - (b + 1)) + 3 * 1) ≤ kk; omega) (by show ss + 33 * (4 * (b' - (b + 1)) + 3 * 1) ≤ 33 * kk; omega) (fun v h' q => ?_) (fun y h' q => ?_)
      · obtain ⟨y, P, q1, q2, q3, q4, q5, q6, q7, q8, q9⟩ := q
        cases q1
        refine z_wid (cs + (4 * (b' - (b + 1)) + 3 * 1)) (ss + 33 * (4 * (b' - (b + 1)) + 3 * 1)) (Nat.le_refl _) (Nat.le_refl _) ?_
        have l6' := l6.pg hr.2.2.2.1 (g1.trans q2)
        refine z_vcall vl_X14_93_21 (c_J2_addQ (by have := l1.1; have := g1.1; have := q2.1; omega) l6' (by omega) (z_el.te q6 q8)) dX14_some_48 rfl rfl l6'.2.2.1 (z_rq (by unfold a_dpt; omega) (by decide)) (Nat.le_of_ble_eq_true rfl) (by show cs + (4 * (b' - (b + 1)) + 3 * 1) + 1 ≤ kk; omega) (by show ss + 33 * (4 * (b' - (b + 1)) + 3 * 1) + 33 ≤ 33 * kk; omega) (fun v2 h2 q => ?_) (fun y2 h2 q => ?_)
        · obtain ⟨x, x1, x2, x3, A', N', x4, x5⟩ := q
          cases x1
          refine z_wid (cs + (4 * (b' - (b + 1)) + 3 * 1) + 1) (ss + 33 * (4 * (b' - (b + 1)) + 3 * 1) + 33) (Nat.le_refl _) (Nat.le_refl _) ?_
          refine z_pop dX14_some_51 rfl ?_
          refine z_goto 21 dX14_some_52 (by decide) ?_
          have hT0 := r4
          have hl2 := hl.step hn85 r3 r4 (g1.trans q2) q7 x3 x4 x5
          have hneL : r ≠ L := by omega
          have hx : ∀ k, z_I h2 r k = z_I h' r k := (x3.2 r (by have := l1.1; have := g1.1; have := q2.1; omega)).2.2.1 hneL
          have hr2 : z_Rr h2 r tx n b' d A := hr0.pg hl2.1 ((hx 2).trans q3) ((hx 3).trans q4) hb'.2 r11
          have kR := H3 h0 h2 d p0 b' L A' N' (ids ++ [y]) (Ps ++ [P]) (S ++ S' ++ [-124]) (cs + (4 * (b' - (b + 1)) + 3 * 1) + 1) (ss + 33 * (4 * (b' - (b + 1)) + 3 * 1) + 33) kk hr0 hr2 hl2 (by rw [List.length_append, List.length_singleton]; omega) (by omega) (by rw [List.length_append, List.length_singleton]; omega) (a_me_any hme q9) (by omega) (by omega) (by omega)
          refine z_G.mono kR (fun o g hq => ?_)
          show z_rP r d (a_D 2 d) h0 (a_bd (a_bd (a_ps tx n f 4 d b') fun q => .inr (q.1, S' ++ [-124] ++ q.2)) fun q => .inr (q.1, S ++ q.2)) o g
          cases hY : a_ps tx n f 4 d b' with
          | inl e =>
            rw [hY] at hq
            exact hq
          | inr w =>
            rw [hY] at hq
            have e3 : S ++ S' ++ [-124] ++ w.2 = S ++ (S' ++ [-124] ++ w.2) := by simp
            have hq2 : z_rP r d (a_D 2 d) h0 (.inr (w.1, S ++ S' ++ [-124] ++ w.2)) o g := hq
            rw [e3] at hq2
            exact hq2
        · obtain ⟨x, x1, -⟩ := q
          cases x1
      · obtain ⟨y, P, q1, -⟩ := q
        cases q1
theorem k_X14_some {Γ : z_W} {r n A : Nat} {tx : Nat → Int32} {f : Nat} (H0 : z_P1 Γ r n A tx f) (H3 : z_P4 Γ r n A tx f) : z_P2 Γ r n A tx (f + 1) := by
  intro h d p hr hf
  obtain ⟨r1, r2, r3, r4, r5, r6, r7, r8, r9, r10, r11, r12, r13, r14⟩ := id hr
  have hn85 := r1.2.2
  have eX : a_ps tx n (f + 1) 2 d p = a_bd (a_ps tx n f 1 d p) fun r => a_bd (a_ps tx n f 4 d r.1) fun q => .inr (q.1, r.2 ++ q.2) := by
    rw [a_ps]
  have hgo : a_go n p 3 (a_ps tx n f 1 d p) := a_ps_go f 1 d p r9
  rw [eX]
  refine z_C.of (by decide +kernel) rfl [some (.ref r), none] (Nat.le_of_ble_eq_true rfl) rfl ?_
  have hS := z_lS.new (r := r) (h0 := h) (D := a_D 1 d) 0 hn85 r14
  obtain ⟨h2, hg2⟩ : ∃ g, g = z_sI (z_sR (z_al0 (z_new (z_new h (.inl 18)) (.inl 21)) (z_n h + 1)) (z_n h) 1 (some (z_n h + 1))) (z_n h) 0 0 := ⟨_, rfl⟩
  rw [← hg2] at hS
  obtain ⟨l1, l2, l3, l4, l5, l6, l7, l8, l9⟩ := id hS
  have hrE : ∀ k, z_I h2 r k = z_I h r k := fun k => by
    rw [hg2]
    exact (if_neg (fun q => by omega)).trans ((if_neg (fun q => by omega)).trans ((if_neg (by show ¬ r = z_n h + 1; omega)).trans (if_neg (by show ¬ r = z_n h; omega))))
  have hr1 : z_Rr h2 r tx n p d A := hr.pg l1 ((hrE 2).trans r8) ((hrE 3).trans r10) r9 r11
  have C := H0 _ d p hr1 (by omega)
  cases hX : a_ps tx n f 1 d p with
  | inl e =>
    rw [hX] at C hgo
    have he := hgo.1 e rfl
    show z_G Γ M_X14_some (z_rm (a_dpt 2 d) (4 * (e - p) + 3 + 2 * 2) (33 * (4 * (e - p) + 3 + 2 * 2))) (z_rT r e h) 0 0 0 _ [] h
    refine z_newo dX14_some_0 (c := 18) rfl q844 q845 q117 (by show 0 + 1 ≤ 4 * (e - p) + 3 + 2 * 2; omega) (by show 0 + 2 ≤ 33 * (4 * (e - p) + 3 + 2 * 2); omega) ?_
    refine z_dup dX14_some_3 rfl ?_
    refine z_iconst (v := 0) dX14_some_4 rfl ?_
    refine z_icall il_X14_86 (c_X18_init (h := z_new h (.inl 18)) (L := z_n h) (a := 0) (if_pos rfl) hn85 (by show 85 ≤ z_n h + 1; omega) (Nat.lt_succ_self _) ⟨by decide, by decide⟩) dX14_some_5 rfl rfl (z_rq (by unfold a_dpt; omega) (by decide)) (Nat.le_of_ble_eq_true rfl) (by show 1 + 1 ≤ 4 * (e - p) + 3 + 2 * 2; omega) (by show 2 + 3 ≤ 33 * (4 * (e - p) + 3 + 2 * 2); omega) (z_cV ?_) z_tV
    refine z_wid 2 5 (Nat.le_refl _) (Nat.le_refl _) ?_
    refine z_hq hg2.symm ?_
    refine z_astore_n dX14_some_8 rfl (by decide) rfl ?_
    refine z_lsq [some (.ref r), some (.ref (z_n h))] rfl ?_
    refine z_aload_n dX14_some_9 rfl rfl ?_
    refine z_getR (z_n h + 1) dX14_some_10 fl_X14_89_18 l3 rfl l4 ?_
    refine z_aload_n dX14_some_13 rfl rfl ?_
    refine z_vcall vl_X14_99_14 C dX14_some_14 rfl rfl hr1.2.2.2.1 (z_rq (by unfold a_dpt; omega) (by decide)) (Nat.le_of_ble_eq_true rfl) (by show 2 + (4 * (e - p) + 3 + 2 * 1) ≤ 4 * (e - p) + 3 + 2 * 2; omega) (by show 5 + 33 * (4 * (e - p) + 3 + 2 * 1) ≤ 33 * (4 * (e - p) + 3 + 2 * 2); omega) (fun v h' q => ?_) (fun y h' q => ?_)
    · obtain ⟨y, q1, -⟩ := q
      cases q1
    · refine z_thOut (by decide) (by show 2 + (4 * (e - p) + 3 + 2 * 1) ≤ 4 * (e - p) + 3 + 2 * 2; omega) (by show 5 + 33 * (4 * (e - p) + 3 + 2 * 1) ≤ 33 * (4 * (e - p) + 3 + 2 * 2); omega) ?_
      exact z_rT.pg l1 q
  | inr bS =>
    obtain ⟨b', S'⟩ := bS
    rw [hX] at C hgo
    have hb' := hgo.2 b' S' rfl
    have hgo2 : a_go n b' 0 (a_ps tx n f 4 d b') := a_ps_go f 4 d b' hb'.2
    show z_G Γ M_X14_some (z_rm (a_dpt 2 d) (a_k 2 p (a_bd (a_ps tx n f 4 d b') fun q => .inr (q.1, S' ++ q.2))) (33 * a_k 2 p (a_bd (a_ps tx n f 4 d b') fun q => .inr (q.1, S' ++ q.2)))) (z_rP r d (a_D 2 d) h (a_bd (a_ps tx n f 4 d b') fun q => .inr (q.1, S' ++ q.2))) 0 0 0 _ [] h
    have hkk := a_k_bd (n := n) (p := p) (b := b') (m := 2) (g := fun q => S' ++ q.2) (by decide) hgo2 (by omega)
    generalize hK : a_k 2 p (a_bd (a_ps tx n f 4 d b') fun q => .inr (q.1, S' ++ q.2)) = kk at hkk ⊢
    refine z_newo dX14_some_0 (c := 18) rfl q844 q845 q117 (by show 0 + 1 ≤ kk; omega) (by show 0 + 2 ≤ 33 * (kk); omega) ?_
    refine z_dup dX14_some_3 rfl ?_
    refine z_iconst (v := 0) dX14_some_4 rfl ?_
    refine z_icall il_X14_86 (c_X18_init (h := z_new h (.inl 18)) (L := z_n h) (a := 0) (if_pos rfl) hn85 (by show 85 ≤ z_n h + 1; omega) (Nat.lt_succ_self _) ⟨by decide, by decide⟩) dX14_some_5 rfl rfl (z_rq (by unfold a_dpt; omega) (by decide)) (Nat.le_of_ble_eq_true rfl) (by show 1 + 1 ≤ kk; omega) (by show 2 + 3 ≤ 33 * (kk); omega) (z_cV ?_) z_tV
    refine z_wid 2 5 (Nat.le_refl _) (Nat.le_refl _) ?_
    refine z_hq hg2.symm ?_
    refine z_astore_n dX14_some_8 rfl (by decide) rfl ?_
    refine z_lsq [some (.ref r), some (.ref (z_n h))] rfl ?_
    refine z_aload_n dX14_some_9 rfl rfl ?_
    refine z_getR (z_n h + 1) dX14_some_10 fl_X14_89_18 l3 rfl l4 ?_
    refine z_aload_n dX14_some_13 rfl rfl ?_
    refine z_vcall vl_X14_99_14 C dX14_some_14 rfl rfl hr1.2.2.2.1 (z_rq (by unfold a_dpt; omega) (by decide)) (Nat.le_of_ble_eq_true rfl) (by show 2 + (4 * (b' - p) + 3 * 1) ≤ kk; omega) (by show 5 + 33 * (4 * (b' - p) + 3 * 1) ≤ 33 * kk; omega) (fun v h' q => ?_) (fun y h' q => ?_)
    · obtain ⟨y, P, q1, q2, q3, q4, q5, q6, q7, q8, q9⟩ := q
      cases q1
      refine z_wid (2 + (4 * (b' - p) + 3 * 1)) (5 + 33 * (4 * (b' - p) + 3 * 1)) (Nat.le_refl _) (Nat.le_refl _) ?_
      have l6' := l6.pg hr1.2.2.2.1 q2
      refine z_vcall vl_X14_93_21 (c_J2_addQ (by have := l1.1; have := q2.1; omega) l6' (by decide) (z_el.te q6 q8)) dX14_some_17 rfl rfl l6'.2.2.1 (z_rq (by unfold a_dpt; omega) (by decide)) (Nat.le_of_ble_eq_true rfl) (by show 2 + (4 * (b' - p) + 3 * 1) + 1 ≤ kk; omega) (by show 5 + 33 * (4 * (b' - p) + 3 * 1) + 33 ≤ 33 * kk; omega) (fun v2 h3 q => ?_) (fun y2 h3 q => ?_)
      · obtain ⟨x, x1, x2, x3, A', N', x4, x5⟩ := q
        cases x1
        refine z_wid (2 + (4 * (b' - p) + 3 * 1) + 1) (5 + 33 * (4 * (b' - p) + 3 * 1) + 33) (Nat.le_refl _) (Nat.le_refl _) ?_
        refine z_pop dX14_some_20 rfl ?_
        have hl2 := hS.step hn85 r3 r4 q2 q7 x3 x4 x5
        have hneL : r ≠ z_n h + 1 := by omega
        have hx : ∀ k, z_I h3 r k = z_I h' r k := (x3.2 r (by have := l1.1; have := q2.1; omega)).2.2.1 hneL
        have hr2 : z_Rr h3 r tx n b' d A := hr.pg hl2.1 ((hx 2).trans q3) ((hx 3).trans q4) hb'.2 r11
        exact H3 h h3 d p b' (z_n h + 1) A' N' ([] ++ [y]) ([] ++ [P]) S' (2 + (4 * (b' - p) + 3 * 1) + 1) (5 + 33 * (4 * (b' - p) + 3 * 1) + 33) kk hr hr2 hl2 (by show 4 * 1 ≤ _; omega) (by omega) (Nat.le_refl _) (a_me_eq q9 (fun φ => by simp)) (by omega) (by omega) (by omega)
      · obtain ⟨x, x1, -⟩ := q
        cases x1
    · obtain ⟨y, P, q1, -⟩ := q
      cases q1
theorem k_X14_factor {Γ : z_W} {r n A : Nat} {tx : Nat → Int32} {f : Nat} (H0 : z_P0 Γ r n A tx f) (H2 : z_P2 Γ r n A tx f) : z_P0 Γ r n A tx (f + 1) := by
  intro h d p hr hf
  obtain ⟨r1, r2, r3, r4, r5, r6, r7, r8, r9, r10, r11, r12, r13, r14⟩ := id hr
  have hn85 := r1.2.2
  refine z_C.of (by decide +kernel) rfl [some (.ref r), none, none] (Nat.le_of_ble_eq_true rfl) rfl ?_
  refine z_aload_n dX14_factor_0 rfl rfl ?_
  refine z_vcall vl_X14_34_14 (c_X14_here hr) dX14_factor_1 rfl rfl r4 (z_rq (by unfold a_dpt; omega) (by decide)) (Nat.le_of_ble_eq_true rfl) (Nat.zero_le _) (Nat.zero_le _) (z_cI ?_) z_tI
  refine z_wid 0 0 (Nat.le_refl _) (Nat.le_refl _) ?_
  by_cases e4_0 : a_cr tx n p = 33
  · have hpn : p < n := a_cr_lt (by rw [e4_0]; decide)
    refine z_lookup 80 dX14_factor_4 (by decide) (by rw [e4_0]; try rfl) (by decide) ?_
    refine z_aload_n dX14_factor_80 rfl rfl ?_
    by_cases hd4 : d = 4
    · have eX : a_ps tx n (f + 1) 0 d p = .inl p := by rw [a_ps]; rw [if_pos e4_0]; exact if_pos hd4
      rw [eX]
      refine z_vcall vl_X14_61_14 (c_X14_deeper_n hr hd4) dX14_factor_81 rfl rfl r4 (z_rq (by unfold a_dpt; omega) (by decide)) (Nat.le_of_ble_eq_true rfl) (by show 0 + 0 + 1 ≤ 4 * (p - p) + 3 + 2 * 0; omega) (by show 0 + 0 + 7 ≤ 33 * (4 * (p - p) + 3 + 2 * 0); omega) (fun v h' q => ?_) (fun y h' q => ?_)
      · obtain ⟨y, q1, -⟩ := q
        cases q1
      · exact z_thOut (by decide) (by show 0 + 0 + 1 ≤ 4 * (p - p) + 3 + 2 * 0; omega) (by show 0 + 0 + 7 ≤ 33 * (4 * (p - p) + 3 + 2 * 0); omega) q
    · have eX : a_ps tx n (f + 1) 0 d p = a_bd (a_ps tx n f 0 (d + 1) (p + 1)) fun r => .inr (r.1, r.2 ++ [-33]) := by rw [a_ps]; rw [if_pos e4_0]; exact if_neg hd4
      have hgo : a_go n (p + 1) 3 (a_ps tx n f 0 (d + 1) (p + 1)) := a_ps_go f 0 (d + 1) (p + 1) hpn
      rw [eX]
      refine z_vcall vl_X14_61_14 (c_X14_deeper_y hr hd4) dX14_factor_81 rfl rfl r4 (z_rq (by unfold a_dpt; omega) (by decide)) (Nat.le_of_ble_eq_true rfl) (Nat.zero_le _) (Nat.zero_le _) (fun v h1 q => ?_) (fun y h1 q => ?_)
      · obtain ⟨q1, q2, q3, q4⟩ := q
        cases q1
        refine z_wid 0 0 (Nat.le_refl _) (Nat.le_refl _) ?_
        have hr1 : z_Rr h1 r tx n (p + 1) (d + 1) A := hr.pg q2 q3 q4 hpn (by omega)
        have hn1 := q2.1
        have g2 : z_pg r h (z_new h1 (.inl 19)) := q2.trans (z_pg.of (z_gr.new _ _))
        have hr2 : z_Rr (z_new h1 (.inl 19)) r tx n (p + 1) (d + 1) A := hr.pg g2 ((if_neg (by show ¬ r = z_n h1; omega)).trans q3) ((if_neg (by show ¬ r = z_n h1; omega)).trans q4) hpn (by omega)
        have C := H0 (z_new h1 (.inl 19)) (d + 1) (p + 1) hr2 (by omega)
        cases hX : a_ps tx n f 0 (d + 1) (p + 1) with
        | inl e =>
          rw [hX] at C hgo
          have he := hgo.1 e rfl
          show z_G Γ M_X14_factor (z_rm (a_dpt 0 d) (4 * (e - p) + 3 + 2 * 0) (33 * (4 * (e - p) + 3 + 2 * 0))) (z_rT r e h) 0 0 _ _ _ h1
          refine z_newo dX14_factor_84 (c := 19) rfl q875 q876 q118 (by show 0 + 1 ≤ 4 * (e - p) + 3 + 2 * 0; omega) (by show 0 + 1 ≤ 33 * (4 * (e - p) + 3 + 2 * 0); omega) ?_
          refine z_dup dX14_factor_87 rfl ?_
          refine z_aload_n dX14_factor_88 rfl rfl ?_
          refine z_vcall vl_X14_66_14 C dX14_factor_89 rfl rfl hr2.2.2.2.1 (z_rq (by unfold a_dpt; omega) (by decide)) (Nat.le_of_ble_eq_true rfl) (by show 0 + 1 + (4 * (e - (p + 1)) + 3 + 2 * 0) ≤ 4 * (e - p) + 3 + 2 * 0; omega) (by show 0 + 1 + 33 * (4 * (e - (p + 1)) + 3 + 2 * 0) ≤ 33 * (4 * (e - p) + 3 + 2 * 0); omega) (fun v h' q => ?_) (fun y h' q => ?_)
          · obtain ⟨y, q1, -⟩ := q
            cases q1
          · refine z_thOut (by decide) (by show 0 + 1 + (4 * (e - (p + 1)) + 3 + 2 * 0) ≤ 4 * (e - p) + 3 + 2 * 0; omega) (by show 0 + 1 + 33 * (4 * (e - (p + 1)) + 3 + 2 * 0) ≤ 33 * (4 * (e - p) + 3 + 2 * 0); omega) ?_
            exact z_rT.pg g2 q
        | inr bS =>
          obtain ⟨b, S⟩ := bS
          rw [hX] at C hgo
          have hb := hgo.2 b S rfl
          show z_G Γ M_X14_factor (z_rm (a_dpt 0 d) (4 * (b - p) + 3 * 0) (33 * (4 * (b - p) + 3 * 0))) (z_rP r d (a_D 0 d) h (.inr (b, S ++ [-33]))) 0 0 _ _ _ h1
          refine z_newo dX14_factor_84 (c := 19) rfl q875 q876 q118 (by show 0 + 1 ≤ 4 * (b - p) + 3 * 0; omega) (by show 0 + 1 ≤ 33 * (4 * (b - p) + 3 * 0); omega) ?_
          refine z_dup dX14_factor_87 rfl ?_
          refine z_aload_n dX14_factor_88 rfl rfl ?_
          refine z_vcall vl_X14_66_14 C dX14_factor_89 rfl rfl hr2.2.2.2.1 (z_rq (by unfold a_dpt; omega) (by decide)) (Nat.le_of_ble_eq_true rfl) (by show 0 + 1 + (4 * (b - (p + 1)) + 3 * 0) ≤ 4 * (b - p) + 3 * 0; omega) (by show 0 + 1 + 33 * (4 * (b - (p + 1)) + 3 * 0) ≤ 33 * (4 * (b - p) + 3 * 0); omega) (fun v h3 q => ?_) (fun y h3 q => ?_)
          · obtain ⟨y, P, t1, t2, t3, t4, t5, t6, t7, t8, t9⟩ := q
            cases t1
            refine z_wid (1 + 4 * (b - (p + 1))) (1 + 33 * (4 * (b - (p + 1)))) (by show 0 + 1 + (4 * (b - (p + 1)) + 3 * 0) ≤ _; omega) (by show 0 + 1 + 33 * (4 * (b - (p + 1)) + 3 * 0) ≤ _; omega) ?_
            have hn3 := t2.1
            have hn2 : z_n (z_new h1 (.inl 19)) = z_n h1 + 1 := rfl
            have hy3 : z_n h1 < z_n h3 := by omega
            have hT3 : z_T h3 (z_n h1) = some (.inl 19) := (t2.2 (z_n h1) (by omega)).1.trans (if_pos rfl)
            have hTr : z_T h3 r = some (.inl 14) := (t2.2 r (by omega)).1.trans hr2.2.2.2.1
            refine z_icall il_X14_70 (c_X19_init hT3 (by omega)) dX14_factor_92 rfl rfl (z_rq (by unfold a_dpt; omega) (by decide)) (Nat.le_of_ble_eq_true rfl) (by show 1 + 4 * (b - (p + 1)) + 0 ≤ 4 * (b - p) + 3 * 0; omega) (by show 1 + 33 * (4 * (b - (p + 1))) + 0 ≤ 33 * (4 * (b - p) + 3 * 0); omega) (z_cV ?_) z_tV
            refine z_wid (1 + 4 * (b - (p + 1))) (1 + 33 * (4 * (b - (p + 1)))) (Nat.le_refl _) (Nat.le_refl _) ?_
            refine z_astore_n dX14_factor_95 rfl (by decide) rfl ?_
            refine z_lsq [some (.ref r), some (.ref (z_n h1)), none] rfl ?_
            refine z_aload_n dX14_factor_96 rfl rfl ?_
            refine z_dup dX14_factor_97 rfl ?_
            refine z_getI dX14_factor_98 fl_X14_58_14 hTr rfl ?_
            refine z_eqi (nI (d + 1)) t4 ?_
            refine z_iconst (v := 1) dX14_factor_101 rfl ?_
            refine z_isub dX14_factor_102 ?_
            refine z_eqi (nI d) (by rw [nI_succ]; exact Int32.add_sub_cancel _ _) ?_
            refine z_putI dX14_factor_103 (pl_X14_58_14 rfl) hTr (Nat.le_trans (by decide) r2) rfl ?_
            refine z_aload_n dX14_factor_106 rfl rfl ?_
            refine z_aret dX14_factor_107 rfl (Or.inl ⟨_, rfl⟩) (Or.inr ⟨_, rfl⟩) (by show 1 + 4 * (b - (p + 1)) ≤ 4 * (b - p) + 3 * 0; omega) (by show 1 + 33 * (4 * (b - (p + 1))) ≤ 33 * (4 * (b - p) + 3 * 0); omega) ?_
            have gF : z_pg r h (z_sI (z_sR h3 (z_n h1) 0 (some y)) r 3 (nI d)) := ((g2.trans t2).wR hn1 _).trans (z_pg.sI r _ (Or.inr rfl) _)
            have hsm : z_sm (fun a => z_n (z_new h1 (.inl 19)) ≤ a ∧ a < z_n h3) h3 (z_sI (z_sR h3 (z_n h1) 0 (some y)) r 3 (nI d)) := fun a ha => ⟨rfl, fun k => if_neg (fun q => by omega), fun k => if_neg (fun q => by omega)⟩
            refine ⟨z_n h1, fun φ => !P φ, rfl, gF, ?_, if_pos ⟨rfl, rfl⟩, hn1, by show z_n h1 < z_n h3; omega, ?_, Or.inr (Or.inl hT3), a_me_not t9⟩
            · exact (if_neg (fun q => absurd q.2 (by decide))).trans t3
            · exact (z_Tq.no (D := a_D 0 (d + 1)) (h := z_sI (z_sR h3 (z_n h1) 0 (some y)) r 3 (nI d)) (S := fun a => z_n h ≤ a ∧ a < z_n h3) ⟨hn1, hy3⟩ (Nat.le_trans hn85 hn1) hT3 (if_pos ⟨rfl, rfl⟩) (t7.to (fun a q => ⟨Nat.le_trans (by omega) q.1, q.2⟩) hsm)).le (by unfold a_D; omega)
          · obtain ⟨y, P, q1, -⟩ := q
            cases q1
      · cases q.1
  by_cases e4_1 : a_cr tx n p = 40
  · have hpn : p < n := a_cr_lt (by rw [e4_1]; decide)
    refine z_lookup 108 dX14_factor_4 (by decide) (by rw [e4_1]; try rfl) (by decide) ?_
    refine z_aload_n dX14_factor_108 rfl rfl ?_
    by_cases hd4 : d = 4
    · have eX : a_ps tx n (f + 1) 0 d p = .inl p := by rw [a_ps]; rw [if_neg e4_0, if_pos e4_1]; exact if_pos hd4
      rw [eX]
      refine z_vcall vl_X14_61_14 (c_X14_deeper_n hr hd4) dX14_factor_109 rfl rfl r4 (z_rq (by unfold a_dpt; omega) (by decide)) (Nat.le_of_ble_eq_true rfl) (by show 0 + 0 + 1 ≤ 4 * (p - p) + 3 + 2 * 0; omega) (by show 0 + 0 + 7 ≤ 33 * (4 * (p - p) + 3 + 2 * 0); omega) (fun v h' q => ?_) (fun y h' q => ?_)
      · obtain ⟨y, q1, -⟩ := q
        cases q1
      · exact z_thOut (by decide) (by show 0 + 0 + 1 ≤ 4 * (p - p) + 3 + 2 * 0; omega) (by show 0 + 0 + 7 ≤ 33 * (4 * (p - p) + 3 + 2 * 0); omega) q
    · have eX : a_ps tx n (f + 1) 0 d p = a_bd (a_ps tx n f 2 (d + 1) (p + 1)) fun r => if a_cr tx n r.1 = 41 then .inr (r.1 + 1, r.2) else .inl r.1 := by rw [a_ps]; rw [if_neg e4_0, if_pos e4_1]; exact if_neg hd4
      have hgo : a_go n (p + 1) 3 (a_ps tx n f 2 (d + 1) (p + 1)) := a_ps_go f 2 (d + 1) (p + 1) hpn
      rw [eX]
      refine z_vcall vl_X14_61_14 (c_X14_deeper_y hr hd4) dX14_factor_109 rfl rfl r4 (z_rq (by unfold a_dpt; omega) (by decide)) (Nat.le_of_ble_eq_true rfl) (Nat.zero_le _) (Nat.zero_le _) (fun v h1 q => ?_) (fun y h1 q => ?_)
      · obtain ⟨q1, q2, q3, q4⟩ := q
        cases q1
        refine z_wid 0 0 (Nat.le_refl _) (Nat.le_refl _) ?_
        have hr1 : z_Rr h1 r tx n (p + 1) (d + 1) A := hr.pg q2 q3 q4 hpn (by omega)
        have hn1 := q2.1
        have C := H2 h1 (d + 1) (p + 1) hr1 (by omega)
        refine z_aload_n dX14_factor_112 rfl rfl ?_
        cases hX : a_ps tx n f 2 (d + 1) (p + 1) with
        | inl e =>
          rw [hX] at C hgo
          have he := hgo.1 e rfl
          show z_G Γ M_X14_factor (z_rm (a_dpt 0 d) (4 * (e - p) + 3 + 2 * 0) (33 * (4 * (e - p) + 3 + 2 * 0))) (z_rT r e h) 0 0 _ _ _ h1
          refine z_vcall vl_X14_73_14 C dX14_factor_113 rfl rfl hr1.2.2.2.1 (z_rq (by unfold a_dpt; omega) (by decide)) (Nat.le_of_ble_eq_true rfl) (by show 0 + (4 * (e - (p + 1)) + 3 + 2 * 2) ≤ 4 * (e - p) + 3 + 2 * 0; omega) (by show 0 + 33 * (4 * (e - (p + 1)) + 3 + 2 * 2) ≤ 33 * (4 * (e - p) + 3 + 2 * 0); omega) (fun v h' q => ?_) (fun y h' q => ?_)
          · obtain ⟨y, q1, -⟩ := q
            cases q1
          · refine z_thOut (by decide) (by show 0 + (4 * (e - (p + 1)) + 3 + 2 * 2) ≤ 4 * (e - p) + 3 + 2 * 0; omega) (by show 0 + 33 * (4 * (e - (p + 1)) + 3 + 2 * 2) ≤ 33 * (4 * (e - p) + 3 + 2 * 0); omega) ?_
            exact z_rT.pg q2 q
        | inr bS =>
          obtain ⟨b, S⟩ := bS
          rw [hX] at C hgo
          have hb := hgo.2 b S rfl
          by_cases c41 : a_cr tx n b = 41
          · have hbn : b < n := a_cr_lt (by rw [c41]; decide)
            rw [show (a_bd (.inr (b, S) : Nat ⊕ (Nat × List Int32)) fun r => if a_cr tx n r.1 = 41 then .inr (r.1 + 1, r.2) else .inl r.1) = (.inr (b + 1, S) : Nat ⊕ (Nat × List Int32)) from if_pos c41]
            show z_G Γ M_X14_factor (z_rm (a_dpt 0 d) (4 * (b + 1 - p) + 3 * 0) (33 * (4 * (b + 1 - p) + 3 * 0))) (z_rP r d (a_D 0 d) h (.inr (b + 1, S))) 0 0 _ _ _ h1
            refine z_vcall vl_X14_73_14 C dX14_factor_113 rfl rfl hr1.2.2.2.1 (z_rq (by unfold a_dpt; omega) (by decide)) (Nat.le_of_ble_eq_true rfl) (by show 0 + (4 * (b - (p + 1)) + 3 * 2) ≤ 4 * (b + 1 - p) + 3 * 0; omega) (by show 0 + 33 * (4 * (b - (p + 1)) + 3 * 2) ≤ 33 * (4 * (b + 1 - p) + 3 * 0); omega) (fun v h3 q => ?_) (fun y h3 q => ?_)
            · obtain ⟨y, P, t1, t2, t3, t4, t5, t6, t7, t8, t9⟩ := q
              cases t1
              refine z_wid (4 * (b - (p + 1)) + 6) (33 * (4 * (b - (p + 1)) + 6)) (by show 0 + (4 * (b - (p + 1)) + 3 * 2) ≤ _; omega) (by show 0 + 33 * (4 * (b - (p + 1)) + 3 * 2) ≤ _; omega) ?_
              refine z_astore_n dX14_factor_116 rfl (by decide) rfl ?_
              refine z_lsq [some (.ref r), some (.ref y), none] rfl ?_
              refine z_aload_n dX14_factor_117 rfl rfl ?_
              refine z_bipush (v := 41) dX14_factor_118 rfl ?_
              have g3 := q2.trans t2
              have hr3 : z_Rr h3 r tx n b (d + 1) A := hr.pg g3 t3 t4 hb.2 (by omega)
              refine z_vcall vl_X14_51_14 (c_X14_must_y hr3 c41) dX14_factor_120 rfl rfl hr3.2.2.2.1 (z_rq (by unfold a_dpt; omega) (by decide)) (Nat.le_of_ble_eq_true rfl) (by show 4 * (b - (p + 1)) + 6 + 0 ≤ 4 * (b + 1 - p) + 3 * 0; omega) (by show 33 * (4 * (b - (p + 1)) + 6) + 0 ≤ 33 * (4 * (b + 1 - p) + 3 * 0); omega) (fun v h4 q => ?_) (fun y h4 q => ?_)
              · obtain ⟨u1, u2, u3, u4⟩ := q
                cases u1
                refine z_wid (4 * (b - (p + 1)) + 6) (33 * (4 * (b - (p + 1)) + 6)) (Nat.le_refl _) (Nat.le_refl _) ?_
                have hn3 := t2.1
                have hn4 := u2.1
                have hTr : z_T h4 r = some (.inl 14) := (u2.2 r (by omega)).1.trans hr3.2.2.2.1
                refine z_aload_n dX14_factor_123 rfl rfl ?_
                refine z_dup dX14_factor_124 rfl ?_
                refine z_getI dX14_factor_125 fl_X14_58_14 hTr rfl ?_
                refine z_eqi (nI (d + 1)) u4 ?_
                refine z_iconst (v := 1) dX14_factor_128 rfl ?_
                refine z_isub dX14_factor_129 ?_
                refine z_eqi (nI d) (by rw [nI_succ]; exact Int32.add_sub_cancel _ _) ?_
                refine z_putI dX14_factor_130 (pl_X14_58_14 rfl) hTr (Nat.le_trans (by decide) r2) rfl ?_
                refine z_aload_n dX14_factor_133 rfl rfl ?_
                refine z_aret dX14_factor_134 rfl (Or.inl ⟨_, rfl⟩) (Or.inr ⟨_, rfl⟩) (by show 4 * (b - (p + 1)) + 6 ≤ 4 * (b + 1 - p) + 3 * 0; omega) (by show 33 * (4 * (b - (p + 1)) + 6) ≤ 33 * (4 * (b + 1 - p) + 3 * 0); omega) ?_
                have gF : z_pg r h3 (z_sI h4 r 3 (nI d)) := u2.trans (z_pg.sI r _ (Or.inr rfl) _)
                have hTy := (u2.2 y t6).1
                refine ⟨y, P, rfl, g3.trans gF, ?_, if_pos ⟨rfl, rfl⟩, Nat.le_trans hn1 t5, Nat.lt_of_lt_of_le t6 hn4, ?_, ?_, t9⟩
                · exact (if_neg (fun q => absurd q.2 (by decide))).trans u3
                · exact (t7.to (S' := fun a => z_n h ≤ a ∧ a < z_n h4) (fun a q => ⟨by omega, by omega⟩) (z_sm.pg gF (fun a q => ⟨q.2, by omega⟩))).le (by unfold a_D; omega)
                · show z_T h4 y = _ ∨ z_T h4 y = _ ∨ z_T h4 y = _
                  rw [hTy]
                  exact t8
              · cases q.1
            · obtain ⟨y, P, q1, -⟩ := q
              cases q1
          · rw [show (a_bd (.inr (b, S) : Nat ⊕ (Nat × List Int32)) fun r => if a_cr tx n r.1 = 41 then .inr (r.1 + 1, r.2) else .inl r.1) = (.inl b : Nat ⊕ (Nat × List Int32)) from if_neg c41]
            show z_G Γ M_X14_factor (z_rm (a_dpt 0 d) (4 * (b - p) + 3 + 2 * 0) (33 * (4 * (b - p) + 3 + 2 * 0))) (z_rT r b h) 0 0 _ _ _ h1
            refine z_vcall vl_X14_73_14 C dX14_factor_113 rfl rfl hr1.2.2.2.1 (z_rq (by unfold a_dpt; omega) (by decide)) (Nat.le_of_ble_eq_true rfl) (by show 0 + (4 * (b - (p + 1)) + 3 * 2) ≤ 4 * (b - p) + 3 + 2 * 0; omega) (by show 0 + 33 * (4 * (b - (p + 1)) + 3 * 2) ≤ 33 * (4 * (b - p) + 3 + 2 * 0); omega) (fun v h3 q => ?_) (fun y h3 q => ?_)
            · obtain ⟨y, P, t1, t2, t3, t4, t5, t6, t7, t8, t9⟩ := q
              cases t1
              refine z_wid (4 * (b - (p + 1)) + 6) (33 * (4 * (b - (p + 1)) + 6)) (by show 0 + (4 * (b - (p + 1)) + 3 * 2) ≤ _; omega) (by show 0 + 33 * (4 * (b - (p + 1)) + 3 * 2) ≤ _; omega) ?_
              refine z_astore_n dX14_factor_116 rfl (by decide) rfl ?_
              refine z_lsq [some (.ref r), some (.ref y), none] rfl ?_
              refine z_aload_n dX14_factor_117 rfl rfl ?_
              refine z_bipush (v := 41) dX14_factor_118 rfl ?_
              have g3 := q2.trans t2
              have hr3 : z_Rr h3 r tx n b (d + 1) A := hr.pg g3 t3 t4 hb.2 (by omega)
              refine z_vcall vl_X14_51_14 (c_X14_must_n hr3 c41) dX14_factor_120 rfl rfl hr3.2.2.2.1 (z_rq (by unfold a_dpt; omega) (by decide)) (Nat.le_of_ble_eq_true rfl) (by show 4 * (b - (p + 1)) + 6 + 1 ≤ 4 * (b - p) + 3 + 2 * 0; omega) (by show 33 * (4 * (b - (p + 1)) + 6) + 7 ≤ 33 * (4 * (b - p) + 3 + 2 * 0); omega) (fun v h4 q => ?_) (fun y h4 q => ?_)
              · obtain ⟨y, q1, -⟩ := q
                cases q1
              · refine z_thOut (by decide) (by show 4 * (b - (p + 1)) + 6 + 1 ≤ 4 * (b - p) + 3 + 2 * 0; omega) (by show 33 * (4 * (b - (p + 1)) + 6) + 7 ≤ 33 * (4 * (b - p) + 3 + 2 * 0); omega) ?_
                exact z_rT.pg g3 q
            · obtain ⟨y, P, q1, -⟩ := q
              cases q1
      · cases q.1
  have eX : a_ps tx n (f + 1) 0 d p = a_ts tx n p := by rw [a_ps, if_neg e4_0, if_neg e4_1]
  rw [eX]
  have hts : 3 ≤ a_k 0 p (a_ts tx n p) := by
    have hgo := a_ts_go (tx := tx) (n := n) (p := p) r9
    cases hX : a_ts tx n p with
    | inl e => show 3 ≤ 4 * (e - p) + 3 + 2 * 0; omega
    | inr y =>
      obtain ⟨b, S⟩ := y
      have := (hgo.2 b S hX).1
      show 3 ≤ 4 * (b - p) + 3 * 0
      omega
  have hat : a_ltv (a_cr tx n p) → z_G Γ M_X14_factor (z_rm (a_dpt 0 d) (a_k 0 p (a_ts tx n p)) (33 * a_k 0 p (a_ts tx n p))) (z_rP r d (a_D 0 d) h (a_ts tx n p)) 0 0 135 [some (.ref r), none, none] [] h := fun hlt => by
    refine z_G.mono (k_X14_atom hr hlt (D := 3 * (4 - d)) hts (by omega)) (fun o g hq => ?_)
    cases hX : a_ts tx n p with
    | inl e => rw [hX] at hq; exact hq
    | inr y =>
      rw [hX] at hq
      obtain ⟨y1, P, t1, t2, t3, t4, t5, t6, t7, t8, t9⟩ := hq
      exact ⟨y1, P, t1, t2, t3, t4, t5, t6, t7.le (by unfold a_D; omega), t8, t9⟩
  by_cases e4_2 : a_cr tx n p = 104
  · refine z_lookup 135 dX14_factor_4 (by decide) (by rw [e4_2]; try rfl) (by decide) ?_
    exact hat (by unfold a_ltv; rw [e4_2]; decide)
  by_cases e4_3 : a_cr tx n p = 107
  · refine z_lookup 135 dX14_factor_4 (by decide) (by rw [e4_3]; try rfl) (by decide) ?_
    exact hat (by unfold a_ltv; rw [e4_3]; decide)
  by_cases e4_4 : a_cr tx n p = 108
  · refine z_lookup 135 dX14_factor_4 (by decide) (by rw [e4_4]; try rfl) (by decide) ?_
    exact hat (by unfold a_ltv; rw [e4_4]; decide)
  by_cases e4_5 : a_cr tx n p = 109
  · refine z_lookup 135 dX14_factor_4 (by decide) (by rw [e4_5]; try rfl) (by decide) ?_
    exact hat (by unfold a_ltv; rw [e4_5]; decide)
  by_cases e4_6 : a_cr tx n p = 116
  · refine z_lookup 135 dX14_factor_4 (by decide) (by rw [e4_6]; try rfl) (by decide) ?_
    exact hat (by unfold a_ltv; rw [e4_6]; decide)
  by_cases e4_7 : a_cr tx n p = 118
  · refine z_lookup 135 dX14_factor_4 (by decide) (by rw [e4_7]; try rfl) (by decide) ?_
    exact hat (by unfold a_ltv; rw [e4_7]; decide)
  refine z_lookup (off := 200) 204 dX14_factor_4 (by decide) ((((((((if_neg (z_lkn (v := 33) rfl e4_0)).trans (if_neg (z_lkn (v := 40) rfl e4_1))).trans (if_neg (z_lkn (v := 104) rfl e4_2))).trans (if_neg (z_lkn (v := 107) rfl e4_3))).trans (if_neg (z_lkn (v := 108) rfl e4_4))).trans (if_neg (z_lkn (v := 109) rfl e4_5))).trans (if_neg (z_lkn (v := 116) rfl e4_6))).trans (if_neg (z_lkn (v := 118) rfl e4_7))) (by decide) ?_
  have hap : ¬ 0 ≤ a_pc (a_cr tx n p) := by
    unfold a_pc
    rw [if_neg e4_2, if_neg e4_3, if_neg e4_4, if_neg e4_5, if_neg e4_6, if_neg e4_7]
    decide
  have eT : a_ts tx n p = .inl p := by
    unfold a_ts
    rw [if_neg hap]
  rw [eT] at hts ⊢
  refine z_aload_n dX14_factor_204 rfl rfl ?_
  refine z_vcall vl_X14_38_14 (c_X14_off hr) dX14_factor_205 rfl rfl r4 (z_rq (by unfold a_dpt; omega) (by decide)) (Nat.le_of_ble_eq_true rfl) (by show 0 + 1 ≤ 4 * (p - p) + 3 + 2 * 0; omega) (by show 0 + 7 ≤ 33 * (4 * (p - p) + 3 + 2 * 0); omega) (z_cR ?_) z_tR
  refine z_athrow dX14_factor_208 ?_
  exact z_thOut (by decide) (by show 0 + 1 ≤ 4 * (p - p) + 3 + 2 * 0; omega) (by show 0 + 7 ≤ 33 * (4 * (p - p) + 3 + 2 * 0); omega) ⟨_, rfl, z_pg.of (z_gr.off h _), z_off_T h _, z_off_I h _⟩
theorem z_P_all {Γ : z_W} {r n A : Nat} {tx : Nat → Int32} : ∀ f, z_P0 Γ r n A tx f ∧ z_P1 Γ r n A tx f ∧ z_P2 Γ r n A tx f ∧ z_P3 Γ r n A tx f ∧ z_P4 Γ r n A tx f
  | 0 => ⟨fun h d p _ hf => by omega, fun h d p _ hf => by omega, fun h d p _ hf => by omega, fun h0 h d p0 b L Ar N ids Ps S cs ss kk _ _ _ _ _ _ _ hf => by omega, fun h0 h d p0 b L Ar N ids Ps S cs ss kk _ _ _ _ _ _ _ hf => by omega⟩
  | f + 1 => by
    obtain ⟨i0, i1, i2, i3, i4⟩ := z_P_all f
    exact ⟨k_X14_factor i0 i2, k_X14_all i0 i3, k_X14_some i1 i4, k_X14_all_loop i0 i3, k_X14_some_loop i1 i4⟩
theorem c_X14_some {Γ : z_W} {r n A : Nat} {tx : Nat → Int32} {h : z_H} {d p f : Nat} (hr : z_Rr h r tx n p d A) (hf : 3 * (n - p) + 3 ≤ f) : z_C Γ M_X14_some (z_rm (a_dpt 2 d) (a_k 2 p (a_ps tx n f 2 d p)) (33 * a_k 2 p (a_ps tx n f 2 d p))) [.ref r] h (z_rP r d (a_D 2 d) h (a_ps tx n f 2 d p)) := (z_P_all f).2.2.1 h d p hr hf
