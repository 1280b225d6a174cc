/-! THE CLASS's READER: here, off, must, deeper (printed by class33.py) -/
set_option maxRecDepth 20000
/-- what reading leaves alone: all but the reader's place and depth -/
def z_pg (r : Nat) (h h' : z_H) : Prop := z_n h ≤ z_n h' ∧ ∀ a, a < z_n h → z_T h' a = z_T h a ∧ (∀ k, z_L h' a k = z_L h a k) ∧ (∀ k, z_R h' a k = z_R h a k) ∧ ∀ k, ¬ (a = r ∧ (k = 2 ∨ k = 3)) → z_I h' a k = z_I h a k
theorem z_pg.refl (r : Nat) (h : z_H) : z_pg r h h := ⟨Nat.le_refl _, fun _ _ => ⟨rfl, fun _ => rfl, fun _ => rfl, fun _ _ => rfl⟩⟩
theorem z_pg.trans {r : Nat} {a b c : z_H} (h1 : z_pg r a b) (h2 : z_pg r b c) : z_pg r a c := ⟨Nat.le_trans h1.1 h2.1, fun x hx => by
  obtain ⟨p1, p2, p3, p4⟩ := h1.2 x hx
  obtain ⟨q1, q2, q3, q4⟩ := h2.2 x (Nat.lt_of_lt_of_le hx h1.1)
  exact ⟨q1.trans p1, fun k => (q2 k).trans (p2 k), fun k => (q3 k).trans (p3 k), fun k hk => (q4 k hk).trans (p4 k hk)⟩⟩
theorem z_pg.of {r : Nat} {h h' : z_H} (hg : z_gr h h') : z_pg r h h' := ⟨hg.1, fun a ha => ⟨(hg.2 a ha).2.2.2, (hg.2 a ha).2.1, (hg.2 a ha).2.2.1, fun k _ => (hg.2 a ha).1 k⟩⟩
theorem z_pg.sI (r : Nat) (h : z_H) {k : Nat} (hk : k = 2 ∨ k = 3) (v : Int32) : z_pg r h (z_sI h r k v) := ⟨Nat.le_refl _, fun a _ => ⟨rfl, fun _ => rfl, fun _ => rfl, fun j hj => if_neg (fun q => hj ⟨q.1, by rw [q.2]; exact hk⟩)⟩⟩
/-- the reader r reads tx, n long, at p, d deep, into the air A -/
def z_Rr (h : z_H) (r : Nat) (tx : Nat → Int32) (n p d A : Nat) : Prop := z_F h ∧ 85 ≤ r ∧ r < z_n h ∧ z_T h r = some (.inl 14) ∧ z_R h r 0 = some 22 ∧ z_I h r 1 = nI n ∧ n ≤ 100 ∧ z_I h r 2 = nI p ∧ p ≤ n ∧ z_I h r 3 = nI d ∧ d ≤ 4 ∧ z_R h r 4 = some A ∧ (∀ k, z_I h 22 k = tx k) ∧ z_T h 1 = some (z_oa 0)
theorem z_pg.F {r : Nat} {h h' : z_H} (hg : z_pg r h h') (hF : z_F h) : z_F h' := by
  obtain ⟨f1, f2, f3⟩ := hF
  have hlt : ∀ a t, z_tab[a]? = some t → a < z_n h := fun a t q => by
    have := (List.getElem?_eq_some_iff.mp q).1
    have e : z_tab.length = 85 := rfl
    omega
  refine ⟨fun a t q => ?_, fun a k b q => ?_, Nat.le_trans f3 hg.1⟩
  · rw [(hg.2 a (hlt a _ q)).1]
    exact f1 a t q
  · have ha : a < z_n h := by
      by_cases c : a < 85
      · omega
      · match a, c, q with
        | a + 85, _, q => cases k <;> cases q
    rw [(hg.2 a ha).2.2.1]
    exact f2 a k b q
theorem z_Rr.pg {h h' : z_H} {r n p d A p' d' : Nat} {tx : Nat → Int32} (hr : z_Rr h r tx n p d A) (hg : z_pg r h h') (e1 : z_I h' r 2 = nI p') (e2 : z_I h' r 3 = nI d') (hp : p' ≤ n) (hd : d' ≤ 4) : z_Rr h' r tx n p' d' A := by
  obtain ⟨r1, r2, r3, r4, r5, r6, r7, r8, r9, r10, r11, r12, r13, r14⟩ := hr
  have hn := r1.2.2
  obtain ⟨g1, g2, g3, g4⟩ := hg.2 r r3
  refine ⟨hg.F r1, r2, Nat.lt_of_lt_of_le r3 hg.1, g1.trans r4, (g3 0).trans r5, (g4 1 (by omega)).trans r6, r7, e1, hp, e2, hd, (g3 4).trans r12, fun k => ((hg.2 22 (by omega)).2.2.2 k (by omega)).trans (r13 k), (hg.2 1 (by omega)).1.trans r14⟩
/-- it throws: it can't go on at e -/
def z_rT (r e : Nat) (h : z_H) : Outcome → z_H → Prop := fun o h' => ∃ y, o = .threw y ∧ z_pg r h h' ∧ z_T h' y = some (.inr (.float, 1)) ∧ z_I h' y 6 = nI e
/-- it returns, at b -/
def z_rB (r b d : Nat) (h : z_H) : Outcome → z_H → Prop := fun o h' => o = .returned none ∧ z_pg r h h' ∧ z_I h' r 2 = nI b ∧ z_I h' r 3 = nI d
theorem c_X14_here {Γ : z_W} {h : z_H} {r n p d A : Nat} {tx : Nat → Int32} (hr : z_Rr h r tx n p d A) : z_C Γ M_X14_here (z_rm 1 0 0) [.ref r] h (z_ri (a_cr tx n p) h) := by
  obtain ⟨r1, r2, r3, r4, r5, r6, r7, r8, r9, r10, r11, r12, r13, r14⟩ := id hr
  have hF := r1
  refine z_C.of (by decide +kernel) rfl [some (.ref r)] (Nat.le_of_ble_eq_true rfl) rfl ?_
  by_cases c : p < n
  · refine z_aload_n dX14_here_0 rfl rfl ?_
    refine z_getI dX14_here_1 fl_X14_26_14 r4 rfl ?_
    refine z_eqi (nI p) r8 ?_
    refine z_aload_n dX14_here_4 rfl rfl ?_
    refine z_getI dX14_here_5 fl_X14_22_14 r4 rfl ?_
    refine z_eqi (nI n) r6 ?_
    refine z_icmp_ge 23 dX14_here_8 (by decide) (fun q => by first | exact absurd q (Int32.not_le.mpr (nI_lt c (by omega))) | exact absurd (Int32.not_le.mpr (nI_lt c (by omega))) q) (fun _ => ?_)
    refine z_aload_n dX14_here_11 rfl rfl ?_
    refine z_getR 22 dX14_here_12 fl_X14_18_14 r4 rfl r5 ?_
    refine z_aload_n dX14_here_15 rfl rfl ?_
    refine z_getI dX14_here_16 fl_X14_26_14 r4 rfl ?_
    refine z_eqi (nI p) r8 ?_
    refine z_bald p dX14_here_19 (hF.1 22 _ rfl) rfl (by omega) (by decide) ?_
    refine z_goto 24 dX14_here_20 (by decide) ?_
    refine z_iret dX14_here_24 rfl rfl (Nat.le_refl _) (Nat.le_refl _) (z_ri_i ?_ ?_)
    · unfold a_cr; rw [if_pos c]; exact r13 p
    · rfl
  · refine z_aload_n dX14_here_0 rfl rfl ?_
    refine z_getI dX14_here_1 fl_X14_26_14 r4 rfl ?_
    refine z_eqi (nI p) r8 ?_
    refine z_aload_n dX14_here_4 rfl rfl ?_
    refine z_getI dX14_here_5 fl_X14_22_14 r4 rfl ?_
    refine z_eqi (nI n) r6 ?_
    refine z_icmp_ge 23 dX14_here_8 (by decide) (fun _ => ?_) (fun q => by first | exact absurd (nI_le (by omega) (by omega)) q | exact absurd q (nI_le (by omega) (by omega)))
    refine z_iconst (v := (-1)) dX14_here_23 rfl ?_
    refine z_iret dX14_here_24 rfl rfl (Nat.le_refl _) (Nat.le_refl _) (z_ri_i ?_ ?_)
    · unfold a_cr; rw [if_neg c]
    · rfl
theorem c_X14_off {Γ : z_W} {h : z_H} {r n p d A : Nat} {tx : Nat → Int32} (hr : z_Rr h r tx n p d A) : z_C Γ M_X14_off (z_rm 3 1 7) [.ref r] h (z_rr (z_n h) (z_off h (nI p))) := by
  obtain ⟨r1, r2, r3, r4, r5, r6, r7, r8, r9, r10, r11, r12, r13, r14⟩ := id hr
  have hF := r1
  have eT : z_T (z_new h (.inr (.float, 0))) r = some (.inl 14) := (if_neg (Nat.ne_of_lt r3)).trans r4
  have eI : z_I (z_new h (.inr (.float, 0))) r 2 = nI p := (if_neg (Nat.ne_of_lt r3)).trans r8
  refine z_C.of (by decide +kernel) rfl [some (.ref r)] (Nat.le_of_ble_eq_true rfl) rfl ?_
  refine z_newOff dX14_off_0 q749 (Nat.le_of_ble_eq_true rfl) (Nat.le_of_ble_eq_true rfl) ?_
  refine z_dup dX14_off_3 rfl ?_
  refine z_aload_n dX14_off_4 rfl rfl ?_
  refine z_getI dX14_off_5 fl_X14_26_14 eT rfl ?_
  refine z_eqi (nI p) eI ?_
  refine z_icall il_X14_31 (c_X15_init hF.2.2) dX14_off_8 rfl rfl ⟨by decide, by decide⟩ (Nat.le_of_ble_eq_true rfl) (Nat.le_of_ble_eq_true rfl) (Nat.le_of_ble_eq_true rfl) (z_cV ?_) z_tV
  refine z_aret dX14_off_11 rfl (Or.inl ⟨_, rfl⟩) (Or.inr ⟨_, rfl⟩) (Nat.le_of_ble_eq_true rfl) (Nat.le_of_ble_eq_true rfl) ?_
  exact ⟨rfl, rfl⟩
theorem z_Rr.sI {h : z_H} {r n p d A k b e : Nat} {tx : Nat → Int32} (hr : z_Rr h r tx n p d A) (v : Int32) (hk : k = 2 ∨ k = 3) : z_T (z_sI h r k v) r = some (.inl 14) := hr.2.2.2.1
theorem c_X14_must_y {Γ : z_W} {h : z_H} {r n p d A : Nat} {tx : Nat → Int32} {c : Int32} (hr : z_Rr h r tx n p d A) (hc : a_cr tx n p = c) : z_C Γ M_X14_must (z_rm 4 0 0) [.ref r, .int c] h (z_rB r (p + 1) d h) := by
  obtain ⟨r1, r2, r3, r4, r5, r6, r7, r8, r9, r10, r11, r12, r13, r14⟩ := id hr
  have hF := r1
  refine z_C.of (by decide +kernel) rfl [some (.ref r), some (.int c)] (Nat.le_of_ble_eq_true rfl) rfl ?_
  refine z_aload_n dX14_must_0 rfl rfl ?_
  refine z_vcall vl_X14_34_14 (c_X14_here hr) dX14_must_1 rfl rfl r4 ⟨by decide, by decide⟩ (Nat.le_of_ble_eq_true rfl) (Nat.le_of_ble_eq_true rfl) (Nat.le_of_ble_eq_true rfl) (z_cI ?_) z_tI
  refine z_iload_n dX14_must_4 rfl rfl ?_
  refine z_icmp_eq 13 dX14_must_5 (by decide) (fun _ => ?_) (fun q => by first | exact absurd hc q | exact absurd q hc)
  refine z_aload_n dX14_must_13 rfl rfl ?_
  refine z_dup dX14_must_14 rfl ?_
  refine z_getI dX14_must_15 fl_X14_26_14 r4 rfl ?_
  refine z_eqi (nI p) r8 ?_
  refine z_iconst (v := 1) dX14_must_18 rfl ?_
  refine z_iadd dX14_must_19 ?_
  refine z_eqi (nI (p + 1)) (nI_succ p).symm ?_
  refine z_putI dX14_must_20 (pl_X14_26_14 rfl) r4 (Nat.le_trans (by decide) r2) rfl ?_
  refine z_vret dX14_must_23 rfl (Nat.le_of_ble_eq_true rfl) (Nat.le_of_ble_eq_true rfl) ?_
  exact ⟨rfl, z_pg.sI r h (Or.inl rfl) _, if_pos ⟨rfl, rfl⟩, (if_neg (fun q => absurd q.2 (by decide))).trans r10⟩
theorem c_X14_must_n {Γ : z_W} {h : z_H} {r n p d A : Nat} {tx : Nat → Int32} {c : Int32} (hr : z_Rr h r tx n p d A) (hc : ¬ a_cr tx n p = c) : z_C Γ M_X14_must (z_rm 4 1 7) [.ref r, .int c] h (z_rT r p h) := by
  obtain ⟨r1, r2, r3, r4, r5, r6, r7, r8, r9, r10, r11, r12, r13, r14⟩ := id hr
  have hF := r1
  refine z_C.of (by decide +kernel) rfl [some (.ref r), some (.int c)] (Nat.le_of_ble_eq_true rfl) rfl ?_
  refine z_aload_n dX14_must_0 rfl rfl ?_
  refine z_vcall vl_X14_34_14 (c_X14_here hr) dX14_must_1 rfl rfl r4 ⟨by decide, by decide⟩ (Nat.le_of_ble_eq_true rfl) (Nat.le_of_ble_eq_true rfl) (Nat.le_of_ble_eq_true rfl) (z_cI ?_) z_tI
  refine z_iload_n dX14_must_4 rfl rfl ?_
  refine z_icmp_eq 13 dX14_must_5 (by decide) (fun q => by first | exact absurd q hc | exact absurd hc q) (fun _ => ?_)
  refine z_aload_n dX14_must_8 rfl rfl ?_
  refine z_vcall vl_X14_38_14 (c_X14_off hr) dX14_must_9 rfl rfl r4 ⟨by decide, by decide⟩ (Nat.le_of_ble_eq_true rfl) (Nat.le_of_ble_eq_true rfl) (Nat.le_of_ble_eq_true rfl) (z_cR ?_) z_tR
  refine z_athrow dX14_must_12 ?_
  exact z_thOut (by decide) (Nat.le_of_ble_eq_true rfl) (Nat.le_of_ble_eq_true rfl) ⟨_, rfl, z_pg.of (z_gr.off h _), z_off_T h _, z_off_I h _⟩
theorem c_X14_deeper_y {Γ : z_W} {h : z_H} {r n p d A : Nat} {tx : Nat → Int32} (hr : z_Rr h r tx n p d A) (hd : d ≠ 4) : z_C Γ M_X14_deeper (z_rm 4 0 0) [.ref r] h (z_rB r (p + 1) (d + 1) h) := by
  obtain ⟨r1, r2, r3, r4, r5, r6, r7, r8, r9, r10, r11, r12, r13, r14⟩ := id hr
  have hF := r1
  have hc : ¬ nI d = 4 := fun q => hd ((nI_eq (a := d) (b := 4) (by omega) (by decide)).mp q)
  refine z_C.of (by decide +kernel) rfl [some (.ref r)] (Nat.le_of_ble_eq_true rfl) rfl ?_
  refine z_aload_n dX14_deeper_0 rfl rfl ?_
  refine z_getI dX14_deeper_1 fl_X14_58_14 r4 rfl ?_
  refine z_eqi (nI d) r10 ?_
  refine z_iconst (v := 4) dX14_deeper_4 rfl ?_
  refine z_icmp_ne 13 dX14_deeper_5 (by decide) (fun _ => ?_) (fun q => by first | exact absurd hc q | exact absurd q hc)
  refine z_aload_n dX14_deeper_13 rfl rfl ?_
  refine z_dup dX14_deeper_14 rfl ?_
  refine z_getI dX14_deeper_15 fl_X14_58_14 r4 rfl ?_
  refine z_eqi (nI d) r10 ?_
  refine z_iconst (v := 1) dX14_deeper_18 rfl ?_
  refine z_iadd dX14_deeper_19 ?_
  refine z_eqi (nI (d + 1)) (nI_succ d).symm ?_
  refine z_putI dX14_deeper_20 (pl_X14_58_14 rfl) r4 (Nat.le_trans (by decide) r2) rfl ?_
  refine z_aload_n dX14_deeper_23 rfl rfl ?_
  refine z_dup dX14_deeper_24 rfl ?_
  refine z_getI dX14_deeper_25 fl_X14_26_14 r4 rfl ?_
  refine z_eqi (nI p) ((if_neg (fun q => absurd q.2 (by decide))).trans r8) ?_
  refine z_iconst (v := 1) dX14_deeper_28 rfl ?_
  refine z_iadd dX14_deeper_29 ?_
  refine z_eqi (nI (p + 1)) (nI_succ p).symm ?_
  refine z_putI dX14_deeper_30 (pl_X14_26_14 rfl) r4 (Nat.le_trans (by decide) r2) rfl ?_
  refine z_vret dX14_deeper_33 rfl (Nat.le_of_ble_eq_true rfl) (Nat.le_of_ble_eq_true rfl) ?_
  exact ⟨rfl, (z_pg.sI r h (Or.inr rfl) _).trans (z_pg.sI r _ (Or.inl rfl) _), if_pos ⟨rfl, rfl⟩, (if_neg (fun q => absurd q.2 (by decide))).trans (if_pos ⟨rfl, rfl⟩)⟩
theorem c_X14_deeper_n {Γ : z_W} {h : z_H} {r n p d A : Nat} {tx : Nat → Int32} (hr : z_Rr h r tx n p d A) (hd : d = 4) : z_C Γ M_X14_deeper (z_rm 4 1 7) [.ref r] h (z_rT r p h) := by
  obtain ⟨r1, r2, r3, r4, r5, r6, r7, r8, r9, r10, r11, r12, r13, r14⟩ := id hr
  have hF := r1
  have hc : nI d = 4 := by rw [hd]; rfl
  refine z_C.of (by decide +kernel) rfl [some (.ref r)] (Nat.le_of_ble_eq_true rfl) rfl ?_
  refine z_aload_n dX14_deeper_0 rfl rfl ?_
  refine z_getI dX14_deeper_1 fl_X14_58_14 r4 rfl ?_
  refine z_eqi (nI d) r10 ?_
  refine z_iconst (v := 4) dX14_deeper_4 rfl ?_
  refine z_icmp_ne 13 dX14_deeper_5 (by decide) (fun q => by first | exact absurd q hc | exact absurd hc q) (fun _ => ?_)
  refine z_aload_n dX14_deeper_8 rfl rfl ?_
  refine z_vcall vl_X14_38_14 (c_X14_off hr) dX14_deeper_9 rfl rfl r4 ⟨by decide, by decide⟩ (Nat.le_of_ble_eq_true rfl) (Nat.le_of_ble_eq_true rfl) (Nat.le_of_ble_eq_true rfl) (z_cR ?_) z_tR
  refine z_athrow dX14_deeper_12 ?_
  exact z_thOut (by decide) (Nat.le_of_ble_eq_true rfl) (Nat.le_of_ble_eq_true rfl) ⟨_, rfl, z_pg.of (z_gr.off h _), z_off_T h _, z_off_I h _⟩
