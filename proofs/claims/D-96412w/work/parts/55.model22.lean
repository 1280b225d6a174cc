/-! THE REFERENCE: reading clauses (printed by model22.py) -/
set_option maxRecDepth 20000
def a_E (tx : Nat → Int32) (n a : Nat) : Nat ⊕ (Nat × List Int32) := a_ps tx n (3 * n + 3) 2 0 a
abbrev z_Rc (c s a k : Nat) : Prop := z_Rd a k ∨ z_Rw s a k ∨ ((57 ≤ a ∧ a ≤ 60) ∧ k = c)
theorem z_Re_c {c s a k : Nat} (h : z_Re c s a k) : z_Rc c s a k := h.elim Or.inl (fun q => q.elim (fun r => Or.inr (Or.inl r)) (fun r => Or.inr (Or.inr ⟨by omega, r.2⟩)))
def z_qE (h : z_H) (c s : Nat) (S : List Int32) (F : Nat → Nat → Int32) : Nat ⊕ (Nat × List Int32) → Outcome → z_H → Prop
  | .inl p => z_rp h 0 (fun F' => F' 49 14 = nI p ∧ z_fm (z_Rc c (s + S.length)) F F')
  | .inr (b, L) => z_rp h 1 (fun F' => F' 49 14 = nI b ∧ F' 49 24 = nI (s + (S ++ L).length) ∧ a_sg (F' 61) s (S ++ L) ∧ F' 57 c = F 57 c ∧ F' 58 c = F 58 c ∧ F' 59 c = nI (s + S.length) ∧ F' 60 c = nI (s + (S ++ L).length) ∧ z_fm (z_Rc c (s + S.length)) F F')
theorem c_X6_takesE {Γ : z_W} {h : z_H} {F : Nat → Nat → Int32} {tx : Nat → Int32} {n a : Nat} {c s : Nat} {S : List Int32} (hF : z_F h) (ht : z_pt tx n F) (hn : a ≤ n) (ha : F 49 14 = nI a) (hc : c < 60) (hs5 : s ≤ 500) (hg : F 49 24 = nI (s + S.length)) (hsg : a_sg (F 61) s S) (hl : S.length ≤ a) : z_C Γ M_X6_takesE (z_rm 5 0 0) [.ref 49, .int (nI c)] (z_ci h F) (z_qE h c s S F (a_E tx n a)) := by
  refine z_C.of (by decide +kernel) rfl [some (.ref 49), some (.int (nI c)), none, none] (Nat.le_of_ble_eq_true rfl) rfl ?_
  refine z_aload_n dX6_takesE_0 rfl rfl ?_
  refine z_iconst (v := 0) dX6_takesE_1 rfl ?_
  refine z_putI dX6_takesE_2 (pl_X6_86_6 rfl) (hF.1 49 _ rfl) (by decide) rfl ?_
  refine z_meq (z_ci h (z_u F 49 25 0)) rfl ?_
  refine z_aload_n dX6_takesE_5 rfl rfl ?_
  refine z_iconst (v := 0) dX6_takesE_6 rfl ?_
  refine z_putI dX6_takesE_7 (pl_X6_89_6 rfl) (hF.1 49 _ rfl) (by decide) rfl ?_
  refine z_meq (z_ci h (z_u (z_u F 49 25 0) 49 26 0)) rfl ?_
  refine z_aload_n dX6_takesE_10 rfl rfl ?_
  refine z_getR 59 dX6_takesE_11 fl_X6_71_6 (hF.1 49 _ rfl) rfl (hF.2.1 49 20 59 rfl) ?_
  refine z_iload_n dX6_takesE_14 rfl rfl ?_
  refine z_aload_n dX6_takesE_15 rfl rfl ?_
  refine z_getI dX6_takesE_16 fl_X6_83_6 (hF.1 49 _ rfl) rfl ?_
  refine z_eqi (nI (s + S.length)) hg ?_
  refine z_iast c dX6_takesE_19 (hF.1 59 _ rfl) (by decide) rfl hc (by decide) ?_
  refine z_meq (z_ci h (z_u (z_u (z_u F 49 25 0) 49 26 0) 59 c (nI (s + S.length)))) rfl ?_
  refine z_iconst (v := 1) dX6_takesE_20 rfl ?_
  refine z_istore_n dX6_takesE_21 rfl (by decide) rfl ?_
  have fin := (lp_X6_takesE (Γ := Γ) (tx := tx) (n := n) (c := c) (s := s) (s1 := s + S.length) (F0 := (z_u (z_u (z_u F 49 25 0) 49 26 0) 59 c (nI (s + S.length)))) hF hc hs5 (n - a + 1) a [] S (z_u (z_u (z_u F 49 25 0) 49 26 0) 59 c (nI (s + S.length))) none ht hn ha ⟨hg, rfl, rfl, trivial, hsg⟩ (by rw [List.length_nil]; omega) (fun d hd => absurd hd (by simp)) (Nat.le_refl _) (z_fm.refl _ _) (by omega)).1
  have hrp := a_run_ps (tx := tx) (n := n) (a := a) (g := n - a + 1) (f := 3 * n + 3) (S := S) (by omega) hn (by omega)
  have hfr : z_fm (z_Rc c (s + S.length)) F (z_u (z_u (z_u F 49 25 0) 49 26 0) 59 c (nI (s + S.length))) := (((z_fm.refl _ _).u (Or.inr (Or.inl (Or.inl ⟨rfl, by decide⟩)))).u (Or.inr (Or.inl (Or.inl ⟨rfl, by decide⟩)))).u (Or.inr (Or.inr ⟨by decide, rfl⟩))
  unfold a_E
  cases e : a_ps tx n (3 * n + 3) 2 0 a with
  | inl p =>
    rw [hrp.1 p e] at fin
    refine fin.mono ?_
    rintro o h' ⟨F', r1, r2, r3, r4⟩
    exact ⟨F', r1, r2, r3, hfr.tr r4 (fun a j q => z_Re_c q)⟩
  | inr y =>
    obtain ⟨b, L⟩ := y
    rw [(hrp.2 b L e).2.2] at fin
    refine fin.mono ?_
    rintro o h' ⟨F', r1, r2, r3, r4, r5, r6, r7⟩
    refine ⟨F', r1, r2, r3, r4, r5, ?_, ?_, ?_, r6, hfr.tr r7 (fun a j q => z_Re_c q)⟩
    · exact r7 57 c (by unfold z_Re z_Rw; omega)
    · exact r7 58 c (by unfold z_Re z_Rw; omega)
    · refine (r7 59 c (by unfold z_Re z_Rw; omega)).trans ?_
      show (if 59 = 59 ∧ c = c then _ else _) = _
      rw [if_pos ⟨rfl, rfl⟩]
def a_wd (tx : Nat → Int32) (n : Nat) : List Int32 → Nat → Nat ⊕ Nat
  | [], a => .inr a
  | c :: ws, a => if a_cr tx n a = c then a_wd tx n ws (a + 1) else .inl a
def a_ltr : List Int32 := [117, 112, 100, 111, 119, 110, 98, 97, 115, 101, 115, 97, 102, 101]
/-- the letters of the words -/
def z_ltr (F : Nat → Nat → Int32) : Prop := ∀ k v, a_ltr[k]? = some v → F 63 k = v
def z_qw (h : z_H) (F : Nat → Nat → Int32) : Nat ⊕ Nat → Outcome → z_H → Prop
  | .inl p => z_rp h 0 (fun F' => F' 49 14 = nI p ∧ z_fm z_Rd F F')
  | .inr b => z_rp h 1 (fun F' => F' 49 14 = nI b ∧ z_fm z_Rd F F')
theorem a_wd_b {tx : Nat → Int32} {n b : Nat} : ∀ (ws : List Int32) (a : Nat), a ≤ n → (∀ c, c ∈ ws → ¬ (-1 : Int32) = c) → a_wd tx n ws a = .inr b → b = a + ws.length ∧ b ≤ n
  | [], a, ha, _, h => by cases h; exact ⟨rfl, ha⟩
  | c :: ws, a, ha, hw, h => by
    unfold a_wd at h
    by_cases q : a_cr tx n a = c
    · rw [if_pos q] at h
      have h1 := a_cr_in q (hw c List.mem_cons_self)
      have := a_wd_b ws (a + 1) h1 (fun d hd => hw d (List.mem_cons_of_mem _ hd)) h
      rw [List.length_cons]
      omega
    · rw [if_neg q] at h; cases h
theorem lp_X6_takesWord {Γ : z_W} {h : z_H} {tx : Nat → Int32} {n fr mn : Nat} {F0 : Nat → Nat → Int32} (hF : z_F h) (hmn : fr + mn ≤ 14) : ∀ (ws : List Int32) (k a : Nat) (F : Nat → Nat → Int32), k + ws.length = mn → (∀ i v, ws[i]? = some v → F 63 (fr + k + i) = v) → (∀ c, c ∈ ws → ¬ (-1 : Int32) = c) → z_pt tx n F → a ≤ n → F 49 14 = nI a → z_fm z_Rd F0 F → z_G Γ M_X6_takesWord (z_rm 3 0 0) (z_qw h F0 (a_wd tx n (ws ++ [32]) a)) 0 0 2 [some (.ref 49), some (.int (nI fr)), some (.int (nI mn)), some (.int (nI k))] [] (z_ci h F) := by
  intro ws
  induction ws with
  | nil =>
    intro k a F hk hws hne ht hn ha hfm
    rw [List.length_nil] at hk
    have hk : k = mn := by omega
    subst hk
    refine z_iload_n dX6_takesWord_2 rfl rfl ?_
    refine z_iload_n dX6_takesWord_3 rfl rfl ?_
    refine z_icmp_ge 30 dX6_takesWord_4 (by decide) (fun _ => ?_) (fun q => by first | exact absurd (Int32.le_refl _) q | exact absurd q (Int32.le_refl _))
    refine z_aload_n dX6_takesWord_30 rfl rfl ?_
    refine z_bipush (v := 32) dX6_takesWord_31 rfl ?_
    by_cases g33 : a_cr tx n a = 32
    · refine z_vcall vl_X6_242_6 (c_X6_takes_y hF ht hn ha g33) dX6_takesWord_33 rfl rfl (hF.1 49 _ rfl) ⟨by decide, by decide⟩ (Nat.le_of_ble_eq_true rfl) (Nat.le_refl _) (Nat.le_refl _) (z_cI ?_) z_tI
      refine z_iret dX6_takesWord_36 rfl rfl (Nat.le_refl _) (Nat.le_refl _) ?_
      show z_qw h F0 (if a_cr tx n a = 32 then .inr (a + 1) else .inl a) _ _
      rw [if_pos g33]
      exact ⟨_, rfl, rfl, rfl, hfm.u ⟨rfl, by decide⟩⟩
    · refine z_vcall vl_X6_242_6 (c_X6_takes_n hF ht hn ha g33) dX6_takesWord_33 rfl rfl (hF.1 49 _ rfl) ⟨by decide, by decide⟩ (Nat.le_of_ble_eq_true rfl) (Nat.le_refl _) (Nat.le_refl _) (z_cI ?_) z_tI
      refine z_iret dX6_takesWord_36 rfl rfl (Nat.le_refl _) (Nat.le_refl _) ?_
      show z_qw h F0 (if a_cr tx n a = 32 then .inr (a + 1) else .inl a) _ _
      rw [if_neg g33]
      exact ⟨_, rfl, rfl, ha, hfm⟩
  | cons c ws ih =>
    intro k a F hk hws hne ht hn ha hfm
    rw [List.length_cons] at hk
    refine z_iload_n dX6_takesWord_2 rfl rfl ?_
    refine z_iload_n dX6_takesWord_3 rfl rfl ?_
    refine z_icmp_ge 30 dX6_takesWord_4 (by decide) (fun q => by first | exact absurd q (nI_ge (show k < mn by omega) (by omega)) | exact absurd (nI_ge (show k < mn by omega) (by omega)) q) (fun _ => ?_)
    refine z_aload_n dX6_takesWord_7 rfl rfl ?_
    refine z_aload_n dX6_takesWord_8 rfl rfl ?_
    refine z_getR 63 dX6_takesWord_9 fl_X6_92_6 (hF.1 49 _ rfl) rfl (hF.2.1 49 27 63 rfl) ?_
    refine z_iload_n dX6_takesWord_12 rfl rfl ?_
    refine z_iload_n dX6_takesWord_13 rfl rfl ?_
    refine z_iadd dX6_takesWord_14 ?_
    refine z_iald (fr + k) dX6_takesWord_15 (hF.1 63 _ rfl) (nI_add _ _) (by omega) (by decide) ?_
    refine z_eqi (c) (by have := hws 0 c rfl; exact this) ?_
    by_cases g16 : a_cr tx n a = c
    · refine z_vcall vl_X6_242_6 (c_X6_takes_y hF ht hn ha g16) dX6_takesWord_16 rfl rfl (hF.1 49 _ rfl) ⟨by decide, by decide⟩ (Nat.le_of_ble_eq_true rfl) (Nat.le_refl _) (Nat.le_refl _) (z_cI ?_) z_tI
      refine z_if_ne 24 dX6_takesWord_19 (by decide) (fun _ => ?_) (fun q => absurd q (by decide))
      refine z_iinc (v := nI (k + 1)) dX6_takesWord_24 rfl (nI_succ _).symm (by decide) rfl ?_
      refine z_goto 2 dX6_takesWord_27 (by decide) ?_
      have han := a_cr_in g16 (hne c List.mem_cons_self)
      show z_G _ _ _ (z_qw h F0 (if a_cr tx n a = c then a_wd tx n (ws ++ [32]) (a + 1) else .inl a)) _ _ _ _ _ _
      rw [if_pos g16]
      exact ih (k + 1) (a + 1) (z_u F 49 14 (nI (a + 1))) (by omega) (fun i v hi => by rw [show fr + (k + 1) + i = fr + k + (i + 1) by omega]; exact hws (i + 1) v (by rw [List.getElem?_cons_succ]; exact hi)) (fun d hd => hne d (List.mem_cons_of_mem _ hd)) ht (by omega) rfl (hfm.u ⟨rfl, by decide⟩)
    · refine z_vcall vl_X6_242_6 (c_X6_takes_n hF ht hn ha g16) dX6_takesWord_16 rfl rfl (hF.1 49 _ rfl) ⟨by decide, by decide⟩ (Nat.le_of_ble_eq_true rfl) (Nat.le_refl _) (Nat.le_refl _) (z_cI ?_) z_tI
      refine z_if_ne 24 dX6_takesWord_19 (by decide) (fun q => absurd q (by decide)) (fun _ => ?_)
      refine z_iconst (v := 0) dX6_takesWord_22 rfl ?_
      refine z_iret dX6_takesWord_23 rfl rfl (Nat.le_refl _) (Nat.le_refl _) ?_
      show z_qw h F0 (if a_cr tx n a = c then a_wd tx n (ws ++ [32]) (a + 1) else .inl a) _ _
      rw [if_neg g16]
      exact ⟨_, rfl, rfl, ha, hfm⟩
theorem c_X6_takesWord {Γ : z_W} {h : z_H} {F : Nat → Nat → Int32} {tx : Nat → Int32} {n a : Nat} {fr mn : Nat} {ws : List Int32} (hF : z_F h) (ht : z_pt tx n F) (hn : a ≤ n) (ha : F 49 14 = nI a) (hmn : fr + mn ≤ 14) (hw : ws.length = mn) (hws : ∀ i v, ws[i]? = some v → F 63 (fr + i) = v) (hne : ∀ c, c ∈ ws → ¬ (-1 : Int32) = c) : z_C Γ M_X6_takesWord (z_rm 3 0 0) [.ref 49, .int (nI fr), .int (nI mn)] (z_ci h F) (z_qw h F (a_wd tx n (ws ++ [32]) a)) := by
  refine z_C.of (by decide +kernel) rfl [some (.ref 49), some (.int (nI fr)), some (.int (nI mn)), none] (Nat.le_of_ble_eq_true rfl) rfl ?_
  refine z_iconst (v := 0) dX6_takesWord_0 rfl ?_
  refine z_istore_n dX6_takesWord_1 rfl (by decide) rfl ?_
  exact lp_X6_takesWord hF hmn ws 0 a F (by omega) hws hne ht hn ha (z_fm.refl _ _)
def a_hw (c : Int32) : Int32 := if c = 98 then 2 else if c = 100 then 1 else if c = 117 then 0 else 3
def a_hl (c : Int32) : List Int32 := if c = 98 then [98, 97, 115, 101, 32] else if c = 100 then [100, 111, 119, 110, 32] else if c = 117 then [117, 112, 32] else [115, 97, 102, 101, 32]
def z_qh (h : z_H) (c : Nat) (w : Int32) (F : Nat → Nat → Int32) : Nat ⊕ Nat → Outcome → z_H → Prop
  | .inl p => z_rp h 0 (fun F' => F' 49 14 = nI p ∧ z_fm (fun a k => z_Rd a k ∨ (a = 57 ∧ k = c)) F F')
  | .inr b => z_rp h 1 (fun F' => F' 49 14 = nI b ∧ F' 57 c = w ∧ z_fm (fun a k => z_Rd a k ∨ (a = 57 ∧ k = c)) F F')
theorem z_qw_h {h : z_H} {c : Nat} {w : Int32} {F : Nat → Nat → Int32} : ∀ {x : Nat ⊕ Nat} o h', z_qw h (z_u F 57 c w) x o h' → z_qh h c w F x o h'
  | .inl p, o, h', ⟨F', r1, r2, r3, r4⟩ => ⟨F', r1, r2, r3, z_fm.tr ((z_fm.refl _ _).u (Or.inr ⟨rfl, rfl⟩)) r4 (fun a j q => Or.inl q)⟩
  | .inr b, o, h', ⟨F', r1, r2, r3, r4⟩ => ⟨F', r1, r2, r3, (r4 57 c (fun q => absurd q.1 (by decide))).trans (by show (if 57 = 57 ∧ c = c then _ else _) = _; rw [if_pos ⟨rfl, rfl⟩]), z_fm.tr ((z_fm.refl _ _).u (Or.inr ⟨rfl, rfl⟩)) r4 (fun a j q => Or.inl q)⟩
theorem c_X6_takesHead {Γ : z_W} {h : z_H} {F : Nat → Nat → Int32} {tx : Nat → Int32} {n a : Nat} {c : Nat} (hF : z_F h) (ht : z_pt tx n F) (hn : a ≤ n) (ha : F 49 14 = nI a) (hc : c < 60) (hlt : z_ltr F) : z_C Γ M_X6_takesHead (z_rm 4 0 0) [.ref 49, .int (nI c)] (z_ci h F) (z_qh h c (a_hw (a_cr tx n a)) F (a_wd tx n (a_hl (a_cr tx n a)) a)) := by
  refine z_C.of (by decide +kernel) rfl [some (.ref 49), some (.int (nI c))] (Nat.le_of_ble_eq_true rfl) rfl ?_
  refine z_aload_n dX6_takesHead_0 rfl rfl ?_
  refine z_vcall vl_X6_238_6 (c_X6_peek hF ht hn ha) dX6_takesHead_1 rfl rfl (hF.1 49 _ rfl) ⟨by decide, by decide⟩ (Nat.le_of_ble_eq_true rfl) (Nat.le_refl _) (Nat.le_refl _) (z_cI ?_) z_tI
  by_cases e4_0 : (a_cr tx n a) = 98
  · refine z_lookup 68 dX6_takesHead_4 (by decide) (by rw [e4_0]; try rfl) (by decide) ?_
    refine z_aload_n dX6_takesHead_68 rfl rfl ?_
    refine z_getR 57 dX6_takesHead_69 fl_X6_65_6 (hF.1 49 _ rfl) rfl (hF.2.1 49 18 57 rfl) ?_
    refine z_iload_n dX6_takesHead_72 rfl rfl ?_
    refine z_iconst (v := 2) dX6_takesHead_73 rfl ?_
    refine z_iast c dX6_takesHead_74 (hF.1 57 _ rfl) (by decide) rfl hc (by decide) ?_
    refine z_meq (z_ci h (z_u F 57 c 2)) rfl ?_
    refine z_aload_n dX6_takesHead_75 rfl rfl ?_
    refine z_bipush (v := 6) dX6_takesHead_76 rfl ?_
    refine z_iconst (v := 4) dX6_takesHead_78 rfl ?_
    rw [show a_hw (a_cr tx n a) = 2 by unfold a_hw; rw [if_pos (show (a_cr tx n a) = 98 from e4_0)], show a_hl (a_cr tx n a) = [98, 97, 115, 101] ++ [32] by unfold a_hl; rw [if_pos (show (a_cr tx n a) = 98 from e4_0)]; rfl]
    have hC : ∀ x, a_wd tx n ([98, 97, 115, 101] ++ [32]) a = x → z_C Γ M_X6_takesWord (z_rm 3 0 0) [.ref 49, .int 6, .int 4] (z_ci h (z_u F 57 c 2)) (z_qw h (z_u F 57 c 2) x) := fun x e => by rw [← e]; exact (c_X6_takesWord (ws := [98, 97, 115, 101]) (fr := 6) (mn := 4) hF ht hn ha (by decide) rfl (fun i v hi => hlt (6 + i) v (by match i, hi with | 0, hi => exact hi | 1, hi => exact hi | 2, hi => exact hi | 3, hi => exact hi | i + 4, hi => simp at hi)) (by decide))
    generalize a_wd tx n ([98, 97, 115, 101] ++ [32]) a = x at hC ⊢
    cases x with
    | inl p =>
      refine z_vcall vl_X6_269_6 (hC _ rfl) dX6_takesHead_79 rfl rfl (hF.1 49 _ rfl) ⟨by decide, by decide⟩ (Nat.le_of_ble_eq_true rfl) (Nat.le_refl _) (Nat.le_refl _) (z_cJ (fun F79 q79 => ?_)) z_tJ
      refine z_iret dX6_takesHead_82 rfl rfl (Nat.le_refl _) (Nat.le_refl _) (z_qw_h _ _ ?_)
      exact ⟨_, rfl, rfl, q79⟩
    | inr b =>
      refine z_vcall vl_X6_269_6 (hC _ rfl) dX6_takesHead_79 rfl rfl (hF.1 49 _ rfl) ⟨by decide, by decide⟩ (Nat.le_of_ble_eq_true rfl) (Nat.le_refl _) (Nat.le_refl _) (z_cJ (fun F79 q79 => ?_)) z_tJ
      refine z_iret dX6_takesHead_82 rfl rfl (Nat.le_refl _) (Nat.le_refl _) (z_qw_h _ _ ?_)
      exact ⟨_, rfl, rfl, q79⟩
  by_cases e4_1 : (a_cr tx n a) = 100
  · refine z_lookup 54 dX6_takesHead_4 (by decide) (by rw [e4_1]; try rfl) (by decide) ?_
    refine z_aload_n dX6_takesHead_54 rfl rfl ?_
    refine z_getR 57 dX6_takesHead_55 fl_X6_65_6 (hF.1 49 _ rfl) rfl (hF.2.1 49 18 57 rfl) ?_
    refine z_iload_n dX6_takesHead_58 rfl rfl ?_
    refine z_iconst (v := 1) dX6_takesHead_59 rfl ?_
    refine z_iast c dX6_takesHead_60 (hF.1 57 _ rfl) (by decide) rfl hc (by decide) ?_
    refine z_meq (z_ci h (z_u F 57 c 1)) rfl ?_
    refine z_aload_n dX6_takesHead_61 rfl rfl ?_
    refine z_iconst (v := 2) dX6_takesHead_62 rfl ?_
    refine z_iconst (v := 4) dX6_takesHead_63 rfl ?_
    rw [show a_hw (a_cr tx n a) = 1 by unfold a_hw; rw [if_neg (show ¬ ((a_cr tx n a) = 98) from e4_0), if_pos (show (a_cr tx n a) = 100 from e4_1)], show a_hl (a_cr tx n a) = [100, 111, 119, 110] ++ [32] by unfold a_hl; rw [if_neg (show ¬ ((a_cr tx n a) = 98) from e4_0), if_pos (show (a_cr tx n a) = 100 from e4_1)]; rfl]
    have hC : ∀ x, a_wd tx n ([100, 111, 119, 110] ++ [32]) a = x → z_C Γ M_X6_takesWord (z_rm 3 0 0) [.ref 49, .int 2, .int 4] (z_ci h (z_u F 57 c 1)) (z_qw h (z_u F 57 c 1) x) := fun x e => by rw [← e]; exact (c_X6_takesWord (ws := [100, 111, 119, 110]) (fr := 2) (mn := 4) hF ht hn ha (by decide) rfl (fun i v hi => hlt (2 + i) v (by match i, hi with | 0, hi => exact hi | 1, hi => exact hi | 2, hi => exact hi | 3, hi => exact hi | i + 4, hi => simp at hi)) (by decide))
    generalize a_wd tx n ([100, 111, 119, 110] ++ [32]) a = x at hC ⊢
    cases x with
    | inl p =>
      refine z_vcall vl_X6_269_6 (hC _ rfl) dX6_takesHead_64 rfl rfl (hF.1 49 _ rfl) ⟨by decide, by decide⟩ (Nat.le_of_ble_eq_true rfl) (Nat.le_refl _) (Nat.le_refl _) (z_cJ (fun F64 q64 => ?_)) z_tJ
      refine z_iret dX6_takesHead_67 rfl rfl (Nat.le_refl _) (Nat.le_refl _) (z_qw_h _ _ ?_)
      exact ⟨_, rfl, rfl, q64⟩
    | inr b =>
      refine z_vcall vl_X6_269_6 (hC _ rfl) dX6_takesHead_64 rfl rfl (hF.1 49 _ rfl) ⟨by decide, by decide⟩ (Nat.le_of_ble_eq_true rfl) (Nat.le_refl _) (Nat.le_refl _) (z_cJ (fun F64 q64 => ?_)) z_tJ
      refine z_iret dX6_takesHead_67 rfl rfl (Nat.le_refl _) (Nat.le_refl _) (z_qw_h _ _ ?_)
      exact ⟨_, rfl, rfl, q64⟩
  by_cases e4_2 : (a_cr tx n a) = 117
  · refine z_lookup 40 dX6_takesHead_4 (by decide) (by rw [e4_2]; try rfl) (by decide) ?_
    refine z_aload_n dX6_takesHead_40 rfl rfl ?_
    refine z_getR 57 dX6_takesHead_41 fl_X6_65_6 (hF.1 49 _ rfl) rfl (hF.2.1 49 18 57 rfl) ?_
    refine z_iload_n dX6_takesHead_44 rfl rfl ?_
    refine z_iconst (v := 0) dX6_takesHead_45 rfl ?_
    refine z_iast c dX6_takesHead_46 (hF.1 57 _ rfl) (by decide) rfl hc (by decide) ?_
    refine z_meq (z_ci h (z_u F 57 c 0)) rfl ?_
    refine z_aload_n dX6_takesHead_47 rfl rfl ?_
    refine z_iconst (v := 0) dX6_takesHead_48 rfl ?_
    refine z_iconst (v := 2) dX6_takesHead_49 rfl ?_
    rw [show a_hw (a_cr tx n a) = 0 by unfold a_hw; rw [if_neg (show ¬ ((a_cr tx n a) = 98) from e4_0), if_neg (show ¬ ((a_cr tx n a) = 100) from e4_1), if_pos (show (a_cr tx n a) = 117 from e4_2)], show a_hl (a_cr tx n a) = [117, 112] ++ [32] by unfold a_hl; rw [if_neg (show ¬ ((a_cr tx n a) = 98) from e4_0), if_neg (show ¬ ((a_cr tx n a) = 100) from e4_1), if_pos (show (a_cr tx n a) = 117 from e4_2)]; rfl]
    have hC : ∀ x, a_wd tx n ([117, 112] ++ [32]) a = x → z_C Γ M_X6_takesWord (z_rm 3 0 0) [.ref 49, .int 0, .int 2] (z_ci h (z_u F 57 c 0)) (z_qw h (z_u F 57 c 0) x) := fun x e => by rw [← e]; exact (c_X6_takesWord (ws := [117, 112]) (fr := 0) (mn := 2) hF ht hn ha (by decide) rfl (fun i v hi => hlt (0 + i) v (by match i, hi with | 0, hi => exact hi | 1, hi => exact hi | i + 2, hi => simp at hi)) (by decide))
    generalize a_wd tx n ([117, 112] ++ [32]) a = x at hC ⊢
    cases x with
    | inl p =>
      refine z_vcall vl_X6_269_6 (hC _ rfl) dX6_takesHead_50 rfl rfl (hF.1 49 _ rfl) ⟨by decide, by decide⟩ (Nat.le_of_ble_eq_true rfl) (Nat.le_refl _) (Nat.le_refl _) (z_cJ (fun F50 q50 => ?_)) z_tJ
      refine z_iret dX6_takesHead_53 rfl rfl (Nat.le_refl _) (Nat.le_refl _) (z_qw_h _ _ ?_)
      exact ⟨_, rfl, rfl, q50⟩
    | inr b =>
      refine z_vcall vl_X6_269_6 (hC _ rfl) dX6_takesHead_50 rfl rfl (hF.1 49 _ rfl) ⟨by decide, by decide⟩ (Nat.le_of_ble_eq_true rfl) (Nat.le_refl _) (Nat.le_refl _) (z_cJ (fun F50 q50 => ?_)) z_tJ
      refine z_iret dX6_takesHead_53 rfl rfl (Nat.le_refl _) (Nat.le_refl _) (z_qw_h _ _ ?_)
      exact ⟨_, rfl, rfl, q50⟩
  refine z_lookup (off := 79) 83 dX6_takesHead_4 (by decide) (((if_neg (z_lkn (v := 98) rfl e4_0)).trans (if_neg (z_lkn (v := 100) rfl e4_1))).trans (if_neg (z_lkn (v := 117) rfl e4_2))) (by decide) ?_
  refine z_aload_n dX6_takesHead_83 rfl rfl ?_
  refine z_getR 57 dX6_takesHead_84 fl_X6_65_6 (hF.1 49 _ rfl) rfl (hF.2.1 49 18 57 rfl) ?_
  refine z_iload_n dX6_takesHead_87 rfl rfl ?_
  refine z_iconst (v := 3) dX6_takesHead_88 rfl ?_
  refine z_iast c dX6_takesHead_89 (hF.1 57 _ rfl) (by decide) rfl hc (by decide) ?_
  refine z_meq (z_ci h (z_u F 57 c 3)) rfl ?_
  refine z_aload_n dX6_takesHead_90 rfl rfl ?_
  refine z_bipush (v := 10) dX6_takesHead_91 rfl ?_
  refine z_iconst (v := 4) dX6_takesHead_93 rfl ?_
  rw [show a_hw (a_cr tx n a) = 3 by unfold a_hw; rw [if_neg (show ¬ ((a_cr tx n a) = 98) from e4_0), if_neg (show ¬ ((a_cr tx n a) = 100) from e4_1), if_neg (show ¬ ((a_cr tx n a) = 117) from e4_2)], show a_hl (a_cr tx n a) = [115, 97, 102, 101] ++ [32] by unfold a_hl; rw [if_neg (show ¬ ((a_cr tx n a) = 98) from e4_0), if_neg (show ¬ ((a_cr tx n a) = 100) from e4_1), if_neg (show ¬ ((a_cr tx n a) = 117) from e4_2)]; rfl]
  have hC : ∀ x, a_wd tx n ([115, 97, 102, 101] ++ [32]) a = x → z_C Γ M_X6_takesWord (z_rm 3 0 0) [.ref 49, .int 10, .int 4] (z_ci h (z_u F 57 c 3)) (z_qw h (z_u F 57 c 3) x) := fun x e => by rw [← e]; exact (c_X6_takesWord (ws := [115, 97, 102, 101]) (fr := 10) (mn := 4) hF ht hn ha (by decide) rfl (fun i v hi => hlt (10 + i) v (by match i, hi with | 0, hi => exact hi | 1, hi => exact hi | 2, hi => exact hi | 3, hi => exact hi | i + 4, hi => simp at hi)) (by decide))
  generalize a_wd tx n ([115, 97, 102, 101] ++ [32]) a = x at hC ⊢
  cases x with
  | inl p =>
    refine z_vcall vl_X6_269_6 (hC _ rfl) dX6_takesHead_94 rfl rfl (hF.1 49 _ rfl) ⟨by decide, by decide⟩ (Nat.le_of_ble_eq_true rfl) (Nat.le_refl _) (Nat.le_refl _) (z_cJ (fun F94 q94 => ?_)) z_tJ
    refine z_iret dX6_takesHead_97 rfl rfl (Nat.le_refl _) (Nat.le_refl _) (z_qw_h _ _ ?_)
    exact ⟨_, rfl, rfl, q94⟩
  | inr b =>
    refine z_vcall vl_X6_269_6 (hC _ rfl) dX6_takesHead_94 rfl rfl (hF.1 49 _ rfl) ⟨by decide, by decide⟩ (Nat.le_of_ble_eq_true rfl) (Nat.le_refl _) (Nat.le_refl _) (z_cJ (fun F94 q94 => ?_)) z_tJ
    refine z_iret dX6_takesHead_97 rfl rfl (Nat.le_refl _) (Nat.le_refl _) (z_qw_h _ _ ?_)
    exact ⟨_, rfl, rfl, q94⟩
