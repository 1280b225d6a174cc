/-! THE REFERENCE: reading an air, small methods (printed by model18.py) -/
set_option maxRecDepth 20000
def z_rp (h : z_H) (r : Int32) (P : (Nat → Nat → Int32) → Prop) : Outcome → z_H → Prop := fun o h' => ∃ F, o = .returned (some (.int r)) ∧ h' = z_ci h F ∧ P F
def z_rpv (h : z_H) (P : (Nat → Nat → Int32) → Prop) : Outcome → z_H → Prop := fun o h' => ∃ F, o = .returned none ∧ h' = z_ci h F ∧ P F
section ZRP
variable {Γ : z_W} {M : z_M} {rm : Room} {Q : Outcome → z_H → Prop} {cs ss pc : Nat} {ls : List (Option Value)} {st rest : List Value} {h : z_H} {P : (Nat → Nat → Int32) → Prop}
theorem z_rp_i {r v : Int32} {F : Nat → Nat → Int32} (e : v = r) (k : P F) : z_rp h r P (.returned (some (.int v))) (z_ci h F) := ⟨F, by rw [e], rfl, k⟩
theorem z_rpv_i {F : Nat → Nat → Int32} (k : P F) : z_rpv h P (.returned none) (z_ci h F) := ⟨F, rfl, rfl, k⟩
theorem z_cJ {r : Int32} (kk : ∀ F, P F → z_G Γ M rm Q cs ss pc ls (.int r :: rest) (z_ci h F)) : ∀ v h', z_rp h r P (.returned v) h' → z_G Γ M rm Q cs ss pc ls (v.toList ++ rest) h' := by
  intro v h' q
  obtain ⟨F, q1, rfl, q2⟩ := q
  cases q1
  exact kk F q2
theorem z_cJV (kk : ∀ F, P F → z_G Γ M rm Q cs ss pc ls rest (z_ci h F)) : ∀ v h', z_rpv h P (.returned v) h' → z_G Γ M rm Q cs ss pc ls (v.toList ++ rest) h' := by
  intro v h' q
  obtain ⟨F, q1, rfl, q2⟩ := q
  cases q1
  exact kk F q2
theorem z_tJ {r : Int32} {P' : Nat → z_H → Prop} : ∀ x h', z_rp h r P (.threw x) h' → P' x h' := fun x h' q => by obtain ⟨s, q1, -⟩ := q; cases q1
theorem z_tJV {P' : Nat → z_H → Prop} : ∀ x h', z_rpv h P (.threw x) h' → P' x h' := fun x h' q => by obtain ⟨s, q1, -⟩ := q; cases q1
end ZRP
/-- the text that is fed -/
def z_pt (tx : Nat → Int32) (n : Nat) (F : Nat → Nat → Int32) : Prop := F 49 13 = nI n ∧ n ≤ 100 ∧ ∀ k, F 55 k = tx k
/-- only there it may have changed -/
def z_fm (R : Nat → Nat → Prop) (F F' : Nat → Nat → Int32) : Prop := ∀ a k, ¬ R a k → F' a k = F a k
abbrev z_Rd (a k : Nat) : Prop := a = 49 ∧ (k = 14 ∨ k = 15)
abbrev z_Rw (s a k : Nat) : Prop := (a = 49 ∧ (k = 24 ∨ k = 25 ∨ k = 26)) ∨ a = 62 ∨ (a = 61 ∧ s ≤ k)
theorem z_fm.refl (R : Nat → Nat → Prop) (F : Nat → Nat → Int32) : z_fm R F F := fun _ _ _ => rfl
theorem z_fm.u {R : Nat → Nat → Prop} {F F' : Nat → Nat → Int32} {b j : Nat} {v : Int32} (h : z_fm R F F') (hb : R b j) : z_fm R F (z_u F' b j v) := by
  intro a k hn
  show (if a = b ∧ k = j then v else F' a k) = _
  rw [if_neg (fun q => hn (by rw [q.1, q.2]; exact hb))]
  exact h a k hn
theorem z_fm.tr {R R' : Nat → Nat → Prop} {F G H : Nat → Nat → Int32} (h : z_fm R F G) (k : z_fm R' G H) (hR : ∀ a j, R' a j → R a j) : z_fm R F H := fun a j hn => (k a j (fun q => hn (hR a j q))).trans (h a j hn)
theorem z_fm.le {R R' : Nat → Nat → Prop} {F G : Nat → Nat → Int32} (h : z_fm R F G) (hR : ∀ a j, R a j → R' a j) : z_fm R' F G := fun a j hn => h a j (fun q => hn (hR a j q))
def a_lay (f : Nat → Int32) : List Int32 → Prop
  | [] => True
  | c :: V => f V.length = c ∧ a_lay f V
theorem a_lay_e {f g : Nat → Int32} : ∀ W : List Int32, (∀ j, j < W.length → g j = f j) → a_lay f W → a_lay g W
  | [], _, _ => trivial
  | c :: V, h, k => by
    rw [List.length_cons] at h
    exact ⟨by rw [h V.length (by omega)]; exact k.1, a_lay_e V (fun j hj => h j (by omega)) k.2⟩
def a_sg (f : Nat → Int32) (s : Nat) (S : List Int32) : Prop := ∀ i v, S[i]? = some v → f (s + i) = v
theorem a_sg_p {f g : Nat → Int32} {s : Nat} {S : List Int32} {v : Int32} (h : a_sg f s S) (h1 : g (s + S.length) = v) (h2 : ∀ j, j < s + S.length → g j = f j) : a_sg g s (S ++ [v]) := by
  intro i w hi
  by_cases c : i < S.length
  · rw [List.getElem?_append_left c] at hi
    rw [h2 _ (by omega)]
    exact h i w hi
  · rw [List.getElem?_append_right (by omega)] at hi
    by_cases e : i - S.length = 0
    · rw [e] at hi
      have : w = v := by simpa using hi.symm
      rw [this, show i = S.length by omega]
      exact h1
    · rw [List.getElem?_eq_none (by simp; omega)] at hi
      cases hi
theorem a_sg_e {f g : Nat → Int32} {s : Nat} {S : List Int32} (h : a_sg f s S) (h2 : ∀ j, j < s + S.length → g j = f j) : a_sg g s S := by
  intro i w hi
  have := (List.getElem?_eq_some_iff.mp hi).1
  rw [h2 _ (by omega)]
  exact h i w hi
/-- the pile and the signs -/
def z_pw (s : Nat) (F : Nat → Nat → Int32) (W S : List Int32) : Prop := F 49 24 = nI (s + S.length) ∧ F 49 25 = nI W.length ∧ F 49 26 = nI (a_op W) ∧ a_lay (F 62) W ∧ a_sg (F 61) s S
theorem a_wo_len : ∀ (W S : List Int32), (a_wo W S).1.length + (a_wo W S).2.length = W.length + S.length
  | [], S => rfl
  | c :: W, S => by
    unfold a_wo
    split
    · rw [a_wo_len W, List.length_append, List.length_cons, List.length_cons, List.length_nil]; omega
    · rfl
theorem a_sl_len {b : Int32} : ∀ (W S : List Int32), (a_sl b W S).1.length + (a_sl b W S).2.length = W.length + S.length
  | [], S => rfl
  | c :: W, S => by
    unfold a_sl
    split
    · rw [a_sl_len W, List.length_append, List.length_cons, List.length_cons, List.length_nil]; omega
    · split
      · split
        · rfl
        · rw [a_sl_len W, List.length_append, List.length_cons, List.length_cons, List.length_nil]; omega
      · rfl
theorem c_X6_peek {Γ : z_W} {h : z_H} {F : Nat → Nat → Int32} {tx : Nat → Int32} {n a : Nat} (hF : z_F h) (ht : z_pt tx n F) (hn : a ≤ n) (ha : F 49 14 = nI a) : z_C Γ M_X6_peek (z_rm 1 0 0) [.ref 49] (z_ci h F) (z_ri (a_cr tx n a) (z_ci h F)) := by
  refine z_C.of (by decide +kernel) rfl [some (.ref 49)] (Nat.le_of_ble_eq_true rfl) rfl ?_
  refine z_aload_n dX6_peek_0 rfl rfl ?_
  refine z_getI dX6_peek_1 fl_X6_53_6 (hF.1 49 _ rfl) rfl ?_
  refine z_eqi (nI a) ha ?_
  refine z_aload_n dX6_peek_4 rfl rfl ?_
  refine z_getI dX6_peek_5 fl_X6_50_6 (hF.1 49 _ rfl) rfl ?_
  refine z_eqi (nI n) ht.1 ?_
  refine z_icmp_ge 23 dX6_peek_8 (by decide) (fun c8 => ?_) (fun c8 => ?_)
  · have c8' : ¬ a < n := fun q => nI_ge q (by have := ht.2.1; omega) c8
    refine z_iconst (v := (-1)) dX6_peek_23 rfl ?_
    refine z_iret dX6_peek_24 rfl rfl (Nat.le_refl _) (Nat.le_refl _) (z_ri_i ?_ ?_)
    · unfold a_cr; rw [if_neg c8']
    · rfl
  · have c8' : a < n := Decidable.byContradiction fun q => c8 (nI_le (by omega) (by have := ht.2.1; omega))
    refine z_aload_n dX6_peek_11 rfl rfl ?_
    refine z_getR 55 dX6_peek_12 fl_X6_59_6 (hF.1 49 _ rfl) rfl (hF.2.1 49 16 55 rfl) ?_
    refine z_aload_n dX6_peek_15 rfl rfl ?_
    refine z_getI dX6_peek_16 fl_X6_53_6 (hF.1 49 _ rfl) rfl ?_
    refine z_eqi (nI a) ha ?_
    refine z_iald a dX6_peek_19 (hF.1 55 _ rfl) rfl (by have := ht.2.1; omega) (by decide) ?_
    refine z_eqi (tx a) (ht.2.2 a) ?_
    refine z_goto 24 dX6_peek_20 (by decide) ?_
    refine z_iret dX6_peek_24 rfl rfl (Nat.le_refl _) (Nat.le_refl _) (z_ri_i ?_ ?_)
    · unfold a_cr; rw [if_pos c8']
    · rfl
theorem c_X6_takes_y {Γ : z_W} {h : z_H} {F : Nat → Nat → Int32} {tx : Nat → Int32} {n a : Nat} {c : Int32} (hF : z_F h) (ht : z_pt tx n F) (hn : a ≤ n) (ha : F 49 14 = nI a) (hc : a_cr tx n a = c) : z_C Γ M_X6_takes (z_rm 2 0 0) [.ref 49, .int c] (z_ci h F) (z_ri 1 (z_ci h (z_u F 49 14 (nI (a + 1))))) := by
  refine z_C.of (by decide +kernel) rfl [some (.ref 49), some (.int c)] (Nat.le_of_ble_eq_true rfl) rfl ?_
  refine z_aload_n dX6_takes_0 rfl rfl ?_
  refine z_vcall vl_X6_238_6 (c_X6_peek hF ht hn ha) dX6_takes_1 rfl rfl (hF.1 49 _ rfl) ⟨by decide, by decide⟩ (Nat.le_of_ble_eq_true rfl) (Nat.le_refl _) (Nat.le_refl _) (z_cI ?_) z_tI
  refine z_iload_n dX6_takes_4 rfl rfl ?_
  refine z_icmp_eq 10 dX6_takes_5 (by decide) (fun _ => ?_) (fun q => by first | exact absurd hc q | exact absurd q hc)
  refine z_aload_n dX6_takes_10 rfl rfl ?_
  refine z_dup dX6_takes_11 rfl ?_
  refine z_getI dX6_takes_12 fl_X6_53_6 (hF.1 49 _ rfl) rfl ?_
  refine z_eqi (nI a) ha ?_
  refine z_iconst (v := 1) dX6_takes_15 rfl ?_
  refine z_iadd dX6_takes_16 ?_
  refine z_eqi (nI (a + 1)) (nI_succ _).symm ?_
  refine z_putI dX6_takes_17 (pl_X6_53_6 rfl) (hF.1 49 _ rfl) (by decide) rfl ?_
  refine z_meq (z_ci h (z_u F 49 14 (nI (a + 1)))) rfl ?_
  refine z_iconst (v := 1) dX6_takes_20 rfl ?_
  refine z_iret dX6_takes_21 rfl rfl (Nat.le_refl _) (Nat.le_refl _) (z_ri_i ?_ ?_)
  · rfl
  · rfl
theorem c_X6_takes_n {Γ : z_W} {h : z_H} {F : Nat → Nat → Int32} {tx : Nat → Int32} {n a : Nat} {c : Int32} (hF : z_F h) (ht : z_pt tx n F) (hn : a ≤ n) (ha : F 49 14 = nI a) (hc : ¬ a_cr tx n a = c) : z_C Γ M_X6_takes (z_rm 2 0 0) [.ref 49, .int c] (z_ci h F) (z_ri 0 (z_ci h F)) := by
  refine z_C.of (by decide +kernel) rfl [some (.ref 49), some (.int c)] (Nat.le_of_ble_eq_true rfl) rfl ?_
  refine z_aload_n dX6_takes_0 rfl rfl ?_
  refine z_vcall vl_X6_238_6 (c_X6_peek hF ht hn ha) dX6_takes_1 rfl rfl (hF.1 49 _ rfl) ⟨by decide, by decide⟩ (Nat.le_of_ble_eq_true rfl) (Nat.le_refl _) (Nat.le_refl _) (z_cI ?_) z_tI
  refine z_iload_n dX6_takes_4 rfl rfl ?_
  refine z_icmp_eq 10 dX6_takes_5 (by decide) (fun q => by first | exact absurd q hc | exact absurd hc q) (fun _ => ?_)
  refine z_iconst (v := 0) dX6_takes_8 rfl ?_
  refine z_iret dX6_takes_9 rfl rfl (Nat.le_refl _) (Nat.le_refl _) (z_ri_i ?_ ?_)
  · rfl
  · rfl
theorem c_X6_isDigit {Γ : z_W} {h : z_H} {F : Nat → Nat → Int32} {tx : Nat → Int32} {n a : Nat} (hF : z_F h) (ht : z_pt tx n F) (hn : a ≤ n) (ha : F 49 14 = nI a) : z_C Γ M_X6_isDigit (z_rm 2 0 0) [.ref 49] (z_ci h F) (z_ri (z_b (z_in (a_cr tx n a) 48 57)) (z_ci h F)) := by
  refine z_C.of (by decide +kernel) rfl [some (.ref 49)] (Nat.le_of_ble_eq_true rfl) rfl ?_
  refine z_aload_n dX6_isDigit_0 rfl rfl ?_
  refine z_aload_n dX6_isDigit_1 rfl rfl ?_
  refine z_vcall vl_X6_238_6 (c_X6_peek hF ht hn ha) dX6_isDigit_2 rfl rfl (hF.1 49 _ rfl) ⟨by decide, by decide⟩ (Nat.le_of_ble_eq_true rfl) (Nat.le_refl _) (Nat.le_refl _) (z_cI ?_) z_tI
  refine z_bipush (v := 48) dX6_isDigit_5 rfl ?_
  refine z_bipush (v := 57) dX6_isDigit_7 rfl ?_
  refine z_vcall vl_X6_227_6 (c_X6_in hF) dX6_isDigit_9 rfl rfl (hF.1 49 _ rfl) ⟨by decide, by decide⟩ (Nat.le_of_ble_eq_true rfl) (Nat.le_refl _) (Nat.le_refl _) (z_cI ?_) z_tI
  refine z_iret dX6_isDigit_12 rfl (z_bz _) (Nat.le_refl _) (Nat.le_refl _) (z_ri_i ?_ ?_)
  · rfl
  · rfl
theorem c_X6_emits {Γ : z_W} {h : z_H} {F : Nat → Nat → Int32} {g : Nat} {v : Int32} (hF : z_F h) (hg : F 49 24 = nI g) (hg6 : g < 600) : z_C Γ M_X6_emits (z_rm 1 0 0) [.ref 49, .int v] (z_ci h F) (z_rv (z_ci h (z_u (z_u F 61 g v) 49 24 (nI (g + 1))))) := by
  refine z_C.of (by decide +kernel) rfl [some (.ref 49), some (.int v)] (Nat.le_of_ble_eq_true rfl) rfl ?_
  refine z_aload_n dX6_emits_0 rfl rfl ?_
  refine z_getR 61 dX6_emits_1 fl_X6_77_6 (hF.1 49 _ rfl) rfl (hF.2.1 49 22 61 rfl) ?_
  refine z_aload_n dX6_emits_4 rfl rfl ?_
  refine z_getI dX6_emits_5 fl_X6_83_6 (hF.1 49 _ rfl) rfl ?_
  refine z_eqi (nI g) hg ?_
  refine z_iload_n dX6_emits_8 rfl rfl ?_
  refine z_iast g dX6_emits_9 (hF.1 61 _ rfl) (by decide) rfl hg6 (by decide) ?_
  refine z_meq (z_ci h (z_u F 61 g v)) rfl ?_
  refine z_aload_n dX6_emits_10 rfl rfl ?_
  refine z_dup dX6_emits_11 rfl ?_
  refine z_getI dX6_emits_12 fl_X6_83_6 (hF.1 49 _ rfl) rfl ?_
  refine z_eqi (nI g) hg ?_
  refine z_iconst (v := 1) dX6_emits_15 rfl ?_
  refine z_iadd dX6_emits_16 ?_
  refine z_eqi (nI (g + 1)) (nI_succ _).symm ?_
  refine z_putI dX6_emits_17 (pl_X6_83_6 rfl) (hF.1 49 _ rfl) (by decide) rfl ?_
  refine z_meq (z_ci h (z_u (z_u F 61 g v) 49 24 (nI (g + 1)))) rfl ?_
  refine z_vret dX6_emits_20 rfl (Nat.le_refl _) (Nat.le_refl _) (z_rv_i ?_)
  rfl
