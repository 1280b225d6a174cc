/-! THE CLASS's READER: a test against a number (printed by class36.py) -/
set_option maxRecDepth 20000
/-- the same at the ids of S -/
def z_sm (S : Nat → Prop) (h h' : z_H) : Prop := ∀ a, S a → z_T h' a = z_T h a ∧ (∀ k, z_I h' a k = z_I h a k) ∧ ∀ k, z_R h' a k = z_R h a k
/-- a test that lies in S -/
def z_Tq (S : Nat → Prop) (D : Nat) (h : z_H) (y : Nat) (P : (Int32 → Int32) → Bool) : Prop := ∀ h', z_sm S h h' → z_Tm D h' y P
theorem z_sm.refl (S : Nat → Prop) (h : z_H) : z_sm S h h := fun _ _ => ⟨rfl, fun _ => rfl, fun _ => rfl⟩
theorem z_sm.trans {S : Nat → Prop} {a b c : z_H} (h1 : z_sm S a b) (h2 : z_sm S b c) : z_sm S a c := fun x hx => ⟨(h2 x hx).1.trans (h1 x hx).1, fun k => ((h2 x hx).2.1 k).trans ((h1 x hx).2.1 k), fun k => ((h2 x hx).2.2 k).trans ((h1 x hx).2.2 k)⟩
theorem z_Tq.tm {S : Nat → Prop} {D : Nat} {h : z_H} {y : Nat} {P : (Int32 → Int32) → Bool} (ht : z_Tq S D h y P) : z_Tm D h y P := ht h (z_sm.refl S h)
theorem z_Tq.to {S S' : Nat → Prop} {D : Nat} {h h' : z_H} {y : Nat} {P : (Int32 → Int32) → Bool} (ht : z_Tq S D h y P) (hs : ∀ a, S a → S' a) (hm : z_sm S h h') : z_Tq S' D h' y P := fun g hg => ht g (hm.trans (fun a ha => hg a (hs a ha)))
theorem z_Tq.le {S : Nat → Prop} {D D' : Nat} {h : z_H} {y : Nat} {P : (Int32 → Int32) → Bool} (hd : D ≤ D') (ht : z_Tq S D h y P) : z_Tq S D' h y P := fun g hg => (ht g hg).le hd
theorem z_Tq.at {S : Nat → Prop} {h : z_H} {y : Nat} {P : (Int32 → Int32) → Bool} (hS : S y) (hy : 85 ≤ y) (hT : z_T h y = some (.inl 20)) (hl : a_ltv (z_I h y 0)) (hP : ∀ φ, P φ = a_ag φ (z_I h y 0) (z_I h y 1) (z_I h y 2)) : z_Tq S 1 h y P := by
  intro g hg
  obtain ⟨g1, g2, g3⟩ := hg y hS
  exact ⟨hy, Or.inl ⟨g1.trans hT, by rw [g2]; exact hl, fun φ => by rw [g2, g2, g2]; exact hP φ⟩⟩
theorem z_Tq.no {S : Nat → Prop} {D : Nat} {h : z_H} {y b : Nat} {P : (Int32 → Int32) → Bool} (hS : S y) (hy : 85 ≤ y) (hT : z_T h y = some (.inl 19)) (hb : z_R h y 0 = some b) (hP : z_Tq S D h b P) : z_Tq S (D + 1) h y (fun φ => !P φ) := by
  intro g hg
  obtain ⟨g1, g2, g3⟩ := hg y hS
  exact ⟨hy, Or.inr (Or.inl ⟨g1.trans hT, b, P, (g3 0).trans hb, hP g hg, fun _ => rfl⟩)⟩
/-- a test is read, or not -/
def z_rP (r d D : Nat) (h : z_H) : Nat ⊕ (Nat × List Int32) → Outcome → z_H → Prop
  | .inl e => z_rT r e h
  | .inr (b, S) => fun o h' => ∃ y P, o = .returned (some (.ref y)) ∧ z_pg r h h' ∧ z_I h' r 2 = nI b ∧ z_I h' r 3 = nI d ∧ z_n h ≤ y ∧ y < z_n h' ∧ z_Tq (fun a => z_n h ≤ a ∧ a < z_n h') D h' y P ∧ (z_T h' y = some (.inl 18) ∨ z_T h' y = some (.inl 19) ∨ z_T h' y = some (.inl 20)) ∧ a_me S P
theorem z_pg.wI {r y k : Nat} {h g : z_H} (hg : z_pg r h g) (hy : z_n h ≤ y) (v : Int32) : z_pg r h (z_sI g y k v) := ⟨hg.1, fun a ha => ⟨(hg.2 a ha).1, (hg.2 a ha).2.1, (hg.2 a ha).2.2.1, fun j hj => (if_neg (fun q => by omega)).trans ((hg.2 a ha).2.2.2 j hj)⟩⟩
theorem z_pg.wR {r y k : Nat} {h g : z_H} (hg : z_pg r h g) (hy : z_n h ≤ y) (v : Option Nat) : z_pg r h (z_sR g y k v) := ⟨hg.1, fun a ha => ⟨(hg.2 a ha).1, (hg.2 a ha).2.1, fun j => (if_neg (fun q => by omega)).trans ((hg.2 a ha).2.2.1 j), (hg.2 a ha).2.2.2⟩⟩
theorem a_nm_v {tx : Nat → Int32} {n a b : Nat} {v : Int32} (h : a_nm tx n a = .inr (b, v)) : ∃ w, w < 100 ∧ v = nI w := by
  have key : ∀ x : Int32, z_in x 48 57 → ∃ w : Fin 10, x = nI (48 + w.val) := fun x hx => by
    obtain ⟨g1, g2⟩ := hx
    rw [Int32.le_iff_toInt_le] at g1 g2
    have e1 : (48 : Int32).toInt = 48 := rfl
    have e2 : (57 : Int32).toInt = 57 := rfl
    refine ⟨⟨(x.toInt - 48).toNat, by omega⟩, Int32.toInt_inj.mp ?_⟩
    rw [nI_toInt (by show 48 + (x.toInt - 48).toNat < _; omega)]
    show x.toInt = ((48 + (x.toInt - 48).toNat : Nat) : Int)
    omega
  have d1 : ∀ w : Fin 10, (10 * 0 + nI (48 + w.val) - 48 : Int32) = nI w.val := by decide +kernel
  have d2 : ∀ w u : Fin 10, (10 * (10 * 0 + nI (48 + w.val) - 48) + nI (48 + u.val) - 48 : Int32) = nI (10 * w.val + u.val) := by decide +kernel
  unfold a_nm at h
  split at h
  · rename_i c1
    obtain ⟨w, ew⟩ := key _ c1
    split at h
    · rename_i c2
      obtain ⟨u, eu⟩ := key _ c2
      cases h
      exact ⟨10 * w.val + u.val, by omega, by rw [ew, eu]; exact d2 w u⟩
    · cases h
      exact ⟨w.val, by omega, by rw [ew]; exact d1 w⟩
  · cases h
theorem z_a3 (g : z_H) (y : Nat) (a b c : Int32) : z_I (z_sI (z_sI (z_sI g y 0 a) y 1 b) y 2 c) y 0 = a ∧ z_I (z_sI (z_sI (z_sI g y 0 a) y 1 b) y 2 c) y 1 = b ∧ z_I (z_sI (z_sI (z_sI g y 0 a) y 1 b) y 2 c) y 2 = c := by
  refine ⟨?_, ?_, ?_⟩ <;> simp [z_II]
theorem z_6062 {g : Int32} (hg : z_in g 60 62) : g = 60 ∨ g = 61 ∨ g = 62 := by
  obtain ⟨g1, g2⟩ := hg
  rw [Int32.le_iff_toInt_le] at g1 g2
  have e1 : (60 : Int32).toInt = 60 := rfl
  have e2 : (62 : Int32).toInt = 62 := rfl
  have : g.toInt = 60 ∨ g.toInt = 61 ∨ g.toInt = 62 := by omega
  rcases this with q | q | q
  · exact Or.inl (Int32.toInt_inj.mp q)
  · exact Or.inr (Or.inl (Int32.toInt_inj.mp q))
  · exact Or.inr (Or.inr (Int32.toInt_inj.mp q))
theorem z_fD {a D k s : Nat} (h : a ≤ 71) : a ≤ (z_rm (7 + D) k s).frames := by
  show a ≤ 7 + D + 64
  omega
theorem z_lD {a D k s : Nat} (h : a ≤ 20448) : a ≤ (z_rm (7 + D) k s).locals := by
  show a ≤ 64 * (7 + D) + 20000
  omega
theorem z_kD {a b c : Nat} (hb : b ≤ c) (h : a ≤ b) : a ≤ c := Nat.le_trans h hb
theorem k_X14_atom {Γ : z_W} {h : z_H} {r n p d A : Nat} {tx : Nat → Int32} (hr : z_Rr h r tx n p d A) (hlt : a_ltv (a_cr tx n p)) {D kk sl : Nat} (hk : 3 ≤ kk) (hs : 40 ≤ sl) : z_G Γ M_X14_factor (z_rm (7 + D) kk sl) (z_rP r d 1 h (a_ts tx n p)) 0 0 135 [some (.ref r), none, none] [] h := by
  obtain ⟨r1, r2, r3, r4, r5, r6, r7, r8, r9, r10, r11, r12, r13, r14⟩ := id hr
  have hF := r1
  have hl0 : 0 ≤ a_pc (a_cr tx n p) := by rcases hlt with q | q | q | q | q | q <;> rw [q] <;> decide
  have hp : p < n := a_cr_lt (by rcases hlt with q | q | q | q | q | q <;> rw [q] <;> decide)
  have hr1 : z_Rr (z_sI h r 2 (nI (p + 1))) r tx n (p + 1) d A := hr.pg (z_pg.sI r h (Or.inl rfl) _) (if_pos ⟨rfl, rfl⟩) ((if_neg (fun q => absurd q.2 (by decide))).trans r10) hp r11
  have cr0 : ∀ v, z_I (z_sI h r 2 v) 22 p = a_cr tx n p := fun v => (if_neg (fun q => by omega)).trans ((r13 p).trans (if_pos hp).symm)
  obtain ⟨-, -, s3, s4, s5, s6, -, s8, s9, s10, -, s12, s13, -⟩ := id hr1
  refine z_aload_n dX14_factor_135 rfl rfl ?_
  refine z_getR 22 dX14_factor_136 fl_X14_18_14 r4 rfl r5 ?_
  refine z_aload_n dX14_factor_139 rfl rfl ?_
  refine z_dup dX14_factor_140 rfl ?_
  refine z_getI dX14_factor_141 fl_X14_26_14 r4 rfl ?_
  refine z_eqi (nI p) r8 ?_
  refine z_dup_x1 dX14_factor_144 rfl rfl ?_
  refine z_iconst (v := 1) dX14_factor_145 rfl ?_
  refine z_iadd dX14_factor_146 ?_
  refine z_eqi (nI (p + 1)) (nI_succ p).symm ?_
  refine z_putI dX14_factor_147 (pl_X14_26_14 rfl) r4 (Nat.le_trans (by decide) r2) rfl ?_
  refine z_bald p dX14_factor_150 (hF.1 22 _ rfl) rfl (by omega) (by decide) ?_
  refine z_eqi (a_cr tx n p) (cr0 _) ?_
  refine z_istore_n dX14_factor_151 rfl (by decide) rfl ?_
  refine z_lsq [some (.ref r), some (.int (a_cr tx n p)), none] rfl ?_
  refine z_aload_n dX14_factor_152 rfl rfl ?_
  refine z_vcall vl_X14_34_14 (c_X14_here hr1) dX14_factor_153 rfl rfl r4 ⟨z_fD (by decide), z_lD (by decide)⟩ (Nat.le_of_ble_eq_true rfl) (z_kD hk (by decide)) (z_kD hs (by decide)) (z_cI ?_) z_tI
  refine z_istore_n dX14_factor_156 rfl (by decide) rfl ?_
  refine z_lsq [some (.ref r), some (.int (a_cr tx n p)), some (.int (a_cr tx n (p + 1)))] rfl ?_
  refine z_iload_n dX14_factor_157 rfl rfl ?_
  refine z_bipush (v := 60) dX14_factor_158 rfl ?_
  refine z_icmp_eq 180 dX14_factor_160 (by decide) (fun c160 => ?_) (fun c160 => ?_)
  · have hg : z_in (a_cr tx n (p + 1)) 60 62 := by rw [c160]; exact ⟨by decide, by decide⟩
    refine z_aload_n dX14_factor_180 rfl rfl ?_
    refine z_dup dX14_factor_181 rfl ?_
    refine z_getI dX14_factor_182 fl_X14_26_14 r4 rfl ?_
    refine z_eqi (nI (p + 1)) s8 ?_
    refine z_iconst (v := 1) dX14_factor_185 rfl ?_
    refine z_iadd dX14_factor_186 ?_
    refine z_eqi (nI (p + 1 + 1)) (nI_succ (p + 1)).symm ?_
    refine z_putI dX14_factor_187 (pl_X14_26_14 rfl) r4 (Nat.le_trans (by decide) r2) rfl ?_
    refine z_newo dX14_factor_190 (c := 20) rfl q885 q886 q119 (z_kD hk (by decide)) (z_kD hs (by decide)) ?_
    refine z_dup dX14_factor_193 rfl ?_
    refine z_iload_n dX14_factor_194 rfl rfl ?_
    refine z_iload_n dX14_factor_195 rfl rfl ?_
    refine z_aload_n dX14_factor_196 rfl rfl ?_
    have hp1 : p + 1 < n := a_cr_lt (fun q => by rw [q] at hg; exact absurd hg.1 (by decide))
    have g2 : z_pg r h (z_sI (z_sI h r 2 (nI (p + 1))) r 2 (nI (p + 1 + 1))) := (z_pg.sI r h (Or.inl rfl) _).trans (z_pg.sI r _ (Or.inl rfl) _)
    have g3 : z_pg r h (z_new (z_sI (z_sI h r 2 (nI (p + 1))) r 2 (nI (p + 1 + 1))) (.inl 20)) := g2.trans (z_pg.of (z_gr.new _ _))
    have hr3 : z_Rr (z_new (z_sI (z_sI h r 2 (nI (p + 1))) r 2 (nI (p + 1 + 1))) (.inl 20)) r tx n (p + 1 + 1) d A := hr.pg g3 ((if_neg (Nat.ne_of_lt r3)).trans (if_pos ⟨rfl, rfl⟩)) ((if_neg (Nat.ne_of_lt r3)).trans ((if_neg (fun q => absurd q.2 (by decide))).trans s10)) hp1 r11
    have ets1 : ∀ e, a_nm tx n (p + 1 + 1) = .inl e → a_ts tx n p = .inl e := fun e q => by
      unfold a_ts
      rw [if_pos hl0, if_pos hg, show a_nm tx n (p + 2) = .inl e from q]
    have ets2 : ∀ b v, a_nm tx n (p + 1 + 1) = .inr (b, v) → a_ts tx n p = .inr (b, [1000 * a_pc (a_cr tx n p) + 100 * (a_cr tx n (p + 1) - 60) + v]) := fun b v q => by
      unfold a_ts
      rw [if_pos hl0, if_pos hg, show a_nm tx n (p + 2) = .inr (b, v) from q]
    refine z_vcall vl_X14_78_14 (c_X14_number hr3) dX14_factor_197 rfl rfl hr3.2.2.2.1 ⟨z_fD (by decide), z_lD (by decide)⟩ (Nat.le_of_ble_eq_true rfl) (z_kD hk (by decide)) (z_kD hs (by decide)) (fun v h' q => ?_) (fun y h' q => ?_)
    · cases hm : a_nm tx n (p + 1 + 1) with
      | inl e =>
        rw [hm] at q
        obtain ⟨y, q1, -⟩ := q
        cases q1
      | inr bv =>
        obtain ⟨b, w⟩ := bv
        rw [hm] at q
        obtain ⟨q1, q2, q3, q4⟩ := q
        cases q1
        obtain ⟨u, hu, eu⟩ := a_nm_v hm
        have hy : z_n h < z_n (z_new (z_sI (z_sI h r 2 (nI (p + 1))) r 2 (nI (p + 1 + 1))) (.inl 20)) := Nat.lt_succ_self _
        obtain ⟨t1, -, -, -⟩ := q2.2 (z_n h) hy
        have hT4 : z_T h' (z_n h) = some (.inl 20) := t1.trans (if_pos rfl)
        refine z_icall il_X14_81 (c_X20_init hT4 r1.2.2) dX14_factor_200 rfl rfl ⟨z_fD (by decide), z_lD (by decide)⟩ (Nat.le_of_ble_eq_true rfl) (z_kD hk (by decide)) (z_kD hs (by decide)) (z_cV ?_) z_tV
        refine z_aret dX14_factor_203 rfl (Or.inl ⟨_, rfl⟩) (Or.inr ⟨_, rfl⟩) (z_kD hk (by decide)) (z_kD hs (by decide)) ?_
        show z_rP r d 1 h (a_ts tx n p) _ _
        rw [ets2 b w hm]
        have hyr : z_n h ≠ r := by omega
        refine ⟨z_n h, fun φ => a_ag φ (a_cr tx n p) (a_cr tx n (p + 1)) w, rfl, ((((g3.trans q2).wI (Nat.le_refl _) _).wI (Nat.le_refl _) _).wI (Nat.le_refl _) _), ?_, ?_, Nat.le_refl _, Nat.lt_of_lt_of_le hy q2.1, z_Tq.at ⟨Nat.le_refl _, Nat.lt_of_lt_of_le hy q2.1⟩ r1.2.2 hT4 ?_ (fun φ => ?_), Or.inr (Or.inr hT4), ?_⟩
        · exact (if_neg (fun q => hyr q.1.symm)).trans ((if_neg (fun q => hyr q.1.symm)).trans ((if_neg (fun q => hyr q.1.symm)).trans q3))
        · exact (if_neg (fun q => hyr q.1.symm)).trans ((if_neg (fun q => hyr q.1.symm)).trans ((if_neg (fun q => hyr q.1.symm)).trans q4))
        · have e0 : z_I (z_sI (z_sI (z_sI h' (z_n h) 0 (a_cr tx n p)) (z_n h) 1 (a_cr tx n (p + 1))) (z_n h) 2 w) (z_n h) 0 = a_cr tx n p := (z_a3 _ _ _ _ _).1
          rw [e0]
          exact hlt
        · rw [(z_a3 _ _ _ _ _).1, (z_a3 _ _ _ _ _).2.1, (z_a3 _ _ _ _ _).2.2]
        · rw [eu]
          exact a_me_at hlt hg hu
    · refine z_thOut (by decide) (z_kD hk (by decide)) (z_kD hs (by decide)) ?_
      show z_rP r d 1 h (a_ts tx n p) _ _
      cases hm : a_nm tx n (p + 1 + 1) with
      | inl e =>
        rw [hm] at q
        rw [ets1 e hm]
        exact z_rT.pg g3 q
      | inr bv =>
        rw [hm] at q
        cases q.1
  · refine z_iload_n dX14_factor_163 rfl rfl ?_
    refine z_bipush (v := 61) dX14_factor_164 rfl ?_
    refine z_icmp_eq 180 dX14_factor_166 (by decide) (fun c166 => ?_) (fun c166 => ?_)
    · have hg : z_in (a_cr tx n (p + 1)) 60 62 := by rw [c166]; exact ⟨by decide, by decide⟩
      refine z_aload_n dX14_factor_180 rfl rfl ?_
      refine z_dup dX14_factor_181 rfl ?_
      refine z_getI dX14_factor_182 fl_X14_26_14 r4 rfl ?_
      refine z_eqi (nI (p + 1)) s8 ?_
      refine z_iconst (v := 1) dX14_factor_185 rfl ?_
      refine z_iadd dX14_factor_186 ?_
      refine z_eqi (nI (p + 1 + 1)) (nI_succ (p + 1)).symm ?_
      refine z_putI dX14_factor_187 (pl_X14_26_14 rfl) r4 (Nat.le_trans (by decide) r2) rfl ?_
      refine z_newo dX14_factor_190 (c := 20) rfl q885 q886 q119 (z_kD hk (by decide)) (z_kD hs (by decide)) ?_
      refine z_dup dX14_factor_193 rfl ?_
      refine z_iload_n dX14_factor_194 rfl rfl ?_
      refine z_iload_n dX14_factor_195 rfl rfl ?_
      refine z_aload_n dX14_factor_196 rfl rfl ?_
      have hp1 : p + 1 < n := a_cr_lt (fun q => by rw [q] at hg; exact absurd hg.1 (by decide))
      have g2 : z_pg r h (z_sI (z_sI h r 2 (nI (p + 1))) r 2 (nI (p + 1 + 1))) := (z_pg.sI r h (Or.inl rfl) _).trans (z_pg.sI r _ (Or.inl rfl) _)
      have g3 : z_pg r h (z_new (z_sI (z_sI h r 2 (nI (p + 1))) r 2 (nI (p + 1 + 1))) (.inl 20)) := g2.trans (z_pg.of (z_gr.new _ _))
      have hr3 : z_Rr (z_new (z_sI (z_sI h r 2 (nI (p + 1))) r 2 (nI (p + 1 + 1))) (.inl 20)) r tx n (p + 1 + 1) d A := hr.pg g3 ((if_neg (Nat.ne_of_lt r3)).trans (if_pos ⟨rfl, rfl⟩)) ((if_neg (Nat.ne_of_lt r3)).trans ((if_neg (fun q => absurd q.2 (by decide))).trans s10)) hp1 r11
      have ets1 : ∀ e, a_nm tx n (p + 1 + 1) = .inl e → a_ts tx n p = .inl e := fun e q => by
        unfold a_ts
        rw [if_pos hl0, if_pos hg, show a_nm tx n (p + 2) = .inl e from q]
      have ets2 : ∀ b v, a_nm tx n (p + 1 + 1) = .inr (b, v) → a_ts tx n p = .inr (b, [1000 * a_pc (a_cr tx n p) + 100 * (a_cr tx n (p + 1) - 60) + v]) := fun b v q => by
        unfold a_ts
        rw [if_pos hl0, if_pos hg, show a_nm tx n (p + 2) = .inr (b, v) from q]
      refine z_vcall vl_X14_78_14 (c_X14_number hr3) dX14_factor_197 rfl rfl hr3.2.2.2.1 ⟨z_fD (by decide), z_lD (by decide)⟩ (Nat.le_of_ble_eq_true rfl) (z_kD hk (by decide)) (z_kD hs (by decide)) (fun v h' q => ?_) (fun y h' q => ?_)
      · cases hm : a_nm tx n (p + 1 + 1) with
        | inl e =>
          rw [hm] at q
          obtain ⟨y, q1, -⟩ := q
          cases q1
        | inr bv =>
          obtain ⟨b, w⟩ := bv
          rw [hm] at q
          obtain ⟨q1, q2, q3, q4⟩ := q
          cases q1
          obtain ⟨u, hu, eu⟩ := a_nm_v hm
          have hy : z_n h < z_n (z_new (z_sI (z_sI h r 2 (nI (p + 1))) r 2 (nI (p + 1 + 1))) (.inl 20)) := Nat.lt_succ_self _
          obtain ⟨t1, -, -, -⟩ := q2.2 (z_n h) hy
          have hT4 : z_T h' (z_n h) = some (.inl 20) := t1.trans (if_pos rfl)
          refine z_icall il_X14_81 (c_X20_init hT4 r1.2.2) dX14_factor_200 rfl rfl ⟨z_fD (by decide), z_lD (by decide)⟩ (Nat.le_of_ble_eq_true rfl) (z_kD hk (by decide)) (z_kD hs (by decide)) (z_cV ?_) z_tV
          refine z_aret dX14_factor_203 rfl (Or.inl ⟨_, rfl⟩) (Or.inr ⟨_, rfl⟩) (z_kD hk (by decide)) (z_kD hs (by decide)) ?_
          show z_rP r d 1 h (a_ts tx n p) _ _
          rw [ets2 b w hm]
          have hyr : z_n h ≠ r := by omega
          refine ⟨z_n h, fun φ => a_ag φ (a_cr tx n p) (a_cr tx n (p + 1)) w, rfl, ((((g3.trans q2).wI (Nat.le_refl _) _).wI (Nat.le_refl _) _).wI (Nat.le_refl _) _), ?_, ?_, Nat.le_refl _, Nat.lt_of_lt_of_le hy q2.1, z_Tq.at ⟨Nat.le_refl _, Nat.lt_of_lt_of_le hy q2.1⟩ r1.2.2 hT4 ?_ (fun φ => ?_), Or.inr (Or.inr hT4), ?_⟩
          · exact (if_neg (fun q => hyr q.1.symm)).trans ((if_neg (fun q => hyr q.1.symm)).trans ((if_neg (fun q => hyr q.1.symm)).trans q3))
          · exact (if_neg (fun q => hyr q.1.symm)).trans ((if_neg (fun q => hyr q.1.symm)).trans ((if_neg (fun q => hyr q.1.symm)).trans q4))
          · have e0 : z_I (z_sI (z_sI (z_sI h' (z_n h) 0 (a_cr tx n p)) (z_n h) 1 (a_cr tx n (p + 1))) (z_n h) 2 w) (z_n h) 0 = a_cr tx n p := (z_a3 _ _ _ _ _).1
            rw [e0]
            exact hlt
          · rw [(z_a3 _ _ _ _ _).1, (z_a3 _ _ _ _ _).2.1, (z_a3 _ _ _ _ _).2.2]
          · rw [eu]
            exact a_me_at hlt hg hu
      · refine z_thOut (by decide) (z_kD hk (by decide)) (z_kD hs (by decide)) ?_
        show z_rP r d 1 h (a_ts tx n p) _ _
        cases hm : a_nm tx n (p + 1 + 1) with
        | inl e =>
          rw [hm] at q
          rw [ets1 e hm]
          exact z_rT.pg g3 q
        | inr bv =>
          rw [hm] at q
          cases q.1
    · refine z_iload_n dX14_factor_169 rfl rfl ?_
      refine z_bipush (v := 62) dX14_factor_170 rfl ?_
      refine z_icmp_eq 180 dX14_factor_172 (by decide) (fun c172 => ?_) (fun c172 => ?_)
      · have hg : z_in (a_cr tx n (p + 1)) 60 62 := by rw [c172]; exact ⟨by decide, by decide⟩
        refine z_aload_n dX14_factor_180 rfl rfl ?_
        refine z_dup dX14_factor_181 rfl ?_
        refine z_getI dX14_factor_182 fl_X14_26_14 r4 rfl ?_
        refine z_eqi (nI (p + 1)) s8 ?_
        refine z_iconst (v := 1) dX14_factor_185 rfl ?_
        refine z_iadd dX14_factor_186 ?_
        refine z_eqi (nI (p + 1 + 1)) (nI_succ (p + 1)).symm ?_
        refine z_putI dX14_factor_187 (pl_X14_26_14 rfl) r4 (Nat.le_trans (by decide) r2) rfl ?_
        refine z_newo dX14_factor_190 (c := 20) rfl q885 q886 q119 (z_kD hk (by decide)) (z_kD hs (by decide)) ?_
        refine z_dup dX14_factor_193 rfl ?_
        refine z_iload_n dX14_factor_194 rfl rfl ?_
        refine z_iload_n dX14_factor_195 rfl rfl ?_
        refine z_aload_n dX14_factor_196 rfl rfl ?_
        have hp1 : p + 1 < n := a_cr_lt (fun q => by rw [q] at hg; exact absurd hg.1 (by decide))
        have g2 : z_pg r h (z_sI (z_sI h r 2 (nI (p + 1))) r 2 (nI (p + 1 + 1))) := (z_pg.sI r h (Or.inl rfl) _).trans (z_pg.sI r _ (Or.inl rfl) _)
        have g3 : z_pg r h (z_new (z_sI (z_sI h r 2 (nI (p + 1))) r 2 (nI (p + 1 + 1))) (.inl 20)) := g2.trans (z_pg.of (z_gr.new _ _))
        have hr3 : z_Rr (z_new (z_sI (z_sI h r 2 (nI (p + 1))) r 2 (nI (p + 1 + 1))) (.inl 20)) r tx n (p + 1 + 1) d A := hr.pg g3 ((if_neg (Nat.ne_of_lt r3)).trans (if_pos ⟨rfl, rfl⟩)) ((if_neg (Nat.ne_of_lt r3)).trans ((if_neg (fun q => absurd q.2 (by decide))).trans s10)) hp1 r11
        have ets1 : ∀ e, a_nm tx n (p + 1 + 1) = .inl e → a_ts tx n p = .inl e := fun e q => by
          unfold a_ts
          rw [if_pos hl0, if_pos hg, show a_nm tx n (p + 2) = .inl e from q]
        have ets2 : ∀ b v, a_nm tx n (p + 1 + 1) = .inr (b, v) → a_ts tx n p = .inr (b, [1000 * a_pc (a_cr tx n p) + 100 * (a_cr tx n (p + 1) - 60) + v]) := fun b v q => by
          unfold a_ts
          rw [if_pos hl0, if_pos hg, show a_nm tx n (p + 2) = .inr (b, v) from q]
        refine z_vcall vl_X14_78_14 (c_X14_number hr3) dX14_factor_197 rfl rfl hr3.2.2.2.1 ⟨z_fD (by decide), z_lD (by decide)⟩ (Nat.le_of_ble_eq_true rfl) (z_kD hk (by decide)) (z_kD hs (by decide)) (fun v h' q => ?_) (fun y h' q => ?_)
        · cases hm : a_nm tx n (p + 1 + 1) with
          | inl e =>
            rw [hm] at q
            obtain ⟨y, q1, -⟩ := q
            cases q1
          | inr bv =>
            obtain ⟨b, w⟩ := bv
            rw [hm] at q
            obtain ⟨q1, q2, q3, q4⟩ := q
            cases q1
            obtain ⟨u, hu, eu⟩ := a_nm_v hm
            have hy : z_n h < z_n (z_new (z_sI (z_sI h r 2 (nI (p + 1))) r 2 (nI (p + 1 + 1))) (.inl 20)) := Nat.lt_succ_self _
            obtain ⟨t1, -, -, -⟩ := q2.2 (z_n h) hy
            have hT4 : z_T h' (z_n h) = some (.inl 20) := t1.trans (if_pos rfl)
            refine z_icall il_X14_81 (c_X20_init hT4 r1.2.2) dX14_factor_200 rfl rfl ⟨z_fD (by decide), z_lD (by decide)⟩ (Nat.le_of_ble_eq_true rfl) (z_kD hk (by decide)) (z_kD hs (by decide)) (z_cV ?_) z_tV
            refine z_aret dX14_factor_203 rfl (Or.inl ⟨_, rfl⟩) (Or.inr ⟨_, rfl⟩) (z_kD hk (by decide)) (z_kD hs (by decide)) ?_
            show z_rP r d 1 h (a_ts tx n p) _ _
            rw [ets2 b w hm]
            have hyr : z_n h ≠ r := by omega
            refine ⟨z_n h, fun φ => a_ag φ (a_cr tx n p) (a_cr tx n (p + 1)) w, rfl, ((((g3.trans q2).wI (Nat.le_refl _) _).wI (Nat.le_refl _) _).wI (Nat.le_refl _) _), ?_, ?_, Nat.le_refl _, Nat.lt_of_lt_of_le hy q2.1, z_Tq.at ⟨Nat.le_refl _, Nat.lt_of_lt_of_le hy q2.1⟩ r1.2.2 hT4 ?_ (fun φ => ?_), Or.inr (Or.inr hT4), ?_⟩
            · exact (if_neg (fun q => hyr q.1.symm)).trans ((if_neg (fun q => hyr q.1.symm)).trans ((if_neg (fun q => hyr q.1.symm)).trans q3))
            · exact (if_neg (fun q => hyr q.1.symm)).trans ((if_neg (fun q => hyr q.1.symm)).trans ((if_neg (fun q => hyr q.1.symm)).trans q4))
            · have e0 : z_I (z_sI (z_sI (z_sI h' (z_n h) 0 (a_cr tx n p)) (z_n h) 1 (a_cr tx n (p + 1))) (z_n h) 2 w) (z_n h) 0 = a_cr tx n p := (z_a3 _ _ _ _ _).1
              rw [e0]
              exact hlt
            · rw [(z_a3 _ _ _ _ _).1, (z_a3 _ _ _ _ _).2.1, (z_a3 _ _ _ _ _).2.2]
            · rw [eu]
              exact a_me_at hlt hg hu
        · refine z_thOut (by decide) (z_kD hk (by decide)) (z_kD hs (by decide)) ?_
          show z_rP r d 1 h (a_ts tx n p) _ _
          cases hm : a_nm tx n (p + 1 + 1) with
          | inl e =>
            rw [hm] at q
            rw [ets1 e hm]
            exact z_rT.pg g3 q
          | inr bv =>
            rw [hm] at q
            cases q.1
      · refine z_aload_n dX14_factor_175 rfl rfl ?_
        refine z_vcall vl_X14_38_14 (c_X14_off hr1) dX14_factor_176 rfl rfl r4 ⟨z_fD (by decide), z_lD (by decide)⟩ (Nat.le_of_ble_eq_true rfl) (z_kD hk (by decide)) (z_kD hs (by decide)) (z_cR ?_) z_tR
        refine z_athrow dX14_factor_179 ?_
        refine z_thOut (by decide) (z_kD hk (by decide)) (z_kD hs (by decide)) ?_
        have hng : ¬ z_in (a_cr tx n (p + 1)) 60 62 := fun q => by rcases z_6062 q with w | w | w <;> contradiction
        show z_rP r d 1 h (a_ts tx n p) _ _
        unfold a_ts
        rw [if_pos hl0, if_neg hng]
        exact z_rT.pg (z_pg.sI r h (Or.inl rfl) _) ⟨_, rfl, z_pg.of (z_gr.off _ _), z_off_T _ _, z_off_I _ _⟩
