/-! THE CLASS: tests hold (printed by class5.py) -/
set_option maxRecDepth 20000
theorem z_cast_T {Γ : z_W} {rm : Room} {Q : Outcome → z_H → Prop} {cs ss pc : Nat} {ls : List (Option Value)} {rest : List Value} {h : z_H} {b : Nat} (hk : z_T h b = some (.inl 20) ∨ z_T h b = some (.inl 19) ∨ z_T h b = some (.inl 18)) (hd : decode M_X18_holds.2.1 pc = .ok (.checkcast 2, 3)) (k : z_G Γ M_X18_holds rm Q cs ss (pc + 3) ls (.ref b :: rest) h) : z_G Γ M_X18_holds rm Q cs ss pc ls (.ref b :: rest) h := by
  rcases hk with hk | hk | hk
  · exact z_castY q597 q2054 rfl rfl hk hd k
  · exact z_castY q597 q2055 rfl rfl hk hd k
  · exact z_castY q597 q2056 rfl rfl hk hd k
theorem c_X19_holds {Γ : z_W} {h : z_H} {L b d : Nat} {p : Bool} (hT : z_T h L = some (.inl 19)) (hb : z_R h L 0 = some b) (hc : z_Hc Γ d h b (z_b (p = true))) : z_C Γ M_X19_holds (z_rm (d + 1 + 6) 0 0) [.ref L, .ref 25] h (z_ri (z_b ((!p) = true)) h) := by
  refine z_C.of (by decide +kernel) rfl [some (.ref L), some (.ref 25)] (Nat.le_of_ble_eq_true rfl) rfl ?_
  refine z_aload_n dX19_holds_0 rfl rfl ?_
  refine z_getR b dX19_holds_1 fl_X19_7_19 hT rfl hb ?_
  refine z_aload_n dX19_holds_4 rfl rfl ?_
  refine z_site_X19 (Nat.le_of_ble_eq_true rfl) hc (by omega) (Nat.le_refl _) (Nat.le_refl _) ?_
  refine z_bif_ne 15 dX19_holds_8 (by decide) (fun c8 => ?_) (fun c8 => ?_)
  · refine z_iconst (v := 0) dX19_holds_15 rfl ?_
    refine z_iret dX19_holds_16 rfl rfl (Nat.le_refl _) (Nat.le_refl _) (z_ri_i ?_ ?_)
    · exact (z_b0 (by simp [c8])).symm
    · rfl
  · refine z_iconst (v := 1) dX19_holds_11 rfl ?_
    refine z_goto 16 dX19_holds_12 (by decide) ?_
    refine z_iret dX19_holds_16 rfl rfl (Nat.le_refl _) (Nat.le_refl _) (z_ri_i ?_ ?_)
    · exact (z_b1 (by simpa using c8)).symm
    · rfl
/-- all or some of a row, from the i-th on -/
def a_rw (al : Bool) (ps : List Bool) : Bool := if al then ps.all id else ps.any id
theorem a_rw_stop {al p : Bool} {ps : List Bool} (h : ¬ p = al) : a_rw al (p :: ps) = !al := by cases al <;> cases p <;> simp_all [a_rw]
theorem a_rw_go {al p : Bool} {ps : List Bool} (h : p = al) : a_rw al (p :: ps) = a_rw al ps := by cases al <;> cases p <;> simp_all [a_rw]
theorem a_zb_e {p al : Bool} {x : Int32} (hx : x = z_b (al = true)) : z_b (p = true) = x ↔ p = al := by subst hx; cases p <;> cases al <;> decide
theorem lp_X18_holds {Γ : z_W} {h : z_H} {L A d : Nat} {al : Bool} {ids : List Nat} {ps : List Bool} (hT : z_T h L = some (.inl 18)) (hA : z_R h L 1 = some A) (hAL : z_AL h A ids) (hlen : ids.length = ps.length) (hal : z_I h L 0 = z_b (al = true)) (hc : ∀ (i b : Nat) (p : Bool), ids[i]? = some b → ps[i]? = some p → z_Hc Γ d h b (z_b (p = true)) ∧ (z_T h b = some (.inl 20) ∨ z_T h b = some (.inl 19) ∨ z_T h b = some (.inl 18))) : ∀ (r i : Nat), i + r = ids.length → z_G Γ M_X18_holds (z_rm (d + 1 + 6) 0 0) (z_ri (z_b (a_rw al (ps.drop i) = true)) h) 0 0 2 [some (.ref L), some (.ref 25), some (.int (nI i))] [] h := by
  have hTA := hAL.1
  have hs := hAL.2.1
  have hl := hAL.2.2.1
  intro r
  induction r with
  | zero =>
    intro i hi
    have hi1 : i = ids.length := by omega
    have e0 : ps.drop i = [] := List.drop_eq_nil_of_le (by omega)
    refine z_iload_n dX18_holds_2 rfl rfl ?_
    refine z_aload_n dX18_holds_3 rfl rfl ?_
    refine z_getR A dX18_holds_4 fl_X18_10_18 hT rfl hA ?_
    refine z_vcall vl_X18_20_21 (c_J2_size hTA) dX18_holds_7 rfl rfl hTA ⟨by show 1 + 64 + 1 ≤ d + 1 + 6 + 64; omega, by show 8 + (1 + 11) + (64 * 1 + 20000) ≤ 64 * (d + 1 + 6) + 20000; omega⟩ (Nat.le_of_ble_eq_true rfl) (Nat.le_refl _) (Nat.le_refl _) (z_cI ?_) z_tI
    refine z_eqi (nI ids.length) hs ?_
    refine z_icmp_ge 54 dX18_holds_10 (by decide) (fun _ => ?_) (fun q => by first | exact absurd (nI_le (by omega) (by omega)) q | exact absurd q (nI_le (by omega) (by omega)))
    refine z_aload_n dX18_holds_54 rfl rfl ?_
    refine z_getI dX18_holds_55 fl_X18_16_18 hT rfl ?_
    refine z_eqi (z_b (al = true)) hal ?_
    refine z_iret dX18_holds_58 rfl (z_bz _) (Nat.le_refl _) (Nat.le_refl _) (z_ri_i ?_ ?_)
    · rw [e0]; cases al <;> decide
    · rfl
  | succ r ih =>
    intro i hi
    have hi2 : i < ids.length := by omega
    obtain ⟨b, hb⟩ : ∃ b, ids[i]? = some b := ⟨_, List.getElem?_eq_getElem hi2⟩
    obtain ⟨p, hp⟩ : ∃ p, ps[i]? = some p := ⟨_, List.getElem?_eq_getElem (by omega)⟩
    obtain ⟨hC, hk⟩ := hc i b p hb hp
    have ed : ps.drop i = p :: ps.drop (i + 1) := by
      have := List.getElem?_eq_some_iff.mp hp
      obtain ⟨h1, h2⟩ := this
      rw [List.drop_eq_getElem_cons h1, h2]
    refine z_iload_n dX18_holds_2 rfl rfl ?_
    refine z_aload_n dX18_holds_3 rfl rfl ?_
    refine z_getR A dX18_holds_4 fl_X18_10_18 hT rfl hA ?_
    refine z_vcall vl_X18_20_21 (c_J2_size hTA) dX18_holds_7 rfl rfl hTA ⟨by show 1 + 64 + 1 ≤ d + 1 + 6 + 64; omega, by show 8 + (1 + 11) + (64 * 1 + 20000) ≤ 64 * (d + 1 + 6) + 20000; omega⟩ (Nat.le_of_ble_eq_true rfl) (Nat.le_refl _) (Nat.le_refl _) (z_cI ?_) z_tI
    refine z_eqi (nI ids.length) hs ?_
    refine z_icmp_ge 54 dX18_holds_10 (by decide) (fun q => by first | exact absurd q (nI_ge hi2 (by omega)) | exact absurd (nI_ge hi2 (by omega)) q) (fun _ => ?_)
    refine z_aload_n dX18_holds_13 rfl rfl ?_
    refine z_getR A dX18_holds_14 fl_X18_10_18 hT rfl hA ?_
    refine z_iload_n dX18_holds_17 rfl rfl ?_
    refine z_vcall vl_X18_24_21 (c_J2_get hAL hb) dX18_holds_18 rfl rfl hTA ⟨by show 3 + 64 + 1 ≤ d + 1 + 6 + 64; omega, by show 8 + (2 + 11) + (64 * 3 + 20000) ≤ 64 * (d + 1 + 6) + 20000; omega⟩ (Nat.le_of_ble_eq_true rfl) (Nat.le_refl _) (Nat.le_refl _) (z_cR ?_) z_tR
    refine z_cast_T hk dX18_holds_21 ?_
    refine z_aload_n dX18_holds_24 rfl rfl ?_
    refine z_site_X18 (Nat.le_of_ble_eq_true rfl) hC (by omega) (Nat.le_refl _) (Nat.le_refl _) ?_
    refine z_aload_n dX18_holds_28 rfl rfl ?_
    refine z_getI dX18_holds_29 fl_X18_16_18 hT rfl ?_
    refine z_eqi (z_b (al = true)) hal ?_
    refine z_icmp_eq 48 dX18_holds_32 (by decide) (fun c32 => ?_) (fun c32 => ?_)
    · refine z_iinc (v := nI (i + 1)) dX18_holds_48 rfl (nI_succ _).symm (by decide) rfl ?_
      refine z_goto 2 dX18_holds_51 (by decide) ?_
      rw [ed, a_rw_go ((a_zb_e rfl).mp c32)]
      exact ih (i + 1) (by omega)
    · refine z_aload_n dX18_holds_35 rfl rfl ?_
      refine z_getI dX18_holds_36 fl_X18_16_18 hT rfl ?_
      refine z_eqi (z_b (al = true)) hal ?_
      refine z_if_ne 46 dX18_holds_39 (by decide) (fun c39 => ?_) (fun c39 => ?_)
      · refine z_iconst (v := 0) dX18_holds_46 rfl ?_
        refine z_iret dX18_holds_47 rfl rfl (Nat.le_refl _) (Nat.le_refl _) (z_ri_i ?_ ?_)
        · rw [ed, a_rw_stop (fun q => c32 ((a_zb_e rfl).mpr q))]; exact (z_b0 (by have : al = true := Decidable.of_not_not (fun r => c39 (z_bn.mpr r)); simp [this])).symm
        · rfl
      · refine z_iconst (v := 1) dX18_holds_42 rfl ?_
        refine z_goto 47 dX18_holds_43 (by decide) ?_
        refine z_iret dX18_holds_47 rfl rfl (Nat.le_refl _) (Nat.le_refl _) (z_ri_i ?_ ?_)
        · rw [ed, a_rw_stop (fun q => c32 ((a_zb_e rfl).mpr q))]; exact (z_b1 (by have := z_bn.mp c39; simpa using this)).symm
        · rfl
theorem c_X18_holds {Γ : z_W} {h : z_H} {L A d : Nat} {al : Bool} {ids : List Nat} {ps : List Bool} (hT : z_T h L = some (.inl 18)) (hA : z_R h L 1 = some A) (hAL : z_AL h A ids) (hlen : ids.length = ps.length) (hal : z_I h L 0 = z_b (al = true)) (hc : ∀ (i b : Nat) (p : Bool), ids[i]? = some b → ps[i]? = some p → z_Hc Γ d h b (z_b (p = true)) ∧ (z_T h b = some (.inl 20) ∨ z_T h b = some (.inl 19) ∨ z_T h b = some (.inl 18))) : z_C Γ M_X18_holds (z_rm (d + 1 + 6) 0 0) [.ref L, .ref 25] h (z_ri (z_b (a_rw al ps = true)) h) := by
  refine z_C.of (by decide +kernel) rfl [some (.ref L), some (.ref 25), none] (Nat.le_of_ble_eq_true rfl) rfl ?_
  refine z_iconst (v := 0) dX18_holds_0 rfl ?_
  refine z_istore_n dX18_holds_1 rfl (by decide) rfl ?_
  exact lp_X18_holds hT hA hAL hlen hal hc _ 0 (Nat.zero_add _)
theorem z_Tm_k {d : Nat} {h : z_H} {id : Nat} {P : (Int32 → Int32) → Bool} (h0 : z_Tm d h id P) : z_T h id = some (.inl 20) ∨ z_T h id = some (.inl 19) ∨ z_T h id = some (.inl 18) := by
  cases d with
  | zero => exact absurd h0 (fun q => q)
  | succ d =>
    rcases h0.2 with q | q | q
    · exact Or.inl q.1
    · exact Or.inr (Or.inl q.1)
    · exact Or.inr (Or.inr q.1)
/-- any test tells what it means -/
theorem z_holds {Γ : z_W} {h : z_H} {φ : Int32 → Int32} (hL : z_T h 25 = some (.inl 3)) (hk : z_Lk h φ) : ∀ (d id : Nat) (P : (Int32 → Int32) → Bool), z_Tm d h id P → z_Hc Γ d h id (z_b (P φ = true))
  | 0, id, P, h0 => absurd h0 (fun q => q)
  | d + 1, id, P, h0 => by
    rcases h0.2 with ⟨hT, hl, hP⟩ | ⟨hT, b, P', hb, h1, hP⟩ | ⟨hT, L, ids, Ps, hA, hLi, hAL, hlen, h1, hP⟩
    · refine Or.inl ⟨hT, ?_⟩
      rw [hP]
      exact c_X20_holds hT hl hL hk
    · refine Or.inr (Or.inl ⟨hT, ?_⟩)
      rw [hP]
      exact c_X19_holds hT hb (z_holds hL hk d b P' h1)
    · refine Or.inr (Or.inr ⟨hT, ?_⟩)
      have hc : ∀ (i b : Nat) (p : Bool), ids[i]? = some b → (Ps.map (fun p => p φ))[i]? = some p → z_Hc Γ d h b (z_b (p = true)) ∧ (z_T h b = some (.inl 20) ∨ z_T h b = some (.inl 19) ∨ z_T h b = some (.inl 18)) := by
        intro i b p hb hp
        rw [List.getElem?_map] at hp
        cases hq : Ps[i]? with
        | none => rw [hq] at hp; cases hp
        | some p' =>
          rw [hq] at hp
          have : p' φ = p := by simpa using hp
          subst this
          exact ⟨z_holds hL hk d b p' (h1 i b p' hb hq), z_Tm_k (h1 i b p' hb hq)⟩
      rcases hP with ⟨hI, hP⟩ | ⟨hI, hP⟩
      · have := c_X18_holds (al := true) hT hA hAL (ps := Ps.map (fun p => p φ)) (by rw [List.length_map]; exact hlen) hI hc
        rw [hP]
        have e : a_rw true (Ps.map (fun p => p φ)) = Ps.all (fun p => p φ) := by unfold a_rw; rw [if_pos rfl, List.all_map]; rfl
        rw [e] at this
        exact this
      · have := c_X18_holds (al := false) hT hA hAL (ps := Ps.map (fun p => p φ)) (by rw [List.length_map]; exact hlen) hI hc
        rw [hP]
        have e : a_rw false (Ps.map (fun p => p φ)) = Ps.any (fun p => p φ) := by unfold a_rw; rw [if_neg (by decide), List.any_map]; rfl
        rw [e] at this
        exact this
