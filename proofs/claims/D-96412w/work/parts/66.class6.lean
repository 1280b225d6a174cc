/-! THE CLASS: an air (printed by class6.py) -/
set_option maxRecDepth 20000
abbrev z_Cs : Type := List (Int32 × ((Int32 → Int32) → Bool))
/-- an air object: base, safe, its clauses -/
def z_Ar (h : z_H) (a : Nat) (bs sf : Int32) (Cs : z_Cs) : Prop := z_T h a = some (.inl 2) ∧ z_I h a 2 = bs ∧ z_I h a 3 = sf ∧ ∃ (L : Nat) (ids : List Nat), z_R h a 0 = some L ∧ z_AL h L ids ∧ ids.length = Cs.length ∧ ∀ (i b : Nat) (c : Int32 × ((Int32 → Int32) → Bool)), ids[i]? = some b → Cs[i]? = some c → z_T h b = some (.inl 16) ∧ z_I h b 0 = c.1 ∧ ∃ t, z_R h b 1 = some t ∧ z_Tm 12 h t c.2
def a_ms (φ : Int32 → Int32) : z_Cs → Int32 → Int32
  | [], s => s
  | c :: r, s => a_ms φ r (if c.2 φ = true then s + c.1 else s)
theorem c_X2_safely {Γ : z_W} {h : z_H} {L : Nat}  (hT : z_T h L = some (.inl 2))  : z_C Γ M_X2_safely (z_rm 1 0 0) [.ref L] h (z_ri (10 * z_I h L 3) h) := by
  refine z_C.of (by decide +kernel) rfl [some (.ref L)] (Nat.le_of_ble_eq_true rfl) rfl ?_
  refine z_bipush (v := 10) dX2_safely_0 rfl ?_
  refine z_aload_n dX2_safely_2 rfl rfl ?_
  refine z_getI dX2_safely_3 fl_X2_22_2 hT rfl ?_
  refine z_imul dX2_safely_6 ?_
  refine z_iret dX2_safely_7 rfl rfl (Nat.le_refl _) (Nat.le_refl _) (z_ri_i ?_ ?_)
  · rfl
  · rfl
theorem c_X2_top {Γ : z_W} {h : z_H} {L : Nat}  (hT : z_T h L = some (.inl 2))  : z_C Γ M_X2_top (z_rm 2 0 0) [.ref L] h (z_ri (if 10 * z_I h L 2 < 400 then 10 * z_I h L 2 else 400) h) := by
  refine z_C.of (by decide +kernel) rfl [some (.ref L)] (Nat.le_of_ble_eq_true rfl) rfl ?_
  refine z_sipush (v := 400) dX2_top_0 rfl ?_
  refine z_bipush (v := 10) dX2_top_3 rfl ?_
  refine z_aload_n dX2_top_5 rfl rfl ?_
  refine z_getI dX2_top_6 fl_X2_18_2 hT rfl ?_
  refine z_imul dX2_top_9 ?_
  refine z_scall sl_X2_48 (c_J3_min) dX2_top_10 rfl rfl ⟨by decide, by decide⟩ (Nat.le_of_ble_eq_true rfl) (Nat.le_refl _) (Nat.le_refl _) (z_cI ?_) z_tI
  refine z_iret dX2_top_13 rfl rfl (Nat.le_refl _) (Nat.le_refl _) (z_ri_i ?_ ?_)
  · rfl
  · rfl
theorem lp_X2_more {Γ : z_W} {h : z_H} {φ : Int32 → Int32} {L A : Nat} {ids : List Nat} {Cs : z_Cs} (hT : z_T h L = some (.inl 2)) (hA : z_R h L 0 = some A) (hAL : z_AL h A ids) (hlen : ids.length = Cs.length) (hall : ∀ (i b : Nat) (c : Int32 × ((Int32 → Int32) → Bool)), ids[i]? = some b → Cs[i]? = some c → z_T h b = some (.inl 16) ∧ z_I h b 0 = c.1 ∧ ∃ t, z_R h b 1 = some t ∧ z_Tm 12 h t c.2) (hL : z_T h 25 = some (.inl 3)) (hk : z_Lk h φ) : ∀ (r i : Nat) (s : Int32), i + r = ids.length → z_G Γ M_X2_more (z_rm 31 0 0) (z_ri (a_ms φ (Cs.drop i) s) h) 0 0 4 [some (.ref L), some (.ref 25), some (.int s), some (.int (nI i))] [] h := by
  have hTA := hAL.1
  have hs := hAL.2.1
  have hl := hAL.2.2.1
  intro r
  induction r with
  | zero =>
    intro i s hi
    have hi1 : i = ids.length := by omega
    have e0 : Cs.drop i = [] := List.drop_eq_nil_of_le (by omega)
    refine z_iload_n dX2_more_4 rfl rfl ?_
    refine z_aload_n dX2_more_5 rfl rfl ?_
    refine z_getR A dX2_more_6 fl_X2_12_2 hT rfl hA ?_
    refine z_vcall vl_X2_25_21 (c_J2_size hTA) dX2_more_9 rfl rfl hTA ⟨by decide, by decide⟩ (Nat.le_of_ble_eq_true rfl) (Nat.le_refl _) (Nat.le_refl _) (z_cI ?_) z_tI
    refine z_eqi (nI ids.length) hs ?_
    refine z_icmp_ge 59 dX2_more_12 (by decide) (fun _ => ?_) (fun q => by first | exact absurd (nI_le (by omega) (by omega)) q | exact absurd q (nI_le (by omega) (by omega)))
    refine z_iload_n dX2_more_59 rfl rfl ?_
    refine z_iret dX2_more_60 rfl rfl (Nat.le_refl _) (Nat.le_refl _) (z_ri_i ?_ ?_)
    · rw [e0]; rfl
    · rfl
  | succ r ih =>
    intro i s hi
    have hi2 : i < ids.length := by omega
    obtain ⟨b, hb⟩ : ∃ b, ids[i]? = some b := ⟨_, List.getElem?_eq_getElem hi2⟩
    obtain ⟨c, hp⟩ : ∃ c, Cs[i]? = some c := ⟨_, List.getElem?_eq_getElem (by omega)⟩
    obtain ⟨hTb, hcn, t, ht, hm⟩ := hall i b c hb hp
    have hC := z_holds (Γ := Γ) hL hk 12 t c.2 hm
    have ed : Cs.drop i = c :: Cs.drop (i + 1) := by
      obtain ⟨h1, h2⟩ := List.getElem?_eq_some_iff.mp hp
      rw [List.drop_eq_getElem_cons h1, h2]
    refine z_iload_n dX2_more_4 rfl rfl ?_
    refine z_aload_n dX2_more_5 rfl rfl ?_
    refine z_getR A dX2_more_6 fl_X2_12_2 hT rfl hA ?_
    refine z_vcall vl_X2_25_21 (c_J2_size hTA) dX2_more_9 rfl rfl hTA ⟨by decide, by decide⟩ (Nat.le_of_ble_eq_true rfl) (Nat.le_refl _) (Nat.le_refl _) (z_cI ?_) z_tI
    refine z_eqi (nI ids.length) hs ?_
    refine z_icmp_ge 59 dX2_more_12 (by decide) (fun q => by first | exact absurd q (nI_ge hi2 (by omega)) | exact absurd (nI_ge hi2 (by omega)) q) (fun _ => ?_)
    refine z_aload_n dX2_more_15 rfl rfl ?_
    refine z_getR A dX2_more_16 fl_X2_12_2 hT rfl hA ?_
    refine z_iload_n dX2_more_19 rfl rfl ?_
    refine z_vcall vl_X2_29_21 (c_J2_get hAL hb) dX2_more_20 rfl rfl hTA ⟨by decide, by decide⟩ (Nat.le_of_ble_eq_true rfl) (Nat.le_refl _) (Nat.le_refl _) (z_cR ?_) z_tR
    refine z_castS q578 rfl rfl hTb dX2_more_23 ?_
    refine z_getR t dX2_more_26 fl_X2_35_16 hTb rfl ht ?_
    refine z_aload_n dX2_more_29 rfl rfl ?_
    refine z_site_X2 (Nat.le_of_ble_eq_true rfl) hC (by decide) (Nat.le_refl _) (Nat.le_refl _) ?_
    refine z_bif_eq 53 dX2_more_33 (by decide) (fun c33 => ?_) (fun c33 => ?_)
    · refine z_iinc (v := nI (i + 1)) dX2_more_53 rfl (nI_succ _).symm (by decide) rfl ?_
      refine z_goto 4 dX2_more_56 (by decide) ?_
      rw [ed, a_ms, if_neg c33]
      exact ih (i + 1) _ (by omega)
    · refine z_iload_n dX2_more_36 rfl rfl ?_
      refine z_aload_n dX2_more_37 rfl rfl ?_
      refine z_getR A dX2_more_38 fl_X2_12_2 hT rfl hA ?_
      refine z_iload_n dX2_more_41 rfl rfl ?_
      refine z_vcall vl_X2_29_21 (c_J2_get hAL hb) dX2_more_42 rfl rfl hTA ⟨by decide, by decide⟩ (Nat.le_of_ble_eq_true rfl) (Nat.le_refl _) (Nat.le_refl _) (z_cR ?_) z_tR
      refine z_castS q578 rfl rfl hTb dX2_more_45 ?_
      refine z_getI dX2_more_48 fl_X2_45_16 hTb rfl ?_
      refine z_eqi (c.1) hcn ?_
      refine z_iadd dX2_more_51 ?_
      refine z_istore_n dX2_more_52 rfl (by decide) rfl ?_
      refine z_iinc (v := nI (i + 1)) dX2_more_53 rfl (nI_succ _).symm (by decide) rfl ?_
      refine z_goto 4 dX2_more_56 (by decide) ?_
      rw [ed, a_ms, if_pos c33]
      exact ih (i + 1) _ (by omega)
theorem c_X2_more {Γ : z_W} {h : z_H} {φ : Int32 → Int32} {L : Nat} {bs sf : Int32} {Cs : z_Cs} (hA0 : z_Ar h L bs sf Cs) (hL : z_T h 25 = some (.inl 3)) (hk : z_Lk h φ) : z_C Γ M_X2_more (z_rm 31 0 0) [.ref L, .ref 25] h (z_ri (a_ms φ Cs 0) h) := by
  obtain ⟨hT, -, -, A, ids, hA, hAL, hlen, hall⟩ := hA0
  refine z_C.of (by decide +kernel) rfl [some (.ref L), some (.ref 25), none, none] (Nat.le_of_ble_eq_true rfl) rfl ?_
  refine z_iconst (v := 0) dX2_more_0 rfl ?_
  refine z_istore_n dX2_more_1 rfl (by decide) rfl ?_
  refine z_iconst (v := 0) dX2_more_2 rfl ?_
  refine z_istore_n dX2_more_3 rfl (by decide) rfl ?_
  exact lp_X2_more hT hA hAL hlen hall hL hk _ 0 0 (Nat.zero_add _)
