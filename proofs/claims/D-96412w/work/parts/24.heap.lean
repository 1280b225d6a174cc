/-! ROWS of z_G: fields, arrays, new cells -/
set_option maxRecDepth 100000 in
theorem z_clf : ∀ (c : Nat) (q : vw_C), z_cl[c]? = some q → (∀ w ∈ u_ws q.1 q.2.1 q.2.2, w ∈ lw_all) ∧ (∀ k, k < q.2.2 → parseFieldDescriptor (q.2.1 k).2.2.1 = some (z_ty c k)) ∧ ∀ a, a < q.2.2 → ∀ b, b < q.2.2 → a ≠ b → (q.2.1 a).2.1 ≠ (q.2.1 b).2.1 := by
  intro c q h
  match c, h with
  | 0, h => cases h; exact ⟨in_X0, tyX0_ok, nmX0⟩
  | 1, h => cases h; exact ⟨in_X1, tyX1_ok, nmX1⟩
  | 2, h => cases h; exact ⟨in_X2, tyX2_ok, nmX2⟩
  | 3, h => cases h; exact ⟨in_X3, tyX3_ok, nmX3⟩
  | 4, h => cases h; exact ⟨in_X4, tyX4_ok, nmX4⟩
  | 5, h => cases h; exact ⟨in_X5, tyX5_ok, nmX5⟩
  | 6, h => cases h; exact ⟨in_X6, tyX6_ok, nmX6⟩
  | 7, h => cases h; exact ⟨in_X7, tyX7_ok, nmX7⟩
  | 8, h => cases h; exact ⟨in_X8, tyX8_ok, nmX8⟩
  | 9, h => cases h; exact ⟨in_X9, tyX9_ok, nmX9⟩
  | 10, h => cases h; exact ⟨in_X10, tyX10_ok, nmX10⟩
  | 11, h => cases h; exact ⟨in_X11, tyX11_ok, nmX11⟩
  | 12, h => cases h; exact ⟨in_X12, tyX12_ok, nmX12⟩
  | 13, h => cases h; exact ⟨in_X13, tyX13_ok, nmX13⟩
  | 14, h => cases h; exact ⟨in_X14, tyX14_ok, nmX14⟩
  | 15, h => cases h; exact ⟨in_X15, tyX15_ok, nmX15⟩
  | 16, h => cases h; exact ⟨in_X16, tyX16_ok, nmX16⟩
  | 17, h => cases h; exact ⟨in_X16, tyX16_ok, nmX16⟩
  | 18, h => cases h; exact ⟨in_X18, tyX18_ok, nmX18⟩
  | 19, h => cases h; exact ⟨in_X19, tyX19_ok, nmX19⟩
  | 20, h => cases h; exact ⟨in_X20, tyX20_ok, nmX20⟩
  | 21, h => cases h; exact ⟨in_J2, tyJ2_ok, nmJ2⟩
  | 22, h => cases h; exact ⟨in_J6, tyJ6_ok, nmJ6⟩
  | c + 23, h => simp [z_cl] at h
/-- field k of the class c is what the entry idx of 'own' names -/
def z_Fl (own : String) (idx c k : Nat) : Prop := ∃ (q : vw_C) (ref : String), z_cl[c]? = some q ∧ k < q.2.2 ∧ ((Cond.fieldLink own idx ref (q.2.1 k).2.1 (q.2.1 k).2.2.1 ∈ lw_all) ∨ ∃ host, Cond.fieldLinkNest own idx ref (q.2.1 k).2.1 (q.2.1 k).2.2.1 host ∈ lw_tbl) ∧ (ref = (q.2.1 k).1 ∨ Cond.sameField ref (q.2.1 k).1 (q.2.1 k).2.1 (q.2.1 k).2.2.1 ∈ lw_all)
/-- .. and the method y may write it -/
def z_Pl (y : MethodName) (idx c k : Nat) : Prop := z_Fl y.cls idx c k ∧ ∀ q : vw_C, z_cl[c]? = some q → (q.2.1 k).2.2.2 = false ∨ (((q.2.1 k).2.2.2 = true ∧ y.name = "<init>" ∧ (q.2.1 k).1 = y.cls) ∧ ∃ ref, Cond.fieldLink y.cls idx ref (q.2.1 k).2.1 (q.2.1 k).2.2.1 ∈ lw_all ∧ ref = (q.2.1 k).1)
section ZVT
variable {Γ : z_W} {ty : FieldType} {h : z_H} {a b k j : Nat}
theorem z_vt_sI (x : Int32) (hne : b ≠ a ∨ j ≠ k) : z_vt Γ ty (z_sI h a k x) b j = z_vt Γ ty h b j := by
  have e : ¬ (b = a ∧ j = k) := fun q => hne.elim (fun h1 => h1 q.1) (fun h1 => h1 q.2)
  cases ty <;> simp only [z_vt, z_II, z_LI, z_RI, if_neg e]
theorem z_vt_sL (x : Int64) (hne : b ≠ a ∨ j ≠ k) : z_vt Γ ty (z_sL h a k x) b j = z_vt Γ ty h b j := by
  have e : ¬ (b = a ∧ j = k) := fun q => hne.elim (fun h1 => h1 q.1) (fun h1 => h1 q.2)
  cases ty <;> simp only [z_vt, z_IL, z_LL, z_RL, if_neg e]
theorem z_vt_sR (x : Option Nat) (hne : b ≠ a ∨ j ≠ k) : z_vt Γ ty (z_sR h a k x) b j = z_vt Γ ty h b j := by
  have e : ¬ (b = a ∧ j = k) := fun q => hne.elim (fun h1 => h1 q.1) (fun h1 => h1 q.2)
  cases ty <;> simp only [z_vt, z_IR, z_LR, z_RR, if_neg e]
end ZVT
/-- int-like types -/
def z_kI : FieldType → Bool
  | .int => true | .byte => true | .short => true | .char => true | .boolean => true | _ => false
def z_kR : FieldType → Bool
  | .object _ => true | .array _ => true | _ => false
theorem z_vtI {Γ : z_W} {ty : FieldType} {h : z_H} {a k : Nat} (hk : z_kI ty = true) : z_vt Γ ty h a k = .int (z_I h a k) := by cases ty <;> first | rfl | cases hk
theorem z_vtR {Γ : z_W} {ty : FieldType} {h : z_H} {a k : Nat} (hk : z_kR ty = true) : z_vt Γ ty h a k = va_rf ((z_R h a k).map (z_ad Γ)) := by cases ty <;> first | rfl | cases hk
section ZHEAP
variable {Γ : z_W} {M : z_M} {rm : Room} {Q : Outcome → z_H → Prop} {cs ss pc : Nat} {ls : List (Option Value)} {st : List Value} {h : z_H}
theorem z_get {c k a idx : Nat} {v : Value} (hd : decode M.2.1 pc = .ok (.getfield idx, 3)) (hF : z_Fl M.1.cls idx c k) (ht : z_T h a = some (.inl c)) (hv : z_vt Γ (z_ty c k) h a k = z_cv Γ v) (kk : z_G Γ M rm Q cs ss (pc + 3) ls (v :: st) h) : z_G Γ M rm Q cs ss pc ls (.ref a :: st) h := by
  intro p l e s m args below meth cd H locs la X hR hL hl
  obtain ⟨q, ref, hq, hk, hlink, hsame⟩ := hF
  obtain ⟨hin, hty, hnm⟩ := z_clf c q hq
  have hK := X.2.2.2.2.2.2.2.2.2
  have hts := X.2.2.2.2.2.1
  obtain ⟨cell, q1, q2, q3, q4⟩ := z_obj hR ht hq
  obtain ⟨hS, hfc, kC, hkC, hkind⟩ := hK.2.1 c q hq
  obtain ⟨cf, kf, fi, f, hi, hsl⟩ := hS k hk
  have hst := (u_facts hfc hkC (u_lays hts hin hk) hi).1
  have hi' : s.fieldFound? ref (q.2.1 k).2.1 (q.2.1 k).2.2.1 = some (cf, kf, fi, f) := by
    rcases hsame with e | hs
    · rw [e]; exact hi
    · exact u_same (hts _ hs) _ hi
  have hslot : cell.slots[f.slot]? = some (z_cv Γ v) := by rw [hsl, q4 k hk]; exact congrArg some hv
  have hkn : cell.vm ≠ .unknown := by rw [q3]; exact fun h => by cases h
  rcases hlink with hl1 | ⟨host, hl1⟩
  · exact W.getf X.1 X.2.1 X.2.2.2.2.1 (hts _ hl1) hi' hst q1 hkn hslot rfl rfl hd (kk p l e s m args below meth cd H locs la X hR hL hl)
  · exact va_Wgetf X.1 X.2.1 X.2.2.2.2.1 (va_Nw.use rfl (hK.2.2.2.1 _ hl1 rfl)) hi' hst q1 hkn hslot rfl rfl hd (kk p l e s m args below meth cd H locs la X hR hL hl)
theorem z_getI {c k a idx : Nat} (hd : decode M.2.1 pc = .ok (.getfield idx, 3)) (hF : z_Fl M.1.cls idx c k) (ht : z_T h a = some (.inl c)) (hk : z_kI (z_ty c k) = true) (kk : z_G Γ M rm Q cs ss (pc + 3) ls (.int (z_I h a k) :: st) h) : z_G Γ M rm Q cs ss pc ls (.ref a :: st) h := z_get hd hF ht (z_vtI hk) kk
theorem z_getL {c k a idx : Nat} (hd : decode M.2.1 pc = .ok (.getfield idx, 3)) (hF : z_Fl M.1.cls idx c k) (ht : z_T h a = some (.inl c)) (hk : z_ty c k = .long) (kk : z_G Γ M rm Q cs ss (pc + 3) ls (.long (z_L h a k) :: st) h) : z_G Γ M rm Q cs ss pc ls (.ref a :: st) h := z_get hd hF ht (by rw [hk]; rfl) kk
theorem z_getR {c k a idx : Nat} (b : Nat) (hd : decode M.2.1 pc = .ok (.getfield idx, 3)) (hF : z_Fl M.1.cls idx c k) (ht : z_T h a = some (.inl c)) (hk : z_kR (z_ty c k) = true) (hb : z_R h a k = some b) (kk : z_G Γ M rm Q cs ss (pc + 3) ls (.ref b :: st) h) : z_G Γ M rm Q cs ss pc ls (.ref a :: st) h := z_get hd hF ht (by rw [z_vtR hk, hb]; rfl) kk
theorem z_getN {c k a idx : Nat} (hd : decode M.2.1 pc = .ok (.getfield idx, 3)) (hF : z_Fl M.1.cls idx c k) (ht : z_T h a = some (.inl c)) (hk : z_kR (z_ty c k) = true) (hb : z_R h a k = none) (kk : z_G Γ M rm Q cs ss (pc + 3) ls (.null :: st) h) : z_G Γ M rm Q cs ss pc ls (.ref a :: st) h := z_get hd hF ht (by rw [z_vtR hk, hb]; rfl) kk
theorem z_put {c k a idx : Nat} {v : Value} {h' : z_H} (hd : decode M.2.1 pc = .ok (.putfield idx, 3)) (hF : z_Pl M.1 idx c k) (ht : z_T h a = some (.inl c)) (ha : z_o ≤ a) (hn : narrow (z_ty c k) (z_cv Γ v) = z_cv Γ v) (hf : fits (z_ty c k) (z_cv Γ v) = true)
    (hn' : z_n h' = z_n h) (hT : ∀ b, z_T h' b = z_T h b) (ho : ∀ b ty j, b ≠ a ∨ j ≠ k → z_vt Γ ty h' b j = z_vt Γ ty h b j) (hv : z_vt Γ (z_ty c k) h' a k = z_cv Γ v) (kk : z_G Γ M rm Q cs ss (pc + 3) ls st h') : z_G Γ M rm Q cs ss pc ls (v :: .ref a :: st) h := by
  intro p l e s m args below meth cd H locs la X hR hL hl
  obtain ⟨⟨q, ref, hq, hk, hlink, hsame⟩, hfin⟩ := hF
  obtain ⟨hin, hty, hnm⟩ := z_clf c q hq
  have hK := X.2.2.2.2.2.2.2.2.2
  have hts := X.2.2.2.2.2.1
  obtain ⟨cell, q1, q2, q3, q4⟩ := z_obj hR ht hq
  obtain ⟨hS, hfc, kC, hkC, hkind⟩ := hK.2.1 c q hq
  obtain ⟨cf, kf, fi, f, hi, hsl⟩ := hS k hk
  have hap : ∀ x y, x < q.2.2 → y < q.2.2 → x ≠ y → (Γ.1.2 c) x ≠ (Γ.1.2 c) y := by
    intro x y hx hy hne
    obtain ⟨_, _, _, fa, hia, ea⟩ := hS x hx
    obtain ⟨_, _, _, fb, hib, eb⟩ := hS y hy
    rw [← ea, ← eb]
    refine u_apart (u_lays hts hin hx) (u_lays hts hin hy) hia hib ?_
    rw [(State.fieldFound?_type hia (hty x hx)).1, (State.fieldFound?_type hib (hty y hy)).1]
    exact hnm x hx y hy hne
  have hst := (u_facts hfc hkC (u_lays hts hin hk) hi).1
  have hlay := hts _ (hin _ (u_in_lay hk))
  unfold u_lay at hlay
  have hi' : s.fieldFound? ref (q.2.1 k).2.1 (q.2.1 k).2.2.1 = some (cf, kf, fi, f) := by
    rcases hsame with e | hs
    · rw [e]; exact hi
    · exact u_same (hts _ hs) _ hi
  have hlt : f.slot < cell.slots.size := by rw [hsl]; exact k2_hasslot (q4 k hk)
  have fin : ∀ H' : Heap, H'[z_ad Γ a]? = some (cell.setSlot f.slot (z_cv Γ v)) → H'.size = H.size → (∀ x, x ≠ z_ad Γ a → H'[x]? = H[x]?) → W p l e rm s m args below meth cd H' (locs ++ [⟨z_ad Γ a, f.slot⟩]) cs ss (z_MQ Γ Q rm below s) (F0 m (pc + 3) la (st.map (z_cv Γ))) := by
    intro H' e1 e2 e3
    refine kk p l e s m args below meth cd H' _ la X (z_Rl.set hK.1 hR ha hn' hT (fun b ty j hne => ho b ty j (Or.inl hne)) e2 e3 ?_) ?_ hl
    · unfold z_ce
      rw [hT, ht]
      refine ⟨q, hq, t_OB.to (V := updV (fun j => z_vt Γ (z_ty c j) h a j) k (z_cv Γ v)) ⟨_, e1, q2, q3, ?_⟩ ?_⟩
      · rw [hsl]
        exact t_set q4 hap hk _
      · intro j hj
        unfold updV
        by_cases e : j = k
        · rw [if_pos e, e, hv]
        · rw [if_neg e, ho a _ j (Or.inr e)]
    · intro x hx
      rcases List.mem_append.mp hx with h1 | h1
      · exact hL x h1
      · rw [List.mem_singleton] at h1
        subst h1
        show z_B Γ ≤ z_ad Γ a
        rw [hK.1.1 a ha]
        omega
  rcases hfin q hq with hfi | ⟨⟨hfi, hin2, hdecl⟩, ref2, hlink2, hr2⟩
  · rw [if_neg (by rw [hfi]; decide)] at hlay
    have h6 := u_store hfc hkC hkind hlay hi (hty k hk) hn hf
    rcases hlink with hl1 | ⟨host, hl1⟩
    · exact W.putK X.1 X.2.1 (f := f) ⟨X.2.2.2.2.1, hts _ hl1, ⟨_, _, _, hi'⟩, hst⟩ (by rw [q2]; exact h6) q1 q3 hlt rfl rfl hd fin
    · exact va_WputK X.1 X.2.1 (f := f) X.2.2.2.2.1 (va_Nw.use rfl (hK.2.2.2.1 _ hl1 rfl)) hi' hst (by rw [q2]; exact h6) q1 q3 hlt rfl rfl hd fin
  · rw [if_pos hfi] at hlay
    have hcf : m.cls = cf := by
      obtain ⟨_, _, c', _, _, _, -, -, hf', -, -, -, hown2, -⟩ := Cond.laysFinal_spec hlay
      have e1 : c' = cf := by have := hi.symm.trans hf'; simp at this; exact this.1.symm
      rw [hdecl] at hown2
      rw [← e1]; exact Option.some.inj (X.2.2.2.2.1.symm.trans hown2)
    have h6 := u_fits hfc hkC hkind (Or.inr hlay) hi (hty k hk) hn hf
    exact W.putFinK X.1 X.2.1 X.2.2.2.2.1 (hts _ hlink2) (hr2 ▸ hi) hst hcf (X.2.2.2.2.2.2.2.1.trans hin2) (by rw [q2]; exact h6) q1 q3 hlt rfl rfl hd fin
end ZHEAP
