/-! System.arraycopy in the judgement (by hand). -/
/-- n places of the array a0 from sp on are laid into a from dp on -/
def z_cp (h : z_H) (a0 a sp dp n : Nat) : z_H := (fun b j => if b = a then va_cpy (h.1 a0) (h.1 a) sp dp n j else h.1 b j, fun b j => if b = a then va_cpy (h.2.1 a0) (h.2.1 a) sp dp n j else h.2.1 b j, fun b j => if b = a then va_cpy (h.2.2.1 a0) (h.2.2.1 a) sp dp n j else h.2.2.1 b j, h.2.2.2)
theorem z_cp_o {Γ : z_W} {h : z_H} {a0 a sp dp n b j : Nat} (t : FieldType) (hb : b ≠ a) : z_vt Γ t (z_cp h a0 a sp dp n) b j = z_vt Γ t h b j := by
  have h1 : z_I (z_cp h a0 a sp dp n) b j = z_I h b j := if_neg hb
  have h2 : z_L (z_cp h a0 a sp dp n) b j = z_L h b j := if_neg hb
  have h3 : z_R (z_cp h a0 a sp dp n) b j = z_R h b j := if_neg hb
  cases t <;> simp only [z_vt, h1, h2, h3]
theorem z_cp_a {Γ : z_W} {h : z_H} {a0 a sp dp n j : Nat} (t : FieldType) : z_vt Γ t (z_cp h a0 a sp dp n) a j = va_cpy (fun i => z_vt Γ t h a0 i) (fun i => z_vt Γ t h a i) sp dp n j := by
  have h1 : z_I (z_cp h a0 a sp dp n) a j = va_cpy (h.1 a0) (h.1 a) sp dp n j := if_pos rfl
  have h2 : z_L (z_cp h a0 a sp dp n) a j = va_cpy (h.2.1 a0) (h.2.1 a) sp dp n j := if_pos rfl
  have h3 : z_R (z_cp h a0 a sp dp n) a j = va_cpy (h.2.2.1 a0) (h.2.2.1 a) sp dp n j := if_pos rfl
  unfold va_cpy at h1 h2 h3 ⊢
  by_cases c : dp ≤ j ∧ j < dp + n
  · rw [if_pos c] at h1 h2 h3 ⊢
    cases t <;> simp only [z_vt, h1, h2, h3] <;> rfl
  · rw [if_neg c] at h1 h2 h3 ⊢
    cases t <;> simp only [z_vt, h1, h2, h3] <;> rfl
/-- what may be laid there -/
def z_cpv (h : z_H) (ty : FieldType) (a0 sp n : Nat) : Prop := (refKind ty = false ∧ ∀ i, i < n → ty = .long ∨ (z_kI ty = true ∧ fits ty (.int (z_I h a0 (sp + i))) = true)) ∨ ∃ E, ty = .object E ∧ ∀ i, i < n → ∀ b, z_R h a0 (sp + i) = some b → ∃ c q, z_T h b = some (.inl c) ∧ z_cl[c]? = some q ∧ z_As q.1 E
section ZCOPY
variable {Γ : z_W} {M : z_M} {Q : Outcome → z_H → Prop} {cs ss pc : Nat} {ls : List (Option Value)} {st : List Value} {h : z_H}
theorem z_acopy {a0 a n0 n1 idx sp dp n d k1 k2 : Nat} {ty : FieldType} {xn xd xs : Int32} (hd : decode M.2.1 pc = .ok (.invokestatic idx, 3)) (hlk : Cond.methodLink M.1.cls idx arraycopyName ∈ lw_all) (ht0 : z_T h a0 = some (.inr (ty, n0))) (ht1 : z_T h a = some (.inr (ty, n1))) (hm : ty ∈ z_at) (ha : z_o ≤ a) (en : xn = nI n) (ed : xd = nI dp) (es : xs = nI sp) (h4 : sp + n ≤ n0) (h5 : dp + n ≤ n1) (hn : n0 < 2 ^ 31 ∧ n1 < 2 ^ 31) (hv : z_cpv h ty a0 sp n) (hst : (st.map fun v => v.category).sum ≤ 8) (kk : z_G Γ M (z_rm d k1 k2) Q cs ss (pc + 3) ls st (z_cp h a0 a sp dp n)) : z_G Γ M (z_rm d k1 k2) Q cs ss pc ls (.int xn :: .int xd :: .ref a :: .int xs :: .ref a0 :: st) h := by
  subst en ed es
  intro p l e s m args below meth cd H locs la X hR hL hl
  have hK := X.2.2.2.2.2.2.2.2.2
  have hts := X.2.2.2.2.2.1
  have hf : ty ≠ .float := fun q => by subst q; simp [z_at] at hm
  have hc0 := z_arr hR ht0 hf
  have hc1 := z_arr hR ht1 hf
  have nn : ∀ z : Nat, z < 2 ^ 31 → ¬ nI z < 0 ∧ (nI z).toNatClampNeg = z ∧ (nI z).toInt = (z : Int) := fun z hz => ⟨nI_pos hz, nI_clamp hz, nI_toInt hz⟩
  obtain ⟨p1, p2, p3⟩ := nn sp (by omega)
  obtain ⟨r1, r2, r3⟩ := nn dp (by omega)
  obtain ⟨t1, t2, t3⟩ := nn n (by omega)
  intro T hT S
  obtain ⟨-, k0, hk0, cm0, hkk0⟩ := (hK.2.2.1 ty hm).1 n0 (fun j => z_vt Γ ty h a0 j)
  obtain ⟨-, k1', hk1, cm1, hkk1⟩ := (hK.2.2.1 ty hm).1 n1 (fun j => z_vt Γ ty h a j)
  have cw : ((st.map (z_cv Γ)).map fun v => v.category).sum ≤ 8 := by rw [z_sum]; exact hst
  obtain ⟨vm', X', step⟩ := S.arraycopy X.1 X.2.2.2.2.1 (hts _ hlk) (hts _ q969) (hts _ q968) (hts _ q122) (src := z_ad Γ a0) (dst := z_ad Γ a) (srcPos := nI sp) (destPos := nI dp) (n := nI n) (by rw [hT]; exact hc0) (by rw [hT]; exact hc1)
    (fun _ h => by cases h) (fun _ h => by cases h) (fun h => by cases h) (fun h => by cases h) hk0 hk1 hkk0 hkk1 (by cases refKind ty <;> simp) p1 r1 t1
    (by rw [p3, t3, arrV_size]; omega) (by rw [r3, t3, arrV_size]; omega)
    (fun vm₁ hal i hi => by
      rw [p2]
      rw [t2] at hi
      have e : (arrV (Γ.2.1 ty) n0 (fun j => z_vt Γ ty h a0 j)).slots.getD (sp + i) .null = z_vt Γ ty h a0 (sp + i) := by
        rw [Array.getD_eq_getD_getElem?, arrV_read _ _ (by omega)]
        rfl
      rw [e]
      rcases hv with ⟨v1, v2⟩ | ⟨E, v1, v2⟩
      · rcases v2 i hi with q | ⟨q1, q2⟩
        · subst q
          exact ⟨rfl, trivial⟩
        · rw [z_vtI q1]
          exact ⟨q2, trivial⟩
      · subst v1
        show fits (.object E) (va_rf ((z_R h a0 (sp + i)).map (z_ad Γ))) = true ∧ State.takes _ _ (va_rf ((z_R h a0 (sp + i)).map (z_ad Γ)))
        cases hy : z_R h a0 (sp + i) with
        | none => exact ⟨rfl, trivial⟩
        | some b =>
          obtain ⟨c, q, g1, g2, g3⟩ := v2 i hi b hy
          obtain ⟨cell, u1, u2, u3, u4⟩ := z_obj hR g1 g2
          obtain ⟨kA, comp, w1, w2, w3, -⟩ := (hK.2.2.1 _ hm).2
          cases hk1.symm.trans w1
          cases hkk1.symm.trans w2
          have hcls := (hK.2.1 c q g2).2
          obtain ⟨kC, hkC, -⟩ := hcls.2
          obtain ⟨kE, hkE, -⟩ := Vm.findClass_spec w3
          obtain ⟨kC', hkC', -⟩ := hal.2.2 _ _ hkC
          obtain ⟨kE', hkE', -⟩ := hal.2.2 _ _ hkE
          have hasg : s.vm.assignable (Γ.1.1 c) cm1 = true := by
            rcases g3 with e | hw
            · subst e
              have : cm1 = Γ.1.1 c := Option.some.inj (w3.symm.trans hcls.1)
              rw [this]
              exact va_assign hcls
            · obtain ⟨c0, t0, f1, f2, f3⟩ := Cond.castable_spec (va_Nw.use (A := args) rfl (hK.2.2.2.1 _ hw rfl))
              cases hcls.1.symm.trans f1
              cases w3.symm.trans f2
              exact f3
          refine ⟨rfl, cell, (show T.heap[z_ad Γ b]? = some cell by rw [hT]; exact u1), (fun q h => by rw [u3] at h; cases h), ?_, ⟨kE', hkE'⟩, ?_⟩
          · rw [u2]; exact ⟨kC', hkC'⟩
          · show vm₁.assignable _ _ = true
            rw [hal.assignable, u2]
            exact hasg)
    (g := F0 m pc la (.int (nI n) :: .int (nI dp) :: .ref (z_ad Γ a) :: .int (nI sp) :: .ref (z_ad Γ a0) :: st.map (z_cv Γ))) rfl (by rw [X.2.2.1]; exact hl.1) (rest := st.map (z_cv Γ)) rfl (by rw [X.2.1]; exact hd) (by show 1 ≤ d + 64; omega) (by
      have : nativeFrameWords "java/lang/System" "arraycopy" 5 + 11 ≤ 10000 := by decide +kernel
      show 2 * 0 + _ + _ ≤ 64 * d + 20000
      omega)
  have e1 : copied (arrV (Γ.2.1 ty) n0 (fun j => z_vt Γ ty h a0 j)) (arrV (Γ.2.1 ty) n1 (fun j => z_vt Γ ty h a j)) (nI sp) (nI dp) (nI n) = arrV (Γ.2.1 ty) n1 (fun j => z_vt Γ ty (z_cp h a0 a sp dp n) a j) := by
    unfold copied
    rw [p2, r2, t2, va_copied (fun z => z) _ _ _ _ h4]
    congr 1
    funext j
    exact (z_cp_a ty).symm
  rw [e1] at X' step
  have hlt : z_ad Γ a < H.size := (Array.getElem?_eq_some_iff.mp hc1).1
  have hheap : ((T.setVm vm').setCell (z_ad Γ a) (arrV (Γ.2.1 ty) n1 (fun j => z_vt Γ ty (z_cp h a0 a sp dp n) a j))).heap = H.setIfInBounds (z_ad Γ a) (arrV (Γ.2.1 ty) n1 (fun j => z_vt Γ ty (z_cp h a0 a sp dp n) a j)) := by rw [← hT]; rfl
  have hR' : z_Rl Γ (z_cp h a0 a sp dp n) (H.setIfInBounds (z_ad Γ a) (arrV (Γ.2.1 ty) n1 (fun j => z_vt Γ ty (z_cp h a0 a sp dp n) a j))) := by
    refine z_Rl.set hK.1 hR ha rfl (fun _ => rfl) (fun b t j hne => z_cp_o t hne) (by simp) (fun q hq => by simp [Array.getElem?_setIfInBounds, Ne.symm hq]) ?_
    unfold z_ce
    rw [show z_T (z_cp h a0 a sp dp n) a = some (.inr (ty, n1)) from ht1]
    exact z_ca.of hf (by simp [Array.getElem?_setIfInBounds, hlt])
  obtain ⟨t, a1, b1⟩ := kk p l e s m args below meth cd _ _ la X hR' (fun q hq => by
      rcases List.mem_append.mp hq with h | h
      · exact hL q h
      · obtain ⟨z, -, hz⟩ := List.mem_map.mp h
        rw [← hz]
        show z_B Γ ≤ z_ad Γ a
        rw [hK.1.1 a ha]
        omega) hl _ hheap X'
  exact ⟨t, step t a1, b1⟩
end ZCOPY
