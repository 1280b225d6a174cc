/-! ROWS of z_G: stores by type, arrays, new cells -/
section ZARR
variable {Γ : z_W} {M : z_M} {rm : Room} {Q : Outcome → z_H → Prop} {cs ss pc : Nat} {ls : List (Option Value)} {st : List Value} {h : z_H}
theorem z_putI {c k a idx : Nat} {x : Int32} (hd : decode M.2.1 pc = .ok (.putfield idx, 3)) (hF : z_Pl M.1 idx c k) (ht : z_T h a = some (.inl c)) (ha : z_o ≤ a) (hk : z_ty c k = .int) (kk : z_G Γ M rm Q cs ss (pc + 3) ls st (z_sI h a k x)) : z_G Γ M rm Q cs ss pc ls (.int x :: .ref a :: st) h :=
  z_put (h' := z_sI h a k x) hd hF ht ha (by rw [hk]; rfl) (by rw [hk]; rfl) rfl (fun _ => rfl) (fun b ty j hne => z_vt_sI x hne) (by rw [hk]; show Value.int _ = Value.int x; rw [z_II, if_pos ⟨rfl, rfl⟩]) kk
theorem z_putZ {c k a idx : Nat} {x : Int32} (hd : decode M.2.1 pc = .ok (.putfield idx, 3)) (hF : z_Pl M.1 idx c k) (ht : z_T h a = some (.inl c)) (ha : z_o ≤ a) (hk : z_ty c k = .boolean) (hx : narrow .boolean (.int x) = .int x ∧ fits .boolean (.int x) = true) (kk : z_G Γ M rm Q cs ss (pc + 3) ls st (z_sI h a k x)) : z_G Γ M rm Q cs ss pc ls (.int x :: .ref a :: st) h :=
  z_put (h' := z_sI h a k x) hd hF ht ha (by rw [hk]; exact hx.1) (by rw [hk]; exact hx.2) rfl (fun _ => rfl) (fun b ty j hne => z_vt_sI x hne) (by rw [hk]; show Value.int _ = Value.int x; rw [z_II, if_pos ⟨rfl, rfl⟩]) kk
theorem z_putL {c k a idx : Nat} {x : Int64} (hd : decode M.2.1 pc = .ok (.putfield idx, 3)) (hF : z_Pl M.1 idx c k) (ht : z_T h a = some (.inl c)) (ha : z_o ≤ a) (hk : z_ty c k = .long) (kk : z_G Γ M rm Q cs ss (pc + 3) ls st (z_sL h a k x)) : z_G Γ M rm Q cs ss pc ls (.long x :: .ref a :: st) h :=
  z_put (h' := z_sL h a k x) hd hF ht ha (by rw [hk]; rfl) (by rw [hk]; rfl) rfl (fun _ => rfl) (fun b ty j hne => z_vt_sL x hne) (by rw [hk]; show Value.long _ = Value.long x; rw [z_LL, if_pos ⟨rfl, rfl⟩]) kk
theorem z_kR_ok {ty : FieldType} {v : Value} (hk : z_kR ty = true) (hv : v = .null ∨ ∃ b, v = .ref b) : narrow ty v = v ∧ fits ty v = true := by
  rcases hv with e | ⟨b, e⟩ <;> subst e <;> cases ty <;> first | (cases hk; done) | exact ⟨rfl, rfl⟩
theorem z_putR {c k a b idx : Nat} (hd : decode M.2.1 pc = .ok (.putfield idx, 3)) (hF : z_Pl M.1 idx c k) (ht : z_T h a = some (.inl c)) (ha : z_o ≤ a) (hk : z_kR (z_ty c k) = true) (kk : z_G Γ M rm Q cs ss (pc + 3) ls st (z_sR h a k (some b))) : z_G Γ M rm Q cs ss pc ls (.ref b :: .ref a :: st) h :=
  z_put (h' := z_sR h a k (some b)) hd hF ht ha (z_kR_ok hk (Or.inr ⟨_, rfl⟩)).1 (z_kR_ok hk (Or.inr ⟨_, rfl⟩)).2 rfl (fun _ => rfl) (fun b ty j hne => z_vt_sR _ hne) (by rw [z_vtR hk, z_RR, if_pos ⟨rfl, rfl⟩]; rfl) kk
theorem z_putN {c k a idx : Nat} (hd : decode M.2.1 pc = .ok (.putfield idx, 3)) (hF : z_Pl M.1 idx c k) (ht : z_T h a = some (.inl c)) (ha : z_o ≤ a) (hk : z_kR (z_ty c k) = true) (kk : z_G Γ M rm Q cs ss (pc + 3) ls st (z_sR h a k none)) : z_G Γ M rm Q cs ss pc ls (.null :: .ref a :: st) h :=
  z_put (h' := z_sR h a k none) hd hF ht ha (z_kR_ok hk (Or.inl rfl)).1 (z_kR_ok hk (Or.inl rfl)).2 rfl (fun _ => rfl) (fun b ty j hne => z_vt_sR _ hne) (by rw [z_vtR hk, z_RR, if_pos ⟨rfl, rfl⟩]; rfl) kk
theorem z_ain {cA : ClassId} {n j : Nat} {f : Nat → Value} (hj : j < n) (hn : n < 2 ^ 31) : ¬ (nI j < 0 ∨ (arrV cA n f).slots.size ≤ (nI j).toNatClampNeg) := by
  rw [arrV_size]; exact vp_in_nI hj hn
theorem z_aget {cA : ClassId} {n j : Nat} {f : Nat → Value} (hj : j < n) (hn : n < 2 ^ 31) : (arrV cA n f).slots[(nI j).toNatClampNeg]? = some (f j) := by
  rw [nI_clamp (by omega), arrV_read _ _ hj]
theorem z_alen {a n : Nat} {ty : FieldType} (hd : decode M.2.1 pc = .ok (.arraylength, 1)) (ht : z_T h a = some (.inr (ty, n))) (hm : ty ∈ z_at) (kk : z_G Γ M rm Q cs ss (pc + 1) ls (.int (nI n) :: st) h) : z_G Γ M rm Q cs ss pc ls (.ref a :: st) h :=
  fun p l e s m args below meth c H locs la X hR hL hl => W.alen X.1 X.2.1 (z_arr hR ht (fun q => by subst q; simp [z_at] at hm)) ((X.2.2.2.2.2.2.2.2.2.2.2.1 _ hm).1 n _) (by rw [arrV_size]; rfl) rfl rfl hd (kk p l e s m args below meth c H locs la X hR hL hl)
theorem z_iald {a n : Nat} (j : Nat) {i : Int32} (hd : decode M.2.1 pc = .ok (.iaload, 1)) (ht : z_T h a = some (.inr (.int, n))) (hi : i = nI j) (hj : j < n) (hn : n < 2 ^ 31) (kk : z_G Γ M rm Q cs ss (pc + 1) ls (.int (z_I h a j) :: st) h) : z_G Γ M rm Q cs ss pc ls (.int i :: .ref a :: st) h := by
  subst hi
  exact fun p l e s m args below meth c H locs la X hR hL hl => W.iald X.1 X.2.1 (z_arr hR ht (fun q => by cases q)) ((X.2.2.2.2.2.2.2.2.2.2.2.1 _ (by simp [z_at])).1 n _) (fun q => by cases q) (z_ain hj hn) (z_aget hj hn) rfl rfl hd (kk p l e s m args below meth c H locs la X hR hL hl)
theorem z_bald {a n : Nat} (j : Nat) {i : Int32} (hd : decode M.2.1 pc = .ok (.baload, 1)) (ht : z_T h a = some (.inr (.byte, n))) (hi : i = nI j) (hj : j < n) (hn : n < 2 ^ 31) (kk : z_G Γ M rm Q cs ss (pc + 1) ls (.int (z_I h a j) :: st) h) : z_G Γ M rm Q cs ss pc ls (.int i :: .ref a :: st) h := by
  subst hi
  exact fun p l e s m args below meth c H locs la X hR hL hl => W.bald X.1 X.2.1 (z_arr hR ht (fun q => by cases q)) ((X.2.2.2.2.2.2.2.2.2.2.2.1 _ (by simp [z_at])).1 n _) (fun q => by cases q) (z_ain hj hn) (z_aget hj hn) rfl rfl hd (kk p l e s m args below meth c H locs la X hR hL hl)
theorem z_zald {a n : Nat} (j : Nat) {i : Int32} (hd : decode M.2.1 pc = .ok (.baload, 1)) (ht : z_T h a = some (.inr (.boolean, n))) (hi : i = nI j) (hj : j < n) (hn : n < 2 ^ 31) (kk : z_G Γ M rm Q cs ss (pc + 1) ls (.int (z_I h a j) :: st) h) : z_G Γ M rm Q cs ss pc ls (.int i :: .ref a :: st) h := by
  subst hi
  exact fun p l e s m args below meth c H locs la X hR hL hl => W.zald X.1 X.2.1 (z_arr hR ht (fun q => by cases q)) ((X.2.2.2.2.2.2.2.2.2.2.2.1 _ (by simp [z_at])).1 n _) (fun q => by cases q) (z_ain hj hn) (z_aget hj hn) rfl rfl hd (kk p l e s m args below meth c H locs la X hR hL hl)
theorem z_sald {a n : Nat} (j : Nat) {i : Int32} (hd : decode M.2.1 pc = .ok (.saload, 1)) (ht : z_T h a = some (.inr (.short, n))) (hi : i = nI j) (hj : j < n) (hn : n < 2 ^ 31) (kk : z_G Γ M rm Q cs ss (pc + 1) ls (.int (z_I h a j) :: st) h) : z_G Γ M rm Q cs ss pc ls (.int i :: .ref a :: st) h := by
  subst hi
  exact fun p l e s m args below meth c H locs la X hR hL hl => W.sald X.1 X.2.1 (z_arr hR ht (fun q => by cases q)) ((X.2.2.2.2.2.2.2.2.2.2.2.1 _ (by simp [z_at])).1 n _) (fun q => by cases q) (z_ain hj hn) (z_aget hj hn) rfl rfl hd (kk p l e s m args below meth c H locs la X hR hL hl)
theorem z_lald {a n : Nat} (j : Nat) {i : Int32} (hd : decode M.2.1 pc = .ok (.laload, 1)) (ht : z_T h a = some (.inr (.long, n))) (hi : i = nI j) (hj : j < n) (hn : n < 2 ^ 31) (kk : z_G Γ M rm Q cs ss (pc + 1) ls (.long (z_L h a j) :: st) h) : z_G Γ M rm Q cs ss pc ls (.int i :: .ref a :: st) h := by
  subst hi
  exact fun p l e s m args below meth c H locs la X hR hL hl => W.lald X.1 X.2.1 (z_arr hR ht (fun q => by cases q)) ((X.2.2.2.2.2.2.2.2.2.2.2.1 _ (by simp [z_at])).1 n _) (fun q => by cases q) (z_ain hj hn) (z_aget hj hn) rfl rfl hd (kk p l e s m args below meth c H locs la X hR hL hl)
theorem z_aald {a n : Nat} (j : Nat) (b : Nat) {i : Int32} {C : String} (hd : decode M.2.1 pc = .ok (.aaload, 1)) (ht : z_T h a = some (.inr (.object C, n))) (hm : FieldType.object C ∈ z_at) (hi : i = nI j) (hj : j < n) (hn : n < 2 ^ 31) (hb : z_R h a j = some b) (kk : z_G Γ M rm Q cs ss (pc + 1) ls (.ref b :: st) h) : z_G Γ M rm Q cs ss pc ls (.int i :: .ref a :: st) h := by
  subst hi
  exact fun p l e s m args below meth c H locs la X hR hL hl => W.aald (ty := .object C) X.1 X.2.1 (z_arr hR ht (fun q => by cases q)) ((X.2.2.2.2.2.2.2.2.2.2.2.1 _ hm).1 n _) rfl (fun q => by cases q) (z_ain hj hn) (by rw [z_aget hj hn]; show some (va_rf ((z_R h a j).map (z_ad Γ))) = _; rw [hb]; rfl) rfl rfl hd (kk p l e s m args below meth c H locs la X hR hL hl)
theorem z_aaldN {a n : Nat} (j : Nat) {i : Int32} {C : String} (hd : decode M.2.1 pc = .ok (.aaload, 1)) (ht : z_T h a = some (.inr (.object C, n))) (hm : FieldType.object C ∈ z_at) (hi : i = nI j) (hj : j < n) (hn : n < 2 ^ 31) (hb : z_R h a j = none) (kk : z_G Γ M rm Q cs ss (pc + 1) ls (.null :: st) h) : z_G Γ M rm Q cs ss pc ls (.int i :: .ref a :: st) h := by
  subst hi
  exact fun p l e s m args below meth c H locs la X hR hL hl => W.aald (ty := .object C) X.1 X.2.1 (z_arr hR ht (fun q => by cases q)) ((X.2.2.2.2.2.2.2.2.2.2.2.1 _ hm).1 n _) rfl (fun q => by cases q) (z_ain hj hn) (by rw [z_aget hj hn]; show some (va_rf ((z_R h a j).map (z_ad Γ))) = _; rw [hb]; rfl) rfl rfl hd (kk p l e s m args below meth c H locs la X hR hL hl)
theorem z_Rl.setA {h' : z_H} {H H' : Heap} {a n j : Nat} {ty : FieldType} {v : Value} (hw : z_Wf Γ) (hR : z_Rl Γ h H) (ht : z_T h a = some (.inr (ty, n))) (hf : ty ≠ .float) (ha : z_o ≤ a) (hn' : z_n h' = z_n h) (hT : ∀ b, z_T h' b = z_T h b) (ho : ∀ b t i, b ≠ a ∨ i ≠ j → z_vt Γ t h' b i = z_vt Γ t h b i) (hv : z_vt Γ ty h' a j = v) (e1 : H'[z_ad Γ a]? = some ((arrV (Γ.2.1 ty) n (fun i => z_vt Γ ty h a i)).setSlot j v)) (e2 : H'.size = H.size) (e3 : ∀ q, q ≠ z_ad Γ a → H'[q]? = H[q]?) : z_Rl Γ h' H' := by
  refine z_Rl.set hw hR ha hn' hT (fun b t i hne => ho b t i (Or.inl hne)) e2 e3 ?_
  unfold z_ce
  rw [hT, ht]
  refine z_ca.of hf ?_
  rw [e1, arrV_store]
  congr 2
  funext i
  unfold updV
  by_cases e : i = j
  · rw [if_pos e, e, hv]
  · rw [if_neg e, ho a ty i (Or.inr e)]
theorem z_locs {locs : List Loc} {a i : Nat} (hw : z_Wf Γ) (hL : ∀ q ∈ locs, z_B Γ ≤ q.base) (ha : z_o ≤ a) : ∀ q ∈ locs ++ [⟨z_ad Γ a, i⟩], z_B Γ ≤ q.base := by
  intro x hx
  rcases List.mem_append.mp hx with h1 | h1
  · exact hL x h1
  · rw [List.mem_singleton] at h1
    subst h1
    show z_B Γ ≤ z_ad Γ a
    rw [hw.1 a ha]
    omega
theorem z_iast {a n : Nat} (j : Nat) {i : Int32} {x : Int32} (hd : decode M.2.1 pc = .ok (.iastore, 1)) (ht : z_T h a = some (.inr (.int, n))) (ha : z_o ≤ a) (hi : i = nI j) (hj : j < n) (hn : n < 2 ^ 31) (kk : z_G Γ M rm Q cs ss (pc + 1) ls st (z_sI h a j (x))) : z_G Γ M rm Q cs ss pc ls (.int x :: .int i :: .ref a :: st) h := by
  subst hi
  intro p l e s m args below meth c H locs la X hR hL hl
  refine W.iast X.1 X.2.1 (z_arr hR ht (fun q => by cases q)) ((X.2.2.2.2.2.2.2.2.2.2.2.1 _ (by simp [z_at])).1 n _) (fun q => by cases q) (z_ain hj hn) rfl rfl hd (fun H' e1 e2 e3 => ?_)
  rw [nI_clamp (by omega)] at e1 ⊢
  exact kk p l e s m args below meth c H' _ la X (z_Rl.setA X.2.2.2.2.2.2.2.2.2.1 hR ht (fun q => by cases q) ha rfl (fun _ => rfl) (fun b t i hne => z_vt_sI _ hne) (v := .int x) (by show Value.int _ = _; rw [z_II, if_pos ⟨rfl, rfl⟩]) e1 e2 e3) (z_locs X.2.2.2.2.2.2.2.2.2.1 hL ha) hl
theorem z_bast {a n : Nat} (j : Nat) {i : Int32} {x : Int32} (hd : decode M.2.1 pc = .ok (.bastore, 1)) (ht : z_T h a = some (.inr (.byte, n))) (ha : z_o ≤ a) (hi : i = nI j) (hj : j < n) (hn : n < 2 ^ 31) (kk : z_G Γ M rm Q cs ss (pc + 1) ls st (z_sI h a j (x.toInt8.toInt32))) : z_G Γ M rm Q cs ss pc ls (.int x :: .int i :: .ref a :: st) h := by
  subst hi
  intro p l e s m args below meth c H locs la X hR hL hl
  refine W.bast X.1 X.2.1 (z_arr hR ht (fun q => by cases q)) ((X.2.2.2.2.2.2.2.2.2.2.2.1 _ (by simp [z_at])).1 n _) (fun q => by cases q) (z_ain hj hn) rfl rfl hd (fun H' e1 e2 e3 => ?_)
  rw [nI_clamp (by omega)] at e1 ⊢
  exact kk p l e s m args below meth c H' _ la X (z_Rl.setA X.2.2.2.2.2.2.2.2.2.1 hR ht (fun q => by cases q) ha rfl (fun _ => rfl) (fun b t i hne => z_vt_sI _ hne) (by show Value.int _ = _; rw [z_II, if_pos ⟨rfl, rfl⟩]; rfl) e1 e2 e3) (z_locs X.2.2.2.2.2.2.2.2.2.1 hL ha) hl
theorem z_zast {a n : Nat} (j : Nat) {i : Int32} {x : Int32} {y : Int32} (hd : decode M.2.1 pc = .ok (.bastore, 1)) (ht : z_T h a = some (.inr (.boolean, n))) (ha : z_o ≤ a) (hi : i = nI j) (hj : j < n) (hn : n < 2 ^ 31) (hy : narrow .boolean (.int x) = .int y) (kk : z_G Γ M rm Q cs ss (pc + 1) ls st (z_sI h a j (y))) : z_G Γ M rm Q cs ss pc ls (.int x :: .int i :: .ref a :: st) h := by
  subst hi
  intro p l e s m args below meth c H locs la X hR hL hl
  refine W.zast X.1 X.2.1 (z_arr hR ht (fun q => by cases q)) ((X.2.2.2.2.2.2.2.2.2.2.2.1 _ (by simp [z_at])).1 n _) (fun q => by cases q) (z_ain hj hn) rfl rfl hd (fun H' e1 e2 e3 => ?_)
  rw [nI_clamp (by omega)] at e1 ⊢
  exact kk p l e s m args below meth c H' _ la X (z_Rl.setA X.2.2.2.2.2.2.2.2.2.1 hR ht (fun q => by cases q) ha rfl (fun _ => rfl) (fun b t i hne => z_vt_sI _ hne) (by show Value.int _ = _; rw [z_II, if_pos ⟨rfl, rfl⟩]; exact hy.symm) e1 e2 e3) (z_locs X.2.2.2.2.2.2.2.2.2.1 hL ha) hl
theorem z_sast {a n : Nat} (j : Nat) {i : Int32} {x : Int32} (hd : decode M.2.1 pc = .ok (.sastore, 1)) (ht : z_T h a = some (.inr (.short, n))) (ha : z_o ≤ a) (hi : i = nI j) (hj : j < n) (hn : n < 2 ^ 31) (kk : z_G Γ M rm Q cs ss (pc + 1) ls st (z_sI h a j (x.toInt16.toInt32))) : z_G Γ M rm Q cs ss pc ls (.int x :: .int i :: .ref a :: st) h := by
  subst hi
  intro p l e s m args below meth c H locs la X hR hL hl
  refine W.sast X.1 X.2.1 (z_arr hR ht (fun q => by cases q)) ((X.2.2.2.2.2.2.2.2.2.2.2.1 _ (by simp [z_at])).1 n _) (fun q => by cases q) (z_ain hj hn) rfl rfl hd (fun H' e1 e2 e3 => ?_)
  rw [nI_clamp (by omega)] at e1 ⊢
  exact kk p l e s m args below meth c H' _ la X (z_Rl.setA X.2.2.2.2.2.2.2.2.2.1 hR ht (fun q => by cases q) ha rfl (fun _ => rfl) (fun b t i hne => z_vt_sI _ hne) (by show Value.int _ = _; rw [z_II, if_pos ⟨rfl, rfl⟩]; rfl) e1 e2 e3) (z_locs X.2.2.2.2.2.2.2.2.2.1 hL ha) hl
theorem z_last {a n : Nat} (j : Nat) {i : Int32} {x : Int64} (hd : decode M.2.1 pc = .ok (.lastore, 1)) (ht : z_T h a = some (.inr (.long, n))) (ha : z_o ≤ a) (hi : i = nI j) (hj : j < n) (hn : n < 2 ^ 31) (kk : z_G Γ M rm Q cs ss (pc + 1) ls st (z_sL h a j (x))) : z_G Γ M rm Q cs ss pc ls (.long x :: .int i :: .ref a :: st) h := by
  subst hi
  intro p l e s m args below meth c H locs la X hR hL hl
  refine W.last X.1 X.2.1 (z_arr hR ht (fun q => by cases q)) ((X.2.2.2.2.2.2.2.2.2.2.2.1 _ (by simp [z_at])).1 n _) (fun q => by cases q) (z_ain hj hn) rfl rfl hd (fun H' e1 e2 e3 => ?_)
  rw [nI_clamp (by omega)] at e1 ⊢
  exact kk p l e s m args below meth c H' _ la X (z_Rl.setA X.2.2.2.2.2.2.2.2.2.1 hR ht (fun q => by cases q) ha rfl (fun _ => rfl) (fun b t i hne => z_vt_sL _ hne) (v := .long x) (by show Value.long _ = _; rw [z_LL, if_pos ⟨rfl, rfl⟩]) e1 e2 e3) (z_locs X.2.2.2.2.2.2.2.2.2.1 hL ha) hl
/-- who may be stored where -/
def z_As (C E : String) : Prop := C = E ∨ Cond.castable C E ∈ lw_tbl
theorem z_aast {a b n c : Nat} (j : Nat) {i : Int32} {E : String} {q : vw_C} (hd : decode M.2.1 pc = .ok (.aastore, 1)) (ht : z_T h a = some (.inr (.object E, n))) (hm : FieldType.object E ∈ z_at) (ha : z_o ≤ a) (hi : i = nI j) (hj : j < n) (hn : n < 2 ^ 31) (hb : z_T h b = some (.inl c)) (hq : z_cl[c]? = some q) (has : z_As q.1 E) (kk : z_G Γ M rm Q cs ss (pc + 1) ls st (z_sR h a j (some b))) : z_G Γ M rm Q cs ss pc ls (.ref b :: .int i :: .ref a :: st) h := by
  subst hi
  intro p l e s m args below meth cd H locs la X hR hL hl
  have hK := X.2.2.2.2.2.2.2.2.2
  obtain ⟨cell, q1, q2, q3, q4⟩ := z_obj hR hb hq
  obtain ⟨kA, comp, k1, k2, k3, -⟩ := (hK.2.2.1 _ hm).2
  have hcls := (hK.2.1 c q hq).2
  obtain ⟨kC, hkC, -⟩ := hcls.2
  have hasg : s.vm.assignable (Γ.1.1 c) comp = true ∧ ∃ kk : Class, s.vm.classes[comp]? = some kk := by
    obtain ⟨kx, hkx, -⟩ := Vm.findClass_spec k3
    refine ⟨?_, kx, hkx⟩
    rcases has with e | hw
    · subst e
      have : comp = Γ.1.1 c := Option.some.inj (k3.symm.trans hcls.1)
      rw [this]
      exact va_assign hcls
    · obtain ⟨c0, t0, f1, f2, f3⟩ := Cond.castable_spec (va_Nw.use (A := args) rfl (hK.2.2.2.1 _ hw rfl))
      cases hcls.1.symm.trans f1
      cases k3.symm.trans f2
      exact f3
  obtain ⟨hasg, kx, hkx⟩ := hasg
  refine W.aast X.1 X.2.1 (z_arr hR ht (fun q => by cases q)) (fun q h => by cases h) (fun h => by cases h) k1 k2 rfl hkx ⟨fun h => z_ain (cA := Γ.2.1 (.object E)) (f := fun _ => .null) hj hn (Or.inl h), by rw [arrV_size, nI_clamp (by omega)]; exact hj⟩ q1 (fun q h => by rw [q3] at h; cases h) (by rw [q2]; exact hkC) (by rw [q2]; exact hasg) rfl rfl hd (fun H' e1 e2 e3 => ?_)
  rw [nI_clamp (by omega)] at e1 ⊢
  exact kk p l e s m args below meth cd H' _ la X (z_Rl.setA hK.1 hR ht (fun q => by cases q) ha rfl (fun _ => rfl) (fun b t i hne => z_vt_sR _ hne) (v := .ref (z_ad Γ b)) (by show va_rf ((z_R _ _ _).map _) = _; rw [z_RR, if_pos ⟨rfl, rfl⟩]; rfl) e1 e2 e3) (z_locs hK.1 hL ha) hl
theorem z_dflt {t : Nat ⊕ (FieldType × Nat)} (ty : FieldType) (k : Nat) : defaultValue ty = z_vt Γ ty (z_new h t) (z_n h) k := by
  cases ty <;> simp only [z_vt, z_In, z_Ln, z_Rn, if_true] <;> rfl
theorem z_newo {idx c n : Nat} {q : vw_C} (hd : decode M.2.1 pc = .ok (.new idx, 3)) (hq : z_cl[c]? = some q) (hcl : Cond.classLink M.1.cls idx q.1 ∈ lw_all) (hins : Cond.instantiable q.1 n ∈ lw_all) (hini : Cond.initialized q.1 ∈ lw_all) (h1 : cs + 1 ≤ rm.cells) (h2 : ss + n ≤ rm.slots) (kk : z_G Γ M rm Q (cs + 1) (ss + n) (pc + 3) ls (.ref (z_n h) :: st) (z_new h (.inl c))) : z_G Γ M rm Q cs ss pc ls st h := by
  intro p l e s m args below meth cd H locs la X hR hL hl
  have hK := X.2.2.2.2.2.2.2.2.2
  have hts := X.2.2.2.2.2.1
  obtain ⟨hin, hty, hnm⟩ := z_clf c q hq
  have hKn := hK.2.1 c q hq
  refine W.newcK X.1 X.2.1 X.2.2.2.2.1 (hts _ hcl) (hts _ hins) (hts _ hini) rfl hd h1 h2 hKn.2.1 (z_size hK.1 hR).symm (fun H1 kC hkC e1 z1 o1 => ?_)
  rw [z_size hK.1 hR] at z1 o1
  refine kk p l e s m args below meth cd H1 locs la X (z_Rl.push hK.1 hR z1 o1 ?_) hL hl
  unfold z_ce
  rw [z_Tn, if_pos rfl]
  exact ⟨q, hq, (u_born (z_ty c) hts hin hKn hkC e1 hty).to (fun j _ => z_dflt _ j)⟩
theorem z_newa {N : Nat} {n : Int32} {atype : ArrayType} {ty : FieldType} (hd : decode M.2.1 pc = .ok (.newarray atype, 2)) (hty : newarray.typeOf atype = ty) (hq : Cond.arrayClass ty ∈ lw_all) (hm : ty ∈ z_at) (hp : ∀ C, ty ≠ .object C) (hn : n = nI N) (hN : N < 2 ^ 16) (h1 : cs + 1 ≤ rm.cells) (h2 : ss + N ≤ rm.slots) (kk : z_G Γ M rm Q (cs + 1) (ss + N) (pc + 2) ls (.ref (z_n h) :: st) (z_new h (.inr (ty, N)))) : z_G Γ M rm Q cs ss pc ls (.int n :: st) h := by
  subst hty
  subst hn
  intro p l e s m args below meth cd H locs la X hR hL hl
  have hK := X.2.2.2.2.2.2.2.2.2
  have hts := X.2.2.2.2.2.1
  refine va_newaK X.1 X.2.1 (hts _ hq) rfl hd (N := N) rfl (nI_pos (by omega)) (nI_clamp (by omega)) ?_ h1 h2 (z_size hK.1 hR).symm (fun H1 cA e1 z1 o1 hAr hNm => ?_)
  · have : componentBytes (newarray.typeOf atype) ≤ 8 := by cases atype <;> decide
    calc N * componentBytes (newarray.typeOf atype) ≤ 65536 * 8 := Nat.mul_le_mul (by omega) this
      _ ≤ 536870912 := by decide
  · rw [z_size hK.1 hR] at z1 o1
    have hcA : cA = Γ.2.1 (newarray.typeOf atype) := by
      have h3 := (hK.2.2.1 _ hm).2
      generalize hg : newarray.typeOf atype = ty at h3 hNm hp ⊢
      cases ty <;> first | exact Option.some.inj (hNm.symm.trans h3) | exact absurd rfl (hp _)
    refine kk p l e s m args below meth cd H1 locs la X (z_Rl.push hK.1 hR z1 o1 ?_) hL hl
    unfold z_ce
    rw [z_Tn, if_pos rfl]
    refine z_ca.of (fun q => by rw [q] at hm; simp [z_at] at hm) ?_
    rw [e1, hcA]
    congr 2
    funext j
    exact z_dflt _ j
theorem z_newq {N idx : Nat} {n : Int32} {C : String} (hd : decode M.2.1 pc = .ok (.anewarray idx, 3)) (hcl : Cond.classLink M.1.cls idx C ∈ lw_all) (hm : FieldType.object C ∈ z_at) (hao : ∀ l U, z_K Γ l U → va_AO C U) (hn : n = nI N) (hN : N < 2 ^ 16) (h1 : cs + 1 ≤ rm.cells) (h2 : ss + N ≤ rm.slots) (kk : z_G Γ M rm Q (cs + 1) (ss + N) (pc + 3) ls (.ref (z_n h) :: st) (z_new h (.inr (.object C, N)))) : z_G Γ M rm Q cs ss pc ls (.int n :: st) h := by
  subst hn
  intro p l e s m args below meth cd H locs la X hR hL hl
  have hK := X.2.2.2.2.2.2.2.2.2
  have hts := X.2.2.2.2.2.1
  have hcl2 : (nI N).toNatClampNeg = N := nI_clamp (by omega)
  refine W.anew X.1 X.2.1 X.2.2.2.2.1 (hts _ hcl) (va_AO.use (hao _ _ hK)) rfl hd rfl (nI_pos (by omega)) (by rw [hcl2]; omega) h1 (by rw [hcl2]; exact h2) (fun cA kA comp f1 f2 f3 f4 => ?_)
  rw [hcl2]
  obtain ⟨kA', comp', k1, k2, k3, k4⟩ := (hK.2.2.1 _ hm).2
  have hcA : cA = Γ.2.1 (.object C) := Option.some.inj (f1.symm.trans k4)
  have hz := z_size hK.1 hR
  rw [← hz]
  refine kk p l e s m args below meth cd _ locs la X (z_Rl.push hK.1 hR (by simp) (fun q hq => by rw [Array.getElem?_push, if_neg (Nat.ne_of_lt hq)]) ?_) hL hl
  unfold z_ce
  rw [z_Tn, if_pos rfl]
  refine z_ca.of (fun q => by cases q) ?_
  rw [hz, arrV_new, hcA]
  simp only [Array.getElem?_push_size]
  congr 2
  funext j
  exact z_dflt (.object C) j
/-- the memory may be told otherwise -/
theorem z_mem (h' : z_H) (hc : ∀ H, z_Rl Γ h H → z_Rl Γ h' H) (kk : z_G Γ M rm Q cs ss pc ls st h') : z_G Γ M rm Q cs ss pc ls st h := fun p l e s m args below meth c H locs la X hR hL hl => kk p l e s m args below meth c H locs la X (hc H hR) hL hl
/-- a scratch array is opened -/
def z_opn (h : z_H) (a n : Nat) (f : Nat → Int32) : z_H := (fun b j => if b = a then f j else h.1 b j, h.2.1, h.2.2.1, fun b => if b = a then some (.inr (.boolean, n)) else h.2.2.2.1 b, h.2.2.2.2)
theorem z_open {a n : Nat} (ht : z_T h a = some (.inr (.float, n))) (kk : ∀ f : Nat → Int32, z_G Γ M rm Q cs ss pc ls st (z_opn h a n f)) (hn2 : 7 ≤ n := by decide) : z_G Γ M rm Q cs ss pc ls st h := by
  obtain ⟨n, rfl⟩ : ∃ m, n = m + 2 := ⟨n - 2, by omega⟩
  intro p l e s m args below meth c H locs la X hR hL hl
  have h1 := hR.1 a (z_lt hR ht)
  have hlt := z_lt hR ht
  unfold z_ce at h1
  rw [ht] at h1
  have h1 : z_fo Γ h H a (n + 2) := h1
  rcases h1 with h1 | ⟨-, f, e1⟩
  · omega
  refine kk f p l e s m args below meth c H locs la X ⟨fun b hb => ?_, hR.2.1, hR.2.2.1, fun b hb => ?_⟩ hL hl
  · by_cases e2 : b = a
    · subst e2
      unfold z_ce
      have hT : z_T (z_opn h b (n + 2) f) b = some (.inr (.boolean, n + 2)) := if_pos rfl
      rw [hT]
      refine z_ca.of (fun q => by cases q) ?_
      rw [e1]
      congr 2
      funext j
      show Value.int (f j) = Value.int (if b = b then f j else h.1 b j)
      rw [if_pos rfl]
    · have h2 := hR.1 b hb
      unfold z_ce at h2 ⊢
      have hT : z_T (z_opn h a (n + 2) f) b = z_T h b := if_neg e2
      have hI : ∀ j, z_I (z_opn h a (n + 2) f) b j = z_I h b j := fun j => if_neg e2
      have hv : ∀ ty j, z_vt Γ ty (z_opn h a (n + 2) f) b j = z_vt Γ ty h b j := fun ty j => by
        cases ty <;> simp only [z_vt, hI] <;> rfl
      rw [hT]
      cases hb2 : z_T h b with
      | none => trivial
      | some t =>
        rw [hb2] at h2
        cases t with
        | inl cc =>
          obtain ⟨r, h3, h4⟩ := h2
          exact ⟨r, h3, h4.to (fun j _ => (hv _ j).symm)⟩
        | inr tn => exact z_ca.kept rfl (fun t j => hv t j) h2
  · have hne : b ≠ a := by
      have hb' : z_n h ≤ b := hb
      omega
    exact (if_neg hne).trans (hR.2.2.2 b hb)
/-- .. and closed -/
theorem z_clo {h0 : z_H} {a n : Nat} (hT0 : z_T h0 a = some (.inr (.float, n))) (hT : z_T h a = some (.inr (.boolean, n))) (hn : z_n h = z_n h0) (hTo : ∀ b, b ≠ a → z_T h b = z_T h0 b) (hIo : ∀ b j, b ≠ a → z_I h b j = z_I h0 b j) (hLo : ∀ b j, b ≠ a → z_L h b j = z_L h0 b j) (hRo : ∀ b j, b ≠ a → z_R h b j = z_R h0 b j) (hn2 : 7 ≤ n := by decide) : ∀ H, z_Rl Γ h H → z_Rl Γ h0 H := by
  obtain ⟨n, rfl⟩ : ∃ m, n = m + 2 := ⟨n - 2, by omega⟩
  intro H hR
  have hlt := z_lt hR hT
  refine ⟨fun b hb => ?_, by rw [← hn]; exact hR.2.1, hR.2.2.1, fun b hb => ?_⟩
  · have h2 := hR.1 b (by rw [hn]; exact hb)
    by_cases e2 : b = a
    · subst e2
      unfold z_ce
      rw [hT0]
      refine Or.inr ⟨by omega, fun j => z_I h b j, ?_⟩
      exact z_arr hR hT (fun q => by cases q)
    · unfold z_ce at h2 ⊢
      have hv : ∀ ty j, z_vt Γ ty h0 b j = z_vt Γ ty h b j := fun ty j => by
        cases ty <;> simp only [z_vt, hIo b j e2, hLo b j e2, hRo b j e2]
      rw [hTo b e2] at h2
      cases hb2 : z_T h0 b with
      | none => trivial
      | some t =>
        rw [hb2] at h2
        cases t with
        | inl cc =>
          obtain ⟨r, h3, h4⟩ := h2
          exact ⟨r, h3, h4.to (fun j _ => (hv _ j).symm)⟩
        | inr tn => exact z_ca.kept rfl (fun t j => hv t j) h2
  · have hne : b ≠ a := by
      rw [hn] at hlt
      omega
    rw [← hTo b hne]
    exact hR.2.2.2 b (by rw [hn]; exact hb)
end ZARR
