/-! THE CLASS: lists, looks, tests (printed by class3.py) -/
set_option maxRecDepth 20000
/-- a list: its array, how many -/
def z_AL (h : z_H) (L : Nat) (ids : List Nat) : Prop := z_T h L = some (.inl 21) ∧ z_I h L 2 = nI ids.length ∧ ids.length < 2 ^ 31 ∧ ∃ A n, z_R h L 1 = some A ∧ z_T h A = some (.inr (.object "java/lang/Object", n)) ∧ ids.length ≤ n ∧ n < 2 ^ 31 ∧ ∀ i b, ids[i]? = some b → z_R h A i = some b
theorem c_J2_size {Γ : z_W} {h : z_H} {L : Nat}  (hT : z_T h L = some (.inl 21)) : z_C Γ M_J2_size (z_rm 1 0 0) [.ref L] h (z_ri (z_I h L 2) h) := by
  refine z_C.ofF (by decide +kernel) rfl [some (.ref L)] (Nat.le_of_ble_eq_true rfl) rfl ?_
  refine z_aload_n dJ2_size_0 rfl rfl ?_
  refine z_getI dJ2_size_1 fl_J2_48_21 hT rfl ?_
  refine z_iret dJ2_size_4 rfl rfl (Nat.le_refl _) (Nat.le_refl _) (z_ri_i ?_ ?_)
  · rfl
  · rfl
theorem c_J5_checkIndex {Γ : z_W} {h : z_H} {i n : Nat} (hi : i < n) (hn : n < 2 ^ 31) : z_C Γ M_J5_checkIndex (z_rm 1 0 0) [.int (nI i), .int (nI n), .null] h (z_ri (nI i) h) := by
  refine z_C.ofF (by decide +kernel) rfl [some (.int (nI i)), some (.int (nI n)), some (.null)] (Nat.le_of_ble_eq_true rfl) rfl ?_
  refine z_iload_n dJ5_checkIndex_0 rfl rfl ?_
  refine z_if_lt 9 dJ5_checkIndex_1 (by decide) (fun q => by first | exact absurd q (Int32.not_lt.mpr (nI_le (a := 0) (Nat.zero_le i) (by omega))) | exact absurd (Int32.not_lt.mpr (nI_le (a := 0) (Nat.zero_le i) (by omega))) q) (fun _ => ?_)
  refine z_iload_n dJ5_checkIndex_4 rfl rfl ?_
  refine z_iload_n dJ5_checkIndex_5 rfl rfl ?_
  refine z_icmp_lt 16 dJ5_checkIndex_6 (by decide) (fun _ => ?_) (fun q => by first | exact absurd (nI_lt hi hn) q | exact absurd q (nI_lt hi hn))
  refine z_iload_n dJ5_checkIndex_16 rfl rfl ?_
  refine z_iret dJ5_checkIndex_17 rfl rfl (Nat.le_refl _) (Nat.le_refl _) (z_ri_i ?_ ?_)
  · rfl
  · rfl
theorem c_J4_checkIndex {Γ : z_W} {h : z_H} {i n : Nat} (hi : i < n) (hn : n < 2 ^ 31) : z_C Γ M_J4_checkIndex (z_rm 2 0 0) [.int (nI i), .int (nI n)] h (z_ri (nI i) h) := by
  refine z_C.ofF (by decide +kernel) rfl [some (.int (nI i)), some (.int (nI n))] (Nat.le_of_ble_eq_true rfl) rfl ?_
  refine z_iload_n dJ4_checkIndex_0 rfl rfl ?_
  refine z_iload_n dJ4_checkIndex_1 rfl rfl ?_
  refine z_null dJ4_checkIndex_2 ?_
  refine z_scall sl_J4_105 (c_J5_checkIndex hi hn) dJ4_checkIndex_3 rfl rfl ⟨by decide, by decide⟩ (Nat.le_of_ble_eq_true rfl) (Nat.le_refl _) (Nat.le_refl _) (z_cI ?_) z_tI
  refine z_iret dJ4_checkIndex_6 rfl rfl (Nat.le_refl _) (Nat.le_refl _) (z_ri_i ?_ ?_)
  · rfl
  · rfl
theorem c_J2_elementData {Γ : z_W} {h : z_H} {L : Nat}  (hT : z_T h L = some (.inl 21)) {A n b i : Nat} (hA : z_R h L 1 = some A) (hAT : z_T h A = some (.inr (.object "java/lang/Object", n))) (hi : i < n) (hn : n < 2 ^ 31) (hb : z_R h A i = some b) : z_C Γ M_J2_elementData (z_rm 1 0 0) [.ref L, .int (nI i)] h (z_rr b h) := by
  refine z_C.ofF (by decide +kernel) rfl [some (.ref L), some (.int (nI i))] (Nat.le_of_ble_eq_true rfl) rfl ?_
  refine z_aload_n dJ2_elementData_0 rfl rfl ?_
  refine z_getR A dJ2_elementData_1 fl_J2_9_21 hT rfl hA ?_
  refine z_iload_n dJ2_elementData_4 rfl rfl ?_
  refine z_aald i b dJ2_elementData_5 hAT (by simp [z_at]) rfl hi hn hb ?_
  refine z_aret dJ2_elementData_6 rfl (Or.inl ⟨_, rfl⟩) (Or.inr ⟨_, rfl⟩) (Nat.le_refl _) (Nat.le_refl _) ⟨?_, ?_⟩
  · rfl
  · rfl
theorem c_J2_get {Γ : z_W} {h : z_H} {L : Nat}  {ids : List Nat} {i b : Nat} (hL : z_AL h L ids) (hb : ids[i]? = some b) : z_C Γ M_J2_get (z_rm 3 0 0) [.ref L, .int (nI i)] h (z_rr b h) := by
  obtain ⟨hT, hs, hl, A, n, hA, hAT, hln, hn2, hall⟩ := hL
  have hi : i < ids.length := (List.getElem?_eq_some_iff.mp hb).1
  have hn : ids.length < 2 ^ 31 := hl
  refine z_C.ofF (by decide +kernel) rfl [some (.ref L), some (.int (nI i))] (Nat.le_of_ble_eq_true rfl) rfl ?_
  refine z_iload_n dJ2_get_0 rfl rfl ?_
  refine z_aload_n dJ2_get_1 rfl rfl ?_
  refine z_getI dJ2_get_2 fl_J2_48_21 hT rfl ?_
  refine z_eqi (nI ids.length) hs ?_
  refine z_scall sl_J2_118 (c_J4_checkIndex hi hn) dJ2_get_5 rfl rfl ⟨by decide, by decide⟩ (Nat.le_of_ble_eq_true rfl) (Nat.le_refl _) (Nat.le_refl _) (z_cI ?_) z_tI
  refine z_pop dJ2_get_8 rfl ?_
  refine z_aload_n dJ2_get_9 rfl rfl ?_
  refine z_iload_n dJ2_get_10 rfl rfl ?_
  refine z_vcall vl_J2_123_21 (c_J2_elementData hT hA hAT (by omega) hn2 (hall i b hb)) dJ2_get_11 rfl rfl hT ⟨by decide, by decide⟩ (Nat.le_of_ble_eq_true rfl) (Nat.le_refl _) (Nat.le_refl _) (z_cR ?_) z_tR
  refine z_aret dJ2_get_14 rfl (Or.inl ⟨_, rfl⟩) (Or.inr ⟨_, rfl⟩) (Nat.le_refl _) (Nat.le_refl _) ⟨?_, ?_⟩
  · rfl
  · rfl
