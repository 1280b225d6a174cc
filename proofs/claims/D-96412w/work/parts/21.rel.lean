/-! THE RELATION between the typed memory and the machine's heap. -/
/-- the classes by their numbers: 0 .. 20 as in claim/names X0 .. X20 (17, the abstract Test, has none: X16 stands there), 21 ArrayList, 22 String, 23 .. 27 the machine's own exceptions -/
def z_cl : List vw_C := [(RX0, TX0, 40), (RX1, TX1, 4), (RX2, TX2, 4), (RX3, TX3, 6), (RX4, TX4, 2), (RX5, TX5, 1), (RX6, TX6, 71), (RX7, TX7, 4), (RX8, TX8, 4), (RX9, TX9, 4), (RX10, TX10, 4), (RX11, TX11, 4), (RX12, TX12, 4), (RX13, TX13, 5), (RX14, TX14, 5), (RX15, TX15, 7), (RX16, TX16, 2), (RX16, TX16, 2), (RX18, TX18, 2), (RX19, TX19, 1), (RX20, TX20, 3), (RJ2, TJ2, 3), (RJ6, TJ6, 2)]
def z_ty : Nat → Nat → FieldType
  | 0 => tyX0 | 1 => tyX1 | 2 => tyX2 | 3 => tyX3 | 4 => tyX4 | 5 => tyX5 | 6 => tyX6 | 7 => tyX7 | 8 => tyX8 | 9 => tyX9 | 10 => tyX10 | 11 => tyX11 | 12 => tyX12 | 13 => tyX13 | 14 => tyX14 | 15 => tyX15 | 16 => tyX16 | 17 => tyX16 | 18 => tyX18 | 19 => tyX19 | 20 => tyX20 | 21 => tyJ2 | _ => tyJ6
/-- the array types that are made -/
def z_at : List FieldType := [.int, .byte, .short, .long, .boolean, .object "SomebodysLift$Lift", .object "SomebodysLift$Tape", .object "java/lang/Object"]
/-- a world: class numbers and slots, array classes, addresses of ids, the heap at the law's start -/
abbrev z_W : Type := va_G × (FieldType → ClassId) × (Nat → Nat) × Heap
/-- ids below this are old cells (the script, constants) -/
abbrev z_o : Nat := 16
def z_ad (Γ : z_W) : Nat → Nat := Γ.2.2.1
def z_B (Γ : z_W) : Nat := Γ.2.2.2.size
def z_Wf (Γ : z_W) : Prop := (∀ a, z_o ≤ a → z_ad Γ a = z_B Γ + (a - z_o)) ∧ ∀ a, a < z_o → z_ad Γ a < z_B Γ
/-- a value as the machine has it -/
def z_cv (Γ : z_W) : Value → Value
  | .ref a => .ref (z_ad Γ a)
  | v => v
def z_vt (Γ : z_W) (ty : FieldType) (h : z_H) (a k : Nat) : Value := match ty with
  | .long => .long (z_L h a k)
  | .object _ => va_rf ((z_R h a k).map (z_ad Γ))
  | .array _ => va_rf ((z_R h a k).map (z_ad Γ))
  | .float => .float 0
  | .double => .double 0
  | _ => .int (z_I h a k)
/-- what the shape '.float' marks (the program has no floats): 0 an Off that 'new' has made, 1 an Off behind its constructor (its place is known), 2 .. 6 an exception that the machine has made (z_xn), more: a scratch array of booleans whose contents are not told -/
def z_fo (Γ : z_W) (h : z_H) (H : Heap) (a : Nat) : Nat → Prop
  | 0 => ∃ cell : Cell, H[z_ad Γ a]? = some cell ∧ cell.cls = Γ.1.1 15 ∧ cell.vm = .none ∧ (cell.monitor.owner = none ∧ cell.monitor.count = 0) ∧ cell.slots.size = 7 ∧ ∀ k, k < 7 → cell.slots[Γ.1.2 15 k]? = some (defaultValue (tyX15 k))
  | 1 => ∃ cell : Cell, H[z_ad Γ a]? = some cell ∧ cell.cls = Γ.1.1 15 ∧ cell.vm = .none ∧ cell.slots[Γ.1.2 15 6]? = some (.int (z_I h a 6))
  | n + 2 => (n < 5 ∧ ∃ cell : Cell, H[z_ad Γ a]? = some cell ∧ cell.cls = Γ.1.1 (23 + n) ∧ cell.vm = .none) ∨ (5 ≤ n ∧ ∃ f : Nat → Int32, H[z_ad Γ a]? = some (arrV (Γ.2.1 .boolean) (n + 2) (fun j => .int (f j))))
/-- an array; '.float': see z_fo -/
def z_ca (Γ : z_W) (h : z_H) (H : Heap) (a : Nat) (ty : FieldType) (n : Nat) : Prop := match ty with
  | .float => z_fo Γ h H a n
  | ty => H[z_ad Γ a]? = some (arrV (Γ.2.1 ty) n (fun j => z_vt Γ ty h a j))
def z_ce (Γ : z_W) (h : z_H) (H : Heap) (a : Nat) : Prop := match z_T h a with
  | none => True
  | some (.inl c) => ∃ r : vw_C, z_cl[c]? = some r ∧ t_OB (z_ad Γ a) (Γ.1.1 c) r.2.2 (Γ.1.2 c) H (fun k => z_vt Γ (z_ty c k) h a k)
  | some (.inr (ty, n)) => z_ca Γ h H a ty n
/-- the heap holds the memory; the old heap stands -/
def z_Rl (Γ : z_W) (h : z_H) (H : Heap) : Prop := (∀ a, a < z_n h → z_ce Γ h H a) ∧ (z_o ≤ z_n h ∧ H.size = z_B Γ + (z_n h - z_o)) ∧ (∀ q, q < z_B Γ → H[q]? = Γ.2.2.2[q]?) ∧ ∀ a, z_n h ≤ a → z_T h a = none
/-- words that don't ride in the lists, and are kept by warmer tables -/
def z_gd : Cond → Bool
  | .fieldLinkNest .. => true
  | .methodLinkNest .. => true
  | .castable .. => true
  | .declares _ => true
  | _ => false
/-- what old ids stand for, at the start -/
def z_old : List (Nat × Term) := [(0, .arg 0), (1, .static "java/util/ArrayList" "DEFAULTCAPACITY_EMPTY_ELEMENTDATA" "[Ljava/lang/Object;"), (2, .mirror "[Ljava/lang/Object;"), (3, .string "SomebodysLift$Reader" 114), (4, .field (.string "SomebodysLift$Reader" 114) "java/lang/String" "value" "[B"), (5, .string "SomebodysLift$Reader" 120), (6, .field (.string "SomebodysLift$Reader" 120) "java/lang/String" "value" "[B"), (7, .string "SomebodysLift$Reader" 122), (8, .field (.string "SomebodysLift$Reader" 122) "java/lang/String" "value" "[B"), (9, .string "SomebodysLift$Reader" 131), (10, .field (.string "SomebodysLift$Reader" 131) "java/lang/String" "value" "[B")]
/-- the machine's own exceptions: classes 23 .. 27 -/
def z_xn : Nat → String
  | 0 => "java/lang/NullPointerException"
  | 1 => "java/lang/ClassCastException"
  | 2 => "java/lang/NegativeArraySizeException"
  | 3 => "java/lang/ArrayStoreException"
  | _ => "java/lang/ArrayIndexOutOfBoundsException"
/-- the state at the law's start: its heap is the world's; its tables are the run's, colder -/
def z_E (Γ : z_W) (l : Launch) (U : State) : Prop := l.stackTraces = false ∧ (∀ n, n < 5 → U.vm.findClass (z_xn n) = some (Γ.1.1 (23 + n))) ∧ ∃ (s0 : State) (a0 : Array Value), s0.heap = Γ.2.2.2 ∧ s0.WarmedH U.vm ∧ (∀ w ∈ lw_tbl, w.before a0 s0 = true) ∧ narrow_1.before a0 s0 = true ∧ modulesRight_1 s0 = true ∧ (∀ x ∈ z_old, x.2.eval a0 s0 none [] s0 = some (.ref (z_ad Γ x.1))) ∧ ∃ v : Value, (Term.static "jdk/internal/util/Preconditions" "SIOOBE_FORMATTER" "Ljava/util/function/BiFunction;").eval a0 s0 none [] s0 = some v ∧ (v = .null ∨ v = .ref (z_ad Γ 11))
/-- what the tables say all through a run -/
def z_K (Γ : z_W) (l : Launch) (U : State) : Prop := z_Wf Γ ∧ (∀ (c : Nat) (q : vw_C), z_cl[c]? = some q → u_Kn U q.1 q.2.1 q.2.2 (Γ.1.1 c) (Γ.1.2 c)) ∧ (∀ ty ∈ z_at, ArrOfT U (Γ.2.1 ty) ty ∧ va_RA U (Γ.2.1 ty) ty) ∧ (∀ w ∈ lw_tbl, z_gd w = true → va_Nw w U) ∧ va_AO "SomebodysLift$Lift" U ∧ va_AO "SomebodysLift$Tape" U ∧ va_AO "java/lang/Object" U ∧ z_E Γ l U
theorem z_K.warm {Γ : z_W} {l : Launch} {s U : State} (hW : s.WarmedH U.vm) (h : z_K Γ l s) : z_K Γ l U := by
  obtain ⟨h1, h2, h3, h4, h5, h6, h7, hE, hE2, s0, a0, e1, e2, e3⟩ := h
  refine ⟨h1, fun c q hq => u_Kn_moved hW.alike (h2 c q hq), fun ty ht => ⟨arrOfT_moved hW.alike (h3 ty ht).1, (h3 ty ht).2.moved hW.alike⟩, fun w hw hg => ?_, h5.moved hW.alike, h6.moved hW.alike, h7.moved hW.alike, hE, fun n hn => (hW.alike.findClass ..).trans (hE2 n hn), s0, a0, e1, e2.trans hW, e3⟩
  have h8 := h4 w hw hg
  cases w <;> first | exact va_Nw.warmF hW h8 | exact va_Nw.warmM hW h8 | exact va_Nw.warmC hW h8 | exact va_Nw.warmD hW h8 | (simp [z_gd] at hg)
theorem z_K.vm {Γ : z_W} {l : Launch} {s U : State} (hv : U.vm = s.vm) (h : z_K Γ l s) : z_K Γ l U := h.warm (by rw [hv]; exact State.WarmedH.refl s)
theorem z_cat (Γ : z_W) (v : Value) : (z_cv Γ v).category = v.category := by cases v <;> rfl
theorem z_sum (Γ : z_W) (st : List Value) : ((st.map (z_cv Γ)).map fun v => v.category).sum = (st.map fun v => v.category).sum := by
  rw [List.map_map]
  congr 1
  apply List.map_congr_left
  intro v _
  exact z_cat Γ v
section ZREL
variable {Γ : z_W} {h : z_H} {H H1 : Heap} {a b k : Nat}
theorem z_ad_ne (hw : z_Wf Γ) (ha : z_o ≤ a) (hne : b ≠ a) : z_ad Γ b ≠ z_ad Γ a := by
  rw [hw.1 a ha]
  by_cases hb : z_o ≤ b
  · rw [hw.1 b hb]
    omega
  · have := hw.2 b (by omega)
    omega
theorem z_lt {t : Nat ⊕ (FieldType × Nat)} (hR : z_Rl Γ h H) (ht : z_T h a = some t) : a < z_n h := by
  rcases Nat.lt_or_ge a (z_n h) with q | q
  · exact q
  · have := hR.2.2.2 a q
    rw [this] at ht
    cases ht
/-- an object's cell -/
theorem z_obj {c : Nat} {r : vw_C} (hR : z_Rl Γ h H) (ht : z_T h a = some (.inl c)) (hr : z_cl[c]? = some r) : t_OB (z_ad Γ a) (Γ.1.1 c) r.2.2 (Γ.1.2 c) H (fun k => z_vt Γ (z_ty c k) h a k) := by
  have h1 := hR.1 a (z_lt hR ht)
  unfold z_ce at h1
  rw [ht] at h1
  obtain ⟨r', h2, h3⟩ := h1
  cases hr.symm.trans h2
  exact h3
theorem z_ca.of {ty : FieldType} {n : Nat} (hf : ty ≠ .float) (h1 : H[z_ad Γ a]? = some (arrV (Γ.2.1 ty) n (fun j => z_vt Γ ty h a j))) : z_ca Γ h H a ty n := by
  unfold z_ca
  split
  · exact absurd rfl hf
  · exact h1
theorem z_ca.to {ty : FieldType} {n : Nat} (hf : ty ≠ .float) (h1 : z_ca Γ h H a ty n) : H[z_ad Γ a]? = some (arrV (Γ.2.1 ty) n (fun j => z_vt Γ ty h a j)) := by
  unfold z_ca at h1
  split at h1
  · exact absurd rfl hf
  · exact h1
theorem z_ca.kept {h' : z_H} {ty : FieldType} {n : Nat} (hk : H1[z_ad Γ a]? = H[z_ad Γ a]?) (ho : ∀ t j, z_vt Γ t h' a j = z_vt Γ t h a j) (h1 : z_ca Γ h H a ty n) : z_ca Γ h' H1 a ty n := by
  by_cases hf : ty = .float
  · subst hf
    match n, h1 with
    | 0, ⟨w, e, q⟩ => exact ⟨w, by rw [hk]; exact e, q⟩
    | 1, ⟨w, e, q1, q2, q3⟩ =>
      have e6 : Value.int (z_I h' a 6) = Value.int (z_I h a 6) := ho .int 6
      exact ⟨w, by rw [hk]; exact e, q1, q2, by rw [e6]; exact q3⟩
    | n + 2, .inl ⟨q, w, e, q1⟩ => exact .inl ⟨q, w, by rw [hk]; exact e, q1⟩
    | n + 2, .inr ⟨q, f, e⟩ => exact .inr ⟨q, f, by rw [hk]; exact e⟩
  · refine z_ca.of hf ?_
    rw [hk]
    refine Eq.trans (h1.to hf) ?_
    congr 1
    congr 1
    funext j
    exact (ho ty j).symm
theorem z_arr {ty : FieldType} {n : Nat} (hR : z_Rl Γ h H) (ht : z_T h a = some (.inr (ty, n))) (hf : ty ≠ .float) : H[z_ad Γ a]? = some (arrV (Γ.2.1 ty) n (fun j => z_vt Γ ty h a j)) := by
  have h1 := hR.1 a (z_lt hR ht)
  unfold z_ce at h1
  rw [ht] at h1
  exact z_ca.to hf h1
/-- one cell is changed, and the memory with it -/
theorem z_Rl.set {h' : z_H} (hw : z_Wf Γ) (hR : z_Rl Γ h H) (ha : z_o ≤ a) (hn : z_n h' = z_n h) (hT : ∀ b, z_T h' b = z_T h b) (ho : ∀ b ty j, b ≠ a → z_vt Γ ty h' b j = z_vt Γ ty h b j) (hz : H1.size = H.size) (hq : ∀ q, q ≠ z_ad Γ a → H1[q]? = H[q]?) (hc : z_ce Γ h' H1 a) : z_Rl Γ h' H1 := by
  obtain ⟨r1, r2, r3, r4⟩ := hR
  refine ⟨fun b hb => ?_, ⟨by rw [hn]; exact r2.1, by rw [hz, hn]; exact r2.2⟩, fun q h1 => ?_, fun b hb => by rw [hT]; exact r4 b (by rw [hn] at hb; exact hb)⟩
  · by_cases e : b = a
    · rw [e]; exact hc
    · have h1 := r1 b (by rw [hn] at hb; exact hb)
      have hk := hq _ (z_ad_ne hw ha e)
      unfold z_ce at h1 ⊢
      rw [hT b]
      cases ht : z_T h b with
      | none => trivial
      | some t =>
        rw [ht] at h1
        cases t with
        | inl c =>
          obtain ⟨r, h2, h3⟩ := h1
          exact ⟨r, h2, (h3.kept hk).to (fun j _ => (ho b _ j e).symm)⟩
        | inr tn =>
          obtain ⟨ty, n⟩ := tn
          exact z_ca.kept hk (fun t j => ho b t j e) h1
  · rw [hq q (by rw [hw.1 a ha]; omega)]
    exact r3 q h1
/-- a new cell -/
theorem z_Rl.push {t : Nat ⊕ (FieldType × Nat)} (hw : z_Wf Γ) (hR : z_Rl Γ h H) (hz : H1.size = H.size + 1) (hq : ∀ q, q < H.size → H1[q]? = H[q]?) (hc : z_ce Γ (z_new h t) H1 (z_n h)) : z_Rl Γ (z_new h t) H1 := by
  obtain ⟨r1, r2, r3, r4⟩ := hR
  have hn : z_n (z_new h t) = z_n h + 1 := rfl
  refine ⟨fun b hb => ?_, ⟨by rw [hn]; omega, by rw [hz, hn, r2.2]; omega⟩, fun q h1 => ?_, fun b hb => ?_⟩
  · by_cases e : b = z_n h
    · rw [e]; exact hc
    · have hb2 : b < z_n h := by rw [hn] at hb; omega
      have h1 := r1 b hb2
      have hlt : z_ad Γ b < H.size := by
        rw [r2.2]
        by_cases q : z_o ≤ b
        · rw [hw.1 b q]; omega
        · have := hw.2 b (by omega); omega
      have hk := hq _ hlt
      have hT : z_T (z_new h t) b = z_T h b := by rw [z_Tn, if_neg e]
      have ho : ∀ ty j, z_vt Γ ty (z_new h t) b j = z_vt Γ ty h b j := fun ty j => by
        unfold z_vt
        cases ty <;> simp only [z_In, z_Ln, z_Rn, if_neg e]
      unfold z_ce at h1 ⊢
      rw [hT]
      cases ht : z_T h b with
      | none => trivial
      | some t2 =>
        rw [ht] at h1
        cases t2 with
        | inl c =>
          obtain ⟨r, h2, h3⟩ := h1
          exact ⟨r, h2, (h3.kept hk).to (fun j _ => (ho _ j).symm)⟩
        | inr tn =>
          obtain ⟨ty, n⟩ := tn
          exact z_ca.kept hk (fun t j => ho t j) h1
  · rw [hq q (by rw [r2.2]; omega)]
    exact r3 q h1
  · have hb2 : z_n h + 1 ≤ b := by rw [hn] at hb; exact hb
    rw [z_Tn, if_neg (by omega)]
    exact r4 b (by omega)
theorem z_size (hw : z_Wf Γ) (hR : z_Rl Γ h H) : z_ad Γ (z_n h) = H.size := by
  rw [hw.1 _ hR.2.1.1, hR.2.1.2]
end ZREL
