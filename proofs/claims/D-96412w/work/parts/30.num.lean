/-! NUMBERS AND BOOLEANS of the walks -/
/-- a boolean as the machine has it -/
def z_b (p : Prop) [Decidable p] : Int32 := if p then 1 else 0
abbrev z_in (v lo hi : Int32) : Prop := lo ≤ v ∧ v ≤ hi
/-- an index -/
abbrev z_c (x : Int32) : Nat := x.toNatClampNeg
/-- a count of at most b -/
def z_cn (x : Int32) (b : Nat) : Prop := x = nI (z_c x) ∧ z_c x ≤ b
theorem z_b1 {p : Prop} [Decidable p] (h : p) : z_b p = 1 := if_pos h
theorem z_b0 {p : Prop} [Decidable p] (h : ¬ p) : z_b p = 0 := if_neg h
theorem z_bn {p : Prop} [Decidable p] : z_b p = 0 ↔ ¬ p := by
  unfold z_b
  by_cases h : p
  · rw [if_pos h]; exact ⟨fun q => absurd q (by decide), fun q => absurd h q⟩
  · rw [if_neg h]; exact ⟨fun _ => h, fun _ => rfl⟩
theorem z_be {p q : Prop} [Decidable p] [Decidable q] (h : p ↔ q) : z_b p = z_b q := by
  unfold z_b
  by_cases e : p
  · rw [if_pos e, if_pos (h.mp e)]
  · rw [if_neg e, if_neg (fun x => e (h.mpr x))]
theorem z_bz (p : Prop) [Decidable p] : narrow .boolean (.int (z_b p)) = .int (z_b p) := by
  by_cases h : p
  · rw [z_b1 h]; rfl
  · rw [z_b0 h]; rfl
theorem z_bf (p : Prop) [Decidable p] : fits .boolean (.int (z_b p)) = true := by
  by_cases h : p
  · rw [z_b1 h]; rfl
  · rw [z_b0 h]; rfl
theorem z_cn_of {n b : Nat} (h : n ≤ b) (hb : b < 2 ^ 31) : z_cn (nI n) b := by
  unfold z_cn z_c
  rw [nI_clamp (by omega)]
  exact ⟨rfl, h⟩
theorem z_nc (x : Int32) (h : 0 ≤ x) : x = nI (z_c x) := by
  obtain ⟨j, hj, e⟩ := nI_of (x := x) (by rw [Int32.not_lt]; exact h)
  rw [e]
  unfold z_c
  rw [nI_clamp hj]
theorem z_ti {n : Nat} (h : n < 2 ^ 31) : (nI n).toInt = (n : Int) := nI_toInt h
theorem z_cn_ti {x : Int32} {b : Nat} (h : z_cn x b) (hb : b < 2 ^ 31) : x.toInt = (z_c x : Int) := by
  have h1 := h.2
  rw [h.1, nI_toInt (by unfold z_c at *; omega)]
  unfold z_c
  rw [nI_clamp (by unfold z_c at h1; omega)]
theorem z_sub1 {x : Int32} {b : Nat} (hx : z_cn x b) (hb : b < 2 ^ 30) : (x - 1).toInt = (z_c x : Int) - 1 := by
  have h1 := hx.2
  rw [hx.1]
  have := pk_sub_toInt (a := z_c x) (b := 1) (by omega) (by decide)
  rw [show (nI 1 : Int32) = 1 from rfl] at this
  rw [this]
  unfold z_c
  rw [nI_clamp (by unfold z_c at h1; omega)]
  rfl
theorem z_ix {l x : Int32} {b : Nat} (hx : z_cn x b) (hb : b < 2 ^ 30) (h : z_in l 0 (x - 1)) : l = nI (z_c l) ∧ z_c l < z_c x := by
  have h1 := z_nc l h.1
  refine ⟨h1, ?_⟩
  have h2 := Int32.le_iff_toInt_le.mp h.2
  rw [z_sub1 hx hb] at h2
  have h3 : (nI (z_c l)).toInt = (z_c l : Int) := by
    refine nI_toInt ?_
    unfold z_c
    have := l.toNatClampNeg_lt
    omega
  rw [h1, h3] at h2
  unfold z_c at *
  omega
/-- l is in 0 .. b -/
theorem z_ixb {l : Int32} (b : Nat) (hb : b < 2 ^ 31) (h : z_in l 0 (nI b)) : l = nI (z_c l) ∧ z_c l ≤ b := by
  have h1 := z_nc l h.1
  refine ⟨h1, ?_⟩
  have h2 := Int32.le_iff_toInt_le.mp h.2
  rw [nI_toInt hb] at h2
  have h3 : (nI (z_c l)).toInt = (z_c l : Int) := by
    refine nI_toInt ?_
    unfold z_c
    have := l.toNatClampNeg_lt
    omega
  rw [h1, h3] at h2
  unfold z_c at *
  omega
section ZNUM
variable {Γ : z_W} {M : z_M} {rm : Room} {Q : Outcome → z_H → Prop} {cs ss pc : Nat} {ls : List (Option Value)} {st : List Value} {h : z_H}
theorem z_bif_ne {P : Prop} [Decidable P] {off : Int} (tgt : Nat) (hd : decode M.2.1 pc = .ok (.ifCond .ne off, 3)) (ht : (pc : Int) + off = (tgt : Int)) (kt : P → z_G Γ M rm Q cs ss tgt ls st h) (kf : ¬ P → z_G Γ M rm Q cs ss (pc + 3) ls st h) : z_G Γ M rm Q cs ss pc ls (.int (z_b P) :: st) h :=
  z_if_ne tgt hd ht (fun q => kt (Decidable.of_not_not fun r => q (z_bn.mpr r))) (fun q => kf (z_bn.mp q))
theorem z_bif_eq {P : Prop} [Decidable P] {off : Int} (tgt : Nat) (hd : decode M.2.1 pc = .ok (.ifCond .eq off, 3)) (ht : (pc : Int) + off = (tgt : Int)) (kt : ¬ P → z_G Γ M rm Q cs ss tgt ls st h) (kf : P → z_G Γ M rm Q cs ss (pc + 3) ls st h) : z_G Γ M rm Q cs ss pc ls (.int (z_b P) :: st) h :=
  z_if_eq tgt hd ht (fun q => kt (z_bn.mp q)) (fun q => kf (Decidable.of_not_not fun r => q (z_bn.mpr r)))
end ZNUM
