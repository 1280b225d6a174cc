/-! THE TYPED MEMORY: what the walks speak of instead of the machine's heap. A memory: ints, longs, references (each by id and place), shapes (an object of a class by its number, an array of a type and length, or nothing known), and the next id. -/
abbrev z_H : Type := (Nat → Nat → Int32) × (Nat → Nat → Int64) × (Nat → Nat → Option Nat) × (Nat → Option (Nat ⊕ (FieldType × Nat))) × Nat
def z_I (h : z_H) (a k : Nat) : Int32 := h.1 a k
def z_L (h : z_H) (a k : Nat) : Int64 := h.2.1 a k
def z_R (h : z_H) (a k : Nat) : Option Nat := h.2.2.1 a k
def z_T (h : z_H) (a : Nat) : Option (Nat ⊕ (FieldType × Nat)) := h.2.2.2.1 a
def z_n (h : z_H) : Nat := h.2.2.2.2
def z_u {α : Type} (f : Nat → Nat → α) (a k : Nat) (v : α) : Nat → Nat → α := fun b j => if b = a ∧ j = k then v else f b j
def z_sI (h : z_H) (a k : Nat) (v : Int32) : z_H := (z_u h.1 a k v, h.2)
def z_sL (h : z_H) (a k : Nat) (v : Int64) : z_H := (h.1, z_u h.2.1 a k v, h.2.2)
def z_sR (h : z_H) (a k : Nat) (v : Option Nat) : z_H := (h.1, h.2.1, z_u h.2.2.1 a k v, h.2.2.2)
/-- a new cell: its id is z_n h, its places are zero -/
def z_new (h : z_H) (t : Nat ⊕ (FieldType × Nat)) : z_H := (fun b j => if b = h.2.2.2.2 then 0 else h.1 b j, fun b j => if b = h.2.2.2.2 then 0 else h.2.1 b j, fun b j => if b = h.2.2.2.2 then none else h.2.2.1 b j, fun b => if b = h.2.2.2.2 then some t else h.2.2.2.1 b, h.2.2.2.2 + 1)
/-- k cells of which nothing is said -/
def z_skip (h : z_H) (k : Nat) : z_H := (h.1, h.2.1, h.2.2.1, fun b => if h.2.2.2.2 ≤ b then none else h.2.2.2.1 b, h.2.2.2.2 + k)
section ZMEM
variable (h : z_H) (a b k j : Nat)
theorem z_II (v : Int32) : z_I (z_sI h a k v) b j = if b = a ∧ j = k then v else z_I h b j := rfl
theorem z_IL (v : Int64) : z_I (z_sL h a k v) b j = z_I h b j := rfl
theorem z_IR (v : Option Nat) : z_I (z_sR h a k v) b j = z_I h b j := rfl
theorem z_LI (v : Int32) : z_L (z_sI h a k v) b j = z_L h b j := rfl
theorem z_LL (v : Int64) : z_L (z_sL h a k v) b j = if b = a ∧ j = k then v else z_L h b j := rfl
theorem z_LR (v : Option Nat) : z_L (z_sR h a k v) b j = z_L h b j := rfl
theorem z_RI (v : Int32) : z_R (z_sI h a k v) b j = z_R h b j := rfl
theorem z_RL (v : Int64) : z_R (z_sL h a k v) b j = z_R h b j := rfl
theorem z_RR (v : Option Nat) : z_R (z_sR h a k v) b j = if b = a ∧ j = k then v else z_R h b j := rfl
theorem z_TI (v : Int32) : z_T (z_sI h a k v) b = z_T h b := rfl
theorem z_TL (v : Int64) : z_T (z_sL h a k v) b = z_T h b := rfl
theorem z_TR (v : Option Nat) : z_T (z_sR h a k v) b = z_T h b := rfl
theorem z_nI (v : Int32) : z_n (z_sI h a k v) = z_n h := rfl
theorem z_nL (v : Int64) : z_n (z_sL h a k v) = z_n h := rfl
theorem z_nR (v : Option Nat) : z_n (z_sR h a k v) = z_n h := rfl
theorem z_In (t : Nat ⊕ (FieldType × Nat)) : z_I (z_new h t) b j = if b = z_n h then 0 else z_I h b j := rfl
theorem z_Ln (t : Nat ⊕ (FieldType × Nat)) : z_L (z_new h t) b j = if b = z_n h then 0 else z_L h b j := rfl
theorem z_Rn (t : Nat ⊕ (FieldType × Nat)) : z_R (z_new h t) b j = if b = z_n h then none else z_R h b j := rfl
theorem z_Tn (t : Nat ⊕ (FieldType × Nat)) : z_T (z_new h t) b = if b = z_n h then some t else z_T h b := rfl
theorem z_nn (t : Nat ⊕ (FieldType × Nat)) : z_n (z_new h t) = z_n h + 1 := rfl
theorem z_Is : z_I (z_skip h k) b j = z_I h b j := rfl
theorem z_Ls : z_L (z_skip h k) b j = z_L h b j := rfl
theorem z_Rs : z_R (z_skip h k) b j = z_R h b j := rfl
theorem z_Ts : z_T (z_skip h k) b = if z_n h ≤ b then none else z_T h b := rfl
theorem z_ns : z_n (z_skip h k) = z_n h + k := rfl
end ZMEM
