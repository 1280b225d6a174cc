/-! SomebodysLift$Time -/
set_option maxRecDepth 100000
def RX1 : String := "SomebodysLift$Time"
def TX1 : u_T := fun k => match k with
  | 0 => ("SomebodysLift$Time", "mile", "I", false)
  | 1 => ("SomebodysLift$Time", "height", "I", false)
  | 2 => ("SomebodysLift$Time", "minute", "I", false)
  | _ => ("SomebodysLift$Time", "in", "I", false)
def tyX1 : Nat → FieldType := fun k => match k with
  | 0 => .int
  | 1 => .int
  | 2 => .int
  | _ => .int
abbrev wsX10 : List Cond := u_ws RX1 TX1 4
theorem nmX1 : ∀ a, a < 4 → ∀ b, b < 4 → a ≠ b → (TX1 a).2.1 ≠ (TX1 b).2.1 := by decide +kernel
theorem tyX1_ok : ∀ k, k < 4 → parseFieldDescriptor (TX1 k).2.2.1 = some (tyX1 k) := by decide +kernel
abbrev cX1_init : ByteArray := prog_17_method_1_code
def yX1_init : MethodName := ⟨RX1, "<init>", "()V"⟩
def dkwX1_init_0 : List UInt8 := [42, 183, 0, 3, 42, 16, 100, 181, 0, 9, 42, 2, 181, 0, 15, 177]
abbrev dktX1_init_0 : List UInt8 := dkwX1_init_0 ++ []
theorem dksX1_init_0 : cX1_init.data.toList.drop 0 = dktX1_init_0 := by decide +kernel
theorem dX1_init_0 : decode cX1_init 0 = .ok (.aload_n 0, 1) := dk_42 (dk_at dksX1_init_0 0 rfl rfl)
theorem dX1_init_1 : decode cX1_init 1 = .ok (.invokespecial 3, 3) := dk_183 0 3 (dk_at dksX1_init_0 1 rfl rfl)
theorem dX1_init_4 : decode cX1_init 4 = .ok (.aload_n 0, 1) := dk_42 (dk_at dksX1_init_0 4 rfl rfl)
theorem dX1_init_5 : decode cX1_init 5 = .ok (.bipush 100, 2) := dk_16 100 (dk_at dksX1_init_0 5 rfl rfl)
theorem dX1_init_7 : decode cX1_init 7 = .ok (.putfield 9, 3) := dk_181 0 9 (dk_at dksX1_init_0 7 rfl rfl)
theorem dX1_init_10 : decode cX1_init 10 = .ok (.aload_n 0, 1) := dk_42 (dk_at dksX1_init_0 10 rfl rfl)
theorem dX1_init_11 : decode cX1_init 11 = .ok (.iconst (-1), 1) := dk_2 (dk_at dksX1_init_0 11 rfl rfl)
theorem dX1_init_12 : decode cX1_init 12 = .ok (.putfield 15, 3) := dk_181 0 15 (dk_at dksX1_init_0 12 rfl rfl)
theorem dX1_init_15 : decode cX1_init 15 = .ok (.return_, 1) := dk_177 (dk_at dksX1_init_0 15 rfl rfl)
abbrev cX1_climbs : ByteArray := prog_17_method_6_code
def yX1_climbs : MethodName := ⟨RX1, "climbs", "(II)V"⟩
def dkwX1_climbs_2 : List UInt8 := [181, 0, 21, 177]
abbrev dktX1_climbs_2 : List UInt8 := dkwX1_climbs_2 ++ []
def dkwX1_climbs_1 : List UInt8 := [167, 0, 13, 3, 42, 180, 0, 9, 27, 96, 184, 0, 38, 181, 0, 9, 42, 89, 180, 0, 21, 4, 96]
abbrev dktX1_climbs_1 : List UInt8 := dkwX1_climbs_1 ++ dktX1_climbs_2
def dkwX1_climbs_0 : List UInt8 := [42, 27, 158, 0, 23, 42, 180, 0, 9, 27, 96, 28, 42, 180, 0, 9, 184, 0, 38, 184, 0, 41]
abbrev dktX1_climbs_0 : List UInt8 := dkwX1_climbs_0 ++ dktX1_climbs_1
theorem dksX1_climbs_0 : cX1_climbs.data.toList.drop 0 = dktX1_climbs_0 := by decide +kernel
theorem dksX1_climbs_1 : cX1_climbs.data.toList.drop 22 = dktX1_climbs_1 := dk_seg dksX1_climbs_0 22 rfl rfl
theorem dksX1_climbs_2 : cX1_climbs.data.toList.drop 45 = dktX1_climbs_2 := dk_seg dksX1_climbs_1 23 rfl rfl
theorem dX1_climbs_0 : decode cX1_climbs 0 = .ok (.aload_n 0, 1) := dk_42 (dk_at dksX1_climbs_0 0 rfl rfl)
theorem dX1_climbs_1 : decode cX1_climbs 1 = .ok (.iload_n 1, 1) := dk_27 (dk_at dksX1_climbs_0 1 rfl rfl)
theorem dX1_climbs_2 : decode cX1_climbs 2 = .ok (.ifCond .le 23, 3) := dk_158 0 23 (dk_at dksX1_climbs_0 2 rfl rfl)
theorem dX1_climbs_5 : decode cX1_climbs 5 = .ok (.aload_n 0, 1) := dk_42 (dk_at dksX1_climbs_0 5 rfl rfl)
theorem dX1_climbs_6 : decode cX1_climbs 6 = .ok (.getfield 9, 3) := dk_180 0 9 (dk_at dksX1_climbs_0 6 rfl rfl)
theorem dX1_climbs_9 : decode cX1_climbs 9 = .ok (.iload_n 1, 1) := dk_27 (dk_at dksX1_climbs_0 9 rfl rfl)
theorem dX1_climbs_10 : decode cX1_climbs 10 = .ok (.iadd, 1) := dk_96 (dk_at dksX1_climbs_0 10 rfl rfl)
theorem dX1_climbs_11 : decode cX1_climbs 11 = .ok (.iload_n 2, 1) := dk_28 (dk_at dksX1_climbs_0 11 rfl rfl)
theorem dX1_climbs_12 : decode cX1_climbs 12 = .ok (.aload_n 0, 1) := dk_42 (dk_at dksX1_climbs_0 12 rfl rfl)
theorem dX1_climbs_13 : decode cX1_climbs 13 = .ok (.getfield 9, 3) := dk_180 0 9 (dk_at dksX1_climbs_0 13 rfl rfl)
theorem dX1_climbs_16 : decode cX1_climbs 16 = .ok (.invokestatic 38, 3) := dk_184 0 38 (dk_at dksX1_climbs_0 16 rfl rfl)
theorem dX1_climbs_19 : decode cX1_climbs 19 = .ok (.invokestatic 41, 3) := dk_184 0 41 (dk_at dksX1_climbs_0 19 rfl rfl)
theorem dX1_climbs_22 : decode cX1_climbs 22 = .ok (.goto 13, 3) := dk_167 0 13 (dk_at dksX1_climbs_1 0 rfl rfl)
theorem dX1_climbs_25 : decode cX1_climbs 25 = .ok (.iconst 0, 1) := dk_3 (dk_at dksX1_climbs_1 3 rfl rfl)
theorem dX1_climbs_26 : decode cX1_climbs 26 = .ok (.aload_n 0, 1) := dk_42 (dk_at dksX1_climbs_1 4 rfl rfl)
theorem dX1_climbs_27 : decode cX1_climbs 27 = .ok (.getfield 9, 3) := dk_180 0 9 (dk_at dksX1_climbs_1 5 rfl rfl)
theorem dX1_climbs_30 : decode cX1_climbs 30 = .ok (.iload_n 1, 1) := dk_27 (dk_at dksX1_climbs_1 8 rfl rfl)
theorem dX1_climbs_31 : decode cX1_climbs 31 = .ok (.iadd, 1) := dk_96 (dk_at dksX1_climbs_1 9 rfl rfl)
theorem dX1_climbs_32 : decode cX1_climbs 32 = .ok (.invokestatic 38, 3) := dk_184 0 38 (dk_at dksX1_climbs_1 10 rfl rfl)
theorem dX1_climbs_35 : decode cX1_climbs 35 = .ok (.putfield 9, 3) := dk_181 0 9 (dk_at dksX1_climbs_1 13 rfl rfl)
theorem dX1_climbs_38 : decode cX1_climbs 38 = .ok (.aload_n 0, 1) := dk_42 (dk_at dksX1_climbs_1 16 rfl rfl)
theorem dX1_climbs_39 : decode cX1_climbs 39 = .ok (.dup, 1) := dk_89 (dk_at dksX1_climbs_1 17 rfl rfl)
theorem dX1_climbs_40 : decode cX1_climbs 40 = .ok (.getfield 21, 3) := dk_180 0 21 (dk_at dksX1_climbs_1 18 rfl rfl)
theorem dX1_climbs_43 : decode cX1_climbs 43 = .ok (.iconst 1, 1) := dk_4 (dk_at dksX1_climbs_1 21 rfl rfl)
theorem dX1_climbs_44 : decode cX1_climbs 44 = .ok (.iadd, 1) := dk_96 (dk_at dksX1_climbs_1 22 rfl rfl)
theorem dX1_climbs_45 : decode cX1_climbs 45 = .ok (.putfield 21, 3) := dk_181 0 21 (dk_at dksX1_climbs_2 0 rfl rfl)
theorem dX1_climbs_48 : decode cX1_climbs 48 = .ok (.return_, 1) := dk_177 (dk_at dksX1_climbs_2 3 rfl rfl)
abbrev cX1_takes : ByteArray := prog_17_method_2_code
def yX1_takes : MethodName := ⟨RX1, "takes", "(LSomebodysLift$Time;)V"⟩
def dkwX1_takes_1 : List UInt8 := [42, 43, 180, 0, 15, 181, 0, 15, 177]
abbrev dktX1_takes_1 : List UInt8 := dkwX1_takes_1 ++ []
def dkwX1_takes_0 : List UInt8 := [42, 43, 180, 0, 18, 181, 0, 18, 42, 43, 180, 0, 9, 181, 0, 9, 42, 43, 180, 0, 21, 181, 0, 21]
abbrev dktX1_takes_0 : List UInt8 := dkwX1_takes_0 ++ dktX1_takes_1
theorem dksX1_takes_0 : cX1_takes.data.toList.drop 0 = dktX1_takes_0 := by decide +kernel
theorem dksX1_takes_1 : cX1_takes.data.toList.drop 24 = dktX1_takes_1 := dk_seg dksX1_takes_0 24 rfl rfl
theorem dX1_takes_0 : decode cX1_takes 0 = .ok (.aload_n 0, 1) := dk_42 (dk_at dksX1_takes_0 0 rfl rfl)
theorem dX1_takes_1 : decode cX1_takes 1 = .ok (.aload_n 1, 1) := dk_43 (dk_at dksX1_takes_0 1 rfl rfl)
theorem dX1_takes_2 : decode cX1_takes 2 = .ok (.getfield 18, 3) := dk_180 0 18 (dk_at dksX1_takes_0 2 rfl rfl)
theorem dX1_takes_5 : decode cX1_takes 5 = .ok (.putfield 18, 3) := dk_181 0 18 (dk_at dksX1_takes_0 5 rfl rfl)
theorem dX1_takes_8 : decode cX1_takes 8 = .ok (.aload_n 0, 1) := dk_42 (dk_at dksX1_takes_0 8 rfl rfl)
theorem dX1_takes_9 : decode cX1_takes 9 = .ok (.aload_n 1, 1) := dk_43 (dk_at dksX1_takes_0 9 rfl rfl)
theorem dX1_takes_10 : decode cX1_takes 10 = .ok (.getfield 9, 3) := dk_180 0 9 (dk_at dksX1_takes_0 10 rfl rfl)
theorem dX1_takes_13 : decode cX1_takes 13 = .ok (.putfield 9, 3) := dk_181 0 9 (dk_at dksX1_takes_0 13 rfl rfl)
theorem dX1_takes_16 : decode cX1_takes 16 = .ok (.aload_n 0, 1) := dk_42 (dk_at dksX1_takes_0 16 rfl rfl)
theorem dX1_takes_17 : decode cX1_takes 17 = .ok (.aload_n 1, 1) := dk_43 (dk_at dksX1_takes_0 17 rfl rfl)
theorem dX1_takes_18 : decode cX1_takes 18 = .ok (.getfield 21, 3) := dk_180 0 21 (dk_at dksX1_takes_0 18 rfl rfl)
theorem dX1_takes_21 : decode cX1_takes 21 = .ok (.putfield 21, 3) := dk_181 0 21 (dk_at dksX1_takes_0 21 rfl rfl)
theorem dX1_takes_24 : decode cX1_takes 24 = .ok (.aload_n 0, 1) := dk_42 (dk_at dksX1_takes_1 0 rfl rfl)
theorem dX1_takes_25 : decode cX1_takes 25 = .ok (.aload_n 1, 1) := dk_43 (dk_at dksX1_takes_1 1 rfl rfl)
theorem dX1_takes_26 : decode cX1_takes 26 = .ok (.getfield 15, 3) := dk_180 0 15 (dk_at dksX1_takes_1 2 rfl rfl)
theorem dX1_takes_29 : decode cX1_takes 29 = .ok (.putfield 15, 3) := dk_181 0 15 (dk_at dksX1_takes_1 5 rfl rfl)
theorem dX1_takes_32 : decode cX1_takes 32 = .ok (.return_, 1) := dk_177 (dk_at dksX1_takes_1 8 rfl rfl)
abbrev cX1_glides : ByteArray := prog_17_method_5_code
def yX1_glides : MethodName := ⟨RX1, "glides", "(II)Z"⟩
def dkwX1_glides_2 : List UInt8 := [181, 0, 21, 42, 27, 181, 0, 18, 42, 2, 181, 0, 15, 4, 172]
abbrev dktX1_glides_2 : List UInt8 := dkwX1_glides_2 ++ []
def dkwX1_glides_1 : List UInt8 := [181, 0, 9, 42, 89, 180, 0, 21, 27, 42, 180, 0, 18, 100, 184, 0, 24, 16, 10, 28, 100, 104, 96]
abbrev dktX1_glides_1 : List UInt8 := dkwX1_glides_1 ++ dktX1_glides_2
def dkwX1_glides_0 : List UInt8 := [42, 27, 28, 3, 182, 0, 34, 154, 0, 5, 3, 172, 42, 89, 180, 0, 9, 42, 27, 28, 182, 0, 30, 100]
abbrev dktX1_glides_0 : List UInt8 := dkwX1_glides_0 ++ dktX1_glides_1
theorem dksX1_glides_0 : cX1_glides.data.toList.drop 0 = dktX1_glides_0 := by decide +kernel
theorem dksX1_glides_1 : cX1_glides.data.toList.drop 24 = dktX1_glides_1 := dk_seg dksX1_glides_0 24 rfl rfl
theorem dksX1_glides_2 : cX1_glides.data.toList.drop 47 = dktX1_glides_2 := dk_seg dksX1_glides_1 23 rfl rfl
theorem dX1_glides_0 : decode cX1_glides 0 = .ok (.aload_n 0, 1) := dk_42 (dk_at dksX1_glides_0 0 rfl rfl)
theorem dX1_glides_1 : decode cX1_glides 1 = .ok (.iload_n 1, 1) := dk_27 (dk_at dksX1_glides_0 1 rfl rfl)
theorem dX1_glides_2 : decode cX1_glides 2 = .ok (.iload_n 2, 1) := dk_28 (dk_at dksX1_glides_0 2 rfl rfl)
theorem dX1_glides_3 : decode cX1_glides 3 = .ok (.iconst 0, 1) := dk_3 (dk_at dksX1_glides_0 3 rfl rfl)
theorem dX1_glides_4 : decode cX1_glides 4 = .ok (.invokevirtual 34, 3) := dk_182 0 34 (dk_at dksX1_glides_0 4 rfl rfl)
theorem dX1_glides_7 : decode cX1_glides 7 = .ok (.ifCond .ne 5, 3) := dk_154 0 5 (dk_at dksX1_glides_0 7 rfl rfl)
theorem dX1_glides_10 : decode cX1_glides 10 = .ok (.iconst 0, 1) := dk_3 (dk_at dksX1_glides_0 10 rfl rfl)
theorem dX1_glides_11 : decode cX1_glides 11 = .ok (.ireturn, 1) := dk_172 (dk_at dksX1_glides_0 11 rfl rfl)
theorem dX1_glides_12 : decode cX1_glides 12 = .ok (.aload_n 0, 1) := dk_42 (dk_at dksX1_glides_0 12 rfl rfl)
theorem dX1_glides_13 : decode cX1_glides 13 = .ok (.dup, 1) := dk_89 (dk_at dksX1_glides_0 13 rfl rfl)
theorem dX1_glides_14 : decode cX1_glides 14 = .ok (.getfield 9, 3) := dk_180 0 9 (dk_at dksX1_glides_0 14 rfl rfl)
theorem dX1_glides_17 : decode cX1_glides 17 = .ok (.aload_n 0, 1) := dk_42 (dk_at dksX1_glides_0 17 rfl rfl)
theorem dX1_glides_18 : decode cX1_glides 18 = .ok (.iload_n 1, 1) := dk_27 (dk_at dksX1_glides_0 18 rfl rfl)
theorem dX1_glides_19 : decode cX1_glides 19 = .ok (.iload_n 2, 1) := dk_28 (dk_at dksX1_glides_0 19 rfl rfl)
theorem dX1_glides_20 : decode cX1_glides 20 = .ok (.invokevirtual 30, 3) := dk_182 0 30 (dk_at dksX1_glides_0 20 rfl rfl)
theorem dX1_glides_23 : decode cX1_glides 23 = .ok (.isub, 1) := dk_100 (dk_at dksX1_glides_0 23 rfl rfl)
theorem dX1_glides_24 : decode cX1_glides 24 = .ok (.putfield 9, 3) := dk_181 0 9 (dk_at dksX1_glides_1 0 rfl rfl)
theorem dX1_glides_27 : decode cX1_glides 27 = .ok (.aload_n 0, 1) := dk_42 (dk_at dksX1_glides_1 3 rfl rfl)
theorem dX1_glides_28 : decode cX1_glides 28 = .ok (.dup, 1) := dk_89 (dk_at dksX1_glides_1 4 rfl rfl)
theorem dX1_glides_29 : decode cX1_glides 29 = .ok (.getfield 21, 3) := dk_180 0 21 (dk_at dksX1_glides_1 5 rfl rfl)
theorem dX1_glides_32 : decode cX1_glides 32 = .ok (.iload_n 1, 1) := dk_27 (dk_at dksX1_glides_1 8 rfl rfl)
theorem dX1_glides_33 : decode cX1_glides 33 = .ok (.aload_n 0, 1) := dk_42 (dk_at dksX1_glides_1 9 rfl rfl)
theorem dX1_glides_34 : decode cX1_glides 34 = .ok (.getfield 18, 3) := dk_180 0 18 (dk_at dksX1_glides_1 10 rfl rfl)
theorem dX1_glides_37 : decode cX1_glides 37 = .ok (.isub, 1) := dk_100 (dk_at dksX1_glides_1 13 rfl rfl)
theorem dX1_glides_38 : decode cX1_glides 38 = .ok (.invokestatic 24, 3) := dk_184 0 24 (dk_at dksX1_glides_1 14 rfl rfl)
theorem dX1_glides_41 : decode cX1_glides 41 = .ok (.bipush 10, 2) := dk_16 10 (dk_at dksX1_glides_1 17 rfl rfl)
theorem dX1_glides_43 : decode cX1_glides 43 = .ok (.iload_n 2, 1) := dk_28 (dk_at dksX1_glides_1 19 rfl rfl)
theorem dX1_glides_44 : decode cX1_glides 44 = .ok (.isub, 1) := dk_100 (dk_at dksX1_glides_1 20 rfl rfl)
theorem dX1_glides_45 : decode cX1_glides 45 = .ok (.imul, 1) := dk_104 (dk_at dksX1_glides_1 21 rfl rfl)
theorem dX1_glides_46 : decode cX1_glides 46 = .ok (.iadd, 1) := dk_96 (dk_at dksX1_glides_1 22 rfl rfl)
theorem dX1_glides_47 : decode cX1_glides 47 = .ok (.putfield 21, 3) := dk_181 0 21 (dk_at dksX1_glides_2 0 rfl rfl)
theorem dX1_glides_50 : decode cX1_glides 50 = .ok (.aload_n 0, 1) := dk_42 (dk_at dksX1_glides_2 3 rfl rfl)
theorem dX1_glides_51 : decode cX1_glides 51 = .ok (.iload_n 1, 1) := dk_27 (dk_at dksX1_glides_2 4 rfl rfl)
theorem dX1_glides_52 : decode cX1_glides 52 = .ok (.putfield 18, 3) := dk_181 0 18 (dk_at dksX1_glides_2 5 rfl rfl)
theorem dX1_glides_55 : decode cX1_glides 55 = .ok (.aload_n 0, 1) := dk_42 (dk_at dksX1_glides_2 8 rfl rfl)
theorem dX1_glides_56 : decode cX1_glides 56 = .ok (.iconst (-1), 1) := dk_2 (dk_at dksX1_glides_2 9 rfl rfl)
theorem dX1_glides_57 : decode cX1_glides 57 = .ok (.putfield 15, 3) := dk_181 0 15 (dk_at dksX1_glides_2 10 rfl rfl)
theorem dX1_glides_60 : decode cX1_glides 60 = .ok (.iconst 1, 1) := dk_4 (dk_at dksX1_glides_2 13 rfl rfl)
theorem dX1_glides_61 : decode cX1_glides 61 = .ok (.ireturn, 1) := dk_172 (dk_at dksX1_glides_2 14 rfl rfl)
abbrev cX1_reaches : ByteArray := prog_17_method_4_code
def yX1_reaches : MethodName := ⟨RX1, "reaches", "(III)Z"⟩
def dkwX1_reaches_0 : List UInt8 := [42, 180, 0, 9, 42, 27, 28, 182, 0, 30, 100, 29, 161, 0, 7, 4, 167, 0, 4, 3, 172]
abbrev dktX1_reaches_0 : List UInt8 := dkwX1_reaches_0 ++ []
theorem dksX1_reaches_0 : cX1_reaches.data.toList.drop 0 = dktX1_reaches_0 := by decide +kernel
theorem dX1_reaches_0 : decode cX1_reaches 0 = .ok (.aload_n 0, 1) := dk_42 (dk_at dksX1_reaches_0 0 rfl rfl)
theorem dX1_reaches_1 : decode cX1_reaches 1 = .ok (.getfield 9, 3) := dk_180 0 9 (dk_at dksX1_reaches_0 1 rfl rfl)
theorem dX1_reaches_4 : decode cX1_reaches 4 = .ok (.aload_n 0, 1) := dk_42 (dk_at dksX1_reaches_0 4 rfl rfl)
theorem dX1_reaches_5 : decode cX1_reaches 5 = .ok (.iload_n 1, 1) := dk_27 (dk_at dksX1_reaches_0 5 rfl rfl)
theorem dX1_reaches_6 : decode cX1_reaches 6 = .ok (.iload_n 2, 1) := dk_28 (dk_at dksX1_reaches_0 6 rfl rfl)
theorem dX1_reaches_7 : decode cX1_reaches 7 = .ok (.invokevirtual 30, 3) := dk_182 0 30 (dk_at dksX1_reaches_0 7 rfl rfl)
theorem dX1_reaches_10 : decode cX1_reaches 10 = .ok (.isub, 1) := dk_100 (dk_at dksX1_reaches_0 10 rfl rfl)
theorem dX1_reaches_11 : decode cX1_reaches 11 = .ok (.iload_n 3, 1) := dk_29 (dk_at dksX1_reaches_0 11 rfl rfl)
theorem dX1_reaches_12 : decode cX1_reaches 12 = .ok (.if_icmp .lt 7, 3) := dk_161 0 7 (dk_at dksX1_reaches_0 12 rfl rfl)
theorem dX1_reaches_15 : decode cX1_reaches 15 = .ok (.iconst 1, 1) := dk_4 (dk_at dksX1_reaches_0 15 rfl rfl)
theorem dX1_reaches_16 : decode cX1_reaches 16 = .ok (.goto 4, 3) := dk_167 0 4 (dk_at dksX1_reaches_0 16 rfl rfl)
theorem dX1_reaches_19 : decode cX1_reaches 19 = .ok (.iconst 0, 1) := dk_3 (dk_at dksX1_reaches_0 19 rfl rfl)
theorem dX1_reaches_20 : decode cX1_reaches 20 = .ok (.ireturn, 1) := dk_172 (dk_at dksX1_reaches_0 20 rfl rfl)
abbrev cX1_needs : ByteArray := prog_17_method_3_code
def yX1_needs : MethodName := ⟨RX1, "needs", "(II)I"⟩
def dkwX1_needs_0 : List UInt8 := [27, 42, 180, 0, 18, 100, 184, 0, 24, 8, 28, 96, 104, 172]
abbrev dktX1_needs_0 : List UInt8 := dkwX1_needs_0 ++ []
theorem dksX1_needs_0 : cX1_needs.data.toList.drop 0 = dktX1_needs_0 := by decide +kernel
theorem dX1_needs_0 : decode cX1_needs 0 = .ok (.iload_n 1, 1) := dk_27 (dk_at dksX1_needs_0 0 rfl rfl)
theorem dX1_needs_1 : decode cX1_needs 1 = .ok (.aload_n 0, 1) := dk_42 (dk_at dksX1_needs_0 1 rfl rfl)
theorem dX1_needs_2 : decode cX1_needs 2 = .ok (.getfield 18, 3) := dk_180 0 18 (dk_at dksX1_needs_0 2 rfl rfl)
theorem dX1_needs_5 : decode cX1_needs 5 = .ok (.isub, 1) := dk_100 (dk_at dksX1_needs_0 5 rfl rfl)
theorem dX1_needs_6 : decode cX1_needs 6 = .ok (.invokestatic 24, 3) := dk_184 0 24 (dk_at dksX1_needs_0 6 rfl rfl)
theorem dX1_needs_9 : decode cX1_needs 9 = .ok (.iconst 5, 1) := dk_8 (dk_at dksX1_needs_0 9 rfl rfl)
theorem dX1_needs_10 : decode cX1_needs 10 = .ok (.iload_n 2, 1) := dk_28 (dk_at dksX1_needs_0 10 rfl rfl)
theorem dX1_needs_11 : decode cX1_needs 11 = .ok (.iadd, 1) := dk_96 (dk_at dksX1_needs_0 11 rfl rfl)
theorem dX1_needs_12 : decode cX1_needs 12 = .ok (.imul, 1) := dk_104 (dk_at dksX1_needs_0 12 rfl rfl)
theorem dX1_needs_13 : decode cX1_needs 13 = .ok (.ireturn, 1) := dk_172 (dk_at dksX1_needs_0 13 rfl rfl)
theorem q88 : (Jvm.Cond.initialized "SomebodysLift$Time") ∈ lw_all := lw_g (lw_at lw_m1 2 rfl) rfl
theorem q140 : (Jvm.Cond.instantiable "SomebodysLift$Time" (4 : Nat)) ∈ lw_all := lw_g (lw_at lw_m1 54 rfl) rfl
theorem q142 : (Jvm.Cond.instanceMethod ({ cls := "SomebodysLift$Time", name := "<init>", desc := "()V" } : Jvm.MethodName)) ∈ lw_all := lw_g (lw_at lw_m1 56 rfl) rfl
theorem q143 : (Jvm.Cond.code ({ cls := "SomebodysLift$Time", name := "<init>", desc := "()V" } : Jvm.MethodName) prog_17_method_1_code (1 : Nat) (Option.none : Option Jvm.ClassFile.FieldType)) ∈ lw_all := lw_g (lw_at lw_m1 57 rfl) rfl
theorem q144 : (Jvm.Cond.methodLink "SomebodysLift$Time" (3 : Nat) ({ cls := "java/lang/Object", name := "<init>", desc := "()V" } : Jvm.MethodName)) ∈ lw_all := lw_g (lw_at lw_m1 58 rfl) rfl
theorem q145 : (Jvm.Cond.fieldLink "SomebodysLift$Time" (18 : Nat) "SomebodysLift$Time" "mile" "I") ∈ lw_all := lw_g (lw_at lw_m1 59 rfl) rfl
theorem q147 : (Jvm.Cond.fieldLink "SomebodysLift$Time" (9 : Nat) "SomebodysLift$Time" "height" "I") ∈ lw_all := lw_g (lw_at lw_m1 61 rfl) rfl
theorem q149 : (Jvm.Cond.fieldLink "SomebodysLift$Time" (21 : Nat) "SomebodysLift$Time" "minute" "I") ∈ lw_all := lw_g (lw_at lw_m1 63 rfl) rfl
theorem q151 : (Jvm.Cond.fieldLink "SomebodysLift$Time" (15 : Nat) "SomebodysLift$Time" "in" "I") ∈ lw_all := lw_g (lw_at lw_m1 65 rfl) rfl
theorem q153 : (Jvm.Cond.lays "SomebodysLift$Time" "SomebodysLift$Time" "mile" "I") ∈ lw_all := lw_g (lw_at lw_m1 67 rfl) rfl
theorem q154 : (Jvm.Cond.soleField "SomebodysLift$Time" "mile") ∈ lw_all := lw_g (lw_at lw_m1 68 rfl) rfl
theorem q155 : (Jvm.Cond.lays "SomebodysLift$Time" "SomebodysLift$Time" "height" "I") ∈ lw_all := lw_g (lw_at lw_m1 69 rfl) rfl
theorem q156 : (Jvm.Cond.soleField "SomebodysLift$Time" "height") ∈ lw_all := lw_g (lw_at lw_m1 70 rfl) rfl
theorem q157 : (Jvm.Cond.lays "SomebodysLift$Time" "SomebodysLift$Time" "minute" "I") ∈ lw_all := lw_g (lw_at lw_m1 71 rfl) rfl
theorem q158 : (Jvm.Cond.soleField "SomebodysLift$Time" "minute") ∈ lw_all := lw_g (lw_at lw_m1 72 rfl) rfl
theorem q159 : (Jvm.Cond.lays "SomebodysLift$Time" "SomebodysLift$Time" "in" "I") ∈ lw_all := lw_g (lw_at lw_m1 73 rfl) rfl
theorem q160 : (Jvm.Cond.soleField "SomebodysLift$Time" "in") ∈ lw_all := lw_g (lw_at lw_m1 74 rfl) rfl
theorem q161 : (Jvm.Cond.superclass "SomebodysLift$Time" "java/lang/Object") ∈ lw_all := lw_g (lw_at lw_m1 75 rfl) rfl
theorem q947 : (Jvm.Cond.selects "SomebodysLift$Time" ({ cls := "java/lang/Object", name := "getClass", desc := "()Ljava/lang/Class;" } : Jvm.MethodName) ({ cls := "java/lang/Object", name := "getClass", desc := "()Ljava/lang/Class;" } : Jvm.MethodName)) ∈ lw_all := lw_g (lw_at lw_m4 141 rfl) rfl
theorem q1026 : (Jvm.Cond.instanceMethod ({ cls := "SomebodysLift$Time", name := "climbs", desc := "(II)V" } : Jvm.MethodName)) ∈ lw_all := lw_g (lw_at lw_m4 220 rfl) rfl
theorem q1027 : (Jvm.Cond.selects "SomebodysLift$Time" ({ cls := "SomebodysLift$Time", name := "climbs", desc := "(II)V" } : Jvm.MethodName) ({ cls := "SomebodysLift$Time", name := "climbs", desc := "(II)V" } : Jvm.MethodName)) ∈ lw_all := lw_g (lw_at lw_m4 221 rfl) rfl
theorem q1028 : (Jvm.Cond.code ({ cls := "SomebodysLift$Time", name := "climbs", desc := "(II)V" } : Jvm.MethodName) prog_17_method_6_code (3 : Nat) (Option.none : Option Jvm.ClassFile.FieldType)) ∈ lw_all := lw_g (lw_at lw_m4 222 rfl) rfl
theorem q1029 : (Jvm.Cond.methodLink "SomebodysLift$Time" (38 : Nat) ({ cls := "java/lang/Math", name := "max", desc := "(II)I" } : Jvm.MethodName)) ∈ lw_all := lw_g (lw_at lw_m4 223 rfl) rfl
theorem q1030 : (Jvm.Cond.methodLink "SomebodysLift$Time" (41 : Nat) ({ cls := "java/lang/Math", name := "min", desc := "(II)I" } : Jvm.MethodName)) ∈ lw_all := lw_g (lw_at lw_m4 224 rfl) rfl
theorem q1042 : (Jvm.Cond.instanceMethod ({ cls := "SomebodysLift$Time", name := "takes", desc := "(LSomebodysLift$Time;)V" } : Jvm.MethodName)) ∈ lw_all := lw_g (lw_at lw_m4 236 rfl) rfl
theorem q1043 : (Jvm.Cond.selects "SomebodysLift$Time" ({ cls := "SomebodysLift$Time", name := "takes", desc := "(LSomebodysLift$Time;)V" } : Jvm.MethodName) ({ cls := "SomebodysLift$Time", name := "takes", desc := "(LSomebodysLift$Time;)V" } : Jvm.MethodName)) ∈ lw_all := lw_g (lw_at lw_m4 237 rfl) rfl
theorem q1044 : (Jvm.Cond.code ({ cls := "SomebodysLift$Time", name := "takes", desc := "(LSomebodysLift$Time;)V" } : Jvm.MethodName) prog_17_method_2_code (2 : Nat) (Option.none : Option Jvm.ClassFile.FieldType)) ∈ lw_all := lw_g (lw_at lw_m4 238 rfl) rfl
theorem q1046 : (Jvm.Cond.instanceMethod ({ cls := "SomebodysLift$Time", name := "glides", desc := "(II)Z" } : Jvm.MethodName)) ∈ lw_all := lw_g (lw_at lw_m5 0 rfl) rfl
theorem q1047 : (Jvm.Cond.selects "SomebodysLift$Time" ({ cls := "SomebodysLift$Time", name := "glides", desc := "(II)Z" } : Jvm.MethodName) ({ cls := "SomebodysLift$Time", name := "glides", desc := "(II)Z" } : Jvm.MethodName)) ∈ lw_all := lw_g (lw_at lw_m5 1 rfl) rfl
theorem q1048 : (Jvm.Cond.code ({ cls := "SomebodysLift$Time", name := "glides", desc := "(II)Z" } : Jvm.MethodName) prog_17_method_5_code (3 : Nat) (Option.some Jvm.ClassFile.FieldType.boolean)) ∈ lw_all := lw_g (lw_at lw_m5 2 rfl) rfl
theorem q1049 : (Jvm.Cond.methodLink "SomebodysLift$Time" (34 : Nat) ({ cls := "SomebodysLift$Time", name := "reaches", desc := "(III)Z" } : Jvm.MethodName)) ∈ lw_all := lw_g (lw_at lw_m5 3 rfl) rfl
theorem q1050 : (Jvm.Cond.instanceMethod ({ cls := "SomebodysLift$Time", name := "reaches", desc := "(III)Z" } : Jvm.MethodName)) ∈ lw_all := lw_g (lw_at lw_m5 4 rfl) rfl
theorem q1051 : (Jvm.Cond.selects "SomebodysLift$Time" ({ cls := "SomebodysLift$Time", name := "reaches", desc := "(III)Z" } : Jvm.MethodName) ({ cls := "SomebodysLift$Time", name := "reaches", desc := "(III)Z" } : Jvm.MethodName)) ∈ lw_all := lw_g (lw_at lw_m5 5 rfl) rfl
theorem q1052 : (Jvm.Cond.code ({ cls := "SomebodysLift$Time", name := "reaches", desc := "(III)Z" } : Jvm.MethodName) prog_17_method_4_code (4 : Nat) (Option.some Jvm.ClassFile.FieldType.boolean)) ∈ lw_all := lw_g (lw_at lw_m5 6 rfl) rfl
theorem q1053 : (Jvm.Cond.methodLink "SomebodysLift$Time" (30 : Nat) ({ cls := "SomebodysLift$Time", name := "needs", desc := "(II)I" } : Jvm.MethodName)) ∈ lw_all := lw_g (lw_at lw_m5 7 rfl) rfl
theorem q1054 : (Jvm.Cond.instanceMethod ({ cls := "SomebodysLift$Time", name := "needs", desc := "(II)I" } : Jvm.MethodName)) ∈ lw_all := lw_g (lw_at lw_m5 8 rfl) rfl
theorem q1055 : (Jvm.Cond.selects "SomebodysLift$Time" ({ cls := "SomebodysLift$Time", name := "needs", desc := "(II)I" } : Jvm.MethodName) ({ cls := "SomebodysLift$Time", name := "needs", desc := "(II)I" } : Jvm.MethodName)) ∈ lw_all := lw_g (lw_at lw_m5 9 rfl) rfl
theorem q1056 : (Jvm.Cond.code ({ cls := "SomebodysLift$Time", name := "needs", desc := "(II)I" } : Jvm.MethodName) prog_17_method_3_code (3 : Nat) (Option.some Jvm.ClassFile.FieldType.int)) ∈ lw_all := lw_g (lw_at lw_m5 10 rfl) rfl
theorem q1057 : (Jvm.Cond.methodLink "SomebodysLift$Time" (24 : Nat) ({ cls := "java/lang/Math", name := "abs", desc := "(I)I" } : Jvm.MethodName)) ∈ lw_all := lw_g (lw_at lw_m5 11 rfl) rfl
theorem q2069 : (Jvm.Cond.castable "SomebodysLift$Time" "java/lang/Object") ∈ lw_tbl := lw_at lw_m9 63 rfl
theorem in_X1 : ∀ w ∈ wsX10, w ∈ lw_all := lw_in wsX10 [153, 155, 157, 159] (by decide +kernel) (by decide +kernel)

/-! SomebodysLift$Air -/
set_option maxRecDepth 100000
def RX2 : String := "SomebodysLift$Air"
def TX2 : u_T := fun k => match k with
  | 0 => ("SomebodysLift$Air", "clauses", "Ljava/util/ArrayList;", true)
  | 1 => ("SomebodysLift$Air", "many", "I", false)
  | 2 => ("SomebodysLift$Air", "base", "I", false)
  | _ => ("SomebodysLift$Air", "safe", "I", false)
def tyX2 : Nat → FieldType := fun k => match k with
  | 0 => .object "java/util/ArrayList"
  | 1 => .int
  | 2 => .int
  | _ => .int
abbrev wsX20 : List Cond := u_ws RX2 TX2 4
theorem nmX2 : ∀ a, a < 4 → ∀ b, b < 4 → a ≠ b → (TX2 a).2.1 ≠ (TX2 b).2.1 := by decide +kernel
theorem tyX2_ok : ∀ k, k < 4 → parseFieldDescriptor (TX2 k).2.2.1 = some (tyX2 k) := by decide +kernel
abbrev cX2_init : ByteArray := prog_3_method_1_code
def yX2_init : MethodName := ⟨RX2, "<init>", "()V"⟩
def dkwX2_init_1 : List UInt8 := [181, 0, 22, 177]
abbrev dktX2_init_1 : List UInt8 := dkwX2_init_1 ++ []
def dkwX2_init_0 : List UInt8 := [42, 183, 0, 3, 42, 187, 0, 9, 89, 183, 0, 11, 181, 0, 12, 42, 16, 40, 181, 0, 18, 42, 16, 8]
abbrev dktX2_init_0 : List UInt8 := dkwX2_init_0 ++ dktX2_init_1
theorem dksX2_init_0 : cX2_init.data.toList.drop 0 = dktX2_init_0 := by decide +kernel
theorem dksX2_init_1 : cX2_init.data.toList.drop 24 = dktX2_init_1 := dk_seg dksX2_init_0 24 rfl rfl
theorem dX2_init_0 : decode cX2_init 0 = .ok (.aload_n 0, 1) := dk_42 (dk_at dksX2_init_0 0 rfl rfl)
theorem dX2_init_1 : decode cX2_init 1 = .ok (.invokespecial 3, 3) := dk_183 0 3 (dk_at dksX2_init_0 1 rfl rfl)
theorem dX2_init_4 : decode cX2_init 4 = .ok (.aload_n 0, 1) := dk_42 (dk_at dksX2_init_0 4 rfl rfl)
theorem dX2_init_5 : decode cX2_init 5 = .ok (.new 9, 3) := dk_187 0 9 (dk_at dksX2_init_0 5 rfl rfl)
theorem dX2_init_8 : decode cX2_init 8 = .ok (.dup, 1) := dk_89 (dk_at dksX2_init_0 8 rfl rfl)
theorem dX2_init_9 : decode cX2_init 9 = .ok (.invokespecial 11, 3) := dk_183 0 11 (dk_at dksX2_init_0 9 rfl rfl)
theorem dX2_init_12 : decode cX2_init 12 = .ok (.putfield 12, 3) := dk_181 0 12 (dk_at dksX2_init_0 12 rfl rfl)
theorem dX2_init_15 : decode cX2_init 15 = .ok (.aload_n 0, 1) := dk_42 (dk_at dksX2_init_0 15 rfl rfl)
theorem dX2_init_16 : decode cX2_init 16 = .ok (.bipush 40, 2) := dk_16 40 (dk_at dksX2_init_0 16 rfl rfl)
theorem dX2_init_18 : decode cX2_init 18 = .ok (.putfield 18, 3) := dk_181 0 18 (dk_at dksX2_init_0 18 rfl rfl)
theorem dX2_init_21 : decode cX2_init 21 = .ok (.aload_n 0, 1) := dk_42 (dk_at dksX2_init_0 21 rfl rfl)
theorem dX2_init_22 : decode cX2_init 22 = .ok (.bipush 8, 2) := dk_16 8 (dk_at dksX2_init_0 22 rfl rfl)
theorem dX2_init_24 : decode cX2_init 24 = .ok (.putfield 22, 3) := dk_181 0 22 (dk_at dksX2_init_1 0 rfl rfl)
theorem dX2_init_27 : decode cX2_init 27 = .ok (.return_, 1) := dk_177 (dk_at dksX2_init_1 3 rfl rfl)
abbrev cX2_more : ByteArray := prog_3_method_2_code
def yX2_more : MethodName := ⟨RX2, "more", "(LSomebodysLift$Look;)I"⟩
def dkwX2_more_2 : List UInt8 := [192, 0, 33, 180, 0, 45, 96, 61, 132, 3, 1, 167, 255, 204, 28, 172]
abbrev dktX2_more_2 : List UInt8 := dkwX2_more_2 ++ []
def dkwX2_more_1 : List UInt8 := [192, 0, 33, 180, 0, 35, 43, 182, 0, 39, 153, 0, 20, 28, 42, 180, 0, 12, 29, 182, 0, 29]
abbrev dktX2_more_1 : List UInt8 := dkwX2_more_1 ++ dktX2_more_2
def dkwX2_more_0 : List UInt8 := [3, 61, 3, 62, 29, 42, 180, 0, 12, 182, 0, 25, 162, 0, 47, 42, 180, 0, 12, 29, 182, 0, 29]
abbrev dktX2_more_0 : List UInt8 := dkwX2_more_0 ++ dktX2_more_1
theorem dksX2_more_0 : cX2_more.data.toList.drop 0 = dktX2_more_0 := by decide +kernel
theorem dksX2_more_1 : cX2_more.data.toList.drop 23 = dktX2_more_1 := dk_seg dksX2_more_0 23 rfl rfl
theorem dksX2_more_2 : cX2_more.data.toList.drop 45 = dktX2_more_2 := dk_seg dksX2_more_1 22 rfl rfl
theorem dX2_more_0 : decode cX2_more 0 = .ok (.iconst 0, 1) := dk_3 (dk_at dksX2_more_0 0 rfl rfl)
theorem dX2_more_1 : decode cX2_more 1 = .ok (.istore_n 2, 1) := dk_61 (dk_at dksX2_more_0 1 rfl rfl)
theorem dX2_more_2 : decode cX2_more 2 = .ok (.iconst 0, 1) := dk_3 (dk_at dksX2_more_0 2 rfl rfl)
theorem dX2_more_3 : decode cX2_more 3 = .ok (.istore_n 3, 1) := dk_62 (dk_at dksX2_more_0 3 rfl rfl)
theorem dX2_more_4 : decode cX2_more 4 = .ok (.iload_n 3, 1) := dk_29 (dk_at dksX2_more_0 4 rfl rfl)
theorem dX2_more_5 : decode cX2_more 5 = .ok (.aload_n 0, 1) := dk_42 (dk_at dksX2_more_0 5 rfl rfl)
theorem dX2_more_6 : decode cX2_more 6 = .ok (.getfield 12, 3) := dk_180 0 12 (dk_at dksX2_more_0 6 rfl rfl)
theorem dX2_more_9 : decode cX2_more 9 = .ok (.invokevirtual 25, 3) := dk_182 0 25 (dk_at dksX2_more_0 9 rfl rfl)
theorem dX2_more_12 : decode cX2_more 12 = .ok (.if_icmp .ge 47, 3) := dk_162 0 47 (dk_at dksX2_more_0 12 rfl rfl)
theorem dX2_more_15 : decode cX2_more 15 = .ok (.aload_n 0, 1) := dk_42 (dk_at dksX2_more_0 15 rfl rfl)
theorem dX2_more_16 : decode cX2_more 16 = .ok (.getfield 12, 3) := dk_180 0 12 (dk_at dksX2_more_0 16 rfl rfl)
theorem dX2_more_19 : decode cX2_more 19 = .ok (.iload_n 3, 1) := dk_29 (dk_at dksX2_more_0 19 rfl rfl)
theorem dX2_more_20 : decode cX2_more 20 = .ok (.invokevirtual 29, 3) := dk_182 0 29 (dk_at dksX2_more_0 20 rfl rfl)
theorem dX2_more_23 : decode cX2_more 23 = .ok (.checkcast 33, 3) := dk_192 0 33 (dk_at dksX2_more_1 0 rfl rfl)
theorem dX2_more_26 : decode cX2_more 26 = .ok (.getfield 35, 3) := dk_180 0 35 (dk_at dksX2_more_1 3 rfl rfl)
theorem dX2_more_29 : decode cX2_more 29 = .ok (.aload_n 1, 1) := dk_43 (dk_at dksX2_more_1 6 rfl rfl)
theorem dX2_more_30 : decode cX2_more 30 = .ok (.invokevirtual 39, 3) := dk_182 0 39 (dk_at dksX2_more_1 7 rfl rfl)
theorem dX2_more_33 : decode cX2_more 33 = .ok (.ifCond .eq 20, 3) := dk_153 0 20 (dk_at dksX2_more_1 10 rfl rfl)
theorem dX2_more_36 : decode cX2_more 36 = .ok (.iload_n 2, 1) := dk_28 (dk_at dksX2_more_1 13 rfl rfl)
theorem dX2_more_37 : decode cX2_more 37 = .ok (.aload_n 0, 1) := dk_42 (dk_at dksX2_more_1 14 rfl rfl)
theorem dX2_more_38 : decode cX2_more 38 = .ok (.getfield 12, 3) := dk_180 0 12 (dk_at dksX2_more_1 15 rfl rfl)
theorem dX2_more_41 : decode cX2_more 41 = .ok (.iload_n 3, 1) := dk_29 (dk_at dksX2_more_1 18 rfl rfl)
theorem dX2_more_42 : decode cX2_more 42 = .ok (.invokevirtual 29, 3) := dk_182 0 29 (dk_at dksX2_more_1 19 rfl rfl)
theorem dX2_more_45 : decode cX2_more 45 = .ok (.checkcast 33, 3) := dk_192 0 33 (dk_at dksX2_more_2 0 rfl rfl)
theorem dX2_more_48 : decode cX2_more 48 = .ok (.getfield 45, 3) := dk_180 0 45 (dk_at dksX2_more_2 3 rfl rfl)
theorem dX2_more_51 : decode cX2_more 51 = .ok (.iadd, 1) := dk_96 (dk_at dksX2_more_2 6 rfl rfl)
theorem dX2_more_52 : decode cX2_more 52 = .ok (.istore_n 2, 1) := dk_61 (dk_at dksX2_more_2 7 rfl rfl)
theorem dX2_more_53 : decode cX2_more 53 = .ok (.iinc 3 1, 3) := dk_132 3 1 (dk_at dksX2_more_2 8 rfl rfl)
theorem dX2_more_56 : decode cX2_more 56 = .ok (.goto (-52), 3) := dk_167 255 204 (dk_at dksX2_more_2 11 rfl rfl)
theorem dX2_more_59 : decode cX2_more 59 = .ok (.iload_n 2, 1) := dk_28 (dk_at dksX2_more_2 14 rfl rfl)
theorem dX2_more_60 : decode cX2_more 60 = .ok (.ireturn, 1) := dk_172 (dk_at dksX2_more_2 15 rfl rfl)
abbrev cX2_top : ByteArray := prog_3_method_3_code
def yX2_top : MethodName := ⟨RX2, "top", "()I"⟩
def dkwX2_top_0 : List UInt8 := [17, 1, 144, 16, 10, 42, 180, 0, 18, 104, 184, 0, 48, 172]
abbrev dktX2_top_0 : List UInt8 := dkwX2_top_0 ++ []
theorem dksX2_top_0 : cX2_top.data.toList.drop 0 = dktX2_top_0 := by decide +kernel
theorem dX2_top_0 : decode cX2_top 0 = .ok (.sipush 400, 3) := dk_17 1 144 (dk_at dksX2_top_0 0 rfl rfl)
theorem dX2_top_3 : decode cX2_top 3 = .ok (.bipush 10, 2) := dk_16 10 (dk_at dksX2_top_0 3 rfl rfl)
theorem dX2_top_5 : decode cX2_top 5 = .ok (.aload_n 0, 1) := dk_42 (dk_at dksX2_top_0 5 rfl rfl)
theorem dX2_top_6 : decode cX2_top 6 = .ok (.getfield 18, 3) := dk_180 0 18 (dk_at dksX2_top_0 6 rfl rfl)
theorem dX2_top_9 : decode cX2_top 9 = .ok (.imul, 1) := dk_104 (dk_at dksX2_top_0 9 rfl rfl)
theorem dX2_top_10 : decode cX2_top 10 = .ok (.invokestatic 48, 3) := dk_184 0 48 (dk_at dksX2_top_0 10 rfl rfl)
theorem dX2_top_13 : decode cX2_top 13 = .ok (.ireturn, 1) := dk_172 (dk_at dksX2_top_0 13 rfl rfl)
abbrev cX2_safely : ByteArray := prog_3_method_4_code
def yX2_safely : MethodName := ⟨RX2, "safely", "()I"⟩
def dkwX2_safely_0 : List UInt8 := [16, 10, 42, 180, 0, 22, 104, 172]
abbrev dktX2_safely_0 : List UInt8 := dkwX2_safely_0 ++ []
theorem dksX2_safely_0 : cX2_safely.data.toList.drop 0 = dktX2_safely_0 := by decide +kernel
theorem dX2_safely_0 : decode cX2_safely 0 = .ok (.bipush 10, 2) := dk_16 10 (dk_at dksX2_safely_0 0 rfl rfl)
theorem dX2_safely_2 : decode cX2_safely 2 = .ok (.aload_n 0, 1) := dk_42 (dk_at dksX2_safely_0 2 rfl rfl)
theorem dX2_safely_3 : decode cX2_safely 3 = .ok (.getfield 22, 3) := dk_180 0 22 (dk_at dksX2_safely_0 3 rfl rfl)
theorem dX2_safely_6 : decode cX2_safely 6 = .ok (.imul, 1) := dk_104 (dk_at dksX2_safely_0 6 rfl rfl)
theorem dX2_safely_7 : decode cX2_safely 7 = .ok (.ireturn, 1) := dk_172 (dk_at dksX2_safely_0 7 rfl rfl)
theorem q89 : (Jvm.Cond.initialized "SomebodysLift$Air") ∈ lw_all := lw_g (lw_at lw_m1 3 rfl) rfl
theorem q164 : (Jvm.Cond.instantiable "SomebodysLift$Air" (4 : Nat)) ∈ lw_all := lw_g (lw_at lw_m1 78 rfl) rfl
theorem q166 : (Jvm.Cond.instanceMethod ({ cls := "SomebodysLift$Air", name := "<init>", desc := "()V" } : Jvm.MethodName)) ∈ lw_all := lw_g (lw_at lw_m1 80 rfl) rfl
theorem q167 : (Jvm.Cond.code ({ cls := "SomebodysLift$Air", name := "<init>", desc := "()V" } : Jvm.MethodName) prog_3_method_1_code (1 : Nat) (Option.none : Option Jvm.ClassFile.FieldType)) ∈ lw_all := lw_g (lw_at lw_m1 81 rfl) rfl
theorem q168 : (Jvm.Cond.methodLink "SomebodysLift$Air" (3 : Nat) ({ cls := "java/lang/Object", name := "<init>", desc := "()V" } : Jvm.MethodName)) ∈ lw_all := lw_g (lw_at lw_m1 82 rfl) rfl
theorem q169 : (Jvm.Cond.classLink "SomebodysLift$Air" (9 : Nat) "java/util/ArrayList") ∈ lw_all := lw_g (lw_at lw_m1 83 rfl) rfl
theorem q171 : (Jvm.Cond.methodLink "SomebodysLift$Air" (11 : Nat) ({ cls := "java/util/ArrayList", name := "<init>", desc := "()V" } : Jvm.MethodName)) ∈ lw_all := lw_g (lw_at lw_m1 85 rfl) rfl
theorem q196 : (Jvm.Cond.fieldLink "SomebodysLift$Air" (12 : Nat) "SomebodysLift$Air" "clauses" "Ljava/util/ArrayList;") ∈ lw_all := lw_g (lw_at lw_m1 110 rfl) rfl
theorem q199 : (Jvm.Cond.fieldLink "SomebodysLift$Air" (18 : Nat) "SomebodysLift$Air" "base" "I") ∈ lw_all := lw_g (lw_at lw_m1 113 rfl) rfl
theorem q201 : (Jvm.Cond.fieldLink "SomebodysLift$Air" (22 : Nat) "SomebodysLift$Air" "safe" "I") ∈ lw_all := lw_g (lw_at lw_m1 115 rfl) rfl
theorem q203 : (Jvm.Cond.laysFinal "SomebodysLift$Air" "SomebodysLift$Air" "clauses" "Ljava/util/ArrayList;") ∈ lw_all := lw_g (lw_at lw_m1 117 rfl) rfl
theorem q204 : (Jvm.Cond.soleField "SomebodysLift$Air" "clauses") ∈ lw_all := lw_g (lw_at lw_m1 118 rfl) rfl
theorem q205 : (Jvm.Cond.lays "SomebodysLift$Air" "SomebodysLift$Air" "many" "I") ∈ lw_all := lw_g (lw_at lw_m1 119 rfl) rfl
theorem q206 : (Jvm.Cond.soleField "SomebodysLift$Air" "many") ∈ lw_all := lw_g (lw_at lw_m1 120 rfl) rfl
theorem q207 : (Jvm.Cond.lays "SomebodysLift$Air" "SomebodysLift$Air" "base" "I") ∈ lw_all := lw_g (lw_at lw_m1 121 rfl) rfl
theorem q208 : (Jvm.Cond.soleField "SomebodysLift$Air" "base") ∈ lw_all := lw_g (lw_at lw_m1 122 rfl) rfl
theorem q209 : (Jvm.Cond.lays "SomebodysLift$Air" "SomebodysLift$Air" "safe" "I") ∈ lw_all := lw_g (lw_at lw_m1 123 rfl) rfl
theorem q210 : (Jvm.Cond.soleField "SomebodysLift$Air" "safe") ∈ lw_all := lw_g (lw_at lw_m1 124 rfl) rfl
theorem q211 : (Jvm.Cond.superclass "SomebodysLift$Air" "java/lang/Object") ∈ lw_all := lw_g (lw_at lw_m1 125 rfl) rfl
theorem q557 : (Jvm.Cond.instanceMethod ({ cls := "SomebodysLift$Air", name := "more", desc := "(LSomebodysLift$Look;)I" } : Jvm.MethodName)) ∈ lw_all := lw_g (lw_at lw_m2 231 rfl) rfl
theorem q558 : (Jvm.Cond.selects "SomebodysLift$Air" ({ cls := "SomebodysLift$Air", name := "more", desc := "(LSomebodysLift$Look;)I" } : Jvm.MethodName) ({ cls := "SomebodysLift$Air", name := "more", desc := "(LSomebodysLift$Look;)I" } : Jvm.MethodName)) ∈ lw_all := lw_g (lw_at lw_m2 232 rfl) rfl
theorem q559 : (Jvm.Cond.code ({ cls := "SomebodysLift$Air", name := "more", desc := "(LSomebodysLift$Look;)I" } : Jvm.MethodName) prog_3_method_2_code (4 : Nat) (Option.some Jvm.ClassFile.FieldType.int)) ∈ lw_all := lw_g (lw_at lw_m2 233 rfl) rfl
theorem q560 : (Jvm.Cond.methodLink "SomebodysLift$Air" (25 : Nat) ({ cls := "java/util/ArrayList", name := "size", desc := "()I" } : Jvm.MethodName)) ∈ lw_all := lw_g (lw_at lw_m2 234 rfl) rfl
theorem q564 : (Jvm.Cond.methodLink "SomebodysLift$Air" (29 : Nat) ({ cls := "java/util/ArrayList", name := "get", desc := "(I)Ljava/lang/Object;" } : Jvm.MethodName)) ∈ lw_all := lw_g (lw_at lw_m2 238 rfl) rfl
theorem q578 : (Jvm.Cond.classLink "SomebodysLift$Air" (33 : Nat) "SomebodysLift$Clause") ∈ lw_all := lw_g (lw_at lw_m3 12 rfl) rfl
theorem q579 : (Jvm.Cond.methodLink "SomebodysLift$Air" (39 : Nat) ({ cls := "SomebodysLift$Test", name := "holds", desc := "(LSomebodysLift$Look;)Z" } : Jvm.MethodName)) ∈ lw_all := lw_g (lw_at lw_m3 13 rfl) rfl
theorem q935 : (Jvm.Cond.selects "SomebodysLift$Air" ({ cls := "java/lang/Object", name := "getClass", desc := "()Ljava/lang/Class;" } : Jvm.MethodName) ({ cls := "java/lang/Object", name := "getClass", desc := "()Ljava/lang/Class;" } : Jvm.MethodName)) ∈ lw_all := lw_g (lw_at lw_m4 129 rfl) rfl
theorem q977 : (Jvm.Cond.fieldLinkNest "SomebodysLift$Air" (45 : Nat) "SomebodysLift$Clause" "n" "I" "SomebodysLift") ∈ lw_tbl := lw_at lw_m4 171 rfl
theorem q979 : (Jvm.Cond.fieldLinkNest "SomebodysLift$Air" (35 : Nat) "SomebodysLift$Clause" "test" "LSomebodysLift$Test;" "SomebodysLift") ∈ lw_tbl := lw_at lw_m4 173 rfl
theorem q1005 : (Jvm.Cond.instanceMethod ({ cls := "SomebodysLift$Air", name := "top", desc := "()I" } : Jvm.MethodName)) ∈ lw_all := lw_g (lw_at lw_m4 199 rfl) rfl
theorem q1006 : (Jvm.Cond.selects "SomebodysLift$Air" ({ cls := "SomebodysLift$Air", name := "top", desc := "()I" } : Jvm.MethodName) ({ cls := "SomebodysLift$Air", name := "top", desc := "()I" } : Jvm.MethodName)) ∈ lw_all := lw_g (lw_at lw_m4 200 rfl) rfl
theorem q1007 : (Jvm.Cond.code ({ cls := "SomebodysLift$Air", name := "top", desc := "()I" } : Jvm.MethodName) prog_3_method_3_code (1 : Nat) (Option.some Jvm.ClassFile.FieldType.int)) ∈ lw_all := lw_g (lw_at lw_m4 201 rfl) rfl
theorem q1008 : (Jvm.Cond.methodLink "SomebodysLift$Air" (48 : Nat) ({ cls := "java/lang/Math", name := "min", desc := "(II)I" } : Jvm.MethodName)) ∈ lw_all := lw_g (lw_at lw_m4 202 rfl) rfl
theorem q1010 : (Jvm.Cond.instanceMethod ({ cls := "SomebodysLift$Air", name := "safely", desc := "()I" } : Jvm.MethodName)) ∈ lw_all := lw_g (lw_at lw_m4 204 rfl) rfl
theorem q1011 : (Jvm.Cond.selects "SomebodysLift$Air" ({ cls := "SomebodysLift$Air", name := "safely", desc := "()I" } : Jvm.MethodName) ({ cls := "SomebodysLift$Air", name := "safely", desc := "()I" } : Jvm.MethodName)) ∈ lw_all := lw_g (lw_at lw_m4 205 rfl) rfl
theorem q1012 : (Jvm.Cond.code ({ cls := "SomebodysLift$Air", name := "safely", desc := "()I" } : Jvm.MethodName) prog_3_method_4_code (1 : Nat) (Option.some Jvm.ClassFile.FieldType.int)) ∈ lw_all := lw_g (lw_at lw_m4 206 rfl) rfl
theorem q2070 : (Jvm.Cond.castable "SomebodysLift$Air" "java/lang/Object") ∈ lw_tbl := lw_at lw_m9 64 rfl
theorem in_X2 : ∀ w ∈ wsX20, w ∈ lw_all := lw_in wsX20 [203, 205, 207, 209] (by decide +kernel) (by decide +kernel)

/-! SomebodysLift$Look -/
set_option maxRecDepth 100000
def RX3 : String := "SomebodysLift$Look"
def TX3 : u_T := fun k => match k with
  | 0 => ("SomebodysLift$Look", "lift", "I", false)
  | 1 => ("SomebodysLift$Look", "kind", "I", false)
  | 2 => ("SomebodysLift$Look", "height", "I", false)
  | 3 => ("SomebodysLift$Look", "minute", "I", false)
  | 4 => ("SomebodysLift$Look", "v", "I", false)
  | _ => ("SomebodysLift$Look", "mile", "I", false)
def tyX3 : Nat → FieldType := fun k => match k with
  | 0 => .int
  | 1 => .int
  | 2 => .int
  | 3 => .int
  | 4 => .int
  | _ => .int
abbrev wsX30 : List Cond := u_ws RX3 TX3 6
theorem nmX3 : ∀ a, a < 6 → ∀ b, b < 6 → a ≠ b → (TX3 a).2.1 ≠ (TX3 b).2.1 := by decide +kernel
theorem tyX3_ok : ∀ k, k < 6 → parseFieldDescriptor (TX3 k).2.2.1 = some (tyX3 k) := by decide +kernel
abbrev cX3_init : ByteArray := prog_8_method_1_code
def yX3_init : MethodName := ⟨RX3, "<init>", "()V"⟩
theorem dX3_init_0 : decode cX3_init 0 = .ok (.aload_n 0, 1) := by decide +kernel
theorem dX3_init_1 : decode cX3_init 1 = .ok (.invokespecial 1, 3) := by decide +kernel
theorem dX3_init_4 : decode cX3_init 4 = .ok (.return_, 1) := by decide +kernel
abbrev cX3_of : ByteArray := prog_8_method_2_code
def yX3_of : MethodName := ⟨RX3, "of", "(I)I"⟩
def dkwX3_of_3 : List UInt8 := [172, 42, 180, 0, 25, 172]
abbrev dktX3_of_3 : List UInt8 := dkwX3_of_3 ++ []
def dkwX3_of_2 : List UInt8 := [42, 180, 0, 7, 172, 42, 180, 0, 13, 172, 42, 180, 0, 16, 172, 42, 180, 0, 19, 172, 42, 180, 0, 22]
abbrev dktX3_of_2 : List UInt8 := dkwX3_of_2 ++ dktX3_of_3
def dkwX3_of_1 : List UInt8 := [170, 0, 0, 0, 0, 0, 100, 0, 0, 0, 104, 0, 0, 0, 118, 0, 0, 0, 85, 0, 0, 0, 100, 0, 0, 0, 100, 0, 0, 0, 80, 0, 0, 0, 75, 0, 0, 0, 100, 0, 0, 0, 100, 0, 0, 0, 100, 0, 0, 0, 100, 0, 0, 0, 100, 0, 0, 0, 100, 0, 0, 0, 100, 0, 0, 0, 90, 0, 0, 0, 100, 0, 0, 0, 95]
abbrev dktX3_of_1 : List UInt8 := dkwX3_of_1 ++ dktX3_of_2
def dkwX3_of_0 : List UInt8 := [27]
abbrev dktX3_of_0 : List UInt8 := dkwX3_of_0 ++ dktX3_of_1
theorem dksX3_of_0 : cX3_of.data.toList.drop 0 = dktX3_of_0 := by decide +kernel
theorem dksX3_of_1 : cX3_of.data.toList.drop 1 = dktX3_of_1 := dk_seg dksX3_of_0 1 rfl rfl
theorem dksX3_of_2 : cX3_of.data.toList.drop 76 = dktX3_of_2 := dk_seg dksX3_of_1 75 rfl rfl
theorem dksX3_of_3 : cX3_of.data.toList.drop 100 = dktX3_of_3 := dk_seg dksX3_of_2 24 rfl rfl
theorem dX3_of_0 : decode cX3_of 0 = .ok (.iload_n 1, 1) := dk_27 (dk_at dksX3_of_0 0 rfl rfl)
theorem dX3_of_1 : decode cX3_of 1 = .ok (.tableswitch 100 104 118 #[85, 100, 100, 80, 75, 100, 100, 100, 100, 100, 100, 100, 90, 100, 95], 75) := by decide +kernel
theorem dX3_of_76 : decode cX3_of 76 = .ok (.aload_n 0, 1) := dk_42 (dk_at dksX3_of_2 0 rfl rfl)
theorem dX3_of_77 : decode cX3_of 77 = .ok (.getfield 7, 3) := dk_180 0 7 (dk_at dksX3_of_2 1 rfl rfl)
theorem dX3_of_80 : decode cX3_of 80 = .ok (.ireturn, 1) := dk_172 (dk_at dksX3_of_2 4 rfl rfl)
theorem dX3_of_81 : decode cX3_of 81 = .ok (.aload_n 0, 1) := dk_42 (dk_at dksX3_of_2 5 rfl rfl)
theorem dX3_of_82 : decode cX3_of 82 = .ok (.getfield 13, 3) := dk_180 0 13 (dk_at dksX3_of_2 6 rfl rfl)
theorem dX3_of_85 : decode cX3_of 85 = .ok (.ireturn, 1) := dk_172 (dk_at dksX3_of_2 9 rfl rfl)
theorem dX3_of_86 : decode cX3_of 86 = .ok (.aload_n 0, 1) := dk_42 (dk_at dksX3_of_2 10 rfl rfl)
theorem dX3_of_87 : decode cX3_of 87 = .ok (.getfield 16, 3) := dk_180 0 16 (dk_at dksX3_of_2 11 rfl rfl)
theorem dX3_of_90 : decode cX3_of 90 = .ok (.ireturn, 1) := dk_172 (dk_at dksX3_of_2 14 rfl rfl)
theorem dX3_of_91 : decode cX3_of 91 = .ok (.aload_n 0, 1) := dk_42 (dk_at dksX3_of_2 15 rfl rfl)
theorem dX3_of_92 : decode cX3_of 92 = .ok (.getfield 19, 3) := dk_180 0 19 (dk_at dksX3_of_2 16 rfl rfl)
theorem dX3_of_95 : decode cX3_of 95 = .ok (.ireturn, 1) := dk_172 (dk_at dksX3_of_2 19 rfl rfl)
theorem dX3_of_96 : decode cX3_of 96 = .ok (.aload_n 0, 1) := dk_42 (dk_at dksX3_of_2 20 rfl rfl)
theorem dX3_of_97 : decode cX3_of 97 = .ok (.getfield 22, 3) := dk_180 0 22 (dk_at dksX3_of_2 21 rfl rfl)
theorem dX3_of_100 : decode cX3_of 100 = .ok (.ireturn, 1) := dk_172 (dk_at dksX3_of_3 0 rfl rfl)
theorem dX3_of_101 : decode cX3_of 101 = .ok (.aload_n 0, 1) := dk_42 (dk_at dksX3_of_3 1 rfl rfl)
theorem dX3_of_102 : decode cX3_of 102 = .ok (.getfield 25, 3) := dk_180 0 25 (dk_at dksX3_of_3 2 rfl rfl)
theorem dX3_of_105 : decode cX3_of 105 = .ok (.ireturn, 1) := dk_172 (dk_at dksX3_of_3 5 rfl rfl)
theorem q93 : (Jvm.Cond.initialized "SomebodysLift$Look") ∈ lw_all := lw_g (lw_at lw_m1 7 rfl) rfl
theorem q213 : (Jvm.Cond.instantiable "SomebodysLift$Look" (6 : Nat)) ∈ lw_all := lw_g (lw_at lw_m1 127 rfl) rfl
theorem q215 : (Jvm.Cond.instanceMethod ({ cls := "SomebodysLift$Look", name := "<init>", desc := "()V" } : Jvm.MethodName)) ∈ lw_all := lw_g (lw_at lw_m1 129 rfl) rfl
theorem q216 : (Jvm.Cond.code ({ cls := "SomebodysLift$Look", name := "<init>", desc := "()V" } : Jvm.MethodName) prog_8_method_1_code (1 : Nat) (Option.none : Option Jvm.ClassFile.FieldType)) ∈ lw_all := lw_g (lw_at lw_m1 130 rfl) rfl
theorem q217 : (Jvm.Cond.methodLink "SomebodysLift$Look" (1 : Nat) ({ cls := "java/lang/Object", name := "<init>", desc := "()V" } : Jvm.MethodName)) ∈ lw_all := lw_g (lw_at lw_m1 131 rfl) rfl
theorem q218 : (Jvm.Cond.fieldLink "SomebodysLift$Look" (7 : Nat) "SomebodysLift$Look" "lift" "I") ∈ lw_all := lw_g (lw_at lw_m1 132 rfl) rfl
theorem q220 : (Jvm.Cond.fieldLink "SomebodysLift$Look" (13 : Nat) "SomebodysLift$Look" "kind" "I") ∈ lw_all := lw_g (lw_at lw_m1 134 rfl) rfl
theorem q222 : (Jvm.Cond.fieldLink "SomebodysLift$Look" (16 : Nat) "SomebodysLift$Look" "height" "I") ∈ lw_all := lw_g (lw_at lw_m1 136 rfl) rfl
theorem q224 : (Jvm.Cond.fieldLink "SomebodysLift$Look" (19 : Nat) "SomebodysLift$Look" "minute" "I") ∈ lw_all := lw_g (lw_at lw_m1 138 rfl) rfl
theorem q226 : (Jvm.Cond.fieldLink "SomebodysLift$Look" (22 : Nat) "SomebodysLift$Look" "v" "I") ∈ lw_all := lw_g (lw_at lw_m1 140 rfl) rfl
theorem q228 : (Jvm.Cond.fieldLink "SomebodysLift$Look" (25 : Nat) "SomebodysLift$Look" "mile" "I") ∈ lw_all := lw_g (lw_at lw_m1 142 rfl) rfl
theorem q230 : (Jvm.Cond.lays "SomebodysLift$Look" "SomebodysLift$Look" "lift" "I") ∈ lw_all := lw_g (lw_at lw_m1 144 rfl) rfl
theorem q231 : (Jvm.Cond.soleField "SomebodysLift$Look" "lift") ∈ lw_all := lw_g (lw_at lw_m1 145 rfl) rfl
theorem q232 : (Jvm.Cond.lays "SomebodysLift$Look" "SomebodysLift$Look" "kind" "I") ∈ lw_all := lw_g (lw_at lw_m1 146 rfl) rfl
theorem q233 : (Jvm.Cond.soleField "SomebodysLift$Look" "kind") ∈ lw_all := lw_g (lw_at lw_m1 147 rfl) rfl
theorem q234 : (Jvm.Cond.lays "SomebodysLift$Look" "SomebodysLift$Look" "height" "I") ∈ lw_all := lw_g (lw_at lw_m1 148 rfl) rfl
theorem q235 : (Jvm.Cond.soleField "SomebodysLift$Look" "height") ∈ lw_all := lw_g (lw_at lw_m1 149 rfl) rfl
theorem q236 : (Jvm.Cond.lays "SomebodysLift$Look" "SomebodysLift$Look" "minute" "I") ∈ lw_all := lw_g (lw_at lw_m1 150 rfl) rfl
theorem q237 : (Jvm.Cond.soleField "SomebodysLift$Look" "minute") ∈ lw_all := lw_g (lw_at lw_m1 151 rfl) rfl
theorem q238 : (Jvm.Cond.lays "SomebodysLift$Look" "SomebodysLift$Look" "v" "I") ∈ lw_all := lw_g (lw_at lw_m1 152 rfl) rfl
theorem q239 : (Jvm.Cond.soleField "SomebodysLift$Look" "v") ∈ lw_all := lw_g (lw_at lw_m1 153 rfl) rfl
theorem q240 : (Jvm.Cond.lays "SomebodysLift$Look" "SomebodysLift$Look" "mile" "I") ∈ lw_all := lw_g (lw_at lw_m1 154 rfl) rfl
theorem q241 : (Jvm.Cond.soleField "SomebodysLift$Look" "mile") ∈ lw_all := lw_g (lw_at lw_m1 155 rfl) rfl
theorem q242 : (Jvm.Cond.superclass "SomebodysLift$Look" "java/lang/Object") ∈ lw_all := lw_g (lw_at lw_m1 156 rfl) rfl
theorem q586 : (Jvm.Cond.instanceMethod ({ cls := "SomebodysLift$Look", name := "of", desc := "(I)I" } : Jvm.MethodName)) ∈ lw_all := lw_g (lw_at lw_m3 20 rfl) rfl
theorem q587 : (Jvm.Cond.selects "SomebodysLift$Look" ({ cls := "SomebodysLift$Look", name := "of", desc := "(I)I" } : Jvm.MethodName) ({ cls := "SomebodysLift$Look", name := "of", desc := "(I)I" } : Jvm.MethodName)) ∈ lw_all := lw_g (lw_at lw_m3 21 rfl) rfl
theorem q588 : (Jvm.Cond.code ({ cls := "SomebodysLift$Look", name := "of", desc := "(I)I" } : Jvm.MethodName) prog_8_method_2_code (2 : Nat) (Option.some Jvm.ClassFile.FieldType.int)) ∈ lw_all := lw_g (lw_at lw_m3 22 rfl) rfl
theorem q940 : (Jvm.Cond.selects "SomebodysLift$Look" ({ cls := "java/lang/Object", name := "getClass", desc := "()Ljava/lang/Class;" } : Jvm.MethodName) ({ cls := "java/lang/Object", name := "getClass", desc := "()Ljava/lang/Class;" } : Jvm.MethodName)) ∈ lw_all := lw_g (lw_at lw_m4 134 rfl) rfl
theorem q2072 : (Jvm.Cond.castable "SomebodysLift$Look" "java/lang/Object") ∈ lw_tbl := lw_at lw_m9 66 rfl
theorem in_X3 : ∀ w ∈ wsX30, w ∈ lw_all := lw_in wsX30 [230, 232, 234, 236, 238, 240] (by decide +kernel) (by decide +kernel)

/-! SomebodysLift$Trace -/
set_option maxRecDepth 100000
def RX4 : String := "SomebodysLift$Trace"
def TX4 : u_T := fun k => match k with
  | 0 => ("SomebodysLift$Trace", "bodies", "[I", true)
  | _ => ("SomebodysLift$Trace", "count", "I", false)
def tyX4 : Nat → FieldType := fun k => match k with
  | 0 => .array .int
  | _ => .int
abbrev wsX40 : List Cond := u_ws RX4 TX4 2
theorem nmX4 : ∀ a, a < 2 → ∀ b, b < 2 → a ≠ b → (TX4 a).2.1 ≠ (TX4 b).2.1 := by decide +kernel
theorem tyX4_ok : ∀ k, k < 2 → parseFieldDescriptor (TX4 k).2.2.1 = some (tyX4 k) := by decide +kernel
abbrev cX4_init : ByteArray := prog_19_method_1_code
def yX4_init : MethodName := ⟨RX4, "<init>", "()V"⟩
def dkwX4_init_0 : List UInt8 := [42, 183, 0, 3, 42, 16, 20, 188, 10, 181, 0, 9, 177]
abbrev dktX4_init_0 : List UInt8 := dkwX4_init_0 ++ []
theorem dksX4_init_0 : cX4_init.data.toList.drop 0 = dktX4_init_0 := by decide +kernel
theorem dX4_init_0 : decode cX4_init 0 = .ok (.aload_n 0, 1) := dk_42 (dk_at dksX4_init_0 0 rfl rfl)
theorem dX4_init_1 : decode cX4_init 1 = .ok (.invokespecial 3, 3) := dk_183 0 3 (dk_at dksX4_init_0 1 rfl rfl)
theorem dX4_init_4 : decode cX4_init 4 = .ok (.aload_n 0, 1) := dk_42 (dk_at dksX4_init_0 4 rfl rfl)
theorem dX4_init_5 : decode cX4_init 5 = .ok (.bipush 20, 2) := dk_16 20 (dk_at dksX4_init_0 5 rfl rfl)
theorem dX4_init_7 : decode cX4_init 7 = .ok (.newarray .int, 2) := dk_188_10 (dk_at dksX4_init_0 7 rfl rfl)
theorem dX4_init_9 : decode cX4_init 9 = .ok (.putfield 9, 3) := dk_181 0 9 (dk_at dksX4_init_0 9 rfl rfl)
theorem dX4_init_12 : decode cX4_init 12 = .ok (.return_, 1) := dk_177 (dk_at dksX4_init_0 12 rfl rfl)
abbrev cX4_ran : ByteArray := prog_19_method_2_code
def yX4_ran : MethodName := ⟨RX4, "ran", "(I)V"⟩
def dkwX4_ran_1 : List UInt8 := [4, 96, 181, 0, 15, 177]
abbrev dktX4_ran_1 : List UInt8 := dkwX4_ran_1 ++ []
def dkwX4_ran_0 : List UInt8 := [42, 180, 0, 15, 16, 20, 162, 0, 13, 42, 180, 0, 9, 42, 180, 0, 15, 27, 79, 42, 89, 180, 0, 15]
abbrev dktX4_ran_0 : List UInt8 := dkwX4_ran_0 ++ dktX4_ran_1
theorem dksX4_ran_0 : cX4_ran.data.toList.drop 0 = dktX4_ran_0 := by decide +kernel
theorem dksX4_ran_1 : cX4_ran.data.toList.drop 24 = dktX4_ran_1 := dk_seg dksX4_ran_0 24 rfl rfl
theorem dX4_ran_0 : decode cX4_ran 0 = .ok (.aload_n 0, 1) := dk_42 (dk_at dksX4_ran_0 0 rfl rfl)
theorem dX4_ran_1 : decode cX4_ran 1 = .ok (.getfield 15, 3) := dk_180 0 15 (dk_at dksX4_ran_0 1 rfl rfl)
theorem dX4_ran_4 : decode cX4_ran 4 = .ok (.bipush 20, 2) := dk_16 20 (dk_at dksX4_ran_0 4 rfl rfl)
theorem dX4_ran_6 : decode cX4_ran 6 = .ok (.if_icmp .ge 13, 3) := dk_162 0 13 (dk_at dksX4_ran_0 6 rfl rfl)
theorem dX4_ran_9 : decode cX4_ran 9 = .ok (.aload_n 0, 1) := dk_42 (dk_at dksX4_ran_0 9 rfl rfl)
theorem dX4_ran_10 : decode cX4_ran 10 = .ok (.getfield 9, 3) := dk_180 0 9 (dk_at dksX4_ran_0 10 rfl rfl)
theorem dX4_ran_13 : decode cX4_ran 13 = .ok (.aload_n 0, 1) := dk_42 (dk_at dksX4_ran_0 13 rfl rfl)
theorem dX4_ran_14 : decode cX4_ran 14 = .ok (.getfield 15, 3) := dk_180 0 15 (dk_at dksX4_ran_0 14 rfl rfl)
theorem dX4_ran_17 : decode cX4_ran 17 = .ok (.iload_n 1, 1) := dk_27 (dk_at dksX4_ran_0 17 rfl rfl)
theorem dX4_ran_18 : decode cX4_ran 18 = .ok (.iastore, 1) := dk_79 (dk_at dksX4_ran_0 18 rfl rfl)
theorem dX4_ran_19 : decode cX4_ran 19 = .ok (.aload_n 0, 1) := dk_42 (dk_at dksX4_ran_0 19 rfl rfl)
theorem dX4_ran_20 : decode cX4_ran 20 = .ok (.dup, 1) := dk_89 (dk_at dksX4_ran_0 20 rfl rfl)
theorem dX4_ran_21 : decode cX4_ran 21 = .ok (.getfield 15, 3) := dk_180 0 15 (dk_at dksX4_ran_0 21 rfl rfl)
theorem dX4_ran_24 : decode cX4_ran 24 = .ok (.iconst 1, 1) := dk_4 (dk_at dksX4_ran_1 0 rfl rfl)
theorem dX4_ran_25 : decode cX4_ran 25 = .ok (.iadd, 1) := dk_96 (dk_at dksX4_ran_1 1 rfl rfl)
theorem dX4_ran_26 : decode cX4_ran 26 = .ok (.putfield 15, 3) := dk_181 0 15 (dk_at dksX4_ran_1 2 rfl rfl)
theorem dX4_ran_29 : decode cX4_ran 29 = .ok (.return_, 1) := dk_177 (dk_at dksX4_ran_1 5 rfl rfl)
theorem q94 : (Jvm.Cond.initialized "SomebodysLift$Trace") ∈ lw_all := lw_g (lw_at lw_m1 8 rfl) rfl
theorem q244 : (Jvm.Cond.instantiable "SomebodysLift$Trace" (2 : Nat)) ∈ lw_all := lw_g (lw_at lw_m1 158 rfl) rfl
theorem q246 : (Jvm.Cond.instanceMethod ({ cls := "SomebodysLift$Trace", name := "<init>", desc := "()V" } : Jvm.MethodName)) ∈ lw_all := lw_g (lw_at lw_m1 160 rfl) rfl
theorem q247 : (Jvm.Cond.code ({ cls := "SomebodysLift$Trace", name := "<init>", desc := "()V" } : Jvm.MethodName) prog_19_method_1_code (1 : Nat) (Option.none : Option Jvm.ClassFile.FieldType)) ∈ lw_all := lw_g (lw_at lw_m1 161 rfl) rfl
theorem q248 : (Jvm.Cond.methodLink "SomebodysLift$Trace" (3 : Nat) ({ cls := "java/lang/Object", name := "<init>", desc := "()V" } : Jvm.MethodName)) ∈ lw_all := lw_g (lw_at lw_m1 162 rfl) rfl
theorem q249 : (Jvm.Cond.fieldLink "SomebodysLift$Trace" (9 : Nat) "SomebodysLift$Trace" "bodies" "[I") ∈ lw_all := lw_g (lw_at lw_m1 163 rfl) rfl
theorem q251 : (Jvm.Cond.fieldLink "SomebodysLift$Trace" (15 : Nat) "SomebodysLift$Trace" "count" "I") ∈ lw_all := lw_g (lw_at lw_m1 165 rfl) rfl
theorem q253 : (Jvm.Cond.laysFinal "SomebodysLift$Trace" "SomebodysLift$Trace" "bodies" "[I") ∈ lw_all := lw_g (lw_at lw_m1 167 rfl) rfl
theorem q254 : (Jvm.Cond.soleField "SomebodysLift$Trace" "bodies") ∈ lw_all := lw_g (lw_at lw_m1 168 rfl) rfl
theorem q255 : (Jvm.Cond.lays "SomebodysLift$Trace" "SomebodysLift$Trace" "count" "I") ∈ lw_all := lw_g (lw_at lw_m1 169 rfl) rfl
theorem q256 : (Jvm.Cond.soleField "SomebodysLift$Trace" "count") ∈ lw_all := lw_g (lw_at lw_m1 170 rfl) rfl
theorem q257 : (Jvm.Cond.superclass "SomebodysLift$Trace" "java/lang/Object") ∈ lw_all := lw_g (lw_at lw_m1 171 rfl) rfl
theorem q949 : (Jvm.Cond.selects "SomebodysLift$Trace" ({ cls := "java/lang/Object", name := "getClass", desc := "()Ljava/lang/Class;" } : Jvm.MethodName) ({ cls := "java/lang/Object", name := "getClass", desc := "()Ljava/lang/Class;" } : Jvm.MethodName)) ∈ lw_all := lw_g (lw_at lw_m4 143 rfl) rfl
theorem q1262 : (Jvm.Cond.instanceMethod ({ cls := "SomebodysLift$Trace", name := "ran", desc := "(I)V" } : Jvm.MethodName)) ∈ lw_all := lw_g (lw_at lw_m5 216 rfl) rfl
theorem q1263 : (Jvm.Cond.selects "SomebodysLift$Trace" ({ cls := "SomebodysLift$Trace", name := "ran", desc := "(I)V" } : Jvm.MethodName) ({ cls := "SomebodysLift$Trace", name := "ran", desc := "(I)V" } : Jvm.MethodName)) ∈ lw_all := lw_g (lw_at lw_m5 217 rfl) rfl
theorem q1264 : (Jvm.Cond.code ({ cls := "SomebodysLift$Trace", name := "ran", desc := "(I)V" } : Jvm.MethodName) prog_19_method_2_code (2 : Nat) (Option.none : Option Jvm.ClassFile.FieldType)) ∈ lw_all := lw_g (lw_at lw_m5 218 rfl) rfl
theorem q2073 : (Jvm.Cond.castable "SomebodysLift$Trace" "java/lang/Object") ∈ lw_tbl := lw_at lw_m9 67 rfl
theorem in_X4 : ∀ w ∈ wsX40, w ∈ lw_all := lw_in wsX40 [253, 255] (by decide +kernel) (by decide +kernel)

/-! SomebodysLift$Tape -/
set_option maxRecDepth 100000
def RX5 : String := "SomebodysLift$Tape"
def TX5 : u_T := fun k => match k with
  | _ => ("SomebodysLift$Tape", "row", "Ljava/lang/Object;", false)
def tyX5 : Nat → FieldType := fun k => match k with
  | _ => .object "java/lang/Object"
abbrev wsX50 : List Cond := u_ws RX5 TX5 1
theorem nmX5 : ∀ a, a < 1 → ∀ b, b < 1 → a ≠ b → (TX5 a).2.1 ≠ (TX5 b).2.1 := by decide +kernel
theorem tyX5_ok : ∀ k, k < 1 → parseFieldDescriptor (TX5 k).2.2.1 = some (tyX5 k) := by decide +kernel
abbrev cX5_init : ByteArray := prog_14_method_1_code
def yX5_init : MethodName := ⟨RX5, "<init>", "()V"⟩
theorem dX5_init_0 : decode cX5_init 0 = .ok (.aload_n 0, 1) := by decide +kernel
theorem dX5_init_1 : decode cX5_init 1 = .ok (.invokespecial 3, 3) := by decide +kernel
theorem dX5_init_4 : decode cX5_init 4 = .ok (.return_, 1) := by decide +kernel
abbrev cX5_has : ByteArray := prog_14_method_3_code
def yX5_has : MethodName := ⟨RX5, "has", "(I)V"⟩
def dkwX5_has_1 : List UInt8 := [100, 184, 0, 34, 154, 0, 13, 187, 0, 25, 89, 16, 243, 183, 0, 27, 191, 177]
abbrev dktX5_has_1 : List UInt8 := dkwX5_has_1 ++ []
def dkwX5_has_0 : List UInt8 := [42, 180, 0, 9, 199, 0, 13, 187, 0, 25, 89, 16, 245, 183, 0, 27, 191, 27, 3, 42, 182, 0, 30, 4]
abbrev dktX5_has_0 : List UInt8 := dkwX5_has_0 ++ dktX5_has_1
theorem dksX5_has_0 : cX5_has.data.toList.drop 0 = dktX5_has_0 := by decide +kernel
theorem dksX5_has_1 : cX5_has.data.toList.drop 24 = dktX5_has_1 := dk_seg dksX5_has_0 24 rfl rfl
theorem dX5_has_0 : decode cX5_has 0 = .ok (.aload_n 0, 1) := dk_42 (dk_at dksX5_has_0 0 rfl rfl)
theorem dX5_has_1 : decode cX5_has 1 = .ok (.getfield 9, 3) := dk_180 0 9 (dk_at dksX5_has_0 1 rfl rfl)
theorem dX5_has_4 : decode cX5_has 4 = .ok (.ifnonnull 13, 3) := dk_199 0 13 (dk_at dksX5_has_0 4 rfl rfl)
theorem dX5_has_7 : decode cX5_has 7 = .ok (.new 25, 3) := dk_187 0 25 (dk_at dksX5_has_0 7 rfl rfl)
theorem dX5_has_10 : decode cX5_has 10 = .ok (.dup, 1) := dk_89 (dk_at dksX5_has_0 10 rfl rfl)
theorem dX5_has_11 : decode cX5_has 11 = .ok (.bipush (-11), 2) := dk_16 245 (dk_at dksX5_has_0 11 rfl rfl)
theorem dX5_has_13 : decode cX5_has 13 = .ok (.invokespecial 27, 3) := dk_183 0 27 (dk_at dksX5_has_0 13 rfl rfl)
theorem dX5_has_16 : decode cX5_has 16 = .ok (.athrow, 1) := dk_191 (dk_at dksX5_has_0 16 rfl rfl)
theorem dX5_has_17 : decode cX5_has 17 = .ok (.iload_n 1, 1) := dk_27 (dk_at dksX5_has_0 17 rfl rfl)
theorem dX5_has_18 : decode cX5_has 18 = .ok (.iconst 0, 1) := dk_3 (dk_at dksX5_has_0 18 rfl rfl)
theorem dX5_has_19 : decode cX5_has 19 = .ok (.aload_n 0, 1) := dk_42 (dk_at dksX5_has_0 19 rfl rfl)
theorem dX5_has_20 : decode cX5_has 20 = .ok (.invokevirtual 30, 3) := dk_182 0 30 (dk_at dksX5_has_0 20 rfl rfl)
theorem dX5_has_23 : decode cX5_has 23 = .ok (.iconst 1, 1) := dk_4 (dk_at dksX5_has_0 23 rfl rfl)
theorem dX5_has_24 : decode cX5_has 24 = .ok (.isub, 1) := dk_100 (dk_at dksX5_has_1 0 rfl rfl)
theorem dX5_has_25 : decode cX5_has 25 = .ok (.invokestatic 34, 3) := dk_184 0 34 (dk_at dksX5_has_1 1 rfl rfl)
theorem dX5_has_28 : decode cX5_has 28 = .ok (.ifCond .ne 13, 3) := dk_154 0 13 (dk_at dksX5_has_1 4 rfl rfl)
theorem dX5_has_31 : decode cX5_has 31 = .ok (.new 25, 3) := dk_187 0 25 (dk_at dksX5_has_1 7 rfl rfl)
theorem dX5_has_34 : decode cX5_has 34 = .ok (.dup, 1) := dk_89 (dk_at dksX5_has_1 10 rfl rfl)
theorem dX5_has_35 : decode cX5_has 35 = .ok (.bipush (-13), 2) := dk_16 243 (dk_at dksX5_has_1 11 rfl rfl)
theorem dX5_has_37 : decode cX5_has 37 = .ok (.invokespecial 27, 3) := dk_183 0 27 (dk_at dksX5_has_1 13 rfl rfl)
theorem dX5_has_40 : decode cX5_has 40 = .ok (.athrow, 1) := dk_191 (dk_at dksX5_has_1 16 rfl rfl)
theorem dX5_has_41 : decode cX5_has 41 = .ok (.return_, 1) := dk_177 (dk_at dksX5_has_1 17 rfl rfl)
abbrev cX5_size : ByteArray := prog_14_method_2_code
def yX5_size : MethodName := ⟨RX5, "size", "()I"⟩
def dkwX5_size_3 : List UInt8 := [153, 0, 13, 44, 192, 0, 21, 76, 43, 190, 167, 0, 11, 42, 180, 0, 9, 192, 0, 23, 190, 172]
abbrev dktX5_size_3 : List UInt8 := dkwX5_size_3 ++ []
def dkwX5_size_2 : List UInt8 := [193, 0, 19, 153, 0, 11, 44, 192, 0, 19, 76, 43, 190, 172, 42, 180, 0, 9, 77, 44, 193, 0, 21]
abbrev dktX5_size_2 : List UInt8 := dkwX5_size_2 ++ dktX5_size_3
def dkwX5_size_1 : List UInt8 := [77, 44, 193, 0, 17, 153, 0, 11, 44, 192, 0, 17, 76, 43, 190, 172, 42, 180, 0, 9, 77, 44]
abbrev dktX5_size_1 : List UInt8 := dkwX5_size_1 ++ dktX5_size_2
def dkwX5_size_0 : List UInt8 := [42, 180, 0, 9, 77, 44, 193, 0, 15, 153, 0, 11, 44, 192, 0, 15, 76, 43, 190, 172, 42, 180, 0, 9]
abbrev dktX5_size_0 : List UInt8 := dkwX5_size_0 ++ dktX5_size_1
theorem dksX5_size_0 : cX5_size.data.toList.drop 0 = dktX5_size_0 := by decide +kernel
theorem dksX5_size_1 : cX5_size.data.toList.drop 24 = dktX5_size_1 := dk_seg dksX5_size_0 24 rfl rfl
theorem dksX5_size_2 : cX5_size.data.toList.drop 46 = dktX5_size_2 := dk_seg dksX5_size_1 22 rfl rfl
theorem dksX5_size_3 : cX5_size.data.toList.drop 69 = dktX5_size_3 := dk_seg dksX5_size_2 23 rfl rfl
theorem dX5_size_0 : decode cX5_size 0 = .ok (.aload_n 0, 1) := dk_42 (dk_at dksX5_size_0 0 rfl rfl)
theorem dX5_size_1 : decode cX5_size 1 = .ok (.getfield 9, 3) := dk_180 0 9 (dk_at dksX5_size_0 1 rfl rfl)
theorem dX5_size_4 : decode cX5_size 4 = .ok (.astore_n 2, 1) := dk_77 (dk_at dksX5_size_0 4 rfl rfl)
theorem dX5_size_5 : decode cX5_size 5 = .ok (.aload_n 2, 1) := dk_44 (dk_at dksX5_size_0 5 rfl rfl)
theorem dX5_size_6 : decode cX5_size 6 = .ok (.instanceof 15, 3) := dk_193 0 15 (dk_at dksX5_size_0 6 rfl rfl)
theorem dX5_size_9 : decode cX5_size 9 = .ok (.ifCond .eq 11, 3) := dk_153 0 11 (dk_at dksX5_size_0 9 rfl rfl)
theorem dX5_size_12 : decode cX5_size 12 = .ok (.aload_n 2, 1) := dk_44 (dk_at dksX5_size_0 12 rfl rfl)
theorem dX5_size_13 : decode cX5_size 13 = .ok (.checkcast 15, 3) := dk_192 0 15 (dk_at dksX5_size_0 13 rfl rfl)
theorem dX5_size_16 : decode cX5_size 16 = .ok (.astore_n 1, 1) := dk_76 (dk_at dksX5_size_0 16 rfl rfl)
theorem dX5_size_17 : decode cX5_size 17 = .ok (.aload_n 1, 1) := dk_43 (dk_at dksX5_size_0 17 rfl rfl)
theorem dX5_size_18 : decode cX5_size 18 = .ok (.arraylength, 1) := dk_190 (dk_at dksX5_size_0 18 rfl rfl)
theorem dX5_size_19 : decode cX5_size 19 = .ok (.ireturn, 1) := dk_172 (dk_at dksX5_size_0 19 rfl rfl)
theorem dX5_size_20 : decode cX5_size 20 = .ok (.aload_n 0, 1) := dk_42 (dk_at dksX5_size_0 20 rfl rfl)
theorem dX5_size_21 : decode cX5_size 21 = .ok (.getfield 9, 3) := dk_180 0 9 (dk_at dksX5_size_0 21 rfl rfl)
theorem dX5_size_24 : decode cX5_size 24 = .ok (.astore_n 2, 1) := dk_77 (dk_at dksX5_size_1 0 rfl rfl)
theorem dX5_size_25 : decode cX5_size 25 = .ok (.aload_n 2, 1) := dk_44 (dk_at dksX5_size_1 1 rfl rfl)
theorem dX5_size_26 : decode cX5_size 26 = .ok (.instanceof 17, 3) := dk_193 0 17 (dk_at dksX5_size_1 2 rfl rfl)
theorem dX5_size_29 : decode cX5_size 29 = .ok (.ifCond .eq 11, 3) := dk_153 0 11 (dk_at dksX5_size_1 5 rfl rfl)
theorem dX5_size_32 : decode cX5_size 32 = .ok (.aload_n 2, 1) := dk_44 (dk_at dksX5_size_1 8 rfl rfl)
theorem dX5_size_33 : decode cX5_size 33 = .ok (.checkcast 17, 3) := dk_192 0 17 (dk_at dksX5_size_1 9 rfl rfl)
theorem dX5_size_36 : decode cX5_size 36 = .ok (.astore_n 1, 1) := dk_76 (dk_at dksX5_size_1 12 rfl rfl)
theorem dX5_size_37 : decode cX5_size 37 = .ok (.aload_n 1, 1) := dk_43 (dk_at dksX5_size_1 13 rfl rfl)
theorem dX5_size_38 : decode cX5_size 38 = .ok (.arraylength, 1) := dk_190 (dk_at dksX5_size_1 14 rfl rfl)
theorem dX5_size_39 : decode cX5_size 39 = .ok (.ireturn, 1) := dk_172 (dk_at dksX5_size_1 15 rfl rfl)
theorem dX5_size_40 : decode cX5_size 40 = .ok (.aload_n 0, 1) := dk_42 (dk_at dksX5_size_1 16 rfl rfl)
theorem dX5_size_41 : decode cX5_size 41 = .ok (.getfield 9, 3) := dk_180 0 9 (dk_at dksX5_size_1 17 rfl rfl)
theorem dX5_size_44 : decode cX5_size 44 = .ok (.astore_n 2, 1) := dk_77 (dk_at dksX5_size_1 20 rfl rfl)
theorem dX5_size_45 : decode cX5_size 45 = .ok (.aload_n 2, 1) := dk_44 (dk_at dksX5_size_1 21 rfl rfl)
theorem dX5_size_46 : decode cX5_size 46 = .ok (.instanceof 19, 3) := dk_193 0 19 (dk_at dksX5_size_2 0 rfl rfl)
theorem dX5_size_49 : decode cX5_size 49 = .ok (.ifCond .eq 11, 3) := dk_153 0 11 (dk_at dksX5_size_2 3 rfl rfl)
theorem dX5_size_52 : decode cX5_size 52 = .ok (.aload_n 2, 1) := dk_44 (dk_at dksX5_size_2 6 rfl rfl)
theorem dX5_size_53 : decode cX5_size 53 = .ok (.checkcast 19, 3) := dk_192 0 19 (dk_at dksX5_size_2 7 rfl rfl)
theorem dX5_size_56 : decode cX5_size 56 = .ok (.astore_n 1, 1) := dk_76 (dk_at dksX5_size_2 10 rfl rfl)
theorem dX5_size_57 : decode cX5_size 57 = .ok (.aload_n 1, 1) := dk_43 (dk_at dksX5_size_2 11 rfl rfl)
theorem dX5_size_58 : decode cX5_size 58 = .ok (.arraylength, 1) := dk_190 (dk_at dksX5_size_2 12 rfl rfl)
theorem dX5_size_59 : decode cX5_size 59 = .ok (.ireturn, 1) := dk_172 (dk_at dksX5_size_2 13 rfl rfl)
theorem dX5_size_60 : decode cX5_size 60 = .ok (.aload_n 0, 1) := dk_42 (dk_at dksX5_size_2 14 rfl rfl)
theorem dX5_size_61 : decode cX5_size 61 = .ok (.getfield 9, 3) := dk_180 0 9 (dk_at dksX5_size_2 15 rfl rfl)
theorem dX5_size_64 : decode cX5_size 64 = .ok (.astore_n 2, 1) := dk_77 (dk_at dksX5_size_2 18 rfl rfl)
theorem dX5_size_65 : decode cX5_size 65 = .ok (.aload_n 2, 1) := dk_44 (dk_at dksX5_size_2 19 rfl rfl)
theorem dX5_size_66 : decode cX5_size 66 = .ok (.instanceof 21, 3) := dk_193 0 21 (dk_at dksX5_size_2 20 rfl rfl)
theorem dX5_size_69 : decode cX5_size 69 = .ok (.ifCond .eq 13, 3) := dk_153 0 13 (dk_at dksX5_size_3 0 rfl rfl)
theorem dX5_size_72 : decode cX5_size 72 = .ok (.aload_n 2, 1) := dk_44 (dk_at dksX5_size_3 3 rfl rfl)
theorem dX5_size_73 : decode cX5_size 73 = .ok (.checkcast 21, 3) := dk_192 0 21 (dk_at dksX5_size_3 4 rfl rfl)
theorem dX5_size_76 : decode cX5_size 76 = .ok (.astore_n 1, 1) := dk_76 (dk_at dksX5_size_3 7 rfl rfl)
theorem dX5_size_77 : decode cX5_size 77 = .ok (.aload_n 1, 1) := dk_43 (dk_at dksX5_size_3 8 rfl rfl)
theorem dX5_size_78 : decode cX5_size 78 = .ok (.arraylength, 1) := dk_190 (dk_at dksX5_size_3 9 rfl rfl)
theorem dX5_size_79 : decode cX5_size 79 = .ok (.goto 11, 3) := dk_167 0 11 (dk_at dksX5_size_3 10 rfl rfl)
theorem dX5_size_82 : decode cX5_size 82 = .ok (.aload_n 0, 1) := dk_42 (dk_at dksX5_size_3 13 rfl rfl)
theorem dX5_size_83 : decode cX5_size 83 = .ok (.getfield 9, 3) := dk_180 0 9 (dk_at dksX5_size_3 14 rfl rfl)
theorem dX5_size_86 : decode cX5_size 86 = .ok (.checkcast 23, 3) := dk_192 0 23 (dk_at dksX5_size_3 17 rfl rfl)
theorem dX5_size_89 : decode cX5_size 89 = .ok (.arraylength, 1) := dk_190 (dk_at dksX5_size_3 20 rfl rfl)
theorem dX5_size_90 : decode cX5_size 90 = .ok (.ireturn, 1) := dk_172 (dk_at dksX5_size_3 21 rfl rfl)
theorem q95 : (Jvm.Cond.initialized "SomebodysLift$Tape") ∈ lw_all := lw_g (lw_at lw_m1 9 rfl) rfl
theorem q260 : (Jvm.Cond.instantiable "SomebodysLift$Tape" (1 : Nat)) ∈ lw_all := lw_g (lw_at lw_m1 174 rfl) rfl
theorem q262 : (Jvm.Cond.instanceMethod ({ cls := "SomebodysLift$Tape", name := "<init>", desc := "()V" } : Jvm.MethodName)) ∈ lw_all := lw_g (lw_at lw_m1 176 rfl) rfl
theorem q263 : (Jvm.Cond.code ({ cls := "SomebodysLift$Tape", name := "<init>", desc := "()V" } : Jvm.MethodName) prog_14_method_1_code (1 : Nat) (Option.none : Option Jvm.ClassFile.FieldType)) ∈ lw_all := lw_g (lw_at lw_m1 177 rfl) rfl
theorem q264 : (Jvm.Cond.methodLink "SomebodysLift$Tape" (3 : Nat) ({ cls := "java/lang/Object", name := "<init>", desc := "()V" } : Jvm.MethodName)) ∈ lw_all := lw_g (lw_at lw_m1 178 rfl) rfl
theorem q265 : (Jvm.Cond.fieldLink "SomebodysLift$Tape" (9 : Nat) "SomebodysLift$Tape" "row" "Ljava/lang/Object;") ∈ lw_all := lw_g (lw_at lw_m1 179 rfl) rfl
theorem q267 : (Jvm.Cond.lays "SomebodysLift$Tape" "SomebodysLift$Tape" "row" "Ljava/lang/Object;") ∈ lw_all := lw_g (lw_at lw_m1 181 rfl) rfl
theorem q268 : (Jvm.Cond.soleField "SomebodysLift$Tape" "row") ∈ lw_all := lw_g (lw_at lw_m1 182 rfl) rfl
theorem q269 : (Jvm.Cond.superclass "SomebodysLift$Tape" "java/lang/Object") ∈ lw_all := lw_g (lw_at lw_m1 183 rfl) rfl
theorem q946 : (Jvm.Cond.selects "SomebodysLift$Tape" ({ cls := "java/lang/Object", name := "getClass", desc := "()Ljava/lang/Class;" } : Jvm.MethodName) ({ cls := "java/lang/Object", name := "getClass", desc := "()Ljava/lang/Class;" } : Jvm.MethodName)) ∈ lw_all := lw_g (lw_at lw_m4 140 rfl) rfl
theorem q1377 : (Jvm.Cond.privateMethod ({ cls := "SomebodysLift$Tape", name := "has", desc := "(I)V" } : Jvm.MethodName)) ∈ lw_tbl := lw_at lw_m6 91 rfl
theorem q1378 : (Jvm.Cond.instanceMethod ({ cls := "SomebodysLift$Tape", name := "has", desc := "(I)V" } : Jvm.MethodName)) ∈ lw_all := lw_g (lw_at lw_m6 92 rfl) rfl
theorem q1379 : (Jvm.Cond.code ({ cls := "SomebodysLift$Tape", name := "has", desc := "(I)V" } : Jvm.MethodName) prog_14_method_3_code (2 : Nat) (Option.none : Option Jvm.ClassFile.FieldType)) ∈ lw_all := lw_g (lw_at lw_m6 93 rfl) rfl
theorem q1380 : (Jvm.Cond.classLink "SomebodysLift$Tape" (25 : Nat) "SomebodysLift$Off") ∈ lw_all := lw_g (lw_at lw_m6 94 rfl) rfl
theorem q1381 : (Jvm.Cond.methodLink "SomebodysLift$Tape" (27 : Nat) ({ cls := "SomebodysLift$Off", name := "<init>", desc := "(I)V" } : Jvm.MethodName)) ∈ lw_all := lw_g (lw_at lw_m6 95 rfl) rfl
theorem q1382 : (Jvm.Cond.methodLink "SomebodysLift$Tape" (30 : Nat) ({ cls := "SomebodysLift$Tape", name := "size", desc := "()I" } : Jvm.MethodName)) ∈ lw_all := lw_g (lw_at lw_m6 96 rfl) rfl
theorem q1383 : (Jvm.Cond.privateMethod ({ cls := "SomebodysLift$Tape", name := "size", desc := "()I" } : Jvm.MethodName)) ∈ lw_tbl := lw_at lw_m6 97 rfl
theorem q1384 : (Jvm.Cond.instanceMethod ({ cls := "SomebodysLift$Tape", name := "size", desc := "()I" } : Jvm.MethodName)) ∈ lw_all := lw_g (lw_at lw_m6 98 rfl) rfl
theorem q1385 : (Jvm.Cond.code ({ cls := "SomebodysLift$Tape", name := "size", desc := "()I" } : Jvm.MethodName) prog_14_method_2_code (3 : Nat) (Option.some Jvm.ClassFile.FieldType.int)) ∈ lw_all := lw_g (lw_at lw_m6 99 rfl) rfl
theorem q1386 : (Jvm.Cond.classLink "SomebodysLift$Tape" (15 : Nat) "[B") ∈ lw_all := lw_g (lw_at lw_m6 100 rfl) rfl
theorem q1387 : (Jvm.Cond.classLink "SomebodysLift$Tape" (17 : Nat) "[S") ∈ lw_all := lw_g (lw_at lw_m6 101 rfl) rfl
theorem q1388 : (Jvm.Cond.classLink "SomebodysLift$Tape" (19 : Nat) "[I") ∈ lw_all := lw_g (lw_at lw_m6 102 rfl) rfl
theorem q1389 : (Jvm.Cond.classLink "SomebodysLift$Tape" (21 : Nat) "[J") ∈ lw_all := lw_g (lw_at lw_m6 103 rfl) rfl
theorem q1390 : (Jvm.Cond.classLink "SomebodysLift$Tape" (23 : Nat) "[Z") ∈ lw_all := lw_g (lw_at lw_m6 104 rfl) rfl
theorem q1391 : (Jvm.Cond.methodLinkNest "SomebodysLift$Tape" (34 : Nat) ({ cls := "SomebodysLift", name := "in", desc := "(III)Z" } : Jvm.MethodName) "SomebodysLift") ∈ lw_tbl := lw_at lw_m6 105 rfl
theorem q2067 : (Jvm.Cond.castable "SomebodysLift$Tape" "java/lang/Object") ∈ lw_tbl := lw_at lw_m9 61 rfl
theorem in_X5 : ∀ w ∈ wsX50, w ∈ lw_all := lw_in wsX50 [267] (by decide +kernel) (by decide +kernel)

/-! SomebodysLift$Lift -/
set_option maxRecDepth 100000
def RX7 : String := "SomebodysLift$Lift"
def TX7 : u_T := fun k => match k with
  | 0 => ("SomebodysLift$Lift", "trace", "LSomebodysLift$Trace;", true)
  | 1 => ("SomebodysLift$Lift", "number", "I", true)
  | 2 => ("SomebodysLift$Lift", "v", "I", true)
  | _ => ("SomebodysLift$Lift", "mile", "I", true)
def tyX7 : Nat → FieldType := fun k => match k with
  | 0 => .object "SomebodysLift$Trace"
  | 1 => .int
  | 2 => .int
  | _ => .int
abbrev wsX70 : List Cond := u_ws RX7 TX7 4
theorem nmX7 : ∀ a, a < 4 → ∀ b, b < 4 → a ≠ b → (TX7 a).2.1 ≠ (TX7 b).2.1 := by decide +kernel
theorem tyX7_ok : ∀ k, k < 4 → parseFieldDescriptor (TX7 k).2.2.1 = some (tyX7 k) := by decide +kernel
abbrev cX7_init : ByteArray := prog_7_method_1_code
def yX7_init : MethodName := ⟨RX7, "<init>", "(LSomebodysLift$Trace;III)V"⟩
def dkwX7_init_1 : List UInt8 := [181, 0, 20, 177]
abbrev dktX7_init_1 : List UInt8 := dkwX7_init_1 ++ []
def dkwX7_init_0 : List UInt8 := [42, 183, 0, 1, 42, 43, 181, 0, 7, 42, 28, 181, 0, 13, 42, 29, 181, 0, 17, 42, 21, 4]
abbrev dktX7_init_0 : List UInt8 := dkwX7_init_0 ++ dktX7_init_1
theorem dksX7_init_0 : cX7_init.data.toList.drop 0 = dktX7_init_0 := by decide +kernel
theorem dksX7_init_1 : cX7_init.data.toList.drop 22 = dktX7_init_1 := dk_seg dksX7_init_0 22 rfl rfl
theorem dX7_init_0 : decode cX7_init 0 = .ok (.aload_n 0, 1) := dk_42 (dk_at dksX7_init_0 0 rfl rfl)
theorem dX7_init_1 : decode cX7_init 1 = .ok (.invokespecial 1, 3) := dk_183 0 1 (dk_at dksX7_init_0 1 rfl rfl)
theorem dX7_init_4 : decode cX7_init 4 = .ok (.aload_n 0, 1) := dk_42 (dk_at dksX7_init_0 4 rfl rfl)
theorem dX7_init_5 : decode cX7_init 5 = .ok (.aload_n 1, 1) := dk_43 (dk_at dksX7_init_0 5 rfl rfl)
theorem dX7_init_6 : decode cX7_init 6 = .ok (.putfield 7, 3) := dk_181 0 7 (dk_at dksX7_init_0 6 rfl rfl)
theorem dX7_init_9 : decode cX7_init 9 = .ok (.aload_n 0, 1) := dk_42 (dk_at dksX7_init_0 9 rfl rfl)
theorem dX7_init_10 : decode cX7_init 10 = .ok (.iload_n 2, 1) := dk_28 (dk_at dksX7_init_0 10 rfl rfl)
theorem dX7_init_11 : decode cX7_init 11 = .ok (.putfield 13, 3) := dk_181 0 13 (dk_at dksX7_init_0 11 rfl rfl)
theorem dX7_init_14 : decode cX7_init 14 = .ok (.aload_n 0, 1) := dk_42 (dk_at dksX7_init_0 14 rfl rfl)
theorem dX7_init_15 : decode cX7_init 15 = .ok (.iload_n 3, 1) := dk_29 (dk_at dksX7_init_0 15 rfl rfl)
theorem dX7_init_16 : decode cX7_init 16 = .ok (.putfield 17, 3) := dk_181 0 17 (dk_at dksX7_init_0 16 rfl rfl)
theorem dX7_init_19 : decode cX7_init 19 = .ok (.aload_n 0, 1) := dk_42 (dk_at dksX7_init_0 19 rfl rfl)
theorem dX7_init_20 : decode cX7_init 20 = .ok (.iload 4, 2) := dk_21 4 (dk_at dksX7_init_0 20 rfl rfl)
theorem dX7_init_22 : decode cX7_init 22 = .ok (.putfield 20, 3) := dk_181 0 20 (dk_at dksX7_init_1 0 rfl rfl)
theorem dX7_init_25 : decode cX7_init 25 = .ok (.return_, 1) := dk_177 (dk_at dksX7_init_1 3 rfl rfl)
abbrev cX7_kind : ByteArray := prog_7_method_2_code
def yX7_kind : MethodName := ⟨RX7, "kind", "()I"⟩
theorem dX7_kind_0 : decode cX7_kind 0 = .ok (.iconst 0, 1) := by decide +kernel
theorem dX7_kind_1 : decode cX7_kind 1 = .ok (.ireturn, 1) := by decide +kernel
abbrev cX7_climb : ByteArray := prog_7_method_3_code
def yX7_climb : MethodName := ⟨RX7, "climb", "(III)I"⟩
theorem dX7_climb_0 : decode cX7_climb 0 = .ok (.iload_n 1, 1) := by decide +kernel
theorem dX7_climb_1 : decode cX7_climb 1 = .ok (.ireturn, 1) := by decide +kernel
abbrev cX7_turns : ByteArray := prog_7_method_4_code
def yX7_turns : MethodName := ⟨RX7, "turns", "(I)I"⟩
def dkwX7_turns_0 : List UInt8 := [42, 180, 0, 7, 16, 10, 182, 0, 23, 27, 42, 180, 0, 13, 96, 172]
abbrev dktX7_turns_0 : List UInt8 := dkwX7_turns_0 ++ []
theorem dksX7_turns_0 : cX7_turns.data.toList.drop 0 = dktX7_turns_0 := by decide +kernel
theorem dX7_turns_0 : decode cX7_turns 0 = .ok (.aload_n 0, 1) := dk_42 (dk_at dksX7_turns_0 0 rfl rfl)
theorem dX7_turns_1 : decode cX7_turns 1 = .ok (.getfield 7, 3) := dk_180 0 7 (dk_at dksX7_turns_0 1 rfl rfl)
theorem dX7_turns_4 : decode cX7_turns 4 = .ok (.bipush 10, 2) := dk_16 10 (dk_at dksX7_turns_0 4 rfl rfl)
theorem dX7_turns_6 : decode cX7_turns 6 = .ok (.invokevirtual 23, 3) := dk_182 0 23 (dk_at dksX7_turns_0 6 rfl rfl)
theorem dX7_turns_9 : decode cX7_turns 9 = .ok (.iload_n 1, 1) := dk_27 (dk_at dksX7_turns_0 9 rfl rfl)
theorem dX7_turns_10 : decode cX7_turns 10 = .ok (.aload_n 0, 1) := dk_42 (dk_at dksX7_turns_0 10 rfl rfl)
theorem dX7_turns_11 : decode cX7_turns 11 = .ok (.getfield 13, 3) := dk_180 0 13 (dk_at dksX7_turns_0 11 rfl rfl)
theorem dX7_turns_14 : decode cX7_turns 14 = .ok (.iadd, 1) := dk_96 (dk_at dksX7_turns_0 14 rfl rfl)
theorem dX7_turns_15 : decode cX7_turns 15 = .ok (.ireturn, 1) := dk_172 (dk_at dksX7_turns_0 15 rfl rfl)
abbrev cX7_climbs : ByteArray := prog_7_method_5_code
def yX7_climbs : MethodName := ⟨RX7, "climbs", "(I)I"⟩
def dkwX7_climbs_0 : List UInt8 := [42, 180, 0, 7, 16, 11, 182, 0, 23, 42, 27, 182, 0, 29, 42, 180, 0, 17, 100, 172]
abbrev dktX7_climbs_0 : List UInt8 := dkwX7_climbs_0 ++ []
theorem dksX7_climbs_0 : cX7_climbs.data.toList.drop 0 = dktX7_climbs_0 := by decide +kernel
theorem dX7_climbs_0 : decode cX7_climbs 0 = .ok (.aload_n 0, 1) := dk_42 (dk_at dksX7_climbs_0 0 rfl rfl)
theorem dX7_climbs_1 : decode cX7_climbs 1 = .ok (.getfield 7, 3) := dk_180 0 7 (dk_at dksX7_climbs_0 1 rfl rfl)
theorem dX7_climbs_4 : decode cX7_climbs 4 = .ok (.bipush 11, 2) := dk_16 11 (dk_at dksX7_climbs_0 4 rfl rfl)
theorem dX7_climbs_6 : decode cX7_climbs 6 = .ok (.invokevirtual 23, 3) := dk_182 0 23 (dk_at dksX7_climbs_0 6 rfl rfl)
theorem dX7_climbs_9 : decode cX7_climbs 9 = .ok (.aload_n 0, 1) := dk_42 (dk_at dksX7_climbs_0 9 rfl rfl)
theorem dX7_climbs_10 : decode cX7_climbs 10 = .ok (.iload_n 1, 1) := dk_27 (dk_at dksX7_climbs_0 10 rfl rfl)
theorem dX7_climbs_11 : decode cX7_climbs 11 = .ok (.invokevirtual 29, 3) := dk_182 0 29 (dk_at dksX7_climbs_0 11 rfl rfl)
theorem dX7_climbs_14 : decode cX7_climbs 14 = .ok (.aload_n 0, 1) := dk_42 (dk_at dksX7_climbs_0 14 rfl rfl)
theorem dX7_climbs_15 : decode cX7_climbs 15 = .ok (.getfield 17, 3) := dk_180 0 17 (dk_at dksX7_climbs_0 15 rfl rfl)
theorem dX7_climbs_18 : decode cX7_climbs 18 = .ok (.isub, 1) := dk_100 (dk_at dksX7_climbs_0 18 rfl rfl)
theorem dX7_climbs_19 : decode cX7_climbs 19 = .ok (.ireturn, 1) := dk_172 (dk_at dksX7_climbs_0 19 rfl rfl)
abbrev cX7_tells : ByteArray := prog_7_method_6_code
def yX7_tells : MethodName := ⟨RX7, "tells", "(I)I"⟩
def dkwX7_tells_0 : List UInt8 := [42, 180, 0, 7, 16, 12, 182, 0, 23, 42, 27, 182, 0, 33, 5, 104, 172]
abbrev dktX7_tells_0 : List UInt8 := dkwX7_tells_0 ++ []
theorem dksX7_tells_0 : cX7_tells.data.toList.drop 0 = dktX7_tells_0 := by decide +kernel
theorem dX7_tells_0 : decode cX7_tells 0 = .ok (.aload_n 0, 1) := dk_42 (dk_at dksX7_tells_0 0 rfl rfl)
theorem dX7_tells_1 : decode cX7_tells 1 = .ok (.getfield 7, 3) := dk_180 0 7 (dk_at dksX7_tells_0 1 rfl rfl)
theorem dX7_tells_4 : decode cX7_tells 4 = .ok (.bipush 12, 2) := dk_16 12 (dk_at dksX7_tells_0 4 rfl rfl)
theorem dX7_tells_6 : decode cX7_tells 6 = .ok (.invokevirtual 23, 3) := dk_182 0 23 (dk_at dksX7_tells_0 6 rfl rfl)
theorem dX7_tells_9 : decode cX7_tells 9 = .ok (.aload_n 0, 1) := dk_42 (dk_at dksX7_tells_0 9 rfl rfl)
theorem dX7_tells_10 : decode cX7_tells 10 = .ok (.iload_n 1, 1) := dk_27 (dk_at dksX7_tells_0 10 rfl rfl)
theorem dX7_tells_11 : decode cX7_tells 11 = .ok (.invokevirtual 33, 3) := dk_182 0 33 (dk_at dksX7_tells_0 11 rfl rfl)
theorem dX7_tells_14 : decode cX7_tells 14 = .ok (.iconst 2, 1) := dk_5 (dk_at dksX7_tells_0 14 rfl rfl)
theorem dX7_tells_15 : decode cX7_tells 15 = .ok (.imul, 1) := dk_104 (dk_at dksX7_tells_0 15 rfl rfl)
theorem dX7_tells_16 : decode cX7_tells 16 = .ok (.ireturn, 1) := dk_172 (dk_at dksX7_tells_0 16 rfl rfl)
theorem q97 : (Jvm.Cond.initialized "SomebodysLift$Lift") ∈ lw_all := lw_g (lw_at lw_m1 11 rfl) rfl
theorem q411 : (Jvm.Cond.instanceMethod ({ cls := "SomebodysLift$Lift", name := "<init>", desc := "(LSomebodysLift$Trace;III)V" } : Jvm.MethodName)) ∈ lw_all := lw_g (lw_at lw_m2 85 rfl) rfl
theorem q412 : (Jvm.Cond.code ({ cls := "SomebodysLift$Lift", name := "<init>", desc := "(LSomebodysLift$Trace;III)V" } : Jvm.MethodName) prog_7_method_1_code (5 : Nat) (Option.none : Option Jvm.ClassFile.FieldType)) ∈ lw_all := lw_g (lw_at lw_m2 86 rfl) rfl
theorem q413 : (Jvm.Cond.methodLink "SomebodysLift$Lift" (1 : Nat) ({ cls := "java/lang/Object", name := "<init>", desc := "()V" } : Jvm.MethodName)) ∈ lw_all := lw_g (lw_at lw_m2 87 rfl) rfl
theorem q414 : (Jvm.Cond.fieldLink "SomebodysLift$Lift" (7 : Nat) "SomebodysLift$Lift" "trace" "LSomebodysLift$Trace;") ∈ lw_all := lw_g (lw_at lw_m2 88 rfl) rfl
theorem q427 : (Jvm.Cond.fieldLink "SomebodysLift$Lift" (13 : Nat) "SomebodysLift$Lift" "number" "I") ∈ lw_all := lw_g (lw_at lw_m2 101 rfl) rfl
theorem q432 : (Jvm.Cond.fieldLink "SomebodysLift$Lift" (17 : Nat) "SomebodysLift$Lift" "v" "I") ∈ lw_all := lw_g (lw_at lw_m2 106 rfl) rfl
theorem q442 : (Jvm.Cond.fieldLink "SomebodysLift$Lift" (20 : Nat) "SomebodysLift$Lift" "mile" "I") ∈ lw_all := lw_g (lw_at lw_m2 116 rfl) rfl
theorem q445 : (Jvm.Cond.soleField "SomebodysLift$Lift" "trace") ∈ lw_all := lw_g (lw_at lw_m2 119 rfl) rfl
theorem q447 : (Jvm.Cond.soleField "SomebodysLift$Lift" "number") ∈ lw_all := lw_g (lw_at lw_m2 121 rfl) rfl
theorem q449 : (Jvm.Cond.soleField "SomebodysLift$Lift" "v") ∈ lw_all := lw_g (lw_at lw_m2 123 rfl) rfl
theorem q451 : (Jvm.Cond.soleField "SomebodysLift$Lift" "mile") ∈ lw_all := lw_g (lw_at lw_m2 125 rfl) rfl
theorem q511 : (Jvm.Cond.instantiable "SomebodysLift$Lift" (4 : Nat)) ∈ lw_all := lw_g (lw_at lw_m2 185 rfl) rfl
theorem q513 : (Jvm.Cond.laysFinal "SomebodysLift$Lift" "SomebodysLift$Lift" "trace" "LSomebodysLift$Trace;") ∈ lw_all := lw_g (lw_at lw_m2 187 rfl) rfl
theorem q514 : (Jvm.Cond.laysFinal "SomebodysLift$Lift" "SomebodysLift$Lift" "number" "I") ∈ lw_all := lw_g (lw_at lw_m2 188 rfl) rfl
theorem q515 : (Jvm.Cond.laysFinal "SomebodysLift$Lift" "SomebodysLift$Lift" "v" "I") ∈ lw_all := lw_g (lw_at lw_m2 189 rfl) rfl
theorem q516 : (Jvm.Cond.laysFinal "SomebodysLift$Lift" "SomebodysLift$Lift" "mile" "I") ∈ lw_all := lw_g (lw_at lw_m2 190 rfl) rfl
theorem q517 : (Jvm.Cond.superclass "SomebodysLift$Lift" "java/lang/Object") ∈ lw_all := lw_g (lw_at lw_m2 191 rfl) rfl
theorem q527 : (Jvm.Cond.instanceMethod ({ cls := "SomebodysLift$Lift", name := "kind", desc := "()I" } : Jvm.MethodName)) ∈ lw_all := lw_g (lw_at lw_m2 201 rfl) rfl
theorem q528 : (Jvm.Cond.selects "SomebodysLift$Lift" ({ cls := "SomebodysLift$Lift", name := "kind", desc := "()I" } : Jvm.MethodName) ({ cls := "SomebodysLift$Lift", name := "kind", desc := "()I" } : Jvm.MethodName)) ∈ lw_all := lw_g (lw_at lw_m2 202 rfl) rfl
theorem q529 : (Jvm.Cond.sameMethod "SomebodysLift$Lift" "SomebodysLift$Lift" "kind" "()I") ∈ lw_all := lw_g (lw_at lw_m2 203 rfl) rfl
theorem q548 : (Jvm.Cond.code ({ cls := "SomebodysLift$Lift", name := "kind", desc := "()I" } : Jvm.MethodName) prog_7_method_2_code (1 : Nat) (Option.some Jvm.ClassFile.FieldType.int)) ∈ lw_all := lw_g (lw_at lw_m2 222 rfl) rfl
theorem q605 : (Jvm.Cond.instanceMethod ({ cls := "SomebodysLift$Lift", name := "climb", desc := "(III)I" } : Jvm.MethodName)) ∈ lw_all := lw_g (lw_at lw_m3 39 rfl) rfl
theorem q606 : (Jvm.Cond.selects "SomebodysLift$Lift" ({ cls := "SomebodysLift$Lift", name := "climb", desc := "(III)I" } : Jvm.MethodName) ({ cls := "SomebodysLift$Lift", name := "climb", desc := "(III)I" } : Jvm.MethodName)) ∈ lw_all := lw_g (lw_at lw_m3 40 rfl) rfl
theorem q607 : (Jvm.Cond.sameMethod "SomebodysLift$Lift" "SomebodysLift$Lift" "climb" "(III)I") ∈ lw_all := lw_g (lw_at lw_m3 41 rfl) rfl
theorem q632 : (Jvm.Cond.code ({ cls := "SomebodysLift$Lift", name := "climb", desc := "(III)I" } : Jvm.MethodName) prog_7_method_3_code (4 : Nat) (Option.some Jvm.ClassFile.FieldType.int)) ∈ lw_all := lw_g (lw_at lw_m3 66 rfl) rfl
theorem q939 : (Jvm.Cond.selects "SomebodysLift$Lift" ({ cls := "java/lang/Object", name := "getClass", desc := "()Ljava/lang/Class;" } : Jvm.MethodName) ({ cls := "java/lang/Object", name := "getClass", desc := "()Ljava/lang/Class;" } : Jvm.MethodName)) ∈ lw_all := lw_g (lw_at lw_m4 133 rfl) rfl
theorem q1255 : (Jvm.Cond.instanceMethod ({ cls := "SomebodysLift$Lift", name := "turns", desc := "(I)I" } : Jvm.MethodName)) ∈ lw_all := lw_g (lw_at lw_m5 209 rfl) rfl
theorem q1256 : (Jvm.Cond.selects "SomebodysLift$Lift" ({ cls := "SomebodysLift$Lift", name := "turns", desc := "(I)I" } : Jvm.MethodName) ({ cls := "SomebodysLift$Lift", name := "turns", desc := "(I)I" } : Jvm.MethodName)) ∈ lw_all := lw_g (lw_at lw_m5 210 rfl) rfl
theorem q1257 : (Jvm.Cond.sameMethod "SomebodysLift$Lift" "SomebodysLift$Lift" "turns" "(I)I") ∈ lw_all := lw_g (lw_at lw_m5 211 rfl) rfl
theorem q1267 : (Jvm.Cond.declares ({ cls := "SomebodysLift$Lift", name := "turns", desc := "(I)I" } : Jvm.MethodName)) ∈ lw_tbl := lw_at lw_m5 221 rfl
theorem q1282 : (Jvm.Cond.code ({ cls := "SomebodysLift$Lift", name := "turns", desc := "(I)I" } : Jvm.MethodName) prog_7_method_4_code (2 : Nat) (Option.some Jvm.ClassFile.FieldType.int)) ∈ lw_all := lw_g (lw_at lw_m5 236 rfl) rfl
theorem q1283 : (Jvm.Cond.methodLink "SomebodysLift$Lift" (23 : Nat) ({ cls := "SomebodysLift$Trace", name := "ran", desc := "(I)V" } : Jvm.MethodName)) ∈ lw_all := lw_g (lw_at lw_m5 237 rfl) rfl
theorem q1285 : (Jvm.Cond.instanceMethod ({ cls := "SomebodysLift$Lift", name := "climbs", desc := "(I)I" } : Jvm.MethodName)) ∈ lw_all := lw_g (lw_at lw_m5 239 rfl) rfl
theorem q1286 : (Jvm.Cond.selects "SomebodysLift$Lift" ({ cls := "SomebodysLift$Lift", name := "climbs", desc := "(I)I" } : Jvm.MethodName) ({ cls := "SomebodysLift$Lift", name := "climbs", desc := "(I)I" } : Jvm.MethodName)) ∈ lw_all := lw_g (lw_at lw_m6 0 rfl) rfl
theorem q1287 : (Jvm.Cond.sameMethod "SomebodysLift$Lift" "SomebodysLift$Lift" "climbs" "(I)I") ∈ lw_all := lw_g (lw_at lw_m6 1 rfl) rfl
theorem q1303 : (Jvm.Cond.declares ({ cls := "SomebodysLift$Lift", name := "climbs", desc := "(I)I" } : Jvm.MethodName)) ∈ lw_tbl := lw_at lw_m6 17 rfl
theorem q1306 : (Jvm.Cond.code ({ cls := "SomebodysLift$Lift", name := "climbs", desc := "(I)I" } : Jvm.MethodName) prog_7_method_5_code (2 : Nat) (Option.some Jvm.ClassFile.FieldType.int)) ∈ lw_all := lw_g (lw_at lw_m6 20 rfl) rfl
theorem q1307 : (Jvm.Cond.methodLink "SomebodysLift$Lift" (29 : Nat) ({ cls := "SomebodysLift$Lift", name := "turns", desc := "(I)I" } : Jvm.MethodName)) ∈ lw_all := lw_g (lw_at lw_m6 21 rfl) rfl
theorem q1309 : (Jvm.Cond.instanceMethod ({ cls := "SomebodysLift$Lift", name := "tells", desc := "(I)I" } : Jvm.MethodName)) ∈ lw_all := lw_g (lw_at lw_m6 23 rfl) rfl
theorem q1310 : (Jvm.Cond.selects "SomebodysLift$Lift" ({ cls := "SomebodysLift$Lift", name := "tells", desc := "(I)I" } : Jvm.MethodName) ({ cls := "SomebodysLift$Lift", name := "tells", desc := "(I)I" } : Jvm.MethodName)) ∈ lw_all := lw_g (lw_at lw_m6 24 rfl) rfl
theorem q1311 : (Jvm.Cond.sameMethod "SomebodysLift$Lift" "SomebodysLift$Lift" "tells" "(I)I") ∈ lw_all := lw_g (lw_at lw_m6 25 rfl) rfl
theorem q1329 : (Jvm.Cond.declares ({ cls := "SomebodysLift$Lift", name := "tells", desc := "(I)I" } : Jvm.MethodName)) ∈ lw_tbl := lw_at lw_m6 43 rfl
theorem q1331 : (Jvm.Cond.code ({ cls := "SomebodysLift$Lift", name := "tells", desc := "(I)I" } : Jvm.MethodName) prog_7_method_6_code (2 : Nat) (Option.some Jvm.ClassFile.FieldType.int)) ∈ lw_all := lw_g (lw_at lw_m6 45 rfl) rfl
theorem q1332 : (Jvm.Cond.methodLink "SomebodysLift$Lift" (33 : Nat) ({ cls := "SomebodysLift$Lift", name := "climbs", desc := "(I)I" } : Jvm.MethodName)) ∈ lw_all := lw_g (lw_at lw_m6 46 rfl) rfl
theorem q2066 : (Jvm.Cond.castable "SomebodysLift$Lift" "java/lang/Object") ∈ lw_tbl := lw_at lw_m9 60 rfl
theorem in_X7 : ∀ w ∈ wsX70, w ∈ lw_all := lw_in wsX70 [513, 514, 515, 516] (by decide +kernel) (by decide +kernel)

/-! SomebodysLift$Strong -/
set_option maxRecDepth 100000
def RX8 : String := "SomebodysLift$Strong"
def TX8 : u_T := fun k => match k with
  | 0 => ("SomebodysLift$Lift", "trace", "LSomebodysLift$Trace;", true)
  | 1 => ("SomebodysLift$Lift", "number", "I", true)
  | 2 => ("SomebodysLift$Lift", "v", "I", true)
  | _ => ("SomebodysLift$Lift", "mile", "I", true)
def tyX8 : Nat → FieldType := fun k => match k with
  | 0 => .object "SomebodysLift$Trace"
  | 1 => .int
  | 2 => .int
  | _ => .int
abbrev wsX80 : List Cond := u_ws RX8 TX8 4
theorem nmX8 : ∀ a, a < 4 → ∀ b, b < 4 → a ≠ b → (TX8 a).2.1 ≠ (TX8 b).2.1 := by decide +kernel
theorem tyX8_ok : ∀ k, k < 4 → parseFieldDescriptor (TX8 k).2.2.1 = some (tyX8 k) := by decide +kernel
abbrev cX8_init : ByteArray := prog_13_method_1_code
def yX8_init : MethodName := ⟨RX8, "<init>", "(LSomebodysLift$Trace;III)V"⟩
def dkwX8_init_0 : List UInt8 := [42, 43, 28, 29, 21, 4, 183, 0, 3, 177]
abbrev dktX8_init_0 : List UInt8 := dkwX8_init_0 ++ []
theorem dksX8_init_0 : cX8_init.data.toList.drop 0 = dktX8_init_0 := by decide +kernel
theorem dX8_init_0 : decode cX8_init 0 = .ok (.aload_n 0, 1) := dk_42 (dk_at dksX8_init_0 0 rfl rfl)
theorem dX8_init_1 : decode cX8_init 1 = .ok (.aload_n 1, 1) := dk_43 (dk_at dksX8_init_0 1 rfl rfl)
theorem dX8_init_2 : decode cX8_init 2 = .ok (.iload_n 2, 1) := dk_28 (dk_at dksX8_init_0 2 rfl rfl)
theorem dX8_init_3 : decode cX8_init 3 = .ok (.iload_n 3, 1) := dk_29 (dk_at dksX8_init_0 3 rfl rfl)
theorem dX8_init_4 : decode cX8_init 4 = .ok (.iload 4, 2) := dk_21 4 (dk_at dksX8_init_0 4 rfl rfl)
theorem dX8_init_6 : decode cX8_init 6 = .ok (.invokespecial 3, 3) := dk_183 0 3 (dk_at dksX8_init_0 6 rfl rfl)
theorem dX8_init_9 : decode cX8_init 9 = .ok (.return_, 1) := dk_177 (dk_at dksX8_init_0 9 rfl rfl)
abbrev cX8_kind : ByteArray := prog_13_method_2_code
def yX8_kind : MethodName := ⟨RX8, "kind", "()I"⟩
theorem dX8_kind_0 : decode cX8_kind 0 = .ok (.iconst 1, 1) := by decide +kernel
theorem dX8_kind_1 : decode cX8_kind 1 = .ok (.ireturn, 1) := by decide +kernel
abbrev cX8_climb : ByteArray := prog_13_method_3_code
def yX8_climb : MethodName := ⟨RX8, "climb", "(III)I"⟩
def dkwX8_climb_0 : List UInt8 := [42, 27, 28, 29, 183, 0, 9, 42, 180, 0, 13, 5, 108, 96, 172]
abbrev dktX8_climb_0 : List UInt8 := dkwX8_climb_0 ++ []
theorem dksX8_climb_0 : cX8_climb.data.toList.drop 0 = dktX8_climb_0 := by decide +kernel
theorem dX8_climb_0 : decode cX8_climb 0 = .ok (.aload_n 0, 1) := dk_42 (dk_at dksX8_climb_0 0 rfl rfl)
theorem dX8_climb_1 : decode cX8_climb 1 = .ok (.iload_n 1, 1) := dk_27 (dk_at dksX8_climb_0 1 rfl rfl)
theorem dX8_climb_2 : decode cX8_climb 2 = .ok (.iload_n 2, 1) := dk_28 (dk_at dksX8_climb_0 2 rfl rfl)
theorem dX8_climb_3 : decode cX8_climb 3 = .ok (.iload_n 3, 1) := dk_29 (dk_at dksX8_climb_0 3 rfl rfl)
theorem dX8_climb_4 : decode cX8_climb 4 = .ok (.invokespecial 9, 3) := dk_183 0 9 (dk_at dksX8_climb_0 4 rfl rfl)
theorem dX8_climb_7 : decode cX8_climb 7 = .ok (.aload_n 0, 1) := dk_42 (dk_at dksX8_climb_0 7 rfl rfl)
theorem dX8_climb_8 : decode cX8_climb 8 = .ok (.getfield 13, 3) := dk_180 0 13 (dk_at dksX8_climb_0 8 rfl rfl)
theorem dX8_climb_11 : decode cX8_climb 11 = .ok (.iconst 2, 1) := dk_5 (dk_at dksX8_climb_0 11 rfl rfl)
theorem dX8_climb_12 : decode cX8_climb 12 = .ok (.idiv, 1) := dk_108 (dk_at dksX8_climb_0 12 rfl rfl)
theorem dX8_climb_13 : decode cX8_climb 13 = .ok (.iadd, 1) := dk_96 (dk_at dksX8_climb_0 13 rfl rfl)
theorem dX8_climb_14 : decode cX8_climb 14 = .ok (.ireturn, 1) := dk_172 (dk_at dksX8_climb_0 14 rfl rfl)
abbrev cX8_climbs : ByteArray := prog_13_method_4_code
def yX8_climbs : MethodName := ⟨RX8, "climbs", "(I)I"⟩
def dkwX8_climbs_0 : List UInt8 := [42, 180, 0, 19, 16, 20, 182, 0, 23, 42, 27, 183, 0, 29, 16, 6, 130, 172]
abbrev dktX8_climbs_0 : List UInt8 := dkwX8_climbs_0 ++ []
theorem dksX8_climbs_0 : cX8_climbs.data.toList.drop 0 = dktX8_climbs_0 := by decide +kernel
theorem dX8_climbs_0 : decode cX8_climbs 0 = .ok (.aload_n 0, 1) := dk_42 (dk_at dksX8_climbs_0 0 rfl rfl)
theorem dX8_climbs_1 : decode cX8_climbs 1 = .ok (.getfield 19, 3) := dk_180 0 19 (dk_at dksX8_climbs_0 1 rfl rfl)
theorem dX8_climbs_4 : decode cX8_climbs 4 = .ok (.bipush 20, 2) := dk_16 20 (dk_at dksX8_climbs_0 4 rfl rfl)
theorem dX8_climbs_6 : decode cX8_climbs 6 = .ok (.invokevirtual 23, 3) := dk_182 0 23 (dk_at dksX8_climbs_0 6 rfl rfl)
theorem dX8_climbs_9 : decode cX8_climbs 9 = .ok (.aload_n 0, 1) := dk_42 (dk_at dksX8_climbs_0 9 rfl rfl)
theorem dX8_climbs_10 : decode cX8_climbs 10 = .ok (.iload_n 1, 1) := dk_27 (dk_at dksX8_climbs_0 10 rfl rfl)
theorem dX8_climbs_11 : decode cX8_climbs 11 = .ok (.invokespecial 29, 3) := dk_183 0 29 (dk_at dksX8_climbs_0 11 rfl rfl)
theorem dX8_climbs_14 : decode cX8_climbs 14 = .ok (.bipush 6, 2) := dk_16 6 (dk_at dksX8_climbs_0 14 rfl rfl)
theorem dX8_climbs_16 : decode cX8_climbs 16 = .ok (.ixor, 1) := dk_130 (dk_at dksX8_climbs_0 16 rfl rfl)
theorem dX8_climbs_17 : decode cX8_climbs 17 = .ok (.ireturn, 1) := dk_172 (dk_at dksX8_climbs_0 17 rfl rfl)
theorem q98 : (Jvm.Cond.initialized "SomebodysLift$Strong") ∈ lw_all := lw_g (lw_at lw_m1 12 rfl) rfl
theorem q406 : (Jvm.Cond.instantiable "SomebodysLift$Strong" (4 : Nat)) ∈ lw_all := lw_g (lw_at lw_m2 80 rfl) rfl
theorem q408 : (Jvm.Cond.instanceMethod ({ cls := "SomebodysLift$Strong", name := "<init>", desc := "(LSomebodysLift$Trace;III)V" } : Jvm.MethodName)) ∈ lw_all := lw_g (lw_at lw_m2 82 rfl) rfl
theorem q409 : (Jvm.Cond.code ({ cls := "SomebodysLift$Strong", name := "<init>", desc := "(LSomebodysLift$Trace;III)V" } : Jvm.MethodName) prog_13_method_1_code (5 : Nat) (Option.none : Option Jvm.ClassFile.FieldType)) ∈ lw_all := lw_g (lw_at lw_m2 83 rfl) rfl
theorem q410 : (Jvm.Cond.methodLink "SomebodysLift$Strong" (3 : Nat) ({ cls := "SomebodysLift$Lift", name := "<init>", desc := "(LSomebodysLift$Trace;III)V" } : Jvm.MethodName)) ∈ lw_all := lw_g (lw_at lw_m2 84 rfl) rfl
theorem q419 : (Jvm.Cond.fieldLink "SomebodysLift$Strong" (19 : Nat) "SomebodysLift$Strong" "trace" "LSomebodysLift$Trace;") ∈ lw_all := lw_g (lw_at lw_m2 93 rfl) rfl
theorem q420 : (Jvm.Cond.sameField "SomebodysLift$Strong" "SomebodysLift$Lift" "trace" "LSomebodysLift$Trace;") ∈ lw_all := lw_g (lw_at lw_m2 94 rfl) rfl
theorem q437 : (Jvm.Cond.fieldLink "SomebodysLift$Strong" (13 : Nat) "SomebodysLift$Strong" "v" "I") ∈ lw_all := lw_g (lw_at lw_m2 111 rfl) rfl
theorem q438 : (Jvm.Cond.sameField "SomebodysLift$Strong" "SomebodysLift$Lift" "v" "I") ∈ lw_all := lw_g (lw_at lw_m2 112 rfl) rfl
theorem q444 : (Jvm.Cond.laysFinal "SomebodysLift$Strong" "SomebodysLift$Lift" "trace" "LSomebodysLift$Trace;") ∈ lw_all := lw_g (lw_at lw_m2 118 rfl) rfl
theorem q446 : (Jvm.Cond.laysFinal "SomebodysLift$Strong" "SomebodysLift$Lift" "number" "I") ∈ lw_all := lw_g (lw_at lw_m2 120 rfl) rfl
theorem q448 : (Jvm.Cond.laysFinal "SomebodysLift$Strong" "SomebodysLift$Lift" "v" "I") ∈ lw_all := lw_g (lw_at lw_m2 122 rfl) rfl
theorem q450 : (Jvm.Cond.laysFinal "SomebodysLift$Strong" "SomebodysLift$Lift" "mile" "I") ∈ lw_all := lw_g (lw_at lw_m2 124 rfl) rfl
theorem q452 : (Jvm.Cond.superclass "SomebodysLift$Strong" "SomebodysLift$Lift") ∈ lw_all := lw_g (lw_at lw_m2 126 rfl) rfl
theorem q536 : (Jvm.Cond.selects "SomebodysLift$Strong" ({ cls := "SomebodysLift$Lift", name := "kind", desc := "()I" } : Jvm.MethodName) ({ cls := "SomebodysLift$Strong", name := "kind", desc := "()I" } : Jvm.MethodName)) ∈ lw_all := lw_g (lw_at lw_m2 210 rfl) rfl
theorem q537 : (Jvm.Cond.instanceMethod ({ cls := "SomebodysLift$Strong", name := "kind", desc := "()I" } : Jvm.MethodName)) ∈ lw_all := lw_g (lw_at lw_m2 211 rfl) rfl
theorem q538 : (Jvm.Cond.code ({ cls := "SomebodysLift$Strong", name := "kind", desc := "()I" } : Jvm.MethodName) prog_13_method_2_code (1 : Nat) (Option.some Jvm.ClassFile.FieldType.int)) ∈ lw_all := lw_g (lw_at lw_m2 212 rfl) rfl
theorem q612 : (Jvm.Cond.instanceMethod ({ cls := "SomebodysLift$Strong", name := "climb", desc := "(III)I" } : Jvm.MethodName)) ∈ lw_all := lw_g (lw_at lw_m3 46 rfl) rfl
theorem q613 : (Jvm.Cond.code ({ cls := "SomebodysLift$Strong", name := "climb", desc := "(III)I" } : Jvm.MethodName) prog_13_method_3_code (4 : Nat) (Option.some Jvm.ClassFile.FieldType.int)) ∈ lw_all := lw_g (lw_at lw_m3 47 rfl) rfl
theorem q614 : (Jvm.Cond.methodLink "SomebodysLift$Strong" (9 : Nat) ({ cls := "SomebodysLift$Lift", name := "climb", desc := "(III)I" } : Jvm.MethodName)) ∈ lw_all := lw_g (lw_at lw_m3 48 rfl) rfl
theorem q619 : (Jvm.Cond.selects "SomebodysLift$Strong" ({ cls := "SomebodysLift$Lift", name := "climb", desc := "(III)I" } : Jvm.MethodName) ({ cls := "SomebodysLift$Strong", name := "climb", desc := "(III)I" } : Jvm.MethodName)) ∈ lw_all := lw_g (lw_at lw_m3 53 rfl) rfl
theorem q945 : (Jvm.Cond.selects "SomebodysLift$Strong" ({ cls := "java/lang/Object", name := "getClass", desc := "()Ljava/lang/Class;" } : Jvm.MethodName) ({ cls := "java/lang/Object", name := "getClass", desc := "()Ljava/lang/Class;" } : Jvm.MethodName)) ∈ lw_all := lw_g (lw_at lw_m4 139 rfl) rfl
theorem q1266 : (Jvm.Cond.sameMethod "SomebodysLift$Strong" "SomebodysLift$Lift" "turns" "(I)I") ∈ lw_all := lw_g (lw_at lw_m5 220 rfl) rfl
theorem q1269 : (Jvm.Cond.selects "SomebodysLift$Strong" ({ cls := "SomebodysLift$Lift", name := "turns", desc := "(I)I" } : Jvm.MethodName) ({ cls := "SomebodysLift$Lift", name := "turns", desc := "(I)I" } : Jvm.MethodName)) ∈ lw_all := lw_g (lw_at lw_m5 223 rfl) rfl
theorem q1292 : (Jvm.Cond.instanceMethod ({ cls := "SomebodysLift$Strong", name := "climbs", desc := "(I)I" } : Jvm.MethodName)) ∈ lw_all := lw_g (lw_at lw_m6 6 rfl) rfl
theorem q1293 : (Jvm.Cond.code ({ cls := "SomebodysLift$Strong", name := "climbs", desc := "(I)I" } : Jvm.MethodName) prog_13_method_4_code (2 : Nat) (Option.some Jvm.ClassFile.FieldType.int)) ∈ lw_all := lw_g (lw_at lw_m6 7 rfl) rfl
theorem q1294 : (Jvm.Cond.methodLink "SomebodysLift$Strong" (23 : Nat) ({ cls := "SomebodysLift$Trace", name := "ran", desc := "(I)V" } : Jvm.MethodName)) ∈ lw_all := lw_g (lw_at lw_m6 8 rfl) rfl
theorem q1295 : (Jvm.Cond.methodLink "SomebodysLift$Strong" (29 : Nat) ({ cls := "SomebodysLift$Lift", name := "climbs", desc := "(I)I" } : Jvm.MethodName)) ∈ lw_all := lw_g (lw_at lw_m6 9 rfl) rfl
theorem q1297 : (Jvm.Cond.selects "SomebodysLift$Strong" ({ cls := "SomebodysLift$Lift", name := "climbs", desc := "(I)I" } : Jvm.MethodName) ({ cls := "SomebodysLift$Strong", name := "climbs", desc := "(I)I" } : Jvm.MethodName)) ∈ lw_all := lw_g (lw_at lw_m6 11 rfl) rfl
theorem q1321 : (Jvm.Cond.selects "SomebodysLift$Strong" ({ cls := "SomebodysLift$Lift", name := "tells", desc := "(I)I" } : Jvm.MethodName) ({ cls := "SomebodysLift$Lift", name := "tells", desc := "(I)I" } : Jvm.MethodName)) ∈ lw_all := lw_g (lw_at lw_m6 35 rfl) rfl
theorem q2048 : (Jvm.Cond.sameMethod "SomebodysLift$Strong" "SomebodysLift$Strong" "climb" "(III)I") ∈ lw_all := lw_g (lw_at lw_m9 42 rfl) rfl
theorem q2052 : (Jvm.Cond.sameMethod "SomebodysLift$Strong" "SomebodysLift$Strong" "climbs" "(I)I") ∈ lw_all := lw_g (lw_at lw_m9 46 rfl) rfl
theorem q2059 : (Jvm.Cond.castable "SomebodysLift$Strong" "SomebodysLift$Lift") ∈ lw_tbl := lw_at lw_m9 53 rfl
theorem q2075 : (Jvm.Cond.castable "SomebodysLift$Strong" "java/lang/Object") ∈ lw_tbl := lw_at lw_m9 69 rfl
theorem in_X8 : ∀ w ∈ wsX80, w ∈ lw_all := lw_in wsX80 [444, 446, 448, 450] (by decide +kernel) (by decide +kernel)

/-! SomebodysLift$Weak -/
set_option maxRecDepth 100000
def RX9 : String := "SomebodysLift$Weak"
def TX9 : u_T := fun k => match k with
  | 0 => ("SomebodysLift$Lift", "trace", "LSomebodysLift$Trace;", true)
  | 1 => ("SomebodysLift$Lift", "number", "I", true)
  | 2 => ("SomebodysLift$Lift", "v", "I", true)
  | _ => ("SomebodysLift$Lift", "mile", "I", true)
def tyX9 : Nat → FieldType := fun k => match k with
  | 0 => .object "SomebodysLift$Trace"
  | 1 => .int
  | 2 => .int
  | _ => .int
abbrev wsX90 : List Cond := u_ws RX9 TX9 4
theorem nmX9 : ∀ a, a < 4 → ∀ b, b < 4 → a ≠ b → (TX9 a).2.1 ≠ (TX9 b).2.1 := by decide +kernel
theorem tyX9_ok : ∀ k, k < 4 → parseFieldDescriptor (TX9 k).2.2.1 = some (tyX9 k) := by decide +kernel
abbrev cX9_init : ByteArray := prog_21_method_1_code
def yX9_init : MethodName := ⟨RX9, "<init>", "(LSomebodysLift$Trace;III)V"⟩
def dkwX9_init_0 : List UInt8 := [42, 43, 28, 29, 21, 4, 183, 0, 3, 177]
abbrev dktX9_init_0 : List UInt8 := dkwX9_init_0 ++ []
theorem dksX9_init_0 : cX9_init.data.toList.drop 0 = dktX9_init_0 := by decide +kernel
theorem dX9_init_0 : decode cX9_init 0 = .ok (.aload_n 0, 1) := dk_42 (dk_at dksX9_init_0 0 rfl rfl)
theorem dX9_init_1 : decode cX9_init 1 = .ok (.aload_n 1, 1) := dk_43 (dk_at dksX9_init_0 1 rfl rfl)
theorem dX9_init_2 : decode cX9_init 2 = .ok (.iload_n 2, 1) := dk_28 (dk_at dksX9_init_0 2 rfl rfl)
theorem dX9_init_3 : decode cX9_init 3 = .ok (.iload_n 3, 1) := dk_29 (dk_at dksX9_init_0 3 rfl rfl)
theorem dX9_init_4 : decode cX9_init 4 = .ok (.iload 4, 2) := dk_21 4 (dk_at dksX9_init_0 4 rfl rfl)
theorem dX9_init_6 : decode cX9_init 6 = .ok (.invokespecial 3, 3) := dk_183 0 3 (dk_at dksX9_init_0 6 rfl rfl)
theorem dX9_init_9 : decode cX9_init 9 = .ok (.return_, 1) := dk_177 (dk_at dksX9_init_0 9 rfl rfl)
abbrev cX9_kind : ByteArray := prog_21_method_2_code
def yX9_kind : MethodName := ⟨RX9, "kind", "()I"⟩
theorem dX9_kind_0 : decode cX9_kind 0 = .ok (.iconst 2, 1) := by decide +kernel
theorem dX9_kind_1 : decode cX9_kind 1 = .ok (.ireturn, 1) := by decide +kernel
abbrev cX9_climb : ByteArray := prog_21_method_3_code
def yX9_climb : MethodName := ⟨RX9, "climb", "(III)I"⟩
def dkwX9_climb_0 : List UInt8 := [42, 27, 28, 29, 183, 0, 9, 5, 108, 172]
abbrev dktX9_climb_0 : List UInt8 := dkwX9_climb_0 ++ []
theorem dksX9_climb_0 : cX9_climb.data.toList.drop 0 = dktX9_climb_0 := by decide +kernel
theorem dX9_climb_0 : decode cX9_climb 0 = .ok (.aload_n 0, 1) := dk_42 (dk_at dksX9_climb_0 0 rfl rfl)
theorem dX9_climb_1 : decode cX9_climb 1 = .ok (.iload_n 1, 1) := dk_27 (dk_at dksX9_climb_0 1 rfl rfl)
theorem dX9_climb_2 : decode cX9_climb 2 = .ok (.iload_n 2, 1) := dk_28 (dk_at dksX9_climb_0 2 rfl rfl)
theorem dX9_climb_3 : decode cX9_climb 3 = .ok (.iload_n 3, 1) := dk_29 (dk_at dksX9_climb_0 3 rfl rfl)
theorem dX9_climb_4 : decode cX9_climb 4 = .ok (.invokespecial 9, 3) := dk_183 0 9 (dk_at dksX9_climb_0 4 rfl rfl)
theorem dX9_climb_7 : decode cX9_climb 7 = .ok (.iconst 2, 1) := dk_5 (dk_at dksX9_climb_0 7 rfl rfl)
theorem dX9_climb_8 : decode cX9_climb 8 = .ok (.idiv, 1) := dk_108 (dk_at dksX9_climb_0 8 rfl rfl)
theorem dX9_climb_9 : decode cX9_climb 9 = .ok (.ireturn, 1) := dk_172 (dk_at dksX9_climb_0 9 rfl rfl)
abbrev cX9_turns : ByteArray := prog_21_method_4_code
def yX9_turns : MethodName := ⟨RX9, "turns", "(I)I"⟩
def dkwX9_turns_0 : List UInt8 := [42, 180, 0, 13, 16, 30, 182, 0, 19, 42, 27, 6, 104, 183, 0, 25, 172]
abbrev dktX9_turns_0 : List UInt8 := dkwX9_turns_0 ++ []
theorem dksX9_turns_0 : cX9_turns.data.toList.drop 0 = dktX9_turns_0 := by decide +kernel
theorem dX9_turns_0 : decode cX9_turns 0 = .ok (.aload_n 0, 1) := dk_42 (dk_at dksX9_turns_0 0 rfl rfl)
theorem dX9_turns_1 : decode cX9_turns 1 = .ok (.getfield 13, 3) := dk_180 0 13 (dk_at dksX9_turns_0 1 rfl rfl)
theorem dX9_turns_4 : decode cX9_turns 4 = .ok (.bipush 30, 2) := dk_16 30 (dk_at dksX9_turns_0 4 rfl rfl)
theorem dX9_turns_6 : decode cX9_turns 6 = .ok (.invokevirtual 19, 3) := dk_182 0 19 (dk_at dksX9_turns_0 6 rfl rfl)
theorem dX9_turns_9 : decode cX9_turns 9 = .ok (.aload_n 0, 1) := dk_42 (dk_at dksX9_turns_0 9 rfl rfl)
theorem dX9_turns_10 : decode cX9_turns 10 = .ok (.iload_n 1, 1) := dk_27 (dk_at dksX9_turns_0 10 rfl rfl)
theorem dX9_turns_11 : decode cX9_turns 11 = .ok (.iconst 3, 1) := dk_6 (dk_at dksX9_turns_0 11 rfl rfl)
theorem dX9_turns_12 : decode cX9_turns 12 = .ok (.imul, 1) := dk_104 (dk_at dksX9_turns_0 12 rfl rfl)
theorem dX9_turns_13 : decode cX9_turns 13 = .ok (.invokespecial 25, 3) := dk_183 0 25 (dk_at dksX9_turns_0 13 rfl rfl)
theorem dX9_turns_16 : decode cX9_turns 16 = .ok (.ireturn, 1) := dk_172 (dk_at dksX9_turns_0 16 rfl rfl)
theorem q99 : (Jvm.Cond.initialized "SomebodysLift$Weak") ∈ lw_all := lw_g (lw_at lw_m1 13 rfl) rfl
theorem q417 : (Jvm.Cond.fieldLink "SomebodysLift$Weak" (13 : Nat) "SomebodysLift$Weak" "trace" "LSomebodysLift$Trace;") ∈ lw_all := lw_g (lw_at lw_m2 91 rfl) rfl
theorem q418 : (Jvm.Cond.sameField "SomebodysLift$Weak" "SomebodysLift$Lift" "trace" "LSomebodysLift$Trace;") ∈ lw_all := lw_g (lw_at lw_m2 92 rfl) rfl
theorem q454 : (Jvm.Cond.instantiable "SomebodysLift$Weak" (4 : Nat)) ∈ lw_all := lw_g (lw_at lw_m2 128 rfl) rfl
theorem q456 : (Jvm.Cond.instanceMethod ({ cls := "SomebodysLift$Weak", name := "<init>", desc := "(LSomebodysLift$Trace;III)V" } : Jvm.MethodName)) ∈ lw_all := lw_g (lw_at lw_m2 130 rfl) rfl
theorem q457 : (Jvm.Cond.code ({ cls := "SomebodysLift$Weak", name := "<init>", desc := "(LSomebodysLift$Trace;III)V" } : Jvm.MethodName) prog_21_method_1_code (5 : Nat) (Option.none : Option Jvm.ClassFile.FieldType)) ∈ lw_all := lw_g (lw_at lw_m2 131 rfl) rfl
theorem q458 : (Jvm.Cond.methodLink "SomebodysLift$Weak" (3 : Nat) ({ cls := "SomebodysLift$Lift", name := "<init>", desc := "(LSomebodysLift$Trace;III)V" } : Jvm.MethodName)) ∈ lw_all := lw_g (lw_at lw_m2 132 rfl) rfl
theorem q459 : (Jvm.Cond.laysFinal "SomebodysLift$Weak" "SomebodysLift$Lift" "trace" "LSomebodysLift$Trace;") ∈ lw_all := lw_g (lw_at lw_m2 133 rfl) rfl
theorem q460 : (Jvm.Cond.laysFinal "SomebodysLift$Weak" "SomebodysLift$Lift" "number" "I") ∈ lw_all := lw_g (lw_at lw_m2 134 rfl) rfl
theorem q461 : (Jvm.Cond.laysFinal "SomebodysLift$Weak" "SomebodysLift$Lift" "v" "I") ∈ lw_all := lw_g (lw_at lw_m2 135 rfl) rfl
theorem q462 : (Jvm.Cond.laysFinal "SomebodysLift$Weak" "SomebodysLift$Lift" "mile" "I") ∈ lw_all := lw_g (lw_at lw_m2 136 rfl) rfl
theorem q463 : (Jvm.Cond.superclass "SomebodysLift$Weak" "SomebodysLift$Lift") ∈ lw_all := lw_g (lw_at lw_m2 137 rfl) rfl
theorem q545 : (Jvm.Cond.selects "SomebodysLift$Weak" ({ cls := "SomebodysLift$Lift", name := "kind", desc := "()I" } : Jvm.MethodName) ({ cls := "SomebodysLift$Weak", name := "kind", desc := "()I" } : Jvm.MethodName)) ∈ lw_all := lw_g (lw_at lw_m2 219 rfl) rfl
theorem q546 : (Jvm.Cond.instanceMethod ({ cls := "SomebodysLift$Weak", name := "kind", desc := "()I" } : Jvm.MethodName)) ∈ lw_all := lw_g (lw_at lw_m2 220 rfl) rfl
theorem q547 : (Jvm.Cond.code ({ cls := "SomebodysLift$Weak", name := "kind", desc := "()I" } : Jvm.MethodName) prog_21_method_2_code (1 : Nat) (Option.some Jvm.ClassFile.FieldType.int)) ∈ lw_all := lw_g (lw_at lw_m2 221 rfl) rfl
theorem q628 : (Jvm.Cond.instanceMethod ({ cls := "SomebodysLift$Weak", name := "climb", desc := "(III)I" } : Jvm.MethodName)) ∈ lw_all := lw_g (lw_at lw_m3 62 rfl) rfl
theorem q629 : (Jvm.Cond.code ({ cls := "SomebodysLift$Weak", name := "climb", desc := "(III)I" } : Jvm.MethodName) prog_21_method_3_code (4 : Nat) (Option.some Jvm.ClassFile.FieldType.int)) ∈ lw_all := lw_g (lw_at lw_m3 63 rfl) rfl
theorem q630 : (Jvm.Cond.methodLink "SomebodysLift$Weak" (9 : Nat) ({ cls := "SomebodysLift$Lift", name := "climb", desc := "(III)I" } : Jvm.MethodName)) ∈ lw_all := lw_g (lw_at lw_m3 64 rfl) rfl
theorem q631 : (Jvm.Cond.selects "SomebodysLift$Weak" ({ cls := "SomebodysLift$Lift", name := "climb", desc := "(III)I" } : Jvm.MethodName) ({ cls := "SomebodysLift$Weak", name := "climb", desc := "(III)I" } : Jvm.MethodName)) ∈ lw_all := lw_g (lw_at lw_m3 65 rfl) rfl
theorem q951 : (Jvm.Cond.selects "SomebodysLift$Weak" ({ cls := "java/lang/Object", name := "getClass", desc := "()Ljava/lang/Class;" } : Jvm.MethodName) ({ cls := "java/lang/Object", name := "getClass", desc := "()Ljava/lang/Class;" } : Jvm.MethodName)) ∈ lw_all := lw_g (lw_at lw_m4 145 rfl) rfl
theorem q1277 : (Jvm.Cond.instanceMethod ({ cls := "SomebodysLift$Weak", name := "turns", desc := "(I)I" } : Jvm.MethodName)) ∈ lw_all := lw_g (lw_at lw_m5 231 rfl) rfl
theorem q1278 : (Jvm.Cond.code ({ cls := "SomebodysLift$Weak", name := "turns", desc := "(I)I" } : Jvm.MethodName) prog_21_method_4_code (2 : Nat) (Option.some Jvm.ClassFile.FieldType.int)) ∈ lw_all := lw_g (lw_at lw_m5 232 rfl) rfl
theorem q1279 : (Jvm.Cond.methodLink "SomebodysLift$Weak" (19 : Nat) ({ cls := "SomebodysLift$Trace", name := "ran", desc := "(I)V" } : Jvm.MethodName)) ∈ lw_all := lw_g (lw_at lw_m5 233 rfl) rfl
theorem q1280 : (Jvm.Cond.methodLink "SomebodysLift$Weak" (25 : Nat) ({ cls := "SomebodysLift$Lift", name := "turns", desc := "(I)I" } : Jvm.MethodName)) ∈ lw_all := lw_g (lw_at lw_m5 234 rfl) rfl
theorem q1281 : (Jvm.Cond.selects "SomebodysLift$Weak" ({ cls := "SomebodysLift$Lift", name := "turns", desc := "(I)I" } : Jvm.MethodName) ({ cls := "SomebodysLift$Weak", name := "turns", desc := "(I)I" } : Jvm.MethodName)) ∈ lw_all := lw_g (lw_at lw_m5 235 rfl) rfl
theorem q1305 : (Jvm.Cond.selects "SomebodysLift$Weak" ({ cls := "SomebodysLift$Lift", name := "climbs", desc := "(I)I" } : Jvm.MethodName) ({ cls := "SomebodysLift$Lift", name := "climbs", desc := "(I)I" } : Jvm.MethodName)) ∈ lw_all := lw_g (lw_at lw_m6 19 rfl) rfl
theorem q1328 : (Jvm.Cond.sameMethod "SomebodysLift$Weak" "SomebodysLift$Lift" "tells" "(I)I") ∈ lw_all := lw_g (lw_at lw_m6 42 rfl) rfl
theorem q1330 : (Jvm.Cond.selects "SomebodysLift$Weak" ({ cls := "SomebodysLift$Lift", name := "tells", desc := "(I)I" } : Jvm.MethodName) ({ cls := "SomebodysLift$Lift", name := "tells", desc := "(I)I" } : Jvm.MethodName)) ∈ lw_all := lw_g (lw_at lw_m6 44 rfl) rfl
theorem q2050 : (Jvm.Cond.sameMethod "SomebodysLift$Weak" "SomebodysLift$Weak" "climb" "(III)I") ∈ lw_all := lw_g (lw_at lw_m9 44 rfl) rfl
theorem q2062 : (Jvm.Cond.castable "SomebodysLift$Weak" "SomebodysLift$Lift") ∈ lw_tbl := lw_at lw_m9 56 rfl
theorem q2076 : (Jvm.Cond.castable "SomebodysLift$Weak" "java/lang/Object") ∈ lw_tbl := lw_at lw_m9 70 rfl
theorem in_X9 : ∀ w ∈ wsX90, w ∈ lw_all := lw_in wsX90 [459, 460, 461, 462] (by decide +kernel) (by decide +kernel)

/-! SomebodysLift$Late -/
set_option maxRecDepth 100000
def RX10 : String := "SomebodysLift$Late"
def TX10 : u_T := fun k => match k with
  | 0 => ("SomebodysLift$Lift", "trace", "LSomebodysLift$Trace;", true)
  | 1 => ("SomebodysLift$Lift", "number", "I", true)
  | 2 => ("SomebodysLift$Lift", "v", "I", true)
  | _ => ("SomebodysLift$Lift", "mile", "I", true)
def tyX10 : Nat → FieldType := fun k => match k with
  | 0 => .object "SomebodysLift$Trace"
  | 1 => .int
  | 2 => .int
  | _ => .int
abbrev wsX100 : List Cond := u_ws RX10 TX10 4
theorem nmX10 : ∀ a, a < 4 → ∀ b, b < 4 → a ≠ b → (TX10 a).2.1 ≠ (TX10 b).2.1 := by decide +kernel
theorem tyX10_ok : ∀ k, k < 4 → parseFieldDescriptor (TX10 k).2.2.1 = some (tyX10 k) := by decide +kernel
abbrev cX10_init : ByteArray := prog_6_method_1_code
def yX10_init : MethodName := ⟨RX10, "<init>", "(LSomebodysLift$Trace;III)V"⟩
def dkwX10_init_0 : List UInt8 := [42, 43, 28, 29, 21, 4, 183, 0, 3, 177]
abbrev dktX10_init_0 : List UInt8 := dkwX10_init_0 ++ []
theorem dksX10_init_0 : cX10_init.data.toList.drop 0 = dktX10_init_0 := by decide +kernel
theorem dX10_init_0 : decode cX10_init 0 = .ok (.aload_n 0, 1) := dk_42 (dk_at dksX10_init_0 0 rfl rfl)
theorem dX10_init_1 : decode cX10_init 1 = .ok (.aload_n 1, 1) := dk_43 (dk_at dksX10_init_0 1 rfl rfl)
theorem dX10_init_2 : decode cX10_init 2 = .ok (.iload_n 2, 1) := dk_28 (dk_at dksX10_init_0 2 rfl rfl)
theorem dX10_init_3 : decode cX10_init 3 = .ok (.iload_n 3, 1) := dk_29 (dk_at dksX10_init_0 3 rfl rfl)
theorem dX10_init_4 : decode cX10_init 4 = .ok (.iload 4, 2) := dk_21 4 (dk_at dksX10_init_0 4 rfl rfl)
theorem dX10_init_6 : decode cX10_init 6 = .ok (.invokespecial 3, 3) := dk_183 0 3 (dk_at dksX10_init_0 6 rfl rfl)
theorem dX10_init_9 : decode cX10_init 9 = .ok (.return_, 1) := dk_177 (dk_at dksX10_init_0 9 rfl rfl)
abbrev cX10_kind : ByteArray := prog_6_method_2_code
def yX10_kind : MethodName := ⟨RX10, "kind", "()I"⟩
theorem dX10_kind_0 : decode cX10_kind 0 = .ok (.iconst 3, 1) := by decide +kernel
theorem dX10_kind_1 : decode cX10_kind 1 = .ok (.ireturn, 1) := by decide +kernel
abbrev cX10_climb : ByteArray := prog_6_method_3_code
def yX10_climb : MethodName := ⟨RX10, "climb", "(III)I"⟩
def dkwX10_climb_0 : List UInt8 := [29, 16, 100, 161, 0, 8, 16, 254, 167, 0, 10, 42, 27, 28, 29, 183, 0, 9, 172]
abbrev dktX10_climb_0 : List UInt8 := dkwX10_climb_0 ++ []
theorem dksX10_climb_0 : cX10_climb.data.toList.drop 0 = dktX10_climb_0 := by decide +kernel
theorem dX10_climb_0 : decode cX10_climb 0 = .ok (.iload_n 3, 1) := dk_29 (dk_at dksX10_climb_0 0 rfl rfl)
theorem dX10_climb_1 : decode cX10_climb 1 = .ok (.bipush 100, 2) := dk_16 100 (dk_at dksX10_climb_0 1 rfl rfl)
theorem dX10_climb_3 : decode cX10_climb 3 = .ok (.if_icmp .lt 8, 3) := dk_161 0 8 (dk_at dksX10_climb_0 3 rfl rfl)
theorem dX10_climb_6 : decode cX10_climb 6 = .ok (.bipush (-2), 2) := dk_16 254 (dk_at dksX10_climb_0 6 rfl rfl)
theorem dX10_climb_8 : decode cX10_climb 8 = .ok (.goto 10, 3) := dk_167 0 10 (dk_at dksX10_climb_0 8 rfl rfl)
theorem dX10_climb_11 : decode cX10_climb 11 = .ok (.aload_n 0, 1) := dk_42 (dk_at dksX10_climb_0 11 rfl rfl)
theorem dX10_climb_12 : decode cX10_climb 12 = .ok (.iload_n 1, 1) := dk_27 (dk_at dksX10_climb_0 12 rfl rfl)
theorem dX10_climb_13 : decode cX10_climb 13 = .ok (.iload_n 2, 1) := dk_28 (dk_at dksX10_climb_0 13 rfl rfl)
theorem dX10_climb_14 : decode cX10_climb 14 = .ok (.iload_n 3, 1) := dk_29 (dk_at dksX10_climb_0 14 rfl rfl)
theorem dX10_climb_15 : decode cX10_climb 15 = .ok (.invokespecial 9, 3) := dk_183 0 9 (dk_at dksX10_climb_0 15 rfl rfl)
theorem dX10_climb_18 : decode cX10_climb 18 = .ok (.ireturn, 1) := dk_172 (dk_at dksX10_climb_0 18 rfl rfl)
abbrev cX10_tells : ByteArray := prog_6_method_4_code
def yX10_tells : MethodName := ⟨RX10, "tells", "(I)I"⟩
def dkwX10_tells_0 : List UInt8 := [42, 180, 0, 13, 16, 40, 182, 0, 19, 42, 27, 183, 0, 25, 61, 28, 42, 4, 182, 0, 29, 96, 172]
abbrev dktX10_tells_0 : List UInt8 := dkwX10_tells_0 ++ []
theorem dksX10_tells_0 : cX10_tells.data.toList.drop 0 = dktX10_tells_0 := by decide +kernel
theorem dX10_tells_0 : decode cX10_tells 0 = .ok (.aload_n 0, 1) := dk_42 (dk_at dksX10_tells_0 0 rfl rfl)
theorem dX10_tells_1 : decode cX10_tells 1 = .ok (.getfield 13, 3) := dk_180 0 13 (dk_at dksX10_tells_0 1 rfl rfl)
theorem dX10_tells_4 : decode cX10_tells 4 = .ok (.bipush 40, 2) := dk_16 40 (dk_at dksX10_tells_0 4 rfl rfl)
theorem dX10_tells_6 : decode cX10_tells 6 = .ok (.invokevirtual 19, 3) := dk_182 0 19 (dk_at dksX10_tells_0 6 rfl rfl)
theorem dX10_tells_9 : decode cX10_tells 9 = .ok (.aload_n 0, 1) := dk_42 (dk_at dksX10_tells_0 9 rfl rfl)
theorem dX10_tells_10 : decode cX10_tells 10 = .ok (.iload_n 1, 1) := dk_27 (dk_at dksX10_tells_0 10 rfl rfl)
theorem dX10_tells_11 : decode cX10_tells 11 = .ok (.invokespecial 25, 3) := dk_183 0 25 (dk_at dksX10_tells_0 11 rfl rfl)
theorem dX10_tells_14 : decode cX10_tells 14 = .ok (.istore_n 2, 1) := dk_61 (dk_at dksX10_tells_0 14 rfl rfl)
theorem dX10_tells_15 : decode cX10_tells 15 = .ok (.iload_n 2, 1) := dk_28 (dk_at dksX10_tells_0 15 rfl rfl)
theorem dX10_tells_16 : decode cX10_tells 16 = .ok (.aload_n 0, 1) := dk_42 (dk_at dksX10_tells_0 16 rfl rfl)
theorem dX10_tells_17 : decode cX10_tells 17 = .ok (.iconst 1, 1) := dk_4 (dk_at dksX10_tells_0 17 rfl rfl)
theorem dX10_tells_18 : decode cX10_tells 18 = .ok (.invokevirtual 29, 3) := dk_182 0 29 (dk_at dksX10_tells_0 18 rfl rfl)
theorem dX10_tells_21 : decode cX10_tells 21 = .ok (.iadd, 1) := dk_96 (dk_at dksX10_tells_0 21 rfl rfl)
theorem dX10_tells_22 : decode cX10_tells 22 = .ok (.ireturn, 1) := dk_172 (dk_at dksX10_tells_0 22 rfl rfl)
theorem q100 : (Jvm.Cond.initialized "SomebodysLift$Late") ∈ lw_all := lw_g (lw_at lw_m1 14 rfl) rfl
theorem q423 : (Jvm.Cond.fieldLink "SomebodysLift$Late" (13 : Nat) "SomebodysLift$Late" "trace" "LSomebodysLift$Trace;") ∈ lw_all := lw_g (lw_at lw_m2 97 rfl) rfl
theorem q424 : (Jvm.Cond.sameField "SomebodysLift$Late" "SomebodysLift$Lift" "trace" "LSomebodysLift$Trace;") ∈ lw_all := lw_g (lw_at lw_m2 98 rfl) rfl
theorem q465 : (Jvm.Cond.instantiable "SomebodysLift$Late" (4 : Nat)) ∈ lw_all := lw_g (lw_at lw_m2 139 rfl) rfl
theorem q467 : (Jvm.Cond.instanceMethod ({ cls := "SomebodysLift$Late", name := "<init>", desc := "(LSomebodysLift$Trace;III)V" } : Jvm.MethodName)) ∈ lw_all := lw_g (lw_at lw_m2 141 rfl) rfl
theorem q468 : (Jvm.Cond.code ({ cls := "SomebodysLift$Late", name := "<init>", desc := "(LSomebodysLift$Trace;III)V" } : Jvm.MethodName) prog_6_method_1_code (5 : Nat) (Option.none : Option Jvm.ClassFile.FieldType)) ∈ lw_all := lw_g (lw_at lw_m2 142 rfl) rfl
theorem q469 : (Jvm.Cond.methodLink "SomebodysLift$Late" (3 : Nat) ({ cls := "SomebodysLift$Lift", name := "<init>", desc := "(LSomebodysLift$Trace;III)V" } : Jvm.MethodName)) ∈ lw_all := lw_g (lw_at lw_m2 143 rfl) rfl
theorem q470 : (Jvm.Cond.laysFinal "SomebodysLift$Late" "SomebodysLift$Lift" "trace" "LSomebodysLift$Trace;") ∈ lw_all := lw_g (lw_at lw_m2 144 rfl) rfl
theorem q471 : (Jvm.Cond.laysFinal "SomebodysLift$Late" "SomebodysLift$Lift" "number" "I") ∈ lw_all := lw_g (lw_at lw_m2 145 rfl) rfl
theorem q472 : (Jvm.Cond.laysFinal "SomebodysLift$Late" "SomebodysLift$Lift" "v" "I") ∈ lw_all := lw_g (lw_at lw_m2 146 rfl) rfl
theorem q473 : (Jvm.Cond.laysFinal "SomebodysLift$Late" "SomebodysLift$Lift" "mile" "I") ∈ lw_all := lw_g (lw_at lw_m2 147 rfl) rfl
theorem q474 : (Jvm.Cond.superclass "SomebodysLift$Late" "SomebodysLift$Lift") ∈ lw_all := lw_g (lw_at lw_m2 148 rfl) rfl
theorem q533 : (Jvm.Cond.selects "SomebodysLift$Late" ({ cls := "SomebodysLift$Lift", name := "kind", desc := "()I" } : Jvm.MethodName) ({ cls := "SomebodysLift$Late", name := "kind", desc := "()I" } : Jvm.MethodName)) ∈ lw_all := lw_g (lw_at lw_m2 207 rfl) rfl
theorem q534 : (Jvm.Cond.instanceMethod ({ cls := "SomebodysLift$Late", name := "kind", desc := "()I" } : Jvm.MethodName)) ∈ lw_all := lw_g (lw_at lw_m2 208 rfl) rfl
theorem q535 : (Jvm.Cond.code ({ cls := "SomebodysLift$Late", name := "kind", desc := "()I" } : Jvm.MethodName) prog_6_method_2_code (1 : Nat) (Option.some Jvm.ClassFile.FieldType.int)) ∈ lw_all := lw_g (lw_at lw_m2 209 rfl) rfl
theorem q615 : (Jvm.Cond.selects "SomebodysLift$Late" ({ cls := "SomebodysLift$Lift", name := "climb", desc := "(III)I" } : Jvm.MethodName) ({ cls := "SomebodysLift$Late", name := "climb", desc := "(III)I" } : Jvm.MethodName)) ∈ lw_all := lw_g (lw_at lw_m3 49 rfl) rfl
theorem q616 : (Jvm.Cond.instanceMethod ({ cls := "SomebodysLift$Late", name := "climb", desc := "(III)I" } : Jvm.MethodName)) ∈ lw_all := lw_g (lw_at lw_m3 50 rfl) rfl
theorem q617 : (Jvm.Cond.code ({ cls := "SomebodysLift$Late", name := "climb", desc := "(III)I" } : Jvm.MethodName) prog_6_method_3_code (4 : Nat) (Option.some Jvm.ClassFile.FieldType.int)) ∈ lw_all := lw_g (lw_at lw_m3 51 rfl) rfl
theorem q618 : (Jvm.Cond.methodLink "SomebodysLift$Late" (9 : Nat) ({ cls := "SomebodysLift$Lift", name := "climb", desc := "(III)I" } : Jvm.MethodName)) ∈ lw_all := lw_g (lw_at lw_m3 52 rfl) rfl
theorem q938 : (Jvm.Cond.selects "SomebodysLift$Late" ({ cls := "java/lang/Object", name := "getClass", desc := "()Ljava/lang/Class;" } : Jvm.MethodName) ({ cls := "java/lang/Object", name := "getClass", desc := "()Ljava/lang/Class;" } : Jvm.MethodName)) ∈ lw_all := lw_g (lw_at lw_m4 132 rfl) rfl
theorem q1268 : (Jvm.Cond.selects "SomebodysLift$Late" ({ cls := "SomebodysLift$Lift", name := "turns", desc := "(I)I" } : Jvm.MethodName) ({ cls := "SomebodysLift$Lift", name := "turns", desc := "(I)I" } : Jvm.MethodName)) ∈ lw_all := lw_g (lw_at lw_m5 222 rfl) rfl
theorem q1275 : (Jvm.Cond.sameMethod "SomebodysLift$Late" "SomebodysLift$Lift" "turns" "(I)I") ∈ lw_all := lw_g (lw_at lw_m5 229 rfl) rfl
theorem q1296 : (Jvm.Cond.selects "SomebodysLift$Late" ({ cls := "SomebodysLift$Lift", name := "climbs", desc := "(I)I" } : Jvm.MethodName) ({ cls := "SomebodysLift$Lift", name := "climbs", desc := "(I)I" } : Jvm.MethodName)) ∈ lw_all := lw_g (lw_at lw_m6 10 rfl) rfl
theorem q1302 : (Jvm.Cond.sameMethod "SomebodysLift$Late" "SomebodysLift$Lift" "climbs" "(I)I") ∈ lw_all := lw_g (lw_at lw_m6 16 rfl) rfl
theorem q1313 : (Jvm.Cond.selects "SomebodysLift$Late" ({ cls := "SomebodysLift$Lift", name := "tells", desc := "(I)I" } : Jvm.MethodName) ({ cls := "SomebodysLift$Late", name := "tells", desc := "(I)I" } : Jvm.MethodName)) ∈ lw_all := lw_g (lw_at lw_m6 27 rfl) rfl
theorem q1314 : (Jvm.Cond.instanceMethod ({ cls := "SomebodysLift$Late", name := "tells", desc := "(I)I" } : Jvm.MethodName)) ∈ lw_all := lw_g (lw_at lw_m6 28 rfl) rfl
theorem q1315 : (Jvm.Cond.code ({ cls := "SomebodysLift$Late", name := "tells", desc := "(I)I" } : Jvm.MethodName) prog_6_method_4_code (3 : Nat) (Option.some Jvm.ClassFile.FieldType.int)) ∈ lw_all := lw_g (lw_at lw_m6 29 rfl) rfl
theorem q1316 : (Jvm.Cond.methodLink "SomebodysLift$Late" (19 : Nat) ({ cls := "SomebodysLift$Trace", name := "ran", desc := "(I)V" } : Jvm.MethodName)) ∈ lw_all := lw_g (lw_at lw_m6 30 rfl) rfl
theorem q1317 : (Jvm.Cond.methodLink "SomebodysLift$Late" (25 : Nat) ({ cls := "SomebodysLift$Lift", name := "tells", desc := "(I)I" } : Jvm.MethodName)) ∈ lw_all := lw_g (lw_at lw_m6 31 rfl) rfl
theorem q1318 : (Jvm.Cond.methodLink "SomebodysLift$Late" (29 : Nat) ({ cls := "SomebodysLift$Late", name := "climbs", desc := "(I)I" } : Jvm.MethodName)) ∈ lw_all := lw_g (lw_at lw_m6 32 rfl) rfl
theorem q1319 : (Jvm.Cond.selects "SomebodysLift$Late" ({ cls := "SomebodysLift$Late", name := "climbs", desc := "(I)I" } : Jvm.MethodName) ({ cls := "SomebodysLift$Lift", name := "climbs", desc := "(I)I" } : Jvm.MethodName)) ∈ lw_all := lw_g (lw_at lw_m6 33 rfl) rfl
theorem q2049 : (Jvm.Cond.sameMethod "SomebodysLift$Late" "SomebodysLift$Late" "climb" "(III)I") ∈ lw_all := lw_g (lw_at lw_m9 43 rfl) rfl
theorem q2058 : (Jvm.Cond.castable "SomebodysLift$Late" "SomebodysLift$Lift") ∈ lw_tbl := lw_at lw_m9 52 rfl
theorem q2077 : (Jvm.Cond.castable "SomebodysLift$Late" "java/lang/Object") ∈ lw_tbl := lw_at lw_m9 71 rfl
theorem in_X10 : ∀ w ∈ wsX100, w ∈ lw_all := lw_in wsX100 [470, 471, 472, 473] (by decide +kernel) (by decide +kernel)

/-! SomebodysLift$Capped -/
set_option maxRecDepth 100000
def RX11 : String := "SomebodysLift$Capped"
def TX11 : u_T := fun k => match k with
  | 0 => ("SomebodysLift$Lift", "trace", "LSomebodysLift$Trace;", true)
  | 1 => ("SomebodysLift$Lift", "number", "I", true)
  | 2 => ("SomebodysLift$Lift", "v", "I", true)
  | _ => ("SomebodysLift$Lift", "mile", "I", true)
def tyX11 : Nat → FieldType := fun k => match k with
  | 0 => .object "SomebodysLift$Trace"
  | 1 => .int
  | 2 => .int
  | _ => .int
abbrev wsX110 : List Cond := u_ws RX11 TX11 4
theorem nmX11 : ∀ a, a < 4 → ∀ b, b < 4 → a ≠ b → (TX11 a).2.1 ≠ (TX11 b).2.1 := by decide +kernel
theorem tyX11_ok : ∀ k, k < 4 → parseFieldDescriptor (TX11 k).2.2.1 = some (tyX11 k) := by decide +kernel
abbrev cX11_init : ByteArray := prog_4_method_1_code
def yX11_init : MethodName := ⟨RX11, "<init>", "(LSomebodysLift$Trace;III)V"⟩
def dkwX11_init_0 : List UInt8 := [42, 43, 28, 29, 21, 4, 183, 0, 3, 177]
abbrev dktX11_init_0 : List UInt8 := dkwX11_init_0 ++ []
theorem dksX11_init_0 : cX11_init.data.toList.drop 0 = dktX11_init_0 := by decide +kernel
theorem dX11_init_0 : decode cX11_init 0 = .ok (.aload_n 0, 1) := dk_42 (dk_at dksX11_init_0 0 rfl rfl)
theorem dX11_init_1 : decode cX11_init 1 = .ok (.aload_n 1, 1) := dk_43 (dk_at dksX11_init_0 1 rfl rfl)
theorem dX11_init_2 : decode cX11_init 2 = .ok (.iload_n 2, 1) := dk_28 (dk_at dksX11_init_0 2 rfl rfl)
theorem dX11_init_3 : decode cX11_init 3 = .ok (.iload_n 3, 1) := dk_29 (dk_at dksX11_init_0 3 rfl rfl)
theorem dX11_init_4 : decode cX11_init 4 = .ok (.iload 4, 2) := dk_21 4 (dk_at dksX11_init_0 4 rfl rfl)
theorem dX11_init_6 : decode cX11_init 6 = .ok (.invokespecial 3, 3) := dk_183 0 3 (dk_at dksX11_init_0 6 rfl rfl)
theorem dX11_init_9 : decode cX11_init 9 = .ok (.return_, 1) := dk_177 (dk_at dksX11_init_0 9 rfl rfl)
abbrev cX11_kind : ByteArray := prog_4_method_2_code
def yX11_kind : MethodName := ⟨RX11, "kind", "()I"⟩
theorem dX11_kind_0 : decode cX11_kind 0 = .ok (.iconst 4, 1) := by decide +kernel
theorem dX11_kind_1 : decode cX11_kind 1 = .ok (.ireturn, 1) := by decide +kernel
abbrev cX11_climb : ByteArray := prog_4_method_3_code
def yX11_climb : MethodName := ⟨RX11, "climb", "(III)I"⟩
def dkwX11_climb_0 : List UInt8 := [28, 16, 40, 42, 180, 0, 9, 104, 164, 0, 7, 3, 167, 0, 10, 42, 27, 28, 29, 183, 0, 15, 172]
abbrev dktX11_climb_0 : List UInt8 := dkwX11_climb_0 ++ []
theorem dksX11_climb_0 : cX11_climb.data.toList.drop 0 = dktX11_climb_0 := by decide +kernel
theorem dX11_climb_0 : decode cX11_climb 0 = .ok (.iload_n 2, 1) := dk_28 (dk_at dksX11_climb_0 0 rfl rfl)
theorem dX11_climb_1 : decode cX11_climb 1 = .ok (.bipush 40, 2) := dk_16 40 (dk_at dksX11_climb_0 1 rfl rfl)
theorem dX11_climb_3 : decode cX11_climb 3 = .ok (.aload_n 0, 1) := dk_42 (dk_at dksX11_climb_0 3 rfl rfl)
theorem dX11_climb_4 : decode cX11_climb 4 = .ok (.getfield 9, 3) := dk_180 0 9 (dk_at dksX11_climb_0 4 rfl rfl)
theorem dX11_climb_7 : decode cX11_climb 7 = .ok (.imul, 1) := dk_104 (dk_at dksX11_climb_0 7 rfl rfl)
theorem dX11_climb_8 : decode cX11_climb 8 = .ok (.if_icmp .le 7, 3) := dk_164 0 7 (dk_at dksX11_climb_0 8 rfl rfl)
theorem dX11_climb_11 : decode cX11_climb 11 = .ok (.iconst 0, 1) := dk_3 (dk_at dksX11_climb_0 11 rfl rfl)
theorem dX11_climb_12 : decode cX11_climb 12 = .ok (.goto 10, 3) := dk_167 0 10 (dk_at dksX11_climb_0 12 rfl rfl)
theorem dX11_climb_15 : decode cX11_climb 15 = .ok (.aload_n 0, 1) := dk_42 (dk_at dksX11_climb_0 15 rfl rfl)
theorem dX11_climb_16 : decode cX11_climb 16 = .ok (.iload_n 1, 1) := dk_27 (dk_at dksX11_climb_0 16 rfl rfl)
theorem dX11_climb_17 : decode cX11_climb 17 = .ok (.iload_n 2, 1) := dk_28 (dk_at dksX11_climb_0 17 rfl rfl)
theorem dX11_climb_18 : decode cX11_climb 18 = .ok (.iload_n 3, 1) := dk_29 (dk_at dksX11_climb_0 18 rfl rfl)
theorem dX11_climb_19 : decode cX11_climb 19 = .ok (.invokespecial 15, 3) := dk_183 0 15 (dk_at dksX11_climb_0 19 rfl rfl)
theorem dX11_climb_22 : decode cX11_climb 22 = .ok (.ireturn, 1) := dk_172 (dk_at dksX11_climb_0 22 rfl rfl)
abbrev cX11_turns : ByteArray := prog_4_method_4_code
def yX11_turns : MethodName := ⟨RX11, "turns", "(I)I"⟩
def dkwX11_turns_0 : List UInt8 := [42, 180, 0, 19, 16, 50, 182, 0, 23, 42, 27, 183, 0, 29, 116, 172]
abbrev dktX11_turns_0 : List UInt8 := dkwX11_turns_0 ++ []
theorem dksX11_turns_0 : cX11_turns.data.toList.drop 0 = dktX11_turns_0 := by decide +kernel
theorem dX11_turns_0 : decode cX11_turns 0 = .ok (.aload_n 0, 1) := dk_42 (dk_at dksX11_turns_0 0 rfl rfl)
theorem dX11_turns_1 : decode cX11_turns 1 = .ok (.getfield 19, 3) := dk_180 0 19 (dk_at dksX11_turns_0 1 rfl rfl)
theorem dX11_turns_4 : decode cX11_turns 4 = .ok (.bipush 50, 2) := dk_16 50 (dk_at dksX11_turns_0 4 rfl rfl)
theorem dX11_turns_6 : decode cX11_turns 6 = .ok (.invokevirtual 23, 3) := dk_182 0 23 (dk_at dksX11_turns_0 6 rfl rfl)
theorem dX11_turns_9 : decode cX11_turns 9 = .ok (.aload_n 0, 1) := dk_42 (dk_at dksX11_turns_0 9 rfl rfl)
theorem dX11_turns_10 : decode cX11_turns 10 = .ok (.iload_n 1, 1) := dk_27 (dk_at dksX11_turns_0 10 rfl rfl)
theorem dX11_turns_11 : decode cX11_turns 11 = .ok (.invokespecial 29, 3) := dk_183 0 29 (dk_at dksX11_turns_0 11 rfl rfl)
theorem dX11_turns_14 : decode cX11_turns 14 = .ok (.ineg, 1) := dk_116 (dk_at dksX11_turns_0 14 rfl rfl)
theorem dX11_turns_15 : decode cX11_turns 15 = .ok (.ireturn, 1) := dk_172 (dk_at dksX11_turns_0 15 rfl rfl)
abbrev cX11_climbs : ByteArray := prog_4_method_5_code
def yX11_climbs : MethodName := ⟨RX11, "climbs", "(I)I"⟩
def dkwX11_climbs_0 : List UInt8 := [42, 180, 0, 19, 16, 51, 182, 0, 23, 42, 27, 4, 96, 183, 0, 33, 172]
abbrev dktX11_climbs_0 : List UInt8 := dkwX11_climbs_0 ++ []
theorem dksX11_climbs_0 : cX11_climbs.data.toList.drop 0 = dktX11_climbs_0 := by decide +kernel
theorem dX11_climbs_0 : decode cX11_climbs 0 = .ok (.aload_n 0, 1) := dk_42 (dk_at dksX11_climbs_0 0 rfl rfl)
theorem dX11_climbs_1 : decode cX11_climbs 1 = .ok (.getfield 19, 3) := dk_180 0 19 (dk_at dksX11_climbs_0 1 rfl rfl)
theorem dX11_climbs_4 : decode cX11_climbs 4 = .ok (.bipush 51, 2) := dk_16 51 (dk_at dksX11_climbs_0 4 rfl rfl)
theorem dX11_climbs_6 : decode cX11_climbs 6 = .ok (.invokevirtual 23, 3) := dk_182 0 23 (dk_at dksX11_climbs_0 6 rfl rfl)
theorem dX11_climbs_9 : decode cX11_climbs 9 = .ok (.aload_n 0, 1) := dk_42 (dk_at dksX11_climbs_0 9 rfl rfl)
theorem dX11_climbs_10 : decode cX11_climbs 10 = .ok (.iload_n 1, 1) := dk_27 (dk_at dksX11_climbs_0 10 rfl rfl)
theorem dX11_climbs_11 : decode cX11_climbs 11 = .ok (.iconst 1, 1) := dk_4 (dk_at dksX11_climbs_0 11 rfl rfl)
theorem dX11_climbs_12 : decode cX11_climbs 12 = .ok (.iadd, 1) := dk_96 (dk_at dksX11_climbs_0 12 rfl rfl)
theorem dX11_climbs_13 : decode cX11_climbs 13 = .ok (.invokespecial 33, 3) := dk_183 0 33 (dk_at dksX11_climbs_0 13 rfl rfl)
theorem dX11_climbs_16 : decode cX11_climbs 16 = .ok (.ireturn, 1) := dk_172 (dk_at dksX11_climbs_0 16 rfl rfl)
theorem q101 : (Jvm.Cond.initialized "SomebodysLift$Capped") ∈ lw_all := lw_g (lw_at lw_m1 15 rfl) rfl
theorem q415 : (Jvm.Cond.fieldLink "SomebodysLift$Capped" (19 : Nat) "SomebodysLift$Capped" "trace" "LSomebodysLift$Trace;") ∈ lw_all := lw_g (lw_at lw_m2 89 rfl) rfl
theorem q416 : (Jvm.Cond.sameField "SomebodysLift$Capped" "SomebodysLift$Lift" "trace" "LSomebodysLift$Trace;") ∈ lw_all := lw_g (lw_at lw_m2 90 rfl) rfl
theorem q435 : (Jvm.Cond.fieldLink "SomebodysLift$Capped" (9 : Nat) "SomebodysLift$Capped" "v" "I") ∈ lw_all := lw_g (lw_at lw_m2 109 rfl) rfl
theorem q436 : (Jvm.Cond.sameField "SomebodysLift$Capped" "SomebodysLift$Lift" "v" "I") ∈ lw_all := lw_g (lw_at lw_m2 110 rfl) rfl
theorem q476 : (Jvm.Cond.instantiable "SomebodysLift$Capped" (4 : Nat)) ∈ lw_all := lw_g (lw_at lw_m2 150 rfl) rfl
theorem q478 : (Jvm.Cond.instanceMethod ({ cls := "SomebodysLift$Capped", name := "<init>", desc := "(LSomebodysLift$Trace;III)V" } : Jvm.MethodName)) ∈ lw_all := lw_g (lw_at lw_m2 152 rfl) rfl
theorem q479 : (Jvm.Cond.code ({ cls := "SomebodysLift$Capped", name := "<init>", desc := "(LSomebodysLift$Trace;III)V" } : Jvm.MethodName) prog_4_method_1_code (5 : Nat) (Option.none : Option Jvm.ClassFile.FieldType)) ∈ lw_all := lw_g (lw_at lw_m2 153 rfl) rfl
theorem q480 : (Jvm.Cond.methodLink "SomebodysLift$Capped" (3 : Nat) ({ cls := "SomebodysLift$Strong", name := "<init>", desc := "(LSomebodysLift$Trace;III)V" } : Jvm.MethodName)) ∈ lw_all := lw_g (lw_at lw_m2 154 rfl) rfl
theorem q481 : (Jvm.Cond.laysFinal "SomebodysLift$Capped" "SomebodysLift$Lift" "trace" "LSomebodysLift$Trace;") ∈ lw_all := lw_g (lw_at lw_m2 155 rfl) rfl
theorem q482 : (Jvm.Cond.laysFinal "SomebodysLift$Capped" "SomebodysLift$Lift" "number" "I") ∈ lw_all := lw_g (lw_at lw_m2 156 rfl) rfl
theorem q483 : (Jvm.Cond.laysFinal "SomebodysLift$Capped" "SomebodysLift$Lift" "v" "I") ∈ lw_all := lw_g (lw_at lw_m2 157 rfl) rfl
theorem q484 : (Jvm.Cond.laysFinal "SomebodysLift$Capped" "SomebodysLift$Lift" "mile" "I") ∈ lw_all := lw_g (lw_at lw_m2 158 rfl) rfl
theorem q485 : (Jvm.Cond.superclass "SomebodysLift$Capped" "SomebodysLift$Strong") ∈ lw_all := lw_g (lw_at lw_m2 159 rfl) rfl
theorem q530 : (Jvm.Cond.selects "SomebodysLift$Capped" ({ cls := "SomebodysLift$Lift", name := "kind", desc := "()I" } : Jvm.MethodName) ({ cls := "SomebodysLift$Capped", name := "kind", desc := "()I" } : Jvm.MethodName)) ∈ lw_all := lw_g (lw_at lw_m2 204 rfl) rfl
theorem q531 : (Jvm.Cond.instanceMethod ({ cls := "SomebodysLift$Capped", name := "kind", desc := "()I" } : Jvm.MethodName)) ∈ lw_all := lw_g (lw_at lw_m2 205 rfl) rfl
theorem q532 : (Jvm.Cond.code ({ cls := "SomebodysLift$Capped", name := "kind", desc := "()I" } : Jvm.MethodName) prog_4_method_2_code (1 : Nat) (Option.some Jvm.ClassFile.FieldType.int)) ∈ lw_all := lw_g (lw_at lw_m2 206 rfl) rfl
theorem q608 : (Jvm.Cond.selects "SomebodysLift$Capped" ({ cls := "SomebodysLift$Lift", name := "climb", desc := "(III)I" } : Jvm.MethodName) ({ cls := "SomebodysLift$Capped", name := "climb", desc := "(III)I" } : Jvm.MethodName)) ∈ lw_all := lw_g (lw_at lw_m3 42 rfl) rfl
theorem q609 : (Jvm.Cond.instanceMethod ({ cls := "SomebodysLift$Capped", name := "climb", desc := "(III)I" } : Jvm.MethodName)) ∈ lw_all := lw_g (lw_at lw_m3 43 rfl) rfl
theorem q610 : (Jvm.Cond.code ({ cls := "SomebodysLift$Capped", name := "climb", desc := "(III)I" } : Jvm.MethodName) prog_4_method_3_code (4 : Nat) (Option.some Jvm.ClassFile.FieldType.int)) ∈ lw_all := lw_g (lw_at lw_m3 44 rfl) rfl
theorem q611 : (Jvm.Cond.methodLink "SomebodysLift$Capped" (15 : Nat) ({ cls := "SomebodysLift$Strong", name := "climb", desc := "(III)I" } : Jvm.MethodName)) ∈ lw_all := lw_g (lw_at lw_m3 45 rfl) rfl
theorem q936 : (Jvm.Cond.selects "SomebodysLift$Capped" ({ cls := "java/lang/Object", name := "getClass", desc := "()Ljava/lang/Class;" } : Jvm.MethodName) ({ cls := "java/lang/Object", name := "getClass", desc := "()Ljava/lang/Class;" } : Jvm.MethodName)) ∈ lw_all := lw_g (lw_at lw_m4 130 rfl) rfl
theorem q1258 : (Jvm.Cond.selects "SomebodysLift$Capped" ({ cls := "SomebodysLift$Lift", name := "turns", desc := "(I)I" } : Jvm.MethodName) ({ cls := "SomebodysLift$Capped", name := "turns", desc := "(I)I" } : Jvm.MethodName)) ∈ lw_all := lw_g (lw_at lw_m5 212 rfl) rfl
theorem q1259 : (Jvm.Cond.instanceMethod ({ cls := "SomebodysLift$Capped", name := "turns", desc := "(I)I" } : Jvm.MethodName)) ∈ lw_all := lw_g (lw_at lw_m5 213 rfl) rfl
theorem q1260 : (Jvm.Cond.code ({ cls := "SomebodysLift$Capped", name := "turns", desc := "(I)I" } : Jvm.MethodName) prog_4_method_4_code (2 : Nat) (Option.some Jvm.ClassFile.FieldType.int)) ∈ lw_all := lw_g (lw_at lw_m5 214 rfl) rfl
theorem q1261 : (Jvm.Cond.methodLink "SomebodysLift$Capped" (23 : Nat) ({ cls := "SomebodysLift$Trace", name := "ran", desc := "(I)V" } : Jvm.MethodName)) ∈ lw_all := lw_g (lw_at lw_m5 215 rfl) rfl
theorem q1265 : (Jvm.Cond.methodLink "SomebodysLift$Capped" (29 : Nat) ({ cls := "SomebodysLift$Strong", name := "turns", desc := "(I)I" } : Jvm.MethodName)) ∈ lw_all := lw_g (lw_at lw_m5 219 rfl) rfl
theorem q1288 : (Jvm.Cond.selects "SomebodysLift$Capped" ({ cls := "SomebodysLift$Lift", name := "climbs", desc := "(I)I" } : Jvm.MethodName) ({ cls := "SomebodysLift$Capped", name := "climbs", desc := "(I)I" } : Jvm.MethodName)) ∈ lw_all := lw_g (lw_at lw_m6 2 rfl) rfl
theorem q1289 : (Jvm.Cond.instanceMethod ({ cls := "SomebodysLift$Capped", name := "climbs", desc := "(I)I" } : Jvm.MethodName)) ∈ lw_all := lw_g (lw_at lw_m6 3 rfl) rfl
theorem q1290 : (Jvm.Cond.code ({ cls := "SomebodysLift$Capped", name := "climbs", desc := "(I)I" } : Jvm.MethodName) prog_4_method_5_code (2 : Nat) (Option.some Jvm.ClassFile.FieldType.int)) ∈ lw_all := lw_g (lw_at lw_m6 4 rfl) rfl
theorem q1291 : (Jvm.Cond.methodLink "SomebodysLift$Capped" (33 : Nat) ({ cls := "SomebodysLift$Strong", name := "climbs", desc := "(I)I" } : Jvm.MethodName)) ∈ lw_all := lw_g (lw_at lw_m6 5 rfl) rfl
theorem q1312 : (Jvm.Cond.selects "SomebodysLift$Capped" ({ cls := "SomebodysLift$Lift", name := "tells", desc := "(I)I" } : Jvm.MethodName) ({ cls := "SomebodysLift$Lift", name := "tells", desc := "(I)I" } : Jvm.MethodName)) ∈ lw_all := lw_g (lw_at lw_m6 26 rfl) rfl
theorem q2057 : (Jvm.Cond.castable "SomebodysLift$Capped" "SomebodysLift$Lift") ∈ lw_tbl := lw_at lw_m9 51 rfl
theorem q2063 : (Jvm.Cond.castable "SomebodysLift$Capped" "SomebodysLift$Strong") ∈ lw_tbl := lw_at lw_m9 57 rfl
theorem q2078 : (Jvm.Cond.castable "SomebodysLift$Capped" "java/lang/Object") ∈ lw_tbl := lw_at lw_m9 72 rfl
theorem in_X11 : ∀ w ∈ wsX110, w ∈ lw_all := lw_in wsX110 [481, 482, 483, 484] (by decide +kernel) (by decide +kernel)

/-! SomebodysLift$Wandering -/
set_option maxRecDepth 100000
def RX12 : String := "SomebodysLift$Wandering"
def TX12 : u_T := fun k => match k with
  | 0 => ("SomebodysLift$Lift", "trace", "LSomebodysLift$Trace;", true)
  | 1 => ("SomebodysLift$Lift", "number", "I", true)
  | 2 => ("SomebodysLift$Lift", "v", "I", true)
  | _ => ("SomebodysLift$Lift", "mile", "I", true)
def tyX12 : Nat → FieldType := fun k => match k with
  | 0 => .object "SomebodysLift$Trace"
  | 1 => .int
  | 2 => .int
  | _ => .int
abbrev wsX120 : List Cond := u_ws RX12 TX12 4
theorem nmX12 : ∀ a, a < 4 → ∀ b, b < 4 → a ≠ b → (TX12 a).2.1 ≠ (TX12 b).2.1 := by decide +kernel
theorem tyX12_ok : ∀ k, k < 4 → parseFieldDescriptor (TX12 k).2.2.1 = some (tyX12 k) := by decide +kernel
abbrev cX12_init : ByteArray := prog_20_method_1_code
def yX12_init : MethodName := ⟨RX12, "<init>", "(LSomebodysLift$Trace;III)V"⟩
def dkwX12_init_0 : List UInt8 := [42, 43, 28, 29, 21, 4, 183, 0, 3, 177]
abbrev dktX12_init_0 : List UInt8 := dkwX12_init_0 ++ []
theorem dksX12_init_0 : cX12_init.data.toList.drop 0 = dktX12_init_0 := by decide +kernel
theorem dX12_init_0 : decode cX12_init 0 = .ok (.aload_n 0, 1) := dk_42 (dk_at dksX12_init_0 0 rfl rfl)
theorem dX12_init_1 : decode cX12_init 1 = .ok (.aload_n 1, 1) := dk_43 (dk_at dksX12_init_0 1 rfl rfl)
theorem dX12_init_2 : decode cX12_init 2 = .ok (.iload_n 2, 1) := dk_28 (dk_at dksX12_init_0 2 rfl rfl)
theorem dX12_init_3 : decode cX12_init 3 = .ok (.iload_n 3, 1) := dk_29 (dk_at dksX12_init_0 3 rfl rfl)
theorem dX12_init_4 : decode cX12_init 4 = .ok (.iload 4, 2) := dk_21 4 (dk_at dksX12_init_0 4 rfl rfl)
theorem dX12_init_6 : decode cX12_init 6 = .ok (.invokespecial 3, 3) := dk_183 0 3 (dk_at dksX12_init_0 6 rfl rfl)
theorem dX12_init_9 : decode cX12_init 9 = .ok (.return_, 1) := dk_177 (dk_at dksX12_init_0 9 rfl rfl)
abbrev cX12_kind : ByteArray := prog_20_method_2_code
def yX12_kind : MethodName := ⟨RX12, "kind", "()I"⟩
theorem dX12_kind_0 : decode cX12_kind 0 = .ok (.iconst 5, 1) := by decide +kernel
theorem dX12_kind_1 : decode cX12_kind 1 = .ok (.ireturn, 1) := by decide +kernel
abbrev cX12_climb : ByteArray := prog_20_method_3_code
def yX12_climb : MethodName := ⟨RX12, "climb", "(III)I"⟩
def dkwX12_climb_0 : List UInt8 := [29, 42, 180, 0, 9, 5, 96, 112, 154, 0, 7, 2, 167, 0, 10, 42, 27, 28, 29, 183, 0, 15, 172]
abbrev dktX12_climb_0 : List UInt8 := dkwX12_climb_0 ++ []
theorem dksX12_climb_0 : cX12_climb.data.toList.drop 0 = dktX12_climb_0 := by decide +kernel
theorem dX12_climb_0 : decode cX12_climb 0 = .ok (.iload_n 3, 1) := dk_29 (dk_at dksX12_climb_0 0 rfl rfl)
theorem dX12_climb_1 : decode cX12_climb 1 = .ok (.aload_n 0, 1) := dk_42 (dk_at dksX12_climb_0 1 rfl rfl)
theorem dX12_climb_2 : decode cX12_climb 2 = .ok (.getfield 9, 3) := dk_180 0 9 (dk_at dksX12_climb_0 2 rfl rfl)
theorem dX12_climb_5 : decode cX12_climb 5 = .ok (.iconst 2, 1) := dk_5 (dk_at dksX12_climb_0 5 rfl rfl)
theorem dX12_climb_6 : decode cX12_climb 6 = .ok (.iadd, 1) := dk_96 (dk_at dksX12_climb_0 6 rfl rfl)
theorem dX12_climb_7 : decode cX12_climb 7 = .ok (.irem, 1) := dk_112 (dk_at dksX12_climb_0 7 rfl rfl)
theorem dX12_climb_8 : decode cX12_climb 8 = .ok (.ifCond .ne 7, 3) := dk_154 0 7 (dk_at dksX12_climb_0 8 rfl rfl)
theorem dX12_climb_11 : decode cX12_climb 11 = .ok (.iconst (-1), 1) := dk_2 (dk_at dksX12_climb_0 11 rfl rfl)
theorem dX12_climb_12 : decode cX12_climb 12 = .ok (.goto 10, 3) := dk_167 0 10 (dk_at dksX12_climb_0 12 rfl rfl)
theorem dX12_climb_15 : decode cX12_climb 15 = .ok (.aload_n 0, 1) := dk_42 (dk_at dksX12_climb_0 15 rfl rfl)
theorem dX12_climb_16 : decode cX12_climb 16 = .ok (.iload_n 1, 1) := dk_27 (dk_at dksX12_climb_0 16 rfl rfl)
theorem dX12_climb_17 : decode cX12_climb 17 = .ok (.iload_n 2, 1) := dk_28 (dk_at dksX12_climb_0 17 rfl rfl)
theorem dX12_climb_18 : decode cX12_climb 18 = .ok (.iload_n 3, 1) := dk_29 (dk_at dksX12_climb_0 18 rfl rfl)
theorem dX12_climb_19 : decode cX12_climb 19 = .ok (.invokespecial 15, 3) := dk_183 0 15 (dk_at dksX12_climb_0 19 rfl rfl)
theorem dX12_climb_22 : decode cX12_climb 22 = .ok (.ireturn, 1) := dk_172 (dk_at dksX12_climb_0 22 rfl rfl)
abbrev cX12_tells : ByteArray := prog_20_method_4_code
def yX12_tells : MethodName := ⟨RX12, "tells", "(I)I"⟩
def dkwX12_tells_0 : List UInt8 := [42, 180, 0, 19, 16, 60, 182, 0, 23, 42, 27, 42, 180, 0, 29, 100, 183, 0, 32, 172]
abbrev dktX12_tells_0 : List UInt8 := dkwX12_tells_0 ++ []
theorem dksX12_tells_0 : cX12_tells.data.toList.drop 0 = dktX12_tells_0 := by decide +kernel
theorem dX12_tells_0 : decode cX12_tells 0 = .ok (.aload_n 0, 1) := dk_42 (dk_at dksX12_tells_0 0 rfl rfl)
theorem dX12_tells_1 : decode cX12_tells 1 = .ok (.getfield 19, 3) := dk_180 0 19 (dk_at dksX12_tells_0 1 rfl rfl)
theorem dX12_tells_4 : decode cX12_tells 4 = .ok (.bipush 60, 2) := dk_16 60 (dk_at dksX12_tells_0 4 rfl rfl)
theorem dX12_tells_6 : decode cX12_tells 6 = .ok (.invokevirtual 23, 3) := dk_182 0 23 (dk_at dksX12_tells_0 6 rfl rfl)
theorem dX12_tells_9 : decode cX12_tells 9 = .ok (.aload_n 0, 1) := dk_42 (dk_at dksX12_tells_0 9 rfl rfl)
theorem dX12_tells_10 : decode cX12_tells 10 = .ok (.iload_n 1, 1) := dk_27 (dk_at dksX12_tells_0 10 rfl rfl)
theorem dX12_tells_11 : decode cX12_tells 11 = .ok (.aload_n 0, 1) := dk_42 (dk_at dksX12_tells_0 11 rfl rfl)
theorem dX12_tells_12 : decode cX12_tells 12 = .ok (.getfield 29, 3) := dk_180 0 29 (dk_at dksX12_tells_0 12 rfl rfl)
theorem dX12_tells_15 : decode cX12_tells 15 = .ok (.isub, 1) := dk_100 (dk_at dksX12_tells_0 15 rfl rfl)
theorem dX12_tells_16 : decode cX12_tells 16 = .ok (.invokespecial 32, 3) := dk_183 0 32 (dk_at dksX12_tells_0 16 rfl rfl)
theorem dX12_tells_19 : decode cX12_tells 19 = .ok (.ireturn, 1) := dk_172 (dk_at dksX12_tells_0 19 rfl rfl)
theorem q102 : (Jvm.Cond.initialized "SomebodysLift$Wandering") ∈ lw_all := lw_g (lw_at lw_m1 16 rfl) rfl
theorem q425 : (Jvm.Cond.fieldLink "SomebodysLift$Wandering" (19 : Nat) "SomebodysLift$Wandering" "trace" "LSomebodysLift$Trace;") ∈ lw_all := lw_g (lw_at lw_m2 99 rfl) rfl
theorem q426 : (Jvm.Cond.sameField "SomebodysLift$Wandering" "SomebodysLift$Lift" "trace" "LSomebodysLift$Trace;") ∈ lw_all := lw_g (lw_at lw_m2 100 rfl) rfl
theorem q430 : (Jvm.Cond.fieldLink "SomebodysLift$Wandering" (29 : Nat) "SomebodysLift$Wandering" "number" "I") ∈ lw_all := lw_g (lw_at lw_m2 104 rfl) rfl
theorem q431 : (Jvm.Cond.sameField "SomebodysLift$Wandering" "SomebodysLift$Lift" "number" "I") ∈ lw_all := lw_g (lw_at lw_m2 105 rfl) rfl
theorem q433 : (Jvm.Cond.fieldLink "SomebodysLift$Wandering" (9 : Nat) "SomebodysLift$Wandering" "v" "I") ∈ lw_all := lw_g (lw_at lw_m2 107 rfl) rfl
theorem q434 : (Jvm.Cond.sameField "SomebodysLift$Wandering" "SomebodysLift$Lift" "v" "I") ∈ lw_all := lw_g (lw_at lw_m2 108 rfl) rfl
theorem q487 : (Jvm.Cond.instantiable "SomebodysLift$Wandering" (4 : Nat)) ∈ lw_all := lw_g (lw_at lw_m2 161 rfl) rfl
theorem q489 : (Jvm.Cond.instanceMethod ({ cls := "SomebodysLift$Wandering", name := "<init>", desc := "(LSomebodysLift$Trace;III)V" } : Jvm.MethodName)) ∈ lw_all := lw_g (lw_at lw_m2 163 rfl) rfl
theorem q490 : (Jvm.Cond.code ({ cls := "SomebodysLift$Wandering", name := "<init>", desc := "(LSomebodysLift$Trace;III)V" } : Jvm.MethodName) prog_20_method_1_code (5 : Nat) (Option.none : Option Jvm.ClassFile.FieldType)) ∈ lw_all := lw_g (lw_at lw_m2 164 rfl) rfl
theorem q491 : (Jvm.Cond.methodLink "SomebodysLift$Wandering" (3 : Nat) ({ cls := "SomebodysLift$Weak", name := "<init>", desc := "(LSomebodysLift$Trace;III)V" } : Jvm.MethodName)) ∈ lw_all := lw_g (lw_at lw_m2 165 rfl) rfl
theorem q492 : (Jvm.Cond.laysFinal "SomebodysLift$Wandering" "SomebodysLift$Lift" "trace" "LSomebodysLift$Trace;") ∈ lw_all := lw_g (lw_at lw_m2 166 rfl) rfl
theorem q493 : (Jvm.Cond.laysFinal "SomebodysLift$Wandering" "SomebodysLift$Lift" "number" "I") ∈ lw_all := lw_g (lw_at lw_m2 167 rfl) rfl
theorem q494 : (Jvm.Cond.laysFinal "SomebodysLift$Wandering" "SomebodysLift$Lift" "v" "I") ∈ lw_all := lw_g (lw_at lw_m2 168 rfl) rfl
theorem q495 : (Jvm.Cond.laysFinal "SomebodysLift$Wandering" "SomebodysLift$Lift" "mile" "I") ∈ lw_all := lw_g (lw_at lw_m2 169 rfl) rfl
theorem q496 : (Jvm.Cond.superclass "SomebodysLift$Wandering" "SomebodysLift$Weak") ∈ lw_all := lw_g (lw_at lw_m2 170 rfl) rfl
theorem q542 : (Jvm.Cond.selects "SomebodysLift$Wandering" ({ cls := "SomebodysLift$Lift", name := "kind", desc := "()I" } : Jvm.MethodName) ({ cls := "SomebodysLift$Wandering", name := "kind", desc := "()I" } : Jvm.MethodName)) ∈ lw_all := lw_g (lw_at lw_m2 216 rfl) rfl
theorem q543 : (Jvm.Cond.instanceMethod ({ cls := "SomebodysLift$Wandering", name := "kind", desc := "()I" } : Jvm.MethodName)) ∈ lw_all := lw_g (lw_at lw_m2 217 rfl) rfl
theorem q544 : (Jvm.Cond.code ({ cls := "SomebodysLift$Wandering", name := "kind", desc := "()I" } : Jvm.MethodName) prog_20_method_2_code (1 : Nat) (Option.some Jvm.ClassFile.FieldType.int)) ∈ lw_all := lw_g (lw_at lw_m2 218 rfl) rfl
theorem q624 : (Jvm.Cond.selects "SomebodysLift$Wandering" ({ cls := "SomebodysLift$Lift", name := "climb", desc := "(III)I" } : Jvm.MethodName) ({ cls := "SomebodysLift$Wandering", name := "climb", desc := "(III)I" } : Jvm.MethodName)) ∈ lw_all := lw_g (lw_at lw_m3 58 rfl) rfl
theorem q625 : (Jvm.Cond.instanceMethod ({ cls := "SomebodysLift$Wandering", name := "climb", desc := "(III)I" } : Jvm.MethodName)) ∈ lw_all := lw_g (lw_at lw_m3 59 rfl) rfl
theorem q626 : (Jvm.Cond.code ({ cls := "SomebodysLift$Wandering", name := "climb", desc := "(III)I" } : Jvm.MethodName) prog_20_method_3_code (4 : Nat) (Option.some Jvm.ClassFile.FieldType.int)) ∈ lw_all := lw_g (lw_at lw_m3 60 rfl) rfl
theorem q627 : (Jvm.Cond.methodLink "SomebodysLift$Wandering" (15 : Nat) ({ cls := "SomebodysLift$Weak", name := "climb", desc := "(III)I" } : Jvm.MethodName)) ∈ lw_all := lw_g (lw_at lw_m3 61 rfl) rfl
theorem q950 : (Jvm.Cond.selects "SomebodysLift$Wandering" ({ cls := "java/lang/Object", name := "getClass", desc := "()Ljava/lang/Class;" } : Jvm.MethodName) ({ cls := "java/lang/Object", name := "getClass", desc := "()Ljava/lang/Class;" } : Jvm.MethodName)) ∈ lw_all := lw_g (lw_at lw_m4 144 rfl) rfl
theorem q1276 : (Jvm.Cond.selects "SomebodysLift$Wandering" ({ cls := "SomebodysLift$Lift", name := "turns", desc := "(I)I" } : Jvm.MethodName) ({ cls := "SomebodysLift$Weak", name := "turns", desc := "(I)I" } : Jvm.MethodName)) ∈ lw_all := lw_g (lw_at lw_m5 230 rfl) rfl
theorem q1304 : (Jvm.Cond.selects "SomebodysLift$Wandering" ({ cls := "SomebodysLift$Lift", name := "climbs", desc := "(I)I" } : Jvm.MethodName) ({ cls := "SomebodysLift$Lift", name := "climbs", desc := "(I)I" } : Jvm.MethodName)) ∈ lw_all := lw_g (lw_at lw_m6 18 rfl) rfl
theorem q1323 : (Jvm.Cond.selects "SomebodysLift$Wandering" ({ cls := "SomebodysLift$Lift", name := "tells", desc := "(I)I" } : Jvm.MethodName) ({ cls := "SomebodysLift$Wandering", name := "tells", desc := "(I)I" } : Jvm.MethodName)) ∈ lw_all := lw_g (lw_at lw_m6 37 rfl) rfl
theorem q1324 : (Jvm.Cond.instanceMethod ({ cls := "SomebodysLift$Wandering", name := "tells", desc := "(I)I" } : Jvm.MethodName)) ∈ lw_all := lw_g (lw_at lw_m6 38 rfl) rfl
theorem q1325 : (Jvm.Cond.code ({ cls := "SomebodysLift$Wandering", name := "tells", desc := "(I)I" } : Jvm.MethodName) prog_20_method_4_code (2 : Nat) (Option.some Jvm.ClassFile.FieldType.int)) ∈ lw_all := lw_g (lw_at lw_m6 39 rfl) rfl
theorem q1326 : (Jvm.Cond.methodLink "SomebodysLift$Wandering" (23 : Nat) ({ cls := "SomebodysLift$Trace", name := "ran", desc := "(I)V" } : Jvm.MethodName)) ∈ lw_all := lw_g (lw_at lw_m6 40 rfl) rfl
theorem q1327 : (Jvm.Cond.methodLink "SomebodysLift$Wandering" (32 : Nat) ({ cls := "SomebodysLift$Weak", name := "tells", desc := "(I)I" } : Jvm.MethodName)) ∈ lw_all := lw_g (lw_at lw_m6 41 rfl) rfl
theorem q2061 : (Jvm.Cond.castable "SomebodysLift$Wandering" "SomebodysLift$Lift") ∈ lw_tbl := lw_at lw_m9 55 rfl
theorem q2064 : (Jvm.Cond.castable "SomebodysLift$Wandering" "SomebodysLift$Weak") ∈ lw_tbl := lw_at lw_m9 58 rfl
theorem q2079 : (Jvm.Cond.castable "SomebodysLift$Wandering" "java/lang/Object") ∈ lw_tbl := lw_at lw_m9 73 rfl
theorem in_X12 : ∀ w ∈ wsX120, w ∈ lw_all := lw_in wsX120 [492, 493, 494, 495] (by decide +kernel) (by decide +kernel)

/-! SomebodysLift$Told -/
set_option maxRecDepth 100000
def RX13 : String := "SomebodysLift$Told"
def TX13 : u_T := fun k => match k with
  | 0 => ("SomebodysLift$Lift", "trace", "LSomebodysLift$Trace;", true)
  | 1 => ("SomebodysLift$Lift", "number", "I", true)
  | 2 => ("SomebodysLift$Lift", "v", "I", true)
  | 3 => ("SomebodysLift$Lift", "mile", "I", true)
  | _ => ("SomebodysLift$Told", "rows", "[I", true)
def tyX13 : Nat → FieldType := fun k => match k with
  | 0 => .object "SomebodysLift$Trace"
  | 1 => .int
  | 2 => .int
  | 3 => .int
  | _ => .array .int
abbrev wsX130 : List Cond := u_ws RX13 TX13 5
theorem nmX13 : ∀ a, a < 5 → ∀ b, b < 5 → a ≠ b → (TX13 a).2.1 ≠ (TX13 b).2.1 := by decide +kernel
theorem tyX13_ok : ∀ k, k < 5 → parseFieldDescriptor (TX13 k).2.2.1 = some (tyX13 k) := by decide +kernel
abbrev cX13_init : ByteArray := prog_18_method_1_code
def yX13_init : MethodName := ⟨RX13, "<init>", "(LSomebodysLift$Trace;III[I)V"⟩
def dkwX13_init_0 : List UInt8 := [42, 43, 28, 29, 21, 4, 183, 0, 3, 42, 25, 5, 181, 0, 9, 177]
abbrev dktX13_init_0 : List UInt8 := dkwX13_init_0 ++ []
theorem dksX13_init_0 : cX13_init.data.toList.drop 0 = dktX13_init_0 := by decide +kernel
theorem dX13_init_0 : decode cX13_init 0 = .ok (.aload_n 0, 1) := dk_42 (dk_at dksX13_init_0 0 rfl rfl)
theorem dX13_init_1 : decode cX13_init 1 = .ok (.aload_n 1, 1) := dk_43 (dk_at dksX13_init_0 1 rfl rfl)
theorem dX13_init_2 : decode cX13_init 2 = .ok (.iload_n 2, 1) := dk_28 (dk_at dksX13_init_0 2 rfl rfl)
theorem dX13_init_3 : decode cX13_init 3 = .ok (.iload_n 3, 1) := dk_29 (dk_at dksX13_init_0 3 rfl rfl)
theorem dX13_init_4 : decode cX13_init 4 = .ok (.iload 4, 2) := dk_21 4 (dk_at dksX13_init_0 4 rfl rfl)
theorem dX13_init_6 : decode cX13_init 6 = .ok (.invokespecial 3, 3) := dk_183 0 3 (dk_at dksX13_init_0 6 rfl rfl)
theorem dX13_init_9 : decode cX13_init 9 = .ok (.aload_n 0, 1) := dk_42 (dk_at dksX13_init_0 9 rfl rfl)
theorem dX13_init_10 : decode cX13_init 10 = .ok (.aload 5, 2) := dk_25 5 (dk_at dksX13_init_0 10 rfl rfl)
theorem dX13_init_12 : decode cX13_init 12 = .ok (.putfield 9, 3) := dk_181 0 9 (dk_at dksX13_init_0 12 rfl rfl)
theorem dX13_init_15 : decode cX13_init 15 = .ok (.return_, 1) := dk_177 (dk_at dksX13_init_0 15 rfl rfl)
abbrev cX13_kind : ByteArray := prog_18_method_2_code
def yX13_kind : MethodName := ⟨RX13, "kind", "()I"⟩
theorem dX13_kind_0 : decode cX13_kind 0 = .ok (.bipush 6, 2) := by decide +kernel
theorem dX13_kind_2 : decode cX13_kind 2 = .ok (.ireturn, 1) := by decide +kernel
abbrev cX13_climb : ByteArray := prog_18_method_3_code
def yX13_climb : MethodName := ⟨RX13, "climb", "(III)I"⟩
def dkwX13_climb_0 : List UInt8 := [42, 27, 28, 29, 183, 0, 15, 42, 180, 0, 9, 7, 42, 180, 0, 19, 104, 29, 7, 112, 96, 46, 96, 172]
abbrev dktX13_climb_0 : List UInt8 := dkwX13_climb_0 ++ []
theorem dksX13_climb_0 : cX13_climb.data.toList.drop 0 = dktX13_climb_0 := by decide +kernel
theorem dX13_climb_0 : decode cX13_climb 0 = .ok (.aload_n 0, 1) := dk_42 (dk_at dksX13_climb_0 0 rfl rfl)
theorem dX13_climb_1 : decode cX13_climb 1 = .ok (.iload_n 1, 1) := dk_27 (dk_at dksX13_climb_0 1 rfl rfl)
theorem dX13_climb_2 : decode cX13_climb 2 = .ok (.iload_n 2, 1) := dk_28 (dk_at dksX13_climb_0 2 rfl rfl)
theorem dX13_climb_3 : decode cX13_climb 3 = .ok (.iload_n 3, 1) := dk_29 (dk_at dksX13_climb_0 3 rfl rfl)
theorem dX13_climb_4 : decode cX13_climb 4 = .ok (.invokespecial 15, 3) := dk_183 0 15 (dk_at dksX13_climb_0 4 rfl rfl)
theorem dX13_climb_7 : decode cX13_climb 7 = .ok (.aload_n 0, 1) := dk_42 (dk_at dksX13_climb_0 7 rfl rfl)
theorem dX13_climb_8 : decode cX13_climb 8 = .ok (.getfield 9, 3) := dk_180 0 9 (dk_at dksX13_climb_0 8 rfl rfl)
theorem dX13_climb_11 : decode cX13_climb 11 = .ok (.iconst 4, 1) := dk_7 (dk_at dksX13_climb_0 11 rfl rfl)
theorem dX13_climb_12 : decode cX13_climb 12 = .ok (.aload_n 0, 1) := dk_42 (dk_at dksX13_climb_0 12 rfl rfl)
theorem dX13_climb_13 : decode cX13_climb 13 = .ok (.getfield 19, 3) := dk_180 0 19 (dk_at dksX13_climb_0 13 rfl rfl)
theorem dX13_climb_16 : decode cX13_climb 16 = .ok (.imul, 1) := dk_104 (dk_at dksX13_climb_0 16 rfl rfl)
theorem dX13_climb_17 : decode cX13_climb 17 = .ok (.iload_n 3, 1) := dk_29 (dk_at dksX13_climb_0 17 rfl rfl)
theorem dX13_climb_18 : decode cX13_climb 18 = .ok (.iconst 4, 1) := dk_7 (dk_at dksX13_climb_0 18 rfl rfl)
theorem dX13_climb_19 : decode cX13_climb 19 = .ok (.irem, 1) := dk_112 (dk_at dksX13_climb_0 19 rfl rfl)
theorem dX13_climb_20 : decode cX13_climb 20 = .ok (.iadd, 1) := dk_96 (dk_at dksX13_climb_0 20 rfl rfl)
theorem dX13_climb_21 : decode cX13_climb 21 = .ok (.iaload, 1) := dk_46 (dk_at dksX13_climb_0 21 rfl rfl)
theorem dX13_climb_22 : decode cX13_climb 22 = .ok (.iadd, 1) := dk_96 (dk_at dksX13_climb_0 22 rfl rfl)
theorem dX13_climb_23 : decode cX13_climb 23 = .ok (.ireturn, 1) := dk_172 (dk_at dksX13_climb_0 23 rfl rfl)
abbrev cX13_turns : ByteArray := prog_18_method_5_code
def yX13_turns : MethodName := ⟨RX13, "turns", "(I)I"⟩
def dkwX13_turns_0 : List UInt8 := [42, 180, 0, 23, 16, 71, 182, 0, 27, 42, 27, 183, 0, 37, 42, 180, 0, 40, 130, 172]
abbrev dktX13_turns_0 : List UInt8 := dkwX13_turns_0 ++ []
theorem dksX13_turns_0 : cX13_turns.data.toList.drop 0 = dktX13_turns_0 := by decide +kernel
theorem dX13_turns_0 : decode cX13_turns 0 = .ok (.aload_n 0, 1) := dk_42 (dk_at dksX13_turns_0 0 rfl rfl)
theorem dX13_turns_1 : decode cX13_turns 1 = .ok (.getfield 23, 3) := dk_180 0 23 (dk_at dksX13_turns_0 1 rfl rfl)
theorem dX13_turns_4 : decode cX13_turns 4 = .ok (.bipush 71, 2) := dk_16 71 (dk_at dksX13_turns_0 4 rfl rfl)
theorem dX13_turns_6 : decode cX13_turns 6 = .ok (.invokevirtual 27, 3) := dk_182 0 27 (dk_at dksX13_turns_0 6 rfl rfl)
theorem dX13_turns_9 : decode cX13_turns 9 = .ok (.aload_n 0, 1) := dk_42 (dk_at dksX13_turns_0 9 rfl rfl)
theorem dX13_turns_10 : decode cX13_turns 10 = .ok (.iload_n 1, 1) := dk_27 (dk_at dksX13_turns_0 10 rfl rfl)
theorem dX13_turns_11 : decode cX13_turns 11 = .ok (.invokespecial 37, 3) := dk_183 0 37 (dk_at dksX13_turns_0 11 rfl rfl)
theorem dX13_turns_14 : decode cX13_turns 14 = .ok (.aload_n 0, 1) := dk_42 (dk_at dksX13_turns_0 14 rfl rfl)
theorem dX13_turns_15 : decode cX13_turns 15 = .ok (.getfield 40, 3) := dk_180 0 40 (dk_at dksX13_turns_0 15 rfl rfl)
theorem dX13_turns_18 : decode cX13_turns 18 = .ok (.ixor, 1) := dk_130 (dk_at dksX13_turns_0 18 rfl rfl)
theorem dX13_turns_19 : decode cX13_turns 19 = .ok (.ireturn, 1) := dk_172 (dk_at dksX13_turns_0 19 rfl rfl)
abbrev cX13_climbs : ByteArray := prog_18_method_4_code
def yX13_climbs : MethodName := ⟨RX13, "climbs", "(I)I"⟩
def dkwX13_climbs_0 : List UInt8 := [42, 180, 0, 23, 16, 70, 182, 0, 27, 42, 27, 183, 0, 33, 61, 28, 42, 5, 183, 0, 37, 96, 172]
abbrev dktX13_climbs_0 : List UInt8 := dkwX13_climbs_0 ++ []
theorem dksX13_climbs_0 : cX13_climbs.data.toList.drop 0 = dktX13_climbs_0 := by decide +kernel
theorem dX13_climbs_0 : decode cX13_climbs 0 = .ok (.aload_n 0, 1) := dk_42 (dk_at dksX13_climbs_0 0 rfl rfl)
theorem dX13_climbs_1 : decode cX13_climbs 1 = .ok (.getfield 23, 3) := dk_180 0 23 (dk_at dksX13_climbs_0 1 rfl rfl)
theorem dX13_climbs_4 : decode cX13_climbs 4 = .ok (.bipush 70, 2) := dk_16 70 (dk_at dksX13_climbs_0 4 rfl rfl)
theorem dX13_climbs_6 : decode cX13_climbs 6 = .ok (.invokevirtual 27, 3) := dk_182 0 27 (dk_at dksX13_climbs_0 6 rfl rfl)
theorem dX13_climbs_9 : decode cX13_climbs 9 = .ok (.aload_n 0, 1) := dk_42 (dk_at dksX13_climbs_0 9 rfl rfl)
theorem dX13_climbs_10 : decode cX13_climbs 10 = .ok (.iload_n 1, 1) := dk_27 (dk_at dksX13_climbs_0 10 rfl rfl)
theorem dX13_climbs_11 : decode cX13_climbs 11 = .ok (.invokespecial 33, 3) := dk_183 0 33 (dk_at dksX13_climbs_0 11 rfl rfl)
theorem dX13_climbs_14 : decode cX13_climbs 14 = .ok (.istore_n 2, 1) := dk_61 (dk_at dksX13_climbs_0 14 rfl rfl)
theorem dX13_climbs_15 : decode cX13_climbs 15 = .ok (.iload_n 2, 1) := dk_28 (dk_at dksX13_climbs_0 15 rfl rfl)
theorem dX13_climbs_16 : decode cX13_climbs 16 = .ok (.aload_n 0, 1) := dk_42 (dk_at dksX13_climbs_0 16 rfl rfl)
theorem dX13_climbs_17 : decode cX13_climbs 17 = .ok (.iconst 2, 1) := dk_5 (dk_at dksX13_climbs_0 17 rfl rfl)
theorem dX13_climbs_18 : decode cX13_climbs 18 = .ok (.invokespecial 37, 3) := dk_183 0 37 (dk_at dksX13_climbs_0 18 rfl rfl)
theorem dX13_climbs_21 : decode cX13_climbs 21 = .ok (.iadd, 1) := dk_96 (dk_at dksX13_climbs_0 21 rfl rfl)
theorem dX13_climbs_22 : decode cX13_climbs 22 = .ok (.ireturn, 1) := dk_172 (dk_at dksX13_climbs_0 22 rfl rfl)
theorem q103 : (Jvm.Cond.initialized "SomebodysLift$Told") ∈ lw_all := lw_g (lw_at lw_m1 17 rfl) rfl
theorem q421 : (Jvm.Cond.fieldLink "SomebodysLift$Told" (23 : Nat) "SomebodysLift$Told" "trace" "LSomebodysLift$Trace;") ∈ lw_all := lw_g (lw_at lw_m2 95 rfl) rfl
theorem q422 : (Jvm.Cond.sameField "SomebodysLift$Told" "SomebodysLift$Lift" "trace" "LSomebodysLift$Trace;") ∈ lw_all := lw_g (lw_at lw_m2 96 rfl) rfl
theorem q428 : (Jvm.Cond.fieldLink "SomebodysLift$Told" (19 : Nat) "SomebodysLift$Told" "number" "I") ∈ lw_all := lw_g (lw_at lw_m2 102 rfl) rfl
theorem q429 : (Jvm.Cond.sameField "SomebodysLift$Told" "SomebodysLift$Lift" "number" "I") ∈ lw_all := lw_g (lw_at lw_m2 103 rfl) rfl
theorem q439 : (Jvm.Cond.fieldLink "SomebodysLift$Told" (40 : Nat) "SomebodysLift$Told" "v" "I") ∈ lw_all := lw_g (lw_at lw_m2 113 rfl) rfl
theorem q440 : (Jvm.Cond.sameField "SomebodysLift$Told" "SomebodysLift$Lift" "v" "I") ∈ lw_all := lw_g (lw_at lw_m2 114 rfl) rfl
theorem q498 : (Jvm.Cond.instantiable "SomebodysLift$Told" (5 : Nat)) ∈ lw_all := lw_g (lw_at lw_m2 172 rfl) rfl
theorem q500 : (Jvm.Cond.instanceMethod ({ cls := "SomebodysLift$Told", name := "<init>", desc := "(LSomebodysLift$Trace;III[I)V" } : Jvm.MethodName)) ∈ lw_all := lw_g (lw_at lw_m2 174 rfl) rfl
theorem q501 : (Jvm.Cond.code ({ cls := "SomebodysLift$Told", name := "<init>", desc := "(LSomebodysLift$Trace;III[I)V" } : Jvm.MethodName) prog_18_method_1_code (6 : Nat) (Option.none : Option Jvm.ClassFile.FieldType)) ∈ lw_all := lw_g (lw_at lw_m2 175 rfl) rfl
theorem q502 : (Jvm.Cond.methodLink "SomebodysLift$Told" (3 : Nat) ({ cls := "SomebodysLift$Late", name := "<init>", desc := "(LSomebodysLift$Trace;III)V" } : Jvm.MethodName)) ∈ lw_all := lw_g (lw_at lw_m2 176 rfl) rfl
theorem q503 : (Jvm.Cond.fieldLink "SomebodysLift$Told" (9 : Nat) "SomebodysLift$Told" "rows" "[I") ∈ lw_all := lw_g (lw_at lw_m2 177 rfl) rfl
theorem q504 : (Jvm.Cond.laysFinal "SomebodysLift$Told" "SomebodysLift$Told" "rows" "[I") ∈ lw_all := lw_g (lw_at lw_m2 178 rfl) rfl
theorem q505 : (Jvm.Cond.soleField "SomebodysLift$Told" "rows") ∈ lw_all := lw_g (lw_at lw_m2 179 rfl) rfl
theorem q506 : (Jvm.Cond.laysFinal "SomebodysLift$Told" "SomebodysLift$Lift" "trace" "LSomebodysLift$Trace;") ∈ lw_all := lw_g (lw_at lw_m2 180 rfl) rfl
theorem q507 : (Jvm.Cond.laysFinal "SomebodysLift$Told" "SomebodysLift$Lift" "number" "I") ∈ lw_all := lw_g (lw_at lw_m2 181 rfl) rfl
theorem q508 : (Jvm.Cond.laysFinal "SomebodysLift$Told" "SomebodysLift$Lift" "v" "I") ∈ lw_all := lw_g (lw_at lw_m2 182 rfl) rfl
theorem q509 : (Jvm.Cond.laysFinal "SomebodysLift$Told" "SomebodysLift$Lift" "mile" "I") ∈ lw_all := lw_g (lw_at lw_m2 183 rfl) rfl
theorem q510 : (Jvm.Cond.superclass "SomebodysLift$Told" "SomebodysLift$Late") ∈ lw_all := lw_g (lw_at lw_m2 184 rfl) rfl
theorem q539 : (Jvm.Cond.selects "SomebodysLift$Told" ({ cls := "SomebodysLift$Lift", name := "kind", desc := "()I" } : Jvm.MethodName) ({ cls := "SomebodysLift$Told", name := "kind", desc := "()I" } : Jvm.MethodName)) ∈ lw_all := lw_g (lw_at lw_m2 213 rfl) rfl
theorem q540 : (Jvm.Cond.instanceMethod ({ cls := "SomebodysLift$Told", name := "kind", desc := "()I" } : Jvm.MethodName)) ∈ lw_all := lw_g (lw_at lw_m2 214 rfl) rfl
theorem q541 : (Jvm.Cond.code ({ cls := "SomebodysLift$Told", name := "kind", desc := "()I" } : Jvm.MethodName) prog_18_method_2_code (1 : Nat) (Option.some Jvm.ClassFile.FieldType.int)) ∈ lw_all := lw_g (lw_at lw_m2 215 rfl) rfl
theorem q620 : (Jvm.Cond.selects "SomebodysLift$Told" ({ cls := "SomebodysLift$Lift", name := "climb", desc := "(III)I" } : Jvm.MethodName) ({ cls := "SomebodysLift$Told", name := "climb", desc := "(III)I" } : Jvm.MethodName)) ∈ lw_all := lw_g (lw_at lw_m3 54 rfl) rfl
theorem q621 : (Jvm.Cond.instanceMethod ({ cls := "SomebodysLift$Told", name := "climb", desc := "(III)I" } : Jvm.MethodName)) ∈ lw_all := lw_g (lw_at lw_m3 55 rfl) rfl
theorem q622 : (Jvm.Cond.code ({ cls := "SomebodysLift$Told", name := "climb", desc := "(III)I" } : Jvm.MethodName) prog_18_method_3_code (4 : Nat) (Option.some Jvm.ClassFile.FieldType.int)) ∈ lw_all := lw_g (lw_at lw_m3 56 rfl) rfl
theorem q623 : (Jvm.Cond.methodLink "SomebodysLift$Told" (15 : Nat) ({ cls := "SomebodysLift$Late", name := "climb", desc := "(III)I" } : Jvm.MethodName)) ∈ lw_all := lw_g (lw_at lw_m3 57 rfl) rfl
theorem q948 : (Jvm.Cond.selects "SomebodysLift$Told" ({ cls := "java/lang/Object", name := "getClass", desc := "()Ljava/lang/Class;" } : Jvm.MethodName) ({ cls := "java/lang/Object", name := "getClass", desc := "()Ljava/lang/Class;" } : Jvm.MethodName)) ∈ lw_all := lw_g (lw_at lw_m4 142 rfl) rfl
theorem q1270 : (Jvm.Cond.selects "SomebodysLift$Told" ({ cls := "SomebodysLift$Lift", name := "turns", desc := "(I)I" } : Jvm.MethodName) ({ cls := "SomebodysLift$Told", name := "turns", desc := "(I)I" } : Jvm.MethodName)) ∈ lw_all := lw_g (lw_at lw_m5 224 rfl) rfl
theorem q1271 : (Jvm.Cond.instanceMethod ({ cls := "SomebodysLift$Told", name := "turns", desc := "(I)I" } : Jvm.MethodName)) ∈ lw_all := lw_g (lw_at lw_m5 225 rfl) rfl
theorem q1272 : (Jvm.Cond.code ({ cls := "SomebodysLift$Told", name := "turns", desc := "(I)I" } : Jvm.MethodName) prog_18_method_5_code (2 : Nat) (Option.some Jvm.ClassFile.FieldType.int)) ∈ lw_all := lw_g (lw_at lw_m5 226 rfl) rfl
theorem q1273 : (Jvm.Cond.methodLink "SomebodysLift$Told" (27 : Nat) ({ cls := "SomebodysLift$Trace", name := "ran", desc := "(I)V" } : Jvm.MethodName)) ∈ lw_all := lw_g (lw_at lw_m5 227 rfl) rfl
theorem q1274 : (Jvm.Cond.methodLink "SomebodysLift$Told" (37 : Nat) ({ cls := "SomebodysLift$Late", name := "turns", desc := "(I)I" } : Jvm.MethodName)) ∈ lw_all := lw_g (lw_at lw_m5 228 rfl) rfl
theorem q1298 : (Jvm.Cond.selects "SomebodysLift$Told" ({ cls := "SomebodysLift$Lift", name := "climbs", desc := "(I)I" } : Jvm.MethodName) ({ cls := "SomebodysLift$Told", name := "climbs", desc := "(I)I" } : Jvm.MethodName)) ∈ lw_all := lw_g (lw_at lw_m6 12 rfl) rfl
theorem q1299 : (Jvm.Cond.instanceMethod ({ cls := "SomebodysLift$Told", name := "climbs", desc := "(I)I" } : Jvm.MethodName)) ∈ lw_all := lw_g (lw_at lw_m6 13 rfl) rfl
theorem q1300 : (Jvm.Cond.code ({ cls := "SomebodysLift$Told", name := "climbs", desc := "(I)I" } : Jvm.MethodName) prog_18_method_4_code (3 : Nat) (Option.some Jvm.ClassFile.FieldType.int)) ∈ lw_all := lw_g (lw_at lw_m6 14 rfl) rfl
theorem q1301 : (Jvm.Cond.methodLink "SomebodysLift$Told" (33 : Nat) ({ cls := "SomebodysLift$Late", name := "climbs", desc := "(I)I" } : Jvm.MethodName)) ∈ lw_all := lw_g (lw_at lw_m6 15 rfl) rfl
theorem q1320 : (Jvm.Cond.selects "SomebodysLift$Told" ({ cls := "SomebodysLift$Late", name := "climbs", desc := "(I)I" } : Jvm.MethodName) ({ cls := "SomebodysLift$Told", name := "climbs", desc := "(I)I" } : Jvm.MethodName)) ∈ lw_all := lw_g (lw_at lw_m6 34 rfl) rfl
theorem q1322 : (Jvm.Cond.selects "SomebodysLift$Told" ({ cls := "SomebodysLift$Lift", name := "tells", desc := "(I)I" } : Jvm.MethodName) ({ cls := "SomebodysLift$Late", name := "tells", desc := "(I)I" } : Jvm.MethodName)) ∈ lw_all := lw_g (lw_at lw_m6 36 rfl) rfl
theorem q2060 : (Jvm.Cond.castable "SomebodysLift$Told" "SomebodysLift$Lift") ∈ lw_tbl := lw_at lw_m9 54 rfl
theorem q2065 : (Jvm.Cond.castable "SomebodysLift$Told" "SomebodysLift$Late") ∈ lw_tbl := lw_at lw_m9 59 rfl
theorem q2080 : (Jvm.Cond.castable "SomebodysLift$Told" "java/lang/Object") ∈ lw_tbl := lw_at lw_m9 74 rfl
theorem in_X13 : ∀ w ∈ wsX130, w ∈ lw_all := lw_in wsX130 [506, 507, 508, 509, 504] (by decide +kernel) (by decide +kernel)

/-! SomebodysLift$Reader -/
set_option maxRecDepth 100000
def RX14 : String := "SomebodysLift$Reader"
def TX14 : u_T := fun k => match k with
  | 0 => ("SomebodysLift$Reader", "text", "[B", true)
  | 1 => ("SomebodysLift$Reader", "size", "I", true)
  | 2 => ("SomebodysLift$Reader", "at", "I", false)
  | 3 => ("SomebodysLift$Reader", "deep", "I", false)
  | _ => ("SomebodysLift$Reader", "air", "LSomebodysLift$Air;", true)
def tyX14 : Nat → FieldType := fun k => match k with
  | 0 => .array .byte
  | 1 => .int
  | 2 => .int
  | 3 => .int
  | _ => .object "SomebodysLift$Air"
abbrev wsX140 : List Cond := u_ws RX14 TX14 5
theorem nmX14 : ∀ a, a < 5 → ∀ b, b < 5 → a ≠ b → (TX14 a).2.1 ≠ (TX14 b).2.1 := by decide +kernel
theorem tyX14_ok : ∀ k, k < 5 → parseFieldDescriptor (TX14 k).2.2.1 = some (tyX14 k) := by decide +kernel
abbrev cX14_init : ByteArray := prog_11_method_1_code
def yX14_init : MethodName := ⟨RX14, "<init>", "([BI)V"⟩
def dkwX14_init_1 : List UInt8 := [181, 0, 22, 177]
abbrev dktX14_init_1 : List UInt8 := dkwX14_init_1 ++ []
def dkwX14_init_0 : List UInt8 := [42, 183, 0, 3, 42, 187, 0, 9, 89, 183, 0, 11, 181, 0, 12, 42, 43, 181, 0, 18, 42, 28]
abbrev dktX14_init_0 : List UInt8 := dkwX14_init_0 ++ dktX14_init_1
theorem dksX14_init_0 : cX14_init.data.toList.drop 0 = dktX14_init_0 := by decide +kernel
theorem dksX14_init_1 : cX14_init.data.toList.drop 22 = dktX14_init_1 := dk_seg dksX14_init_0 22 rfl rfl
theorem dX14_init_0 : decode cX14_init 0 = .ok (.aload_n 0, 1) := dk_42 (dk_at dksX14_init_0 0 rfl rfl)
theorem dX14_init_1 : decode cX14_init 1 = .ok (.invokespecial 3, 3) := dk_183 0 3 (dk_at dksX14_init_0 1 rfl rfl)
theorem dX14_init_4 : decode cX14_init 4 = .ok (.aload_n 0, 1) := dk_42 (dk_at dksX14_init_0 4 rfl rfl)
theorem dX14_init_5 : decode cX14_init 5 = .ok (.new 9, 3) := dk_187 0 9 (dk_at dksX14_init_0 5 rfl rfl)
theorem dX14_init_8 : decode cX14_init 8 = .ok (.dup, 1) := dk_89 (dk_at dksX14_init_0 8 rfl rfl)
theorem dX14_init_9 : decode cX14_init 9 = .ok (.invokespecial 11, 3) := dk_183 0 11 (dk_at dksX14_init_0 9 rfl rfl)
theorem dX14_init_12 : decode cX14_init 12 = .ok (.putfield 12, 3) := dk_181 0 12 (dk_at dksX14_init_0 12 rfl rfl)
theorem dX14_init_15 : decode cX14_init 15 = .ok (.aload_n 0, 1) := dk_42 (dk_at dksX14_init_0 15 rfl rfl)
theorem dX14_init_16 : decode cX14_init 16 = .ok (.aload_n 1, 1) := dk_43 (dk_at dksX14_init_0 16 rfl rfl)
theorem dX14_init_17 : decode cX14_init 17 = .ok (.putfield 18, 3) := dk_181 0 18 (dk_at dksX14_init_0 17 rfl rfl)
theorem dX14_init_20 : decode cX14_init 20 = .ok (.aload_n 0, 1) := dk_42 (dk_at dksX14_init_0 20 rfl rfl)
theorem dX14_init_21 : decode cX14_init 21 = .ok (.iload_n 2, 1) := dk_28 (dk_at dksX14_init_0 21 rfl rfl)
theorem dX14_init_22 : decode cX14_init 22 = .ok (.putfield 22, 3) := dk_181 0 22 (dk_at dksX14_init_1 0 rfl rfl)
theorem dX14_init_25 : decode cX14_init 25 = .ok (.return_, 1) := dk_177 (dk_at dksX14_init_1 3 rfl rfl)
abbrev cX14_air : ByteArray := prog_11_method_14_code
def yX14_air : MethodName := ⟨RX14, "air", "()LSomebodysLift$Air;"⟩
def dkwX14_air_2 : List UInt8 := [42, 180, 0, 22, 162, 0, 8, 42, 182, 0, 38, 191, 42, 180, 0, 12, 176]
abbrev dktX14_air_2 : List UInt8 := dkwX14_air_2 ++ []
def dkwX14_air_1 : List UInt8 := [160, 0, 20, 42, 89, 180, 0, 26, 4, 96, 181, 0, 26, 42, 182, 0, 139, 167, 255, 221, 42, 180, 0, 26]
abbrev dktX14_air_1 : List UInt8 := dkwX14_air_1 ++ dktX14_air_2
def dkwX14_air_0 : List UInt8 := [42, 182, 0, 139, 42, 180, 0, 12, 180, 0, 136, 16, 10, 162, 0, 29, 42, 182, 0, 34, 16, 59]
abbrev dktX14_air_0 : List UInt8 := dkwX14_air_0 ++ dktX14_air_1
theorem dksX14_air_0 : cX14_air.data.toList.drop 0 = dktX14_air_0 := by decide +kernel
theorem dksX14_air_1 : cX14_air.data.toList.drop 22 = dktX14_air_1 := dk_seg dksX14_air_0 22 rfl rfl
theorem dksX14_air_2 : cX14_air.data.toList.drop 46 = dktX14_air_2 := dk_seg dksX14_air_1 24 rfl rfl
theorem dX14_air_0 : decode cX14_air 0 = .ok (.aload_n 0, 1) := dk_42 (dk_at dksX14_air_0 0 rfl rfl)
theorem dX14_air_1 : decode cX14_air 1 = .ok (.invokevirtual 139, 3) := dk_182 0 139 (dk_at dksX14_air_0 1 rfl rfl)
theorem dX14_air_4 : decode cX14_air 4 = .ok (.aload_n 0, 1) := dk_42 (dk_at dksX14_air_0 4 rfl rfl)
theorem dX14_air_5 : decode cX14_air 5 = .ok (.getfield 12, 3) := dk_180 0 12 (dk_at dksX14_air_0 5 rfl rfl)
theorem dX14_air_8 : decode cX14_air 8 = .ok (.getfield 136, 3) := dk_180 0 136 (dk_at dksX14_air_0 8 rfl rfl)
theorem dX14_air_11 : decode cX14_air 11 = .ok (.bipush 10, 2) := dk_16 10 (dk_at dksX14_air_0 11 rfl rfl)
theorem dX14_air_13 : decode cX14_air 13 = .ok (.if_icmp .ge 29, 3) := dk_162 0 29 (dk_at dksX14_air_0 13 rfl rfl)
theorem dX14_air_16 : decode cX14_air 16 = .ok (.aload_n 0, 1) := dk_42 (dk_at dksX14_air_0 16 rfl rfl)
theorem dX14_air_17 : decode cX14_air 17 = .ok (.invokevirtual 34, 3) := dk_182 0 34 (dk_at dksX14_air_0 17 rfl rfl)
theorem dX14_air_20 : decode cX14_air 20 = .ok (.bipush 59, 2) := dk_16 59 (dk_at dksX14_air_0 20 rfl rfl)
theorem dX14_air_22 : decode cX14_air 22 = .ok (.if_icmp .ne 20, 3) := dk_160 0 20 (dk_at dksX14_air_1 0 rfl rfl)
theorem dX14_air_25 : decode cX14_air 25 = .ok (.aload_n 0, 1) := dk_42 (dk_at dksX14_air_1 3 rfl rfl)
theorem dX14_air_26 : decode cX14_air 26 = .ok (.dup, 1) := dk_89 (dk_at dksX14_air_1 4 rfl rfl)
theorem dX14_air_27 : decode cX14_air 27 = .ok (.getfield 26, 3) := dk_180 0 26 (dk_at dksX14_air_1 5 rfl rfl)
theorem dX14_air_30 : decode cX14_air 30 = .ok (.iconst 1, 1) := dk_4 (dk_at dksX14_air_1 8 rfl rfl)
theorem dX14_air_31 : decode cX14_air 31 = .ok (.iadd, 1) := dk_96 (dk_at dksX14_air_1 9 rfl rfl)
theorem dX14_air_32 : decode cX14_air 32 = .ok (.putfield 26, 3) := dk_181 0 26 (dk_at dksX14_air_1 10 rfl rfl)
theorem dX14_air_35 : decode cX14_air 35 = .ok (.aload_n 0, 1) := dk_42 (dk_at dksX14_air_1 13 rfl rfl)
theorem dX14_air_36 : decode cX14_air 36 = .ok (.invokevirtual 139, 3) := dk_182 0 139 (dk_at dksX14_air_1 14 rfl rfl)
theorem dX14_air_39 : decode cX14_air 39 = .ok (.goto (-35), 3) := dk_167 255 221 (dk_at dksX14_air_1 17 rfl rfl)
theorem dX14_air_42 : decode cX14_air 42 = .ok (.aload_n 0, 1) := dk_42 (dk_at dksX14_air_1 20 rfl rfl)
theorem dX14_air_43 : decode cX14_air 43 = .ok (.getfield 26, 3) := dk_180 0 26 (dk_at dksX14_air_1 21 rfl rfl)
theorem dX14_air_46 : decode cX14_air 46 = .ok (.aload_n 0, 1) := dk_42 (dk_at dksX14_air_2 0 rfl rfl)
theorem dX14_air_47 : decode cX14_air 47 = .ok (.getfield 22, 3) := dk_180 0 22 (dk_at dksX14_air_2 1 rfl rfl)
theorem dX14_air_50 : decode cX14_air 50 = .ok (.if_icmp .ge 8, 3) := dk_162 0 8 (dk_at dksX14_air_2 4 rfl rfl)
theorem dX14_air_53 : decode cX14_air 53 = .ok (.aload_n 0, 1) := dk_42 (dk_at dksX14_air_2 7 rfl rfl)
theorem dX14_air_54 : decode cX14_air 54 = .ok (.invokevirtual 38, 3) := dk_182 0 38 (dk_at dksX14_air_2 8 rfl rfl)
theorem dX14_air_57 : decode cX14_air 57 = .ok (.athrow, 1) := dk_191 (dk_at dksX14_air_2 11 rfl rfl)
theorem dX14_air_58 : decode cX14_air 58 = .ok (.aload_n 0, 1) := dk_42 (dk_at dksX14_air_2 12 rfl rfl)
theorem dX14_air_59 : decode cX14_air 59 = .ok (.getfield 12, 3) := dk_180 0 12 (dk_at dksX14_air_2 13 rfl rfl)
theorem dX14_air_62 : decode cX14_air 62 = .ok (.areturn, 1) := dk_176 (dk_at dksX14_air_2 16 rfl rfl)
abbrev cX14_clause : ByteArray := prog_11_method_13_code
def yX14_clause : MethodName := ⟨RX14, "clause", "()V"⟩
def dkwX14_clause_5 : List UInt8 := [177]
abbrev dktX14_clause_5 : List UInt8 := dkwX14_clause_5 ++ []
def dkwX14_clause_4 : List UInt8 := [181, 0, 133, 167, 0, 8, 42, 182, 0, 38, 191, 42, 180, 0, 12, 89, 180, 0, 136, 4, 96, 181, 0, 136]
abbrev dktX14_clause_4 : List UInt8 := dkwX14_clause_4 ++ dktX14_clause_5
def dkwX14_clause_3 : List UInt8 := [42, 18, 122, 182, 0, 124, 181, 0, 128, 167, 0, 24, 42, 180, 0, 12, 42, 18, 131, 182, 0, 124]
abbrev dktX14_clause_3 : List UInt8 := dkwX14_clause_3 ++ dktX14_clause_4
def dkwX14_clause_2 : List UInt8 := [42, 18, 114, 4, 182, 0, 116, 167, 0, 50, 42, 18, 120, 2, 182, 0, 116, 167, 0, 40, 42, 180, 0, 12]
abbrev dktX14_clause_2 : List UInt8 := dkwX14_clause_2 ++ dktX14_clause_3
def dkwX14_clause_1 : List UInt8 := [171, 0, 0, 0, 0, 0, 0, 96, 0, 0, 0, 4, 0, 0, 0, 98, 0, 0, 0, 64, 0, 0, 0, 100, 0, 0, 0, 54, 0, 0, 0, 115, 0, 0, 0, 80, 0, 0, 0, 117, 0, 0, 0, 44]
abbrev dktX14_clause_1 : List UInt8 := dkwX14_clause_1 ++ dktX14_clause_2
def dkwX14_clause_0 : List UInt8 := [42, 182, 0, 34]
abbrev dktX14_clause_0 : List UInt8 := dkwX14_clause_0 ++ dktX14_clause_1
theorem dksX14_clause_0 : cX14_clause.data.toList.drop 0 = dktX14_clause_0 := by decide +kernel
theorem dksX14_clause_1 : cX14_clause.data.toList.drop 4 = dktX14_clause_1 := dk_seg dksX14_clause_0 4 rfl rfl
theorem dksX14_clause_2 : cX14_clause.data.toList.drop 48 = dktX14_clause_2 := dk_seg dksX14_clause_1 44 rfl rfl
theorem dksX14_clause_3 : cX14_clause.data.toList.drop 72 = dktX14_clause_3 := dk_seg dksX14_clause_2 24 rfl rfl
theorem dksX14_clause_4 : cX14_clause.data.toList.drop 94 = dktX14_clause_4 := dk_seg dksX14_clause_3 22 rfl rfl
theorem dksX14_clause_5 : cX14_clause.data.toList.drop 118 = dktX14_clause_5 := dk_seg dksX14_clause_4 24 rfl rfl
theorem dX14_clause_0 : decode cX14_clause 0 = .ok (.aload_n 0, 1) := dk_42 (dk_at dksX14_clause_0 0 rfl rfl)
theorem dX14_clause_1 : decode cX14_clause 1 = .ok (.invokevirtual 34, 3) := dk_182 0 34 (dk_at dksX14_clause_0 1 rfl rfl)
theorem dX14_clause_4 : decode cX14_clause 4 = .ok (.lookupswitch 96 #[(98, 64), (100, 54), (115, 80), (117, 44)], 44) := by decide +kernel
theorem dX14_clause_48 : decode cX14_clause 48 = .ok (.aload_n 0, 1) := dk_42 (dk_at dksX14_clause_2 0 rfl rfl)
theorem dX14_clause_49 : decode cX14_clause 49 = .ok (.ldc 114, 2) := dk_18 114 (dk_at dksX14_clause_2 1 rfl rfl)
theorem dX14_clause_51 : decode cX14_clause 51 = .ok (.iconst 1, 1) := dk_4 (dk_at dksX14_clause_2 3 rfl rfl)
theorem dX14_clause_52 : decode cX14_clause 52 = .ok (.invokevirtual 116, 3) := dk_182 0 116 (dk_at dksX14_clause_2 4 rfl rfl)
theorem dX14_clause_55 : decode cX14_clause 55 = .ok (.goto 50, 3) := dk_167 0 50 (dk_at dksX14_clause_2 7 rfl rfl)
theorem dX14_clause_58 : decode cX14_clause 58 = .ok (.aload_n 0, 1) := dk_42 (dk_at dksX14_clause_2 10 rfl rfl)
theorem dX14_clause_59 : decode cX14_clause 59 = .ok (.ldc 120, 2) := dk_18 120 (dk_at dksX14_clause_2 11 rfl rfl)
theorem dX14_clause_61 : decode cX14_clause 61 = .ok (.iconst (-1), 1) := dk_2 (dk_at dksX14_clause_2 13 rfl rfl)
theorem dX14_clause_62 : decode cX14_clause 62 = .ok (.invokevirtual 116, 3) := dk_182 0 116 (dk_at dksX14_clause_2 14 rfl rfl)
theorem dX14_clause_65 : decode cX14_clause 65 = .ok (.goto 40, 3) := dk_167 0 40 (dk_at dksX14_clause_2 17 rfl rfl)
theorem dX14_clause_68 : decode cX14_clause 68 = .ok (.aload_n 0, 1) := dk_42 (dk_at dksX14_clause_2 20 rfl rfl)
theorem dX14_clause_69 : decode cX14_clause 69 = .ok (.getfield 12, 3) := dk_180 0 12 (dk_at dksX14_clause_2 21 rfl rfl)
theorem dX14_clause_72 : decode cX14_clause 72 = .ok (.aload_n 0, 1) := dk_42 (dk_at dksX14_clause_3 0 rfl rfl)
theorem dX14_clause_73 : decode cX14_clause 73 = .ok (.ldc 122, 2) := dk_18 122 (dk_at dksX14_clause_3 1 rfl rfl)
theorem dX14_clause_75 : decode cX14_clause 75 = .ok (.invokevirtual 124, 3) := dk_182 0 124 (dk_at dksX14_clause_3 3 rfl rfl)
theorem dX14_clause_78 : decode cX14_clause 78 = .ok (.putfield 128, 3) := dk_181 0 128 (dk_at dksX14_clause_3 6 rfl rfl)
theorem dX14_clause_81 : decode cX14_clause 81 = .ok (.goto 24, 3) := dk_167 0 24 (dk_at dksX14_clause_3 9 rfl rfl)
theorem dX14_clause_84 : decode cX14_clause 84 = .ok (.aload_n 0, 1) := dk_42 (dk_at dksX14_clause_3 12 rfl rfl)
theorem dX14_clause_85 : decode cX14_clause 85 = .ok (.getfield 12, 3) := dk_180 0 12 (dk_at dksX14_clause_3 13 rfl rfl)
theorem dX14_clause_88 : decode cX14_clause 88 = .ok (.aload_n 0, 1) := dk_42 (dk_at dksX14_clause_3 16 rfl rfl)
theorem dX14_clause_89 : decode cX14_clause 89 = .ok (.ldc 131, 2) := dk_18 131 (dk_at dksX14_clause_3 17 rfl rfl)
theorem dX14_clause_91 : decode cX14_clause 91 = .ok (.invokevirtual 124, 3) := dk_182 0 124 (dk_at dksX14_clause_3 19 rfl rfl)
theorem dX14_clause_94 : decode cX14_clause 94 = .ok (.putfield 133, 3) := dk_181 0 133 (dk_at dksX14_clause_4 0 rfl rfl)
theorem dX14_clause_97 : decode cX14_clause 97 = .ok (.goto 8, 3) := dk_167 0 8 (dk_at dksX14_clause_4 3 rfl rfl)
theorem dX14_clause_100 : decode cX14_clause 100 = .ok (.aload_n 0, 1) := dk_42 (dk_at dksX14_clause_4 6 rfl rfl)
theorem dX14_clause_101 : decode cX14_clause 101 = .ok (.invokevirtual 38, 3) := dk_182 0 38 (dk_at dksX14_clause_4 7 rfl rfl)
theorem dX14_clause_104 : decode cX14_clause 104 = .ok (.athrow, 1) := dk_191 (dk_at dksX14_clause_4 10 rfl rfl)
theorem dX14_clause_105 : decode cX14_clause 105 = .ok (.aload_n 0, 1) := dk_42 (dk_at dksX14_clause_4 11 rfl rfl)
theorem dX14_clause_106 : decode cX14_clause 106 = .ok (.getfield 12, 3) := dk_180 0 12 (dk_at dksX14_clause_4 12 rfl rfl)
theorem dX14_clause_109 : decode cX14_clause 109 = .ok (.dup, 1) := dk_89 (dk_at dksX14_clause_4 15 rfl rfl)
theorem dX14_clause_110 : decode cX14_clause 110 = .ok (.getfield 136, 3) := dk_180 0 136 (dk_at dksX14_clause_4 16 rfl rfl)
theorem dX14_clause_113 : decode cX14_clause 113 = .ok (.iconst 1, 1) := dk_4 (dk_at dksX14_clause_4 19 rfl rfl)
theorem dX14_clause_114 : decode cX14_clause 114 = .ok (.iadd, 1) := dk_96 (dk_at dksX14_clause_4 20 rfl rfl)
theorem dX14_clause_115 : decode cX14_clause 115 = .ok (.putfield 136, 3) := dk_181 0 136 (dk_at dksX14_clause_4 21 rfl rfl)
theorem dX14_clause_118 : decode cX14_clause 118 = .ok (.return_, 1) := dk_177 (dk_at dksX14_clause_5 0 rfl rfl)
abbrev cX14_here : ByteArray := prog_11_method_2_code
def yX14_here : MethodName := ⟨RX14, "here", "()I"⟩
def dkwX14_here_1 : List UInt8 := [172]
abbrev dktX14_here_1 : List UInt8 := dkwX14_here_1 ++ []
def dkwX14_here_0 : List UInt8 := [42, 180, 0, 26, 42, 180, 0, 22, 162, 0, 15, 42, 180, 0, 18, 42, 180, 0, 26, 51, 167, 0, 4, 2]
abbrev dktX14_here_0 : List UInt8 := dkwX14_here_0 ++ dktX14_here_1
theorem dksX14_here_0 : cX14_here.data.toList.drop 0 = dktX14_here_0 := by decide +kernel
theorem dksX14_here_1 : cX14_here.data.toList.drop 24 = dktX14_here_1 := dk_seg dksX14_here_0 24 rfl rfl
theorem dX14_here_0 : decode cX14_here 0 = .ok (.aload_n 0, 1) := dk_42 (dk_at dksX14_here_0 0 rfl rfl)
theorem dX14_here_1 : decode cX14_here 1 = .ok (.getfield 26, 3) := dk_180 0 26 (dk_at dksX14_here_0 1 rfl rfl)
theorem dX14_here_4 : decode cX14_here 4 = .ok (.aload_n 0, 1) := dk_42 (dk_at dksX14_here_0 4 rfl rfl)
theorem dX14_here_5 : decode cX14_here 5 = .ok (.getfield 22, 3) := dk_180 0 22 (dk_at dksX14_here_0 5 rfl rfl)
theorem dX14_here_8 : decode cX14_here 8 = .ok (.if_icmp .ge 15, 3) := dk_162 0 15 (dk_at dksX14_here_0 8 rfl rfl)
theorem dX14_here_11 : decode cX14_here 11 = .ok (.aload_n 0, 1) := dk_42 (dk_at dksX14_here_0 11 rfl rfl)
theorem dX14_here_12 : decode cX14_here 12 = .ok (.getfield 18, 3) := dk_180 0 18 (dk_at dksX14_here_0 12 rfl rfl)
theorem dX14_here_15 : decode cX14_here 15 = .ok (.aload_n 0, 1) := dk_42 (dk_at dksX14_here_0 15 rfl rfl)
theorem dX14_here_16 : decode cX14_here 16 = .ok (.getfield 26, 3) := dk_180 0 26 (dk_at dksX14_here_0 16 rfl rfl)
theorem dX14_here_19 : decode cX14_here 19 = .ok (.baload, 1) := dk_51 (dk_at dksX14_here_0 19 rfl rfl)
theorem dX14_here_20 : decode cX14_here 20 = .ok (.goto 4, 3) := dk_167 0 4 (dk_at dksX14_here_0 20 rfl rfl)
theorem dX14_here_23 : decode cX14_here 23 = .ok (.iconst (-1), 1) := dk_2 (dk_at dksX14_here_0 23 rfl rfl)
theorem dX14_here_24 : decode cX14_here 24 = .ok (.ireturn, 1) := dk_172 (dk_at dksX14_here_1 0 rfl rfl)
abbrev cX14_tested : ByteArray := prog_11_method_11_code
def yX14_tested : MethodName := ⟨RX14, "tested", "(Ljava/lang/String;I)V"⟩
def dkwX14_tested_1 : List UInt8 := [187, 0, 109, 89, 28, 29, 104, 42, 182, 0, 73, 183, 0, 111, 182, 0, 93, 87, 177]
abbrev dktX14_tested_1 : List UInt8 := dkwX14_tested_1 ++ []
def dkwX14_tested_0 : List UInt8 := [42, 43, 182, 0, 102, 42, 182, 0, 78, 62, 42, 16, 32, 182, 0, 51, 42, 180, 0, 12, 180, 0, 106]
abbrev dktX14_tested_0 : List UInt8 := dkwX14_tested_0 ++ dktX14_tested_1
theorem dksX14_tested_0 : cX14_tested.data.toList.drop 0 = dktX14_tested_0 := by decide +kernel
theorem dksX14_tested_1 : cX14_tested.data.toList.drop 23 = dktX14_tested_1 := dk_seg dksX14_tested_0 23 rfl rfl
theorem dX14_tested_0 : decode cX14_tested 0 = .ok (.aload_n 0, 1) := dk_42 (dk_at dksX14_tested_0 0 rfl rfl)
theorem dX14_tested_1 : decode cX14_tested 1 = .ok (.aload_n 1, 1) := dk_43 (dk_at dksX14_tested_0 1 rfl rfl)
theorem dX14_tested_2 : decode cX14_tested 2 = .ok (.invokevirtual 102, 3) := dk_182 0 102 (dk_at dksX14_tested_0 2 rfl rfl)
theorem dX14_tested_5 : decode cX14_tested 5 = .ok (.aload_n 0, 1) := dk_42 (dk_at dksX14_tested_0 5 rfl rfl)
theorem dX14_tested_6 : decode cX14_tested 6 = .ok (.invokevirtual 78, 3) := dk_182 0 78 (dk_at dksX14_tested_0 6 rfl rfl)
theorem dX14_tested_9 : decode cX14_tested 9 = .ok (.istore_n 3, 1) := dk_62 (dk_at dksX14_tested_0 9 rfl rfl)
theorem dX14_tested_10 : decode cX14_tested 10 = .ok (.aload_n 0, 1) := dk_42 (dk_at dksX14_tested_0 10 rfl rfl)
theorem dX14_tested_11 : decode cX14_tested 11 = .ok (.bipush 32, 2) := dk_16 32 (dk_at dksX14_tested_0 11 rfl rfl)
theorem dX14_tested_13 : decode cX14_tested 13 = .ok (.invokevirtual 51, 3) := dk_182 0 51 (dk_at dksX14_tested_0 13 rfl rfl)
theorem dX14_tested_16 : decode cX14_tested 16 = .ok (.aload_n 0, 1) := dk_42 (dk_at dksX14_tested_0 16 rfl rfl)
theorem dX14_tested_17 : decode cX14_tested 17 = .ok (.getfield 12, 3) := dk_180 0 12 (dk_at dksX14_tested_0 17 rfl rfl)
theorem dX14_tested_20 : decode cX14_tested 20 = .ok (.getfield 106, 3) := dk_180 0 106 (dk_at dksX14_tested_0 20 rfl rfl)
theorem dX14_tested_23 : decode cX14_tested 23 = .ok (.new 109, 3) := dk_187 0 109 (dk_at dksX14_tested_1 0 rfl rfl)
theorem dX14_tested_26 : decode cX14_tested 26 = .ok (.dup, 1) := dk_89 (dk_at dksX14_tested_1 3 rfl rfl)
theorem dX14_tested_27 : decode cX14_tested 27 = .ok (.iload_n 2, 1) := dk_28 (dk_at dksX14_tested_1 4 rfl rfl)
theorem dX14_tested_28 : decode cX14_tested 28 = .ok (.iload_n 3, 1) := dk_29 (dk_at dksX14_tested_1 5 rfl rfl)
theorem dX14_tested_29 : decode cX14_tested 29 = .ok (.imul, 1) := dk_104 (dk_at dksX14_tested_1 6 rfl rfl)
theorem dX14_tested_30 : decode cX14_tested 30 = .ok (.aload_n 0, 1) := dk_42 (dk_at dksX14_tested_1 7 rfl rfl)
theorem dX14_tested_31 : decode cX14_tested 31 = .ok (.invokevirtual 73, 3) := dk_182 0 73 (dk_at dksX14_tested_1 8 rfl rfl)
theorem dX14_tested_34 : decode cX14_tested 34 = .ok (.invokespecial 111, 3) := dk_183 0 111 (dk_at dksX14_tested_1 11 rfl rfl)
theorem dX14_tested_37 : decode cX14_tested 37 = .ok (.invokevirtual 93, 3) := dk_182 0 93 (dk_at dksX14_tested_1 14 rfl rfl)
theorem dX14_tested_40 : decode cX14_tested 40 = .ok (.pop, 1) := dk_87 (dk_at dksX14_tested_1 17 rfl rfl)
theorem dX14_tested_41 : decode cX14_tested 41 = .ok (.return_, 1) := dk_177 (dk_at dksX14_tested_1 18 rfl rfl)
abbrev cX14_word : ByteArray := prog_11_method_5_code
def yX14_word : MethodName := ⟨RX14, "word", "(Ljava/lang/String;)V"⟩
def dkwX14_word_1 : List UInt8 := [167, 255, 236, 177]
abbrev dktX14_word_1 : List UInt8 := dkwX14_word_1 ++ []
def dkwX14_word_0 : List UInt8 := [3, 61, 28, 43, 182, 0, 42, 162, 0, 18, 42, 43, 28, 182, 0, 47, 182, 0, 51, 132, 2, 1]
abbrev dktX14_word_0 : List UInt8 := dkwX14_word_0 ++ dktX14_word_1
theorem dksX14_word_0 : cX14_word.data.toList.drop 0 = dktX14_word_0 := by decide +kernel
theorem dksX14_word_1 : cX14_word.data.toList.drop 22 = dktX14_word_1 := dk_seg dksX14_word_0 22 rfl rfl
theorem dX14_word_0 : decode cX14_word 0 = .ok (.iconst 0, 1) := dk_3 (dk_at dksX14_word_0 0 rfl rfl)
theorem dX14_word_1 : decode cX14_word 1 = .ok (.istore_n 2, 1) := dk_61 (dk_at dksX14_word_0 1 rfl rfl)
theorem dX14_word_2 : decode cX14_word 2 = .ok (.iload_n 2, 1) := dk_28 (dk_at dksX14_word_0 2 rfl rfl)
theorem dX14_word_3 : decode cX14_word 3 = .ok (.aload_n 1, 1) := dk_43 (dk_at dksX14_word_0 3 rfl rfl)
theorem dX14_word_4 : decode cX14_word 4 = .ok (.invokevirtual 42, 3) := dk_182 0 42 (dk_at dksX14_word_0 4 rfl rfl)
theorem dX14_word_7 : decode cX14_word 7 = .ok (.if_icmp .ge 18, 3) := dk_162 0 18 (dk_at dksX14_word_0 7 rfl rfl)
theorem dX14_word_10 : decode cX14_word 10 = .ok (.aload_n 0, 1) := dk_42 (dk_at dksX14_word_0 10 rfl rfl)
theorem dX14_word_11 : decode cX14_word 11 = .ok (.aload_n 1, 1) := dk_43 (dk_at dksX14_word_0 11 rfl rfl)
theorem dX14_word_12 : decode cX14_word 12 = .ok (.iload_n 2, 1) := dk_28 (dk_at dksX14_word_0 12 rfl rfl)
theorem dX14_word_13 : decode cX14_word 13 = .ok (.invokevirtual 47, 3) := dk_182 0 47 (dk_at dksX14_word_0 13 rfl rfl)
theorem dX14_word_16 : decode cX14_word 16 = .ok (.invokevirtual 51, 3) := dk_182 0 51 (dk_at dksX14_word_0 16 rfl rfl)
theorem dX14_word_19 : decode cX14_word 19 = .ok (.iinc 2 1, 3) := dk_132 2 1 (dk_at dksX14_word_0 19 rfl rfl)
theorem dX14_word_22 : decode cX14_word 22 = .ok (.goto (-20), 3) := dk_167 255 236 (dk_at dksX14_word_1 0 rfl rfl)
theorem dX14_word_25 : decode cX14_word 25 = .ok (.return_, 1) := dk_177 (dk_at dksX14_word_1 3 rfl rfl)
abbrev cX14_must : ByteArray := prog_11_method_4_code
def yX14_must : MethodName := ⟨RX14, "must", "(I)V"⟩
def dkwX14_must_0 : List UInt8 := [42, 182, 0, 34, 27, 159, 0, 8, 42, 182, 0, 38, 191, 42, 89, 180, 0, 26, 4, 96, 181, 0, 26, 177]
abbrev dktX14_must_0 : List UInt8 := dkwX14_must_0 ++ []
theorem dksX14_must_0 : cX14_must.data.toList.drop 0 = dktX14_must_0 := by decide +kernel
theorem dX14_must_0 : decode cX14_must 0 = .ok (.aload_n 0, 1) := dk_42 (dk_at dksX14_must_0 0 rfl rfl)
theorem dX14_must_1 : decode cX14_must 1 = .ok (.invokevirtual 34, 3) := dk_182 0 34 (dk_at dksX14_must_0 1 rfl rfl)
theorem dX14_must_4 : decode cX14_must 4 = .ok (.iload_n 1, 1) := dk_27 (dk_at dksX14_must_0 4 rfl rfl)
theorem dX14_must_5 : decode cX14_must 5 = .ok (.if_icmp .eq 8, 3) := dk_159 0 8 (dk_at dksX14_must_0 5 rfl rfl)
theorem dX14_must_8 : decode cX14_must 8 = .ok (.aload_n 0, 1) := dk_42 (dk_at dksX14_must_0 8 rfl rfl)
theorem dX14_must_9 : decode cX14_must 9 = .ok (.invokevirtual 38, 3) := dk_182 0 38 (dk_at dksX14_must_0 9 rfl rfl)
theorem dX14_must_12 : decode cX14_must 12 = .ok (.athrow, 1) := dk_191 (dk_at dksX14_must_0 12 rfl rfl)
theorem dX14_must_13 : decode cX14_must 13 = .ok (.aload_n 0, 1) := dk_42 (dk_at dksX14_must_0 13 rfl rfl)
theorem dX14_must_14 : decode cX14_must 14 = .ok (.dup, 1) := dk_89 (dk_at dksX14_must_0 14 rfl rfl)
theorem dX14_must_15 : decode cX14_must 15 = .ok (.getfield 26, 3) := dk_180 0 26 (dk_at dksX14_must_0 15 rfl rfl)
theorem dX14_must_18 : decode cX14_must 18 = .ok (.iconst 1, 1) := dk_4 (dk_at dksX14_must_0 18 rfl rfl)
theorem dX14_must_19 : decode cX14_must 19 = .ok (.iadd, 1) := dk_96 (dk_at dksX14_must_0 19 rfl rfl)
theorem dX14_must_20 : decode cX14_must 20 = .ok (.putfield 26, 3) := dk_181 0 26 (dk_at dksX14_must_0 20 rfl rfl)
theorem dX14_must_23 : decode cX14_must 23 = .ok (.return_, 1) := dk_177 (dk_at dksX14_must_0 23 rfl rfl)
abbrev cX14_off : ByteArray := prog_11_method_3_code
def yX14_off : MethodName := ⟨RX14, "off", "()LSomebodysLift$Off;"⟩
def dkwX14_off_0 : List UInt8 := [187, 0, 29, 89, 42, 180, 0, 26, 183, 0, 31, 176]
abbrev dktX14_off_0 : List UInt8 := dkwX14_off_0 ++ []
theorem dksX14_off_0 : cX14_off.data.toList.drop 0 = dktX14_off_0 := by decide +kernel
theorem dX14_off_0 : decode cX14_off 0 = .ok (.new 29, 3) := dk_187 0 29 (dk_at dksX14_off_0 0 rfl rfl)
theorem dX14_off_3 : decode cX14_off 3 = .ok (.dup, 1) := dk_89 (dk_at dksX14_off_0 3 rfl rfl)
theorem dX14_off_4 : decode cX14_off 4 = .ok (.aload_n 0, 1) := dk_42 (dk_at dksX14_off_0 4 rfl rfl)
theorem dX14_off_5 : decode cX14_off 5 = .ok (.getfield 26, 3) := dk_180 0 26 (dk_at dksX14_off_0 5 rfl rfl)
theorem dX14_off_8 : decode cX14_off 8 = .ok (.invokespecial 31, 3) := dk_183 0 31 (dk_at dksX14_off_0 8 rfl rfl)
theorem dX14_off_11 : decode cX14_off 11 = .ok (.areturn, 1) := dk_176 (dk_at dksX14_off_0 11 rfl rfl)
abbrev cX14_number : ByteArray := prog_11_method_6_code
def yX14_number : MethodName := ⟨RX14, "number", "()I"⟩
def dkwX14_number_3 : List UInt8 := [167, 255, 209, 27, 172]
abbrev dktX14_number_3 : List UInt8 := dkwX14_number_3 ++ []
def dkwX14_number_2 : List UInt8 := [180, 0, 18, 42, 89, 180, 0, 26, 90, 4, 96, 181, 0, 26, 51, 96, 16, 48, 100, 60, 132, 2, 1]
abbrev dktX14_number_2 : List UInt8 := dkwX14_number_2 ++ dktX14_number_3
def dkwX14_number_1 : List UInt8 := [5, 162, 0, 48, 42, 182, 0, 34, 16, 48, 16, 57, 184, 0, 54, 153, 0, 34, 16, 10, 27, 104, 42]
abbrev dktX14_number_1 : List UInt8 := dkwX14_number_1 ++ dktX14_number_2
def dkwX14_number_0 : List UInt8 := [42, 182, 0, 34, 16, 48, 16, 57, 184, 0, 54, 154, 0, 8, 42, 182, 0, 38, 191, 3, 60, 3, 61, 28]
abbrev dktX14_number_0 : List UInt8 := dkwX14_number_0 ++ dktX14_number_1
theorem dksX14_number_0 : cX14_number.data.toList.drop 0 = dktX14_number_0 := by decide +kernel
theorem dksX14_number_1 : cX14_number.data.toList.drop 24 = dktX14_number_1 := dk_seg dksX14_number_0 24 rfl rfl
theorem dksX14_number_2 : cX14_number.data.toList.drop 47 = dktX14_number_2 := dk_seg dksX14_number_1 23 rfl rfl
theorem dksX14_number_3 : cX14_number.data.toList.drop 70 = dktX14_number_3 := dk_seg dksX14_number_2 23 rfl rfl
theorem dX14_number_0 : decode cX14_number 0 = .ok (.aload_n 0, 1) := dk_42 (dk_at dksX14_number_0 0 rfl rfl)
theorem dX14_number_1 : decode cX14_number 1 = .ok (.invokevirtual 34, 3) := dk_182 0 34 (dk_at dksX14_number_0 1 rfl rfl)
theorem dX14_number_4 : decode cX14_number 4 = .ok (.bipush 48, 2) := dk_16 48 (dk_at dksX14_number_0 4 rfl rfl)
theorem dX14_number_6 : decode cX14_number 6 = .ok (.bipush 57, 2) := dk_16 57 (dk_at dksX14_number_0 6 rfl rfl)
theorem dX14_number_8 : decode cX14_number 8 = .ok (.invokestatic 54, 3) := dk_184 0 54 (dk_at dksX14_number_0 8 rfl rfl)
theorem dX14_number_11 : decode cX14_number 11 = .ok (.ifCond .ne 8, 3) := dk_154 0 8 (dk_at dksX14_number_0 11 rfl rfl)
theorem dX14_number_14 : decode cX14_number 14 = .ok (.aload_n 0, 1) := dk_42 (dk_at dksX14_number_0 14 rfl rfl)
theorem dX14_number_15 : decode cX14_number 15 = .ok (.invokevirtual 38, 3) := dk_182 0 38 (dk_at dksX14_number_0 15 rfl rfl)
theorem dX14_number_18 : decode cX14_number 18 = .ok (.athrow, 1) := dk_191 (dk_at dksX14_number_0 18 rfl rfl)
theorem dX14_number_19 : decode cX14_number 19 = .ok (.iconst 0, 1) := dk_3 (dk_at dksX14_number_0 19 rfl rfl)
theorem dX14_number_20 : decode cX14_number 20 = .ok (.istore_n 1, 1) := dk_60 (dk_at dksX14_number_0 20 rfl rfl)
theorem dX14_number_21 : decode cX14_number 21 = .ok (.iconst 0, 1) := dk_3 (dk_at dksX14_number_0 21 rfl rfl)
theorem dX14_number_22 : decode cX14_number 22 = .ok (.istore_n 2, 1) := dk_61 (dk_at dksX14_number_0 22 rfl rfl)
theorem dX14_number_23 : decode cX14_number 23 = .ok (.iload_n 2, 1) := dk_28 (dk_at dksX14_number_0 23 rfl rfl)
theorem dX14_number_24 : decode cX14_number 24 = .ok (.iconst 2, 1) := dk_5 (dk_at dksX14_number_1 0 rfl rfl)
theorem dX14_number_25 : decode cX14_number 25 = .ok (.if_icmp .ge 48, 3) := dk_162 0 48 (dk_at dksX14_number_1 1 rfl rfl)
theorem dX14_number_28 : decode cX14_number 28 = .ok (.aload_n 0, 1) := dk_42 (dk_at dksX14_number_1 4 rfl rfl)
theorem dX14_number_29 : decode cX14_number 29 = .ok (.invokevirtual 34, 3) := dk_182 0 34 (dk_at dksX14_number_1 5 rfl rfl)
theorem dX14_number_32 : decode cX14_number 32 = .ok (.bipush 48, 2) := dk_16 48 (dk_at dksX14_number_1 8 rfl rfl)
theorem dX14_number_34 : decode cX14_number 34 = .ok (.bipush 57, 2) := dk_16 57 (dk_at dksX14_number_1 10 rfl rfl)
theorem dX14_number_36 : decode cX14_number 36 = .ok (.invokestatic 54, 3) := dk_184 0 54 (dk_at dksX14_number_1 12 rfl rfl)
theorem dX14_number_39 : decode cX14_number 39 = .ok (.ifCond .eq 34, 3) := dk_153 0 34 (dk_at dksX14_number_1 15 rfl rfl)
theorem dX14_number_42 : decode cX14_number 42 = .ok (.bipush 10, 2) := dk_16 10 (dk_at dksX14_number_1 18 rfl rfl)
theorem dX14_number_44 : decode cX14_number 44 = .ok (.iload_n 1, 1) := dk_27 (dk_at dksX14_number_1 20 rfl rfl)
theorem dX14_number_45 : decode cX14_number 45 = .ok (.imul, 1) := dk_104 (dk_at dksX14_number_1 21 rfl rfl)
theorem dX14_number_46 : decode cX14_number 46 = .ok (.aload_n 0, 1) := dk_42 (dk_at dksX14_number_1 22 rfl rfl)
theorem dX14_number_47 : decode cX14_number 47 = .ok (.getfield 18, 3) := dk_180 0 18 (dk_at dksX14_number_2 0 rfl rfl)
theorem dX14_number_50 : decode cX14_number 50 = .ok (.aload_n 0, 1) := dk_42 (dk_at dksX14_number_2 3 rfl rfl)
theorem dX14_number_51 : decode cX14_number 51 = .ok (.dup, 1) := dk_89 (dk_at dksX14_number_2 4 rfl rfl)
theorem dX14_number_52 : decode cX14_number 52 = .ok (.getfield 26, 3) := dk_180 0 26 (dk_at dksX14_number_2 5 rfl rfl)
theorem dX14_number_55 : decode cX14_number 55 = .ok (.dup_x1, 1) := dk_90 (dk_at dksX14_number_2 8 rfl rfl)
theorem dX14_number_56 : decode cX14_number 56 = .ok (.iconst 1, 1) := dk_4 (dk_at dksX14_number_2 9 rfl rfl)
theorem dX14_number_57 : decode cX14_number 57 = .ok (.iadd, 1) := dk_96 (dk_at dksX14_number_2 10 rfl rfl)
theorem dX14_number_58 : decode cX14_number 58 = .ok (.putfield 26, 3) := dk_181 0 26 (dk_at dksX14_number_2 11 rfl rfl)
theorem dX14_number_61 : decode cX14_number 61 = .ok (.baload, 1) := dk_51 (dk_at dksX14_number_2 14 rfl rfl)
theorem dX14_number_62 : decode cX14_number 62 = .ok (.iadd, 1) := dk_96 (dk_at dksX14_number_2 15 rfl rfl)
theorem dX14_number_63 : decode cX14_number 63 = .ok (.bipush 48, 2) := dk_16 48 (dk_at dksX14_number_2 16 rfl rfl)
theorem dX14_number_65 : decode cX14_number 65 = .ok (.isub, 1) := dk_100 (dk_at dksX14_number_2 18 rfl rfl)
theorem dX14_number_66 : decode cX14_number 66 = .ok (.istore_n 1, 1) := dk_60 (dk_at dksX14_number_2 19 rfl rfl)
theorem dX14_number_67 : decode cX14_number 67 = .ok (.iinc 2 1, 3) := dk_132 2 1 (dk_at dksX14_number_2 20 rfl rfl)
theorem dX14_number_70 : decode cX14_number 70 = .ok (.goto (-47), 3) := dk_167 255 209 (dk_at dksX14_number_3 0 rfl rfl)
theorem dX14_number_73 : decode cX14_number 73 = .ok (.iload_n 1, 1) := dk_27 (dk_at dksX14_number_3 3 rfl rfl)
theorem dX14_number_74 : decode cX14_number 74 = .ok (.ireturn, 1) := dk_172 (dk_at dksX14_number_3 4 rfl rfl)
abbrev cX14_some : ByteArray := prog_11_method_10_code
def yX14_some : MethodName := ⟨RX14, "some", "()LSomebodysLift$Test;"⟩
def dkwX14_some_2 : List UInt8 := [182, 0, 99, 182, 0, 93, 87, 167, 255, 225, 43, 176]
abbrev dktX14_some_2 : List UInt8 := dkwX14_some_2 ++ []
def dkwX14_some_1 : List UInt8 := [182, 0, 34, 16, 124, 160, 0, 28, 42, 89, 180, 0, 26, 4, 96, 181, 0, 26, 43, 180, 0, 89, 42]
abbrev dktX14_some_1 : List UInt8 := dkwX14_some_1 ++ dktX14_some_2
def dkwX14_some_0 : List UInt8 := [187, 0, 84, 89, 3, 183, 0, 86, 76, 43, 180, 0, 89, 42, 182, 0, 99, 182, 0, 93, 87, 42]
abbrev dktX14_some_0 : List UInt8 := dkwX14_some_0 ++ dktX14_some_1
theorem dksX14_some_0 : cX14_some.data.toList.drop 0 = dktX14_some_0 := by decide +kernel
theorem dksX14_some_1 : cX14_some.data.toList.drop 22 = dktX14_some_1 := dk_seg dksX14_some_0 22 rfl rfl
theorem dksX14_some_2 : cX14_some.data.toList.drop 45 = dktX14_some_2 := dk_seg dksX14_some_1 23 rfl rfl
theorem dX14_some_0 : decode cX14_some 0 = .ok (.new 84, 3) := dk_187 0 84 (dk_at dksX14_some_0 0 rfl rfl)
theorem dX14_some_3 : decode cX14_some 3 = .ok (.dup, 1) := dk_89 (dk_at dksX14_some_0 3 rfl rfl)
theorem dX14_some_4 : decode cX14_some 4 = .ok (.iconst 0, 1) := dk_3 (dk_at dksX14_some_0 4 rfl rfl)
theorem dX14_some_5 : decode cX14_some 5 = .ok (.invokespecial 86, 3) := dk_183 0 86 (dk_at dksX14_some_0 5 rfl rfl)
theorem dX14_some_8 : decode cX14_some 8 = .ok (.astore_n 1, 1) := dk_76 (dk_at dksX14_some_0 8 rfl rfl)
theorem dX14_some_9 : decode cX14_some 9 = .ok (.aload_n 1, 1) := dk_43 (dk_at dksX14_some_0 9 rfl rfl)
theorem dX14_some_10 : decode cX14_some 10 = .ok (.getfield 89, 3) := dk_180 0 89 (dk_at dksX14_some_0 10 rfl rfl)
theorem dX14_some_13 : decode cX14_some 13 = .ok (.aload_n 0, 1) := dk_42 (dk_at dksX14_some_0 13 rfl rfl)
theorem dX14_some_14 : decode cX14_some 14 = .ok (.invokevirtual 99, 3) := dk_182 0 99 (dk_at dksX14_some_0 14 rfl rfl)
theorem dX14_some_17 : decode cX14_some 17 = .ok (.invokevirtual 93, 3) := dk_182 0 93 (dk_at dksX14_some_0 17 rfl rfl)
theorem dX14_some_20 : decode cX14_some 20 = .ok (.pop, 1) := dk_87 (dk_at dksX14_some_0 20 rfl rfl)
theorem dX14_some_21 : decode cX14_some 21 = .ok (.aload_n 0, 1) := dk_42 (dk_at dksX14_some_0 21 rfl rfl)
theorem dX14_some_22 : decode cX14_some 22 = .ok (.invokevirtual 34, 3) := dk_182 0 34 (dk_at dksX14_some_1 0 rfl rfl)
theorem dX14_some_25 : decode cX14_some 25 = .ok (.bipush 124, 2) := dk_16 124 (dk_at dksX14_some_1 3 rfl rfl)
theorem dX14_some_27 : decode cX14_some 27 = .ok (.if_icmp .ne 28, 3) := dk_160 0 28 (dk_at dksX14_some_1 5 rfl rfl)
theorem dX14_some_30 : decode cX14_some 30 = .ok (.aload_n 0, 1) := dk_42 (dk_at dksX14_some_1 8 rfl rfl)
theorem dX14_some_31 : decode cX14_some 31 = .ok (.dup, 1) := dk_89 (dk_at dksX14_some_1 9 rfl rfl)
theorem dX14_some_32 : decode cX14_some 32 = .ok (.getfield 26, 3) := dk_180 0 26 (dk_at dksX14_some_1 10 rfl rfl)
theorem dX14_some_35 : decode cX14_some 35 = .ok (.iconst 1, 1) := dk_4 (dk_at dksX14_some_1 13 rfl rfl)
theorem dX14_some_36 : decode cX14_some 36 = .ok (.iadd, 1) := dk_96 (dk_at dksX14_some_1 14 rfl rfl)
theorem dX14_some_37 : decode cX14_some 37 = .ok (.putfield 26, 3) := dk_181 0 26 (dk_at dksX14_some_1 15 rfl rfl)
theorem dX14_some_40 : decode cX14_some 40 = .ok (.aload_n 1, 1) := dk_43 (dk_at dksX14_some_1 18 rfl rfl)
theorem dX14_some_41 : decode cX14_some 41 = .ok (.getfield 89, 3) := dk_180 0 89 (dk_at dksX14_some_1 19 rfl rfl)
theorem dX14_some_44 : decode cX14_some 44 = .ok (.aload_n 0, 1) := dk_42 (dk_at dksX14_some_1 22 rfl rfl)
theorem dX14_some_45 : decode cX14_some 45 = .ok (.invokevirtual 99, 3) := dk_182 0 99 (dk_at dksX14_some_2 0 rfl rfl)
theorem dX14_some_48 : decode cX14_some 48 = .ok (.invokevirtual 93, 3) := dk_182 0 93 (dk_at dksX14_some_2 3 rfl rfl)
theorem dX14_some_51 : decode cX14_some 51 = .ok (.pop, 1) := dk_87 (dk_at dksX14_some_2 6 rfl rfl)
theorem dX14_some_52 : decode cX14_some 52 = .ok (.goto (-31), 3) := dk_167 255 225 (dk_at dksX14_some_2 7 rfl rfl)
theorem dX14_some_55 : decode cX14_some 55 = .ok (.aload_n 1, 1) := dk_43 (dk_at dksX14_some_2 10 rfl rfl)
theorem dX14_some_56 : decode cX14_some 56 = .ok (.areturn, 1) := dk_176 (dk_at dksX14_some_2 11 rfl rfl)
abbrev cX14_all : ByteArray := prog_11_method_9_code
def yX14_all : MethodName := ⟨RX14, "all", "()LSomebodysLift$Test;"⟩
def dkwX14_all_2 : List UInt8 := [182, 0, 66, 182, 0, 93, 87, 167, 255, 225, 43, 176]
abbrev dktX14_all_2 : List UInt8 := dkwX14_all_2 ++ []
def dkwX14_all_1 : List UInt8 := [182, 0, 34, 16, 38, 160, 0, 28, 42, 89, 180, 0, 26, 4, 96, 181, 0, 26, 43, 180, 0, 89, 42]
abbrev dktX14_all_1 : List UInt8 := dkwX14_all_1 ++ dktX14_all_2
def dkwX14_all_0 : List UInt8 := [187, 0, 84, 89, 4, 183, 0, 86, 76, 43, 180, 0, 89, 42, 182, 0, 66, 182, 0, 93, 87, 42]
abbrev dktX14_all_0 : List UInt8 := dkwX14_all_0 ++ dktX14_all_1
theorem dksX14_all_0 : cX14_all.data.toList.drop 0 = dktX14_all_0 := by decide +kernel
theorem dksX14_all_1 : cX14_all.data.toList.drop 22 = dktX14_all_1 := dk_seg dksX14_all_0 22 rfl rfl
theorem dksX14_all_2 : cX14_all.data.toList.drop 45 = dktX14_all_2 := dk_seg dksX14_all_1 23 rfl rfl
theorem dX14_all_0 : decode cX14_all 0 = .ok (.new 84, 3) := dk_187 0 84 (dk_at dksX14_all_0 0 rfl rfl)
theorem dX14_all_3 : decode cX14_all 3 = .ok (.dup, 1) := dk_89 (dk_at dksX14_all_0 3 rfl rfl)
theorem dX14_all_4 : decode cX14_all 4 = .ok (.iconst 1, 1) := dk_4 (dk_at dksX14_all_0 4 rfl rfl)
theorem dX14_all_5 : decode cX14_all 5 = .ok (.invokespecial 86, 3) := dk_183 0 86 (dk_at dksX14_all_0 5 rfl rfl)
theorem dX14_all_8 : decode cX14_all 8 = .ok (.astore_n 1, 1) := dk_76 (dk_at dksX14_all_0 8 rfl rfl)
theorem dX14_all_9 : decode cX14_all 9 = .ok (.aload_n 1, 1) := dk_43 (dk_at dksX14_all_0 9 rfl rfl)
theorem dX14_all_10 : decode cX14_all 10 = .ok (.getfield 89, 3) := dk_180 0 89 (dk_at dksX14_all_0 10 rfl rfl)
theorem dX14_all_13 : decode cX14_all 13 = .ok (.aload_n 0, 1) := dk_42 (dk_at dksX14_all_0 13 rfl rfl)
theorem dX14_all_14 : decode cX14_all 14 = .ok (.invokevirtual 66, 3) := dk_182 0 66 (dk_at dksX14_all_0 14 rfl rfl)
theorem dX14_all_17 : decode cX14_all 17 = .ok (.invokevirtual 93, 3) := dk_182 0 93 (dk_at dksX14_all_0 17 rfl rfl)
theorem dX14_all_20 : decode cX14_all 20 = .ok (.pop, 1) := dk_87 (dk_at dksX14_all_0 20 rfl rfl)
theorem dX14_all_21 : decode cX14_all 21 = .ok (.aload_n 0, 1) := dk_42 (dk_at dksX14_all_0 21 rfl rfl)
theorem dX14_all_22 : decode cX14_all 22 = .ok (.invokevirtual 34, 3) := dk_182 0 34 (dk_at dksX14_all_1 0 rfl rfl)
theorem dX14_all_25 : decode cX14_all 25 = .ok (.bipush 38, 2) := dk_16 38 (dk_at dksX14_all_1 3 rfl rfl)
theorem dX14_all_27 : decode cX14_all 27 = .ok (.if_icmp .ne 28, 3) := dk_160 0 28 (dk_at dksX14_all_1 5 rfl rfl)
theorem dX14_all_30 : decode cX14_all 30 = .ok (.aload_n 0, 1) := dk_42 (dk_at dksX14_all_1 8 rfl rfl)
theorem dX14_all_31 : decode cX14_all 31 = .ok (.dup, 1) := dk_89 (dk_at dksX14_all_1 9 rfl rfl)
theorem dX14_all_32 : decode cX14_all 32 = .ok (.getfield 26, 3) := dk_180 0 26 (dk_at dksX14_all_1 10 rfl rfl)
theorem dX14_all_35 : decode cX14_all 35 = .ok (.iconst 1, 1) := dk_4 (dk_at dksX14_all_1 13 rfl rfl)
theorem dX14_all_36 : decode cX14_all 36 = .ok (.iadd, 1) := dk_96 (dk_at dksX14_all_1 14 rfl rfl)
theorem dX14_all_37 : decode cX14_all 37 = .ok (.putfield 26, 3) := dk_181 0 26 (dk_at dksX14_all_1 15 rfl rfl)
theorem dX14_all_40 : decode cX14_all 40 = .ok (.aload_n 1, 1) := dk_43 (dk_at dksX14_all_1 18 rfl rfl)
theorem dX14_all_41 : decode cX14_all 41 = .ok (.getfield 89, 3) := dk_180 0 89 (dk_at dksX14_all_1 19 rfl rfl)
theorem dX14_all_44 : decode cX14_all 44 = .ok (.aload_n 0, 1) := dk_42 (dk_at dksX14_all_1 22 rfl rfl)
theorem dX14_all_45 : decode cX14_all 45 = .ok (.invokevirtual 66, 3) := dk_182 0 66 (dk_at dksX14_all_2 0 rfl rfl)
theorem dX14_all_48 : decode cX14_all 48 = .ok (.invokevirtual 93, 3) := dk_182 0 93 (dk_at dksX14_all_2 3 rfl rfl)
theorem dX14_all_51 : decode cX14_all 51 = .ok (.pop, 1) := dk_87 (dk_at dksX14_all_2 6 rfl rfl)
theorem dX14_all_52 : decode cX14_all 52 = .ok (.goto (-31), 3) := dk_167 255 225 (dk_at dksX14_all_2 7 rfl rfl)
theorem dX14_all_55 : decode cX14_all 55 = .ok (.aload_n 1, 1) := dk_43 (dk_at dksX14_all_2 10 rfl rfl)
theorem dX14_all_56 : decode cX14_all 56 = .ok (.areturn, 1) := dk_176 (dk_at dksX14_all_2 11 rfl rfl)
abbrev cX14_factor : ByteArray := prog_11_method_8_code
def yX14_factor : MethodName := ⟨RX14, "factor", "()LSomebodysLift$Test;"⟩
def dkwX14_factor_7 : List UInt8 := [27, 28, 42, 182, 0, 78, 183, 0, 81, 176, 42, 182, 0, 38, 191]
abbrev dktX14_factor_7 : List UInt8 := dkwX14_factor_7 ++ []
def dkwX14_factor_6 : List UInt8 := [16, 62, 159, 0, 8, 42, 182, 0, 38, 191, 42, 89, 180, 0, 26, 4, 96, 181, 0, 26, 187, 0, 76, 89]
abbrev dktX14_factor_6 : List UInt8 := dkwX14_factor_6 ++ dktX14_factor_7
def dkwX14_factor_5 : List UInt8 := [181, 0, 26, 51, 60, 42, 182, 0, 34, 61, 28, 16, 60, 159, 0, 20, 28, 16, 61, 159, 0, 14, 28]
abbrev dktX14_factor_5 : List UInt8 := dkwX14_factor_5 ++ dktX14_factor_6
def dkwX14_factor_4 : List UInt8 := [180, 0, 58, 4, 100, 181, 0, 58, 43, 176, 42, 180, 0, 18, 42, 89, 180, 0, 26, 90, 4, 96]
abbrev dktX14_factor_4 : List UInt8 := dkwX14_factor_4 ++ dktX14_factor_5
def dkwX14_factor_3 : List UInt8 := [181, 0, 58, 43, 176, 42, 182, 0, 61, 42, 182, 0, 73, 76, 42, 16, 41, 182, 0, 51, 42, 89]
abbrev dktX14_factor_3 : List UInt8 := dkwX14_factor_3 ++ dktX14_factor_4
def dkwX14_factor_2 : List UInt8 := [42, 182, 0, 61, 187, 0, 64, 89, 42, 182, 0, 66, 183, 0, 70, 76, 42, 89, 180, 0, 58, 4, 100]
abbrev dktX14_factor_2 : List UInt8 := dkwX14_factor_2 ++ dktX14_factor_3
def dkwX14_factor_1 : List UInt8 := [171, 0, 0, 0, 0, 0, 0, 200, 0, 0, 0, 8, 0, 0, 0, 33, 0, 0, 0, 76, 0, 0, 0, 40, 0, 0, 0, 104, 0, 0, 0, 104, 0, 0, 0, 131, 0, 0, 0, 107, 0, 0, 0, 131, 0, 0, 0, 108, 0, 0, 0, 131, 0, 0, 0, 109, 0, 0, 0, 131, 0, 0, 0, 116, 0, 0, 0, 131, 0, 0, 0, 118, 0, 0, 0, 131]
abbrev dktX14_factor_1 : List UInt8 := dkwX14_factor_1 ++ dktX14_factor_2
def dkwX14_factor_0 : List UInt8 := [42, 182, 0, 34]
abbrev dktX14_factor_0 : List UInt8 := dkwX14_factor_0 ++ dktX14_factor_1
theorem dksX14_factor_0 : cX14_factor.data.toList.drop 0 = dktX14_factor_0 := by decide +kernel
theorem dksX14_factor_1 : cX14_factor.data.toList.drop 4 = dktX14_factor_1 := dk_seg dksX14_factor_0 4 rfl rfl
theorem dksX14_factor_2 : cX14_factor.data.toList.drop 80 = dktX14_factor_2 := dk_seg dksX14_factor_1 76 rfl rfl
theorem dksX14_factor_3 : cX14_factor.data.toList.drop 103 = dktX14_factor_3 := dk_seg dksX14_factor_2 23 rfl rfl
theorem dksX14_factor_4 : cX14_factor.data.toList.drop 125 = dktX14_factor_4 := dk_seg dksX14_factor_3 22 rfl rfl
theorem dksX14_factor_5 : cX14_factor.data.toList.drop 147 = dktX14_factor_5 := dk_seg dksX14_factor_4 22 rfl rfl
theorem dksX14_factor_6 : cX14_factor.data.toList.drop 170 = dktX14_factor_6 := dk_seg dksX14_factor_5 23 rfl rfl
theorem dksX14_factor_7 : cX14_factor.data.toList.drop 194 = dktX14_factor_7 := dk_seg dksX14_factor_6 24 rfl rfl
theorem dX14_factor_0 : decode cX14_factor 0 = .ok (.aload_n 0, 1) := dk_42 (dk_at dksX14_factor_0 0 rfl rfl)
theorem dX14_factor_1 : decode cX14_factor 1 = .ok (.invokevirtual 34, 3) := dk_182 0 34 (dk_at dksX14_factor_0 1 rfl rfl)
theorem dX14_factor_4 : decode cX14_factor 4 = .ok (.lookupswitch 200 #[(33, 76), (40, 104), (104, 131), (107, 131), (108, 131), (109, 131), (116, 131), (118, 131)], 76) := by decide +kernel
theorem dX14_factor_80 : decode cX14_factor 80 = .ok (.aload_n 0, 1) := dk_42 (dk_at dksX14_factor_2 0 rfl rfl)
theorem dX14_factor_81 : decode cX14_factor 81 = .ok (.invokevirtual 61, 3) := dk_182 0 61 (dk_at dksX14_factor_2 1 rfl rfl)
theorem dX14_factor_84 : decode cX14_factor 84 = .ok (.new 64, 3) := dk_187 0 64 (dk_at dksX14_factor_2 4 rfl rfl)
theorem dX14_factor_87 : decode cX14_factor 87 = .ok (.dup, 1) := dk_89 (dk_at dksX14_factor_2 7 rfl rfl)
theorem dX14_factor_88 : decode cX14_factor 88 = .ok (.aload_n 0, 1) := dk_42 (dk_at dksX14_factor_2 8 rfl rfl)
theorem dX14_factor_89 : decode cX14_factor 89 = .ok (.invokevirtual 66, 3) := dk_182 0 66 (dk_at dksX14_factor_2 9 rfl rfl)
theorem dX14_factor_92 : decode cX14_factor 92 = .ok (.invokespecial 70, 3) := dk_183 0 70 (dk_at dksX14_factor_2 12 rfl rfl)
theorem dX14_factor_95 : decode cX14_factor 95 = .ok (.astore_n 1, 1) := dk_76 (dk_at dksX14_factor_2 15 rfl rfl)
theorem dX14_factor_96 : decode cX14_factor 96 = .ok (.aload_n 0, 1) := dk_42 (dk_at dksX14_factor_2 16 rfl rfl)
theorem dX14_factor_97 : decode cX14_factor 97 = .ok (.dup, 1) := dk_89 (dk_at dksX14_factor_2 17 rfl rfl)
theorem dX14_factor_98 : decode cX14_factor 98 = .ok (.getfield 58, 3) := dk_180 0 58 (dk_at dksX14_factor_2 18 rfl rfl)
theorem dX14_factor_101 : decode cX14_factor 101 = .ok (.iconst 1, 1) := dk_4 (dk_at dksX14_factor_2 21 rfl rfl)
theorem dX14_factor_102 : decode cX14_factor 102 = .ok (.isub, 1) := dk_100 (dk_at dksX14_factor_2 22 rfl rfl)
theorem dX14_factor_103 : decode cX14_factor 103 = .ok (.putfield 58, 3) := dk_181 0 58 (dk_at dksX14_factor_3 0 rfl rfl)
theorem dX14_factor_106 : decode cX14_factor 106 = .ok (.aload_n 1, 1) := dk_43 (dk_at dksX14_factor_3 3 rfl rfl)
theorem dX14_factor_107 : decode cX14_factor 107 = .ok (.areturn, 1) := dk_176 (dk_at dksX14_factor_3 4 rfl rfl)
theorem dX14_factor_108 : decode cX14_factor 108 = .ok (.aload_n 0, 1) := dk_42 (dk_at dksX14_factor_3 5 rfl rfl)
theorem dX14_factor_109 : decode cX14_factor 109 = .ok (.invokevirtual 61, 3) := dk_182 0 61 (dk_at dksX14_factor_3 6 rfl rfl)
theorem dX14_factor_112 : decode cX14_factor 112 = .ok (.aload_n 0, 1) := dk_42 (dk_at dksX14_factor_3 9 rfl rfl)
theorem dX14_factor_113 : decode cX14_factor 113 = .ok (.invokevirtual 73, 3) := dk_182 0 73 (dk_at dksX14_factor_3 10 rfl rfl)
theorem dX14_factor_116 : decode cX14_factor 116 = .ok (.astore_n 1, 1) := dk_76 (dk_at dksX14_factor_3 13 rfl rfl)
theorem dX14_factor_117 : decode cX14_factor 117 = .ok (.aload_n 0, 1) := dk_42 (dk_at dksX14_factor_3 14 rfl rfl)
theorem dX14_factor_118 : decode cX14_factor 118 = .ok (.bipush 41, 2) := dk_16 41 (dk_at dksX14_factor_3 15 rfl rfl)
theorem dX14_factor_120 : decode cX14_factor 120 = .ok (.invokevirtual 51, 3) := dk_182 0 51 (dk_at dksX14_factor_3 17 rfl rfl)
theorem dX14_factor_123 : decode cX14_factor 123 = .ok (.aload_n 0, 1) := dk_42 (dk_at dksX14_factor_3 20 rfl rfl)
theorem dX14_factor_124 : decode cX14_factor 124 = .ok (.dup, 1) := dk_89 (dk_at dksX14_factor_3 21 rfl rfl)
theorem dX14_factor_125 : decode cX14_factor 125 = .ok (.getfield 58, 3) := dk_180 0 58 (dk_at dksX14_factor_4 0 rfl rfl)
theorem dX14_factor_128 : decode cX14_factor 128 = .ok (.iconst 1, 1) := dk_4 (dk_at dksX14_factor_4 3 rfl rfl)
theorem dX14_factor_129 : decode cX14_factor 129 = .ok (.isub, 1) := dk_100 (dk_at dksX14_factor_4 4 rfl rfl)
theorem dX14_factor_130 : decode cX14_factor 130 = .ok (.putfield 58, 3) := dk_181 0 58 (dk_at dksX14_factor_4 5 rfl rfl)
theorem dX14_factor_133 : decode cX14_factor 133 = .ok (.aload_n 1, 1) := dk_43 (dk_at dksX14_factor_4 8 rfl rfl)
theorem dX14_factor_134 : decode cX14_factor 134 = .ok (.areturn, 1) := dk_176 (dk_at dksX14_factor_4 9 rfl rfl)
theorem dX14_factor_135 : decode cX14_factor 135 = .ok (.aload_n 0, 1) := dk_42 (dk_at dksX14_factor_4 10 rfl rfl)
theorem dX14_factor_136 : decode cX14_factor 136 = .ok (.getfield 18, 3) := dk_180 0 18 (dk_at dksX14_factor_4 11 rfl rfl)
theorem dX14_factor_139 : decode cX14_factor 139 = .ok (.aload_n 0, 1) := dk_42 (dk_at dksX14_factor_4 14 rfl rfl)
theorem dX14_factor_140 : decode cX14_factor 140 = .ok (.dup, 1) := dk_89 (dk_at dksX14_factor_4 15 rfl rfl)
theorem dX14_factor_141 : decode cX14_factor 141 = .ok (.getfield 26, 3) := dk_180 0 26 (dk_at dksX14_factor_4 16 rfl rfl)
theorem dX14_factor_144 : decode cX14_factor 144 = .ok (.dup_x1, 1) := dk_90 (dk_at dksX14_factor_4 19 rfl rfl)
theorem dX14_factor_145 : decode cX14_factor 145 = .ok (.iconst 1, 1) := dk_4 (dk_at dksX14_factor_4 20 rfl rfl)
theorem dX14_factor_146 : decode cX14_factor 146 = .ok (.iadd, 1) := dk_96 (dk_at dksX14_factor_4 21 rfl rfl)
theorem dX14_factor_147 : decode cX14_factor 147 = .ok (.putfield 26, 3) := dk_181 0 26 (dk_at dksX14_factor_5 0 rfl rfl)
theorem dX14_factor_150 : decode cX14_factor 150 = .ok (.baload, 1) := dk_51 (dk_at dksX14_factor_5 3 rfl rfl)
theorem dX14_factor_151 : decode cX14_factor 151 = .ok (.istore_n 1, 1) := dk_60 (dk_at dksX14_factor_5 4 rfl rfl)
theorem dX14_factor_152 : decode cX14_factor 152 = .ok (.aload_n 0, 1) := dk_42 (dk_at dksX14_factor_5 5 rfl rfl)
theorem dX14_factor_153 : decode cX14_factor 153 = .ok (.invokevirtual 34, 3) := dk_182 0 34 (dk_at dksX14_factor_5 6 rfl rfl)
theorem dX14_factor_156 : decode cX14_factor 156 = .ok (.istore_n 2, 1) := dk_61 (dk_at dksX14_factor_5 9 rfl rfl)
theorem dX14_factor_157 : decode cX14_factor 157 = .ok (.iload_n 2, 1) := dk_28 (dk_at dksX14_factor_5 10 rfl rfl)
theorem dX14_factor_158 : decode cX14_factor 158 = .ok (.bipush 60, 2) := dk_16 60 (dk_at dksX14_factor_5 11 rfl rfl)
theorem dX14_factor_160 : decode cX14_factor 160 = .ok (.if_icmp .eq 20, 3) := dk_159 0 20 (dk_at dksX14_factor_5 13 rfl rfl)
theorem dX14_factor_163 : decode cX14_factor 163 = .ok (.iload_n 2, 1) := dk_28 (dk_at dksX14_factor_5 16 rfl rfl)
theorem dX14_factor_164 : decode cX14_factor 164 = .ok (.bipush 61, 2) := dk_16 61 (dk_at dksX14_factor_5 17 rfl rfl)
theorem dX14_factor_166 : decode cX14_factor 166 = .ok (.if_icmp .eq 14, 3) := dk_159 0 14 (dk_at dksX14_factor_5 19 rfl rfl)
theorem dX14_factor_169 : decode cX14_factor 169 = .ok (.iload_n 2, 1) := dk_28 (dk_at dksX14_factor_5 22 rfl rfl)
theorem dX14_factor_170 : decode cX14_factor 170 = .ok (.bipush 62, 2) := dk_16 62 (dk_at dksX14_factor_6 0 rfl rfl)
theorem dX14_factor_172 : decode cX14_factor 172 = .ok (.if_icmp .eq 8, 3) := dk_159 0 8 (dk_at dksX14_factor_6 2 rfl rfl)
theorem dX14_factor_175 : decode cX14_factor 175 = .ok (.aload_n 0, 1) := dk_42 (dk_at dksX14_factor_6 5 rfl rfl)
theorem dX14_factor_176 : decode cX14_factor 176 = .ok (.invokevirtual 38, 3) := dk_182 0 38 (dk_at dksX14_factor_6 6 rfl rfl)
theorem dX14_factor_179 : decode cX14_factor 179 = .ok (.athrow, 1) := dk_191 (dk_at dksX14_factor_6 9 rfl rfl)
theorem dX14_factor_180 : decode cX14_factor 180 = .ok (.aload_n 0, 1) := dk_42 (dk_at dksX14_factor_6 10 rfl rfl)
theorem dX14_factor_181 : decode cX14_factor 181 = .ok (.dup, 1) := dk_89 (dk_at dksX14_factor_6 11 rfl rfl)
theorem dX14_factor_182 : decode cX14_factor 182 = .ok (.getfield 26, 3) := dk_180 0 26 (dk_at dksX14_factor_6 12 rfl rfl)
theorem dX14_factor_185 : decode cX14_factor 185 = .ok (.iconst 1, 1) := dk_4 (dk_at dksX14_factor_6 15 rfl rfl)
theorem dX14_factor_186 : decode cX14_factor 186 = .ok (.iadd, 1) := dk_96 (dk_at dksX14_factor_6 16 rfl rfl)
theorem dX14_factor_187 : decode cX14_factor 187 = .ok (.putfield 26, 3) := dk_181 0 26 (dk_at dksX14_factor_6 17 rfl rfl)
theorem dX14_factor_190 : decode cX14_factor 190 = .ok (.new 76, 3) := dk_187 0 76 (dk_at dksX14_factor_6 20 rfl rfl)
theorem dX14_factor_193 : decode cX14_factor 193 = .ok (.dup, 1) := dk_89 (dk_at dksX14_factor_6 23 rfl rfl)
theorem dX14_factor_194 : decode cX14_factor 194 = .ok (.iload_n 1, 1) := dk_27 (dk_at dksX14_factor_7 0 rfl rfl)
theorem dX14_factor_195 : decode cX14_factor 195 = .ok (.iload_n 2, 1) := dk_28 (dk_at dksX14_factor_7 1 rfl rfl)
theorem dX14_factor_196 : decode cX14_factor 196 = .ok (.aload_n 0, 1) := dk_42 (dk_at dksX14_factor_7 2 rfl rfl)
theorem dX14_factor_197 : decode cX14_factor 197 = .ok (.invokevirtual 78, 3) := dk_182 0 78 (dk_at dksX14_factor_7 3 rfl rfl)
theorem dX14_factor_200 : decode cX14_factor 200 = .ok (.invokespecial 81, 3) := dk_183 0 81 (dk_at dksX14_factor_7 6 rfl rfl)
theorem dX14_factor_203 : decode cX14_factor 203 = .ok (.areturn, 1) := dk_176 (dk_at dksX14_factor_7 9 rfl rfl)
theorem dX14_factor_204 : decode cX14_factor 204 = .ok (.aload_n 0, 1) := dk_42 (dk_at dksX14_factor_7 10 rfl rfl)
theorem dX14_factor_205 : decode cX14_factor 205 = .ok (.invokevirtual 38, 3) := dk_182 0 38 (dk_at dksX14_factor_7 11 rfl rfl)
theorem dX14_factor_208 : decode cX14_factor 208 = .ok (.athrow, 1) := dk_191 (dk_at dksX14_factor_7 14 rfl rfl)
abbrev cX14_deeper : ByteArray := prog_11_method_7_code
def yX14_deeper : MethodName := ⟨RX14, "deeper", "()V"⟩
def dkwX14_deeper_1 : List UInt8 := [89, 180, 0, 26, 4, 96, 181, 0, 26, 177]
abbrev dktX14_deeper_1 : List UInt8 := dkwX14_deeper_1 ++ []
def dkwX14_deeper_0 : List UInt8 := [42, 180, 0, 58, 7, 160, 0, 8, 42, 182, 0, 38, 191, 42, 89, 180, 0, 58, 4, 96, 181, 0, 58, 42]
abbrev dktX14_deeper_0 : List UInt8 := dkwX14_deeper_0 ++ dktX14_deeper_1
theorem dksX14_deeper_0 : cX14_deeper.data.toList.drop 0 = dktX14_deeper_0 := by decide +kernel
theorem dksX14_deeper_1 : cX14_deeper.data.toList.drop 24 = dktX14_deeper_1 := dk_seg dksX14_deeper_0 24 rfl rfl
theorem dX14_deeper_0 : decode cX14_deeper 0 = .ok (.aload_n 0, 1) := dk_42 (dk_at dksX14_deeper_0 0 rfl rfl)
theorem dX14_deeper_1 : decode cX14_deeper 1 = .ok (.getfield 58, 3) := dk_180 0 58 (dk_at dksX14_deeper_0 1 rfl rfl)
theorem dX14_deeper_4 : decode cX14_deeper 4 = .ok (.iconst 4, 1) := dk_7 (dk_at dksX14_deeper_0 4 rfl rfl)
theorem dX14_deeper_5 : decode cX14_deeper 5 = .ok (.if_icmp .ne 8, 3) := dk_160 0 8 (dk_at dksX14_deeper_0 5 rfl rfl)
theorem dX14_deeper_8 : decode cX14_deeper 8 = .ok (.aload_n 0, 1) := dk_42 (dk_at dksX14_deeper_0 8 rfl rfl)
theorem dX14_deeper_9 : decode cX14_deeper 9 = .ok (.invokevirtual 38, 3) := dk_182 0 38 (dk_at dksX14_deeper_0 9 rfl rfl)
theorem dX14_deeper_12 : decode cX14_deeper 12 = .ok (.athrow, 1) := dk_191 (dk_at dksX14_deeper_0 12 rfl rfl)
theorem dX14_deeper_13 : decode cX14_deeper 13 = .ok (.aload_n 0, 1) := dk_42 (dk_at dksX14_deeper_0 13 rfl rfl)
theorem dX14_deeper_14 : decode cX14_deeper 14 = .ok (.dup, 1) := dk_89 (dk_at dksX14_deeper_0 14 rfl rfl)
theorem dX14_deeper_15 : decode cX14_deeper 15 = .ok (.getfield 58, 3) := dk_180 0 58 (dk_at dksX14_deeper_0 15 rfl rfl)
theorem dX14_deeper_18 : decode cX14_deeper 18 = .ok (.iconst 1, 1) := dk_4 (dk_at dksX14_deeper_0 18 rfl rfl)
theorem dX14_deeper_19 : decode cX14_deeper 19 = .ok (.iadd, 1) := dk_96 (dk_at dksX14_deeper_0 19 rfl rfl)
theorem dX14_deeper_20 : decode cX14_deeper 20 = .ok (.putfield 58, 3) := dk_181 0 58 (dk_at dksX14_deeper_0 20 rfl rfl)
theorem dX14_deeper_23 : decode cX14_deeper 23 = .ok (.aload_n 0, 1) := dk_42 (dk_at dksX14_deeper_0 23 rfl rfl)
theorem dX14_deeper_24 : decode cX14_deeper 24 = .ok (.dup, 1) := dk_89 (dk_at dksX14_deeper_1 0 rfl rfl)
theorem dX14_deeper_25 : decode cX14_deeper 25 = .ok (.getfield 26, 3) := dk_180 0 26 (dk_at dksX14_deeper_1 1 rfl rfl)
theorem dX14_deeper_28 : decode cX14_deeper 28 = .ok (.iconst 1, 1) := dk_4 (dk_at dksX14_deeper_1 4 rfl rfl)
theorem dX14_deeper_29 : decode cX14_deeper 29 = .ok (.iadd, 1) := dk_96 (dk_at dksX14_deeper_1 5 rfl rfl)
theorem dX14_deeper_30 : decode cX14_deeper 30 = .ok (.putfield 26, 3) := dk_181 0 26 (dk_at dksX14_deeper_1 6 rfl rfl)
theorem dX14_deeper_33 : decode cX14_deeper 33 = .ok (.return_, 1) := dk_177 (dk_at dksX14_deeper_1 9 rfl rfl)
abbrev cX14_told : ByteArray := prog_11_method_12_code
def yX14_told : MethodName := ⟨RX14, "told", "(Ljava/lang/String;)I"⟩
def dkwX14_told_0 : List UInt8 := [42, 43, 182, 0, 102, 42, 182, 0, 78, 172]
abbrev dktX14_told_0 : List UInt8 := dkwX14_told_0 ++ []
theorem dksX14_told_0 : cX14_told.data.toList.drop 0 = dktX14_told_0 := by decide +kernel
theorem dX14_told_0 : decode cX14_told 0 = .ok (.aload_n 0, 1) := dk_42 (dk_at dksX14_told_0 0 rfl rfl)
theorem dX14_told_1 : decode cX14_told 1 = .ok (.aload_n 1, 1) := dk_43 (dk_at dksX14_told_0 1 rfl rfl)
theorem dX14_told_2 : decode cX14_told 2 = .ok (.invokevirtual 102, 3) := dk_182 0 102 (dk_at dksX14_told_0 2 rfl rfl)
theorem dX14_told_5 : decode cX14_told 5 = .ok (.aload_n 0, 1) := dk_42 (dk_at dksX14_told_0 5 rfl rfl)
theorem dX14_told_6 : decode cX14_told 6 = .ok (.invokevirtual 78, 3) := dk_182 0 78 (dk_at dksX14_told_0 6 rfl rfl)
theorem dX14_told_9 : decode cX14_told 9 = .ok (.ireturn, 1) := dk_172 (dk_at dksX14_told_0 9 rfl rfl)
theorem q107 : (Jvm.Cond.initialized "SomebodysLift$Reader") ∈ lw_all := lw_g (lw_at lw_m1 21 rfl) rfl
theorem q197 : (Jvm.Cond.fieldLinkNest "SomebodysLift$Reader" (106 : Nat) "SomebodysLift$Air" "clauses" "Ljava/util/ArrayList;" "SomebodysLift") ∈ lw_tbl := lw_at lw_m1 111 rfl
theorem q198 : (Jvm.Cond.fieldLinkNest "SomebodysLift$Reader" (136 : Nat) "SomebodysLift$Air" "many" "I" "SomebodysLift") ∈ lw_tbl := lw_at lw_m1 112 rfl
theorem q200 : (Jvm.Cond.fieldLinkNest "SomebodysLift$Reader" (128 : Nat) "SomebodysLift$Air" "base" "I" "SomebodysLift") ∈ lw_tbl := lw_at lw_m1 114 rfl
theorem q202 : (Jvm.Cond.fieldLinkNest "SomebodysLift$Reader" (133 : Nat) "SomebodysLift$Air" "safe" "I" "SomebodysLift") ∈ lw_tbl := lw_at lw_m1 116 rfl
theorem q651 : (Jvm.Cond.instantiable "SomebodysLift$Reader" (5 : Nat)) ∈ lw_all := lw_g (lw_at lw_m3 85 rfl) rfl
theorem q653 : (Jvm.Cond.instanceMethod ({ cls := "SomebodysLift$Reader", name := "<init>", desc := "([BI)V" } : Jvm.MethodName)) ∈ lw_all := lw_g (lw_at lw_m3 87 rfl) rfl
theorem q654 : (Jvm.Cond.code ({ cls := "SomebodysLift$Reader", name := "<init>", desc := "([BI)V" } : Jvm.MethodName) prog_11_method_1_code (3 : Nat) (Option.none : Option Jvm.ClassFile.FieldType)) ∈ lw_all := lw_g (lw_at lw_m3 88 rfl) rfl
theorem q655 : (Jvm.Cond.methodLink "SomebodysLift$Reader" (3 : Nat) ({ cls := "java/lang/Object", name := "<init>", desc := "()V" } : Jvm.MethodName)) ∈ lw_all := lw_g (lw_at lw_m3 89 rfl) rfl
theorem q656 : (Jvm.Cond.classLink "SomebodysLift$Reader" (9 : Nat) "SomebodysLift$Air") ∈ lw_all := lw_g (lw_at lw_m3 90 rfl) rfl
theorem q657 : (Jvm.Cond.methodLinkNest "SomebodysLift$Reader" (11 : Nat) ({ cls := "SomebodysLift$Air", name := "<init>", desc := "()V" } : Jvm.MethodName) "SomebodysLift") ∈ lw_tbl := lw_at lw_m3 91 rfl
theorem q658 : (Jvm.Cond.fieldLink "SomebodysLift$Reader" (18 : Nat) "SomebodysLift$Reader" "text" "[B") ∈ lw_all := lw_g (lw_at lw_m3 92 rfl) rfl
theorem q659 : (Jvm.Cond.fieldLink "SomebodysLift$Reader" (22 : Nat) "SomebodysLift$Reader" "size" "I") ∈ lw_all := lw_g (lw_at lw_m3 93 rfl) rfl
theorem q660 : (Jvm.Cond.fieldLink "SomebodysLift$Reader" (26 : Nat) "SomebodysLift$Reader" "at" "I") ∈ lw_all := lw_g (lw_at lw_m3 94 rfl) rfl
theorem q661 : (Jvm.Cond.fieldLink "SomebodysLift$Reader" (58 : Nat) "SomebodysLift$Reader" "deep" "I") ∈ lw_all := lw_g (lw_at lw_m3 95 rfl) rfl
theorem q662 : (Jvm.Cond.fieldLink "SomebodysLift$Reader" (12 : Nat) "SomebodysLift$Reader" "air" "LSomebodysLift$Air;") ∈ lw_all := lw_g (lw_at lw_m3 96 rfl) rfl
theorem q663 : (Jvm.Cond.laysFinal "SomebodysLift$Reader" "SomebodysLift$Reader" "text" "[B") ∈ lw_all := lw_g (lw_at lw_m3 97 rfl) rfl
theorem q664 : (Jvm.Cond.soleField "SomebodysLift$Reader" "text") ∈ lw_all := lw_g (lw_at lw_m3 98 rfl) rfl
theorem q665 : (Jvm.Cond.laysFinal "SomebodysLift$Reader" "SomebodysLift$Reader" "size" "I") ∈ lw_all := lw_g (lw_at lw_m3 99 rfl) rfl
theorem q666 : (Jvm.Cond.soleField "SomebodysLift$Reader" "size") ∈ lw_all := lw_g (lw_at lw_m3 100 rfl) rfl
theorem q667 : (Jvm.Cond.lays "SomebodysLift$Reader" "SomebodysLift$Reader" "at" "I") ∈ lw_all := lw_g (lw_at lw_m3 101 rfl) rfl
theorem q668 : (Jvm.Cond.soleField "SomebodysLift$Reader" "at") ∈ lw_all := lw_g (lw_at lw_m3 102 rfl) rfl
theorem q669 : (Jvm.Cond.lays "SomebodysLift$Reader" "SomebodysLift$Reader" "deep" "I") ∈ lw_all := lw_g (lw_at lw_m3 103 rfl) rfl
theorem q670 : (Jvm.Cond.soleField "SomebodysLift$Reader" "deep") ∈ lw_all := lw_g (lw_at lw_m3 104 rfl) rfl
theorem q671 : (Jvm.Cond.laysFinal "SomebodysLift$Reader" "SomebodysLift$Reader" "air" "LSomebodysLift$Air;") ∈ lw_all := lw_g (lw_at lw_m3 105 rfl) rfl
theorem q672 : (Jvm.Cond.soleField "SomebodysLift$Reader" "air") ∈ lw_all := lw_g (lw_at lw_m3 106 rfl) rfl
theorem q673 : (Jvm.Cond.superclass "SomebodysLift$Reader" "java/lang/Object") ∈ lw_all := lw_g (lw_at lw_m3 107 rfl) rfl
theorem q675 : (Jvm.Cond.instanceMethod ({ cls := "SomebodysLift$Reader", name := "air", desc := "()LSomebodysLift$Air;" } : Jvm.MethodName)) ∈ lw_all := lw_g (lw_at lw_m3 109 rfl) rfl
theorem q676 : (Jvm.Cond.selects "SomebodysLift$Reader" ({ cls := "SomebodysLift$Reader", name := "air", desc := "()LSomebodysLift$Air;" } : Jvm.MethodName) ({ cls := "SomebodysLift$Reader", name := "air", desc := "()LSomebodysLift$Air;" } : Jvm.MethodName)) ∈ lw_all := lw_g (lw_at lw_m3 110 rfl) rfl
theorem q677 : (Jvm.Cond.code ({ cls := "SomebodysLift$Reader", name := "air", desc := "()LSomebodysLift$Air;" } : Jvm.MethodName) prog_11_method_14_code (1 : Nat) (Option.some (Jvm.ClassFile.FieldType.object "SomebodysLift$Air"))) ∈ lw_all := lw_g (lw_at lw_m3 111 rfl) rfl
theorem q678 : (Jvm.Cond.methodLink "SomebodysLift$Reader" (139 : Nat) ({ cls := "SomebodysLift$Reader", name := "clause", desc := "()V" } : Jvm.MethodName)) ∈ lw_all := lw_g (lw_at lw_m3 112 rfl) rfl
theorem q679 : (Jvm.Cond.privateMethod ({ cls := "SomebodysLift$Reader", name := "clause", desc := "()V" } : Jvm.MethodName)) ∈ lw_tbl := lw_at lw_m3 113 rfl
theorem q680 : (Jvm.Cond.instanceMethod ({ cls := "SomebodysLift$Reader", name := "clause", desc := "()V" } : Jvm.MethodName)) ∈ lw_all := lw_g (lw_at lw_m3 114 rfl) rfl
theorem q681 : (Jvm.Cond.code ({ cls := "SomebodysLift$Reader", name := "clause", desc := "()V" } : Jvm.MethodName) prog_11_method_13_code (1 : Nat) (Option.none : Option Jvm.ClassFile.FieldType)) ∈ lw_all := lw_g (lw_at lw_m3 115 rfl) rfl
theorem q682 : (Jvm.Cond.methodLink "SomebodysLift$Reader" (34 : Nat) ({ cls := "SomebodysLift$Reader", name := "here", desc := "()I" } : Jvm.MethodName)) ∈ lw_all := lw_g (lw_at lw_m3 116 rfl) rfl
theorem q683 : (Jvm.Cond.privateMethod ({ cls := "SomebodysLift$Reader", name := "here", desc := "()I" } : Jvm.MethodName)) ∈ lw_tbl := lw_at lw_m3 117 rfl
theorem q684 : (Jvm.Cond.instanceMethod ({ cls := "SomebodysLift$Reader", name := "here", desc := "()I" } : Jvm.MethodName)) ∈ lw_all := lw_g (lw_at lw_m3 118 rfl) rfl
theorem q685 : (Jvm.Cond.code ({ cls := "SomebodysLift$Reader", name := "here", desc := "()I" } : Jvm.MethodName) prog_11_method_2_code (1 : Nat) (Option.some Jvm.ClassFile.FieldType.int)) ∈ lw_all := lw_g (lw_at lw_m3 119 rfl) rfl
theorem q686 : (Jvm.Cond.stringRef "SomebodysLift$Reader" (114 : Nat) "up ") ∈ lw_tbl := lw_at lw_m3 120 rfl
theorem q687 : (Jvm.Cond.methodLink "SomebodysLift$Reader" (116 : Nat) ({ cls := "SomebodysLift$Reader", name := "tested", desc := "(Ljava/lang/String;I)V" } : Jvm.MethodName)) ∈ lw_all := lw_g (lw_at lw_m3 121 rfl) rfl
theorem q688 : (Jvm.Cond.privateMethod ({ cls := "SomebodysLift$Reader", name := "tested", desc := "(Ljava/lang/String;I)V" } : Jvm.MethodName)) ∈ lw_tbl := lw_at lw_m3 122 rfl
theorem q689 : (Jvm.Cond.instanceMethod ({ cls := "SomebodysLift$Reader", name := "tested", desc := "(Ljava/lang/String;I)V" } : Jvm.MethodName)) ∈ lw_all := lw_g (lw_at lw_m3 123 rfl) rfl
theorem q690 : (Jvm.Cond.code ({ cls := "SomebodysLift$Reader", name := "tested", desc := "(Ljava/lang/String;I)V" } : Jvm.MethodName) prog_11_method_11_code (4 : Nat) (Option.none : Option Jvm.ClassFile.FieldType)) ∈ lw_all := lw_g (lw_at lw_m3 124 rfl) rfl
theorem q691 : (Jvm.Cond.methodLink "SomebodysLift$Reader" (102 : Nat) ({ cls := "SomebodysLift$Reader", name := "word", desc := "(Ljava/lang/String;)V" } : Jvm.MethodName)) ∈ lw_all := lw_g (lw_at lw_m3 125 rfl) rfl
theorem q692 : (Jvm.Cond.privateMethod ({ cls := "SomebodysLift$Reader", name := "word", desc := "(Ljava/lang/String;)V" } : Jvm.MethodName)) ∈ lw_tbl := lw_at lw_m3 126 rfl
theorem q693 : (Jvm.Cond.instanceMethod ({ cls := "SomebodysLift$Reader", name := "word", desc := "(Ljava/lang/String;)V" } : Jvm.MethodName)) ∈ lw_all := lw_g (lw_at lw_m3 127 rfl) rfl
theorem q694 : (Jvm.Cond.code ({ cls := "SomebodysLift$Reader", name := "word", desc := "(Ljava/lang/String;)V" } : Jvm.MethodName) prog_11_method_5_code (3 : Nat) (Option.none : Option Jvm.ClassFile.FieldType)) ∈ lw_all := lw_g (lw_at lw_m3 128 rfl) rfl
theorem q695 : (Jvm.Cond.methodLink "SomebodysLift$Reader" (42 : Nat) ({ cls := "java/lang/String", name := "length", desc := "()I" } : Jvm.MethodName)) ∈ lw_all := lw_g (lw_at lw_m3 129 rfl) rfl
theorem q705 : (Jvm.Cond.methodLink "SomebodysLift$Reader" (47 : Nat) ({ cls := "java/lang/String", name := "charAt", desc := "(I)C" } : Jvm.MethodName)) ∈ lw_all := lw_g (lw_at lw_m3 139 rfl) rfl
theorem q741 : (Jvm.Cond.methodLink "SomebodysLift$Reader" (51 : Nat) ({ cls := "SomebodysLift$Reader", name := "must", desc := "(I)V" } : Jvm.MethodName)) ∈ lw_all := lw_g (lw_at lw_m3 175 rfl) rfl
theorem q742 : (Jvm.Cond.privateMethod ({ cls := "SomebodysLift$Reader", name := "must", desc := "(I)V" } : Jvm.MethodName)) ∈ lw_tbl := lw_at lw_m3 176 rfl
theorem q743 : (Jvm.Cond.instanceMethod ({ cls := "SomebodysLift$Reader", name := "must", desc := "(I)V" } : Jvm.MethodName)) ∈ lw_all := lw_g (lw_at lw_m3 177 rfl) rfl
theorem q744 : (Jvm.Cond.code ({ cls := "SomebodysLift$Reader", name := "must", desc := "(I)V" } : Jvm.MethodName) prog_11_method_4_code (2 : Nat) (Option.none : Option Jvm.ClassFile.FieldType)) ∈ lw_all := lw_g (lw_at lw_m3 178 rfl) rfl
theorem q745 : (Jvm.Cond.methodLink "SomebodysLift$Reader" (38 : Nat) ({ cls := "SomebodysLift$Reader", name := "off", desc := "()LSomebodysLift$Off;" } : Jvm.MethodName)) ∈ lw_all := lw_g (lw_at lw_m3 179 rfl) rfl
theorem q746 : (Jvm.Cond.privateMethod ({ cls := "SomebodysLift$Reader", name := "off", desc := "()LSomebodysLift$Off;" } : Jvm.MethodName)) ∈ lw_tbl := lw_at lw_m3 180 rfl
theorem q747 : (Jvm.Cond.instanceMethod ({ cls := "SomebodysLift$Reader", name := "off", desc := "()LSomebodysLift$Off;" } : Jvm.MethodName)) ∈ lw_all := lw_g (lw_at lw_m3 181 rfl) rfl
theorem q748 : (Jvm.Cond.code ({ cls := "SomebodysLift$Reader", name := "off", desc := "()LSomebodysLift$Off;" } : Jvm.MethodName) prog_11_method_3_code (1 : Nat) (Option.some (Jvm.ClassFile.FieldType.object "SomebodysLift$Off"))) ∈ lw_all := lw_g (lw_at lw_m3 182 rfl) rfl
theorem q749 : (Jvm.Cond.classLink "SomebodysLift$Reader" (29 : Nat) "SomebodysLift$Off") ∈ lw_all := lw_g (lw_at lw_m3 183 rfl) rfl
theorem q806 : (Jvm.Cond.methodLink "SomebodysLift$Reader" (31 : Nat) ({ cls := "SomebodysLift$Off", name := "<init>", desc := "(I)V" } : Jvm.MethodName)) ∈ lw_all := lw_g (lw_at lw_m4 0 rfl) rfl
theorem q833 : (Jvm.Cond.methodLink "SomebodysLift$Reader" (78 : Nat) ({ cls := "SomebodysLift$Reader", name := "number", desc := "()I" } : Jvm.MethodName)) ∈ lw_all := lw_g (lw_at lw_m4 27 rfl) rfl
theorem q834 : (Jvm.Cond.privateMethod ({ cls := "SomebodysLift$Reader", name := "number", desc := "()I" } : Jvm.MethodName)) ∈ lw_tbl := lw_at lw_m4 28 rfl
theorem q835 : (Jvm.Cond.instanceMethod ({ cls := "SomebodysLift$Reader", name := "number", desc := "()I" } : Jvm.MethodName)) ∈ lw_all := lw_g (lw_at lw_m4 29 rfl) rfl
theorem q836 : (Jvm.Cond.code ({ cls := "SomebodysLift$Reader", name := "number", desc := "()I" } : Jvm.MethodName) prog_11_method_6_code (3 : Nat) (Option.some Jvm.ClassFile.FieldType.int)) ∈ lw_all := lw_g (lw_at lw_m4 30 rfl) rfl
theorem q837 : (Jvm.Cond.methodLinkNest "SomebodysLift$Reader" (54 : Nat) ({ cls := "SomebodysLift", name := "in", desc := "(III)Z" } : Jvm.MethodName) "SomebodysLift") ∈ lw_tbl := lw_at lw_m4 31 rfl
theorem q838 : (Jvm.Cond.classLink "SomebodysLift$Reader" (109 : Nat) "SomebodysLift$Clause") ∈ lw_all := lw_g (lw_at lw_m4 32 rfl) rfl
theorem q840 : (Jvm.Cond.methodLink "SomebodysLift$Reader" (73 : Nat) ({ cls := "SomebodysLift$Reader", name := "some", desc := "()LSomebodysLift$Test;" } : Jvm.MethodName)) ∈ lw_all := lw_g (lw_at lw_m4 34 rfl) rfl
theorem q841 : (Jvm.Cond.privateMethod ({ cls := "SomebodysLift$Reader", name := "some", desc := "()LSomebodysLift$Test;" } : Jvm.MethodName)) ∈ lw_tbl := lw_at lw_m4 35 rfl
theorem q842 : (Jvm.Cond.instanceMethod ({ cls := "SomebodysLift$Reader", name := "some", desc := "()LSomebodysLift$Test;" } : Jvm.MethodName)) ∈ lw_all := lw_g (lw_at lw_m4 36 rfl) rfl
theorem q843 : (Jvm.Cond.code ({ cls := "SomebodysLift$Reader", name := "some", desc := "()LSomebodysLift$Test;" } : Jvm.MethodName) prog_11_method_10_code (2 : Nat) (Option.some (Jvm.ClassFile.FieldType.object "SomebodysLift$Test"))) ∈ lw_all := lw_g (lw_at lw_m4 37 rfl) rfl
theorem q844 : (Jvm.Cond.classLink "SomebodysLift$Reader" (84 : Nat) "SomebodysLift$Some") ∈ lw_all := lw_g (lw_at lw_m4 38 rfl) rfl
theorem q846 : (Jvm.Cond.methodLink "SomebodysLift$Reader" (86 : Nat) ({ cls := "SomebodysLift$Some", name := "<init>", desc := "(Z)V" } : Jvm.MethodName)) ∈ lw_all := lw_g (lw_at lw_m4 40 rfl) rfl
theorem q857 : (Jvm.Cond.fieldLinkNest "SomebodysLift$Reader" (89 : Nat) "SomebodysLift$Some" "of" "Ljava/util/ArrayList;" "SomebodysLift") ∈ lw_tbl := lw_at lw_m4 51 rfl
theorem q863 : (Jvm.Cond.methodLink "SomebodysLift$Reader" (99 : Nat) ({ cls := "SomebodysLift$Reader", name := "all", desc := "()LSomebodysLift$Test;" } : Jvm.MethodName)) ∈ lw_all := lw_g (lw_at lw_m4 57 rfl) rfl
theorem q864 : (Jvm.Cond.privateMethod ({ cls := "SomebodysLift$Reader", name := "all", desc := "()LSomebodysLift$Test;" } : Jvm.MethodName)) ∈ lw_tbl := lw_at lw_m4 58 rfl
theorem q865 : (Jvm.Cond.instanceMethod ({ cls := "SomebodysLift$Reader", name := "all", desc := "()LSomebodysLift$Test;" } : Jvm.MethodName)) ∈ lw_all := lw_g (lw_at lw_m4 59 rfl) rfl
theorem q866 : (Jvm.Cond.code ({ cls := "SomebodysLift$Reader", name := "all", desc := "()LSomebodysLift$Test;" } : Jvm.MethodName) prog_11_method_9_code (2 : Nat) (Option.some (Jvm.ClassFile.FieldType.object "SomebodysLift$Test"))) ∈ lw_all := lw_g (lw_at lw_m4 60 rfl) rfl
theorem q867 : (Jvm.Cond.methodLink "SomebodysLift$Reader" (66 : Nat) ({ cls := "SomebodysLift$Reader", name := "factor", desc := "()LSomebodysLift$Test;" } : Jvm.MethodName)) ∈ lw_all := lw_g (lw_at lw_m4 61 rfl) rfl
theorem q868 : (Jvm.Cond.privateMethod ({ cls := "SomebodysLift$Reader", name := "factor", desc := "()LSomebodysLift$Test;" } : Jvm.MethodName)) ∈ lw_tbl := lw_at lw_m4 62 rfl
theorem q869 : (Jvm.Cond.instanceMethod ({ cls := "SomebodysLift$Reader", name := "factor", desc := "()LSomebodysLift$Test;" } : Jvm.MethodName)) ∈ lw_all := lw_g (lw_at lw_m4 63 rfl) rfl
theorem q870 : (Jvm.Cond.code ({ cls := "SomebodysLift$Reader", name := "factor", desc := "()LSomebodysLift$Test;" } : Jvm.MethodName) prog_11_method_8_code (3 : Nat) (Option.some (Jvm.ClassFile.FieldType.object "SomebodysLift$Test"))) ∈ lw_all := lw_g (lw_at lw_m4 64 rfl) rfl
theorem q871 : (Jvm.Cond.methodLink "SomebodysLift$Reader" (61 : Nat) ({ cls := "SomebodysLift$Reader", name := "deeper", desc := "()V" } : Jvm.MethodName)) ∈ lw_all := lw_g (lw_at lw_m4 65 rfl) rfl
theorem q872 : (Jvm.Cond.privateMethod ({ cls := "SomebodysLift$Reader", name := "deeper", desc := "()V" } : Jvm.MethodName)) ∈ lw_tbl := lw_at lw_m4 66 rfl
theorem q873 : (Jvm.Cond.instanceMethod ({ cls := "SomebodysLift$Reader", name := "deeper", desc := "()V" } : Jvm.MethodName)) ∈ lw_all := lw_g (lw_at lw_m4 67 rfl) rfl
theorem q874 : (Jvm.Cond.code ({ cls := "SomebodysLift$Reader", name := "deeper", desc := "()V" } : Jvm.MethodName) prog_11_method_7_code (1 : Nat) (Option.none : Option Jvm.ClassFile.FieldType)) ∈ lw_all := lw_g (lw_at lw_m4 68 rfl) rfl
theorem q875 : (Jvm.Cond.classLink "SomebodysLift$Reader" (64 : Nat) "SomebodysLift$Not") ∈ lw_all := lw_g (lw_at lw_m4 69 rfl) rfl
theorem q877 : (Jvm.Cond.methodLink "SomebodysLift$Reader" (70 : Nat) ({ cls := "SomebodysLift$Not", name := "<init>", desc := "(LSomebodysLift$Test;)V" } : Jvm.MethodName)) ∈ lw_all := lw_g (lw_at lw_m4 71 rfl) rfl
theorem q885 : (Jvm.Cond.classLink "SomebodysLift$Reader" (76 : Nat) "SomebodysLift$Against") ∈ lw_all := lw_g (lw_at lw_m4 79 rfl) rfl
theorem q887 : (Jvm.Cond.methodLink "SomebodysLift$Reader" (81 : Nat) ({ cls := "SomebodysLift$Against", name := "<init>", desc := "(III)V" } : Jvm.MethodName)) ∈ lw_all := lw_g (lw_at lw_m4 81 rfl) rfl
theorem q901 : (Jvm.Cond.methodLink "SomebodysLift$Reader" (93 : Nat) ({ cls := "java/util/ArrayList", name := "add", desc := "(Ljava/lang/Object;)Z" } : Jvm.MethodName)) ∈ lw_all := lw_g (lw_at lw_m4 95 rfl) rfl
theorem q943 : (Jvm.Cond.selects "SomebodysLift$Reader" ({ cls := "java/lang/Object", name := "getClass", desc := "()Ljava/lang/Class;" } : Jvm.MethodName) ({ cls := "java/lang/Object", name := "getClass", desc := "()Ljava/lang/Class;" } : Jvm.MethodName)) ∈ lw_all := lw_g (lw_at lw_m4 137 rfl) rfl
theorem q972 : (Jvm.Cond.methodLink "SomebodysLift$Reader" (111 : Nat) ({ cls := "SomebodysLift$Clause", name := "<init>", desc := "(ILSomebodysLift$Test;)V" } : Jvm.MethodName)) ∈ lw_all := lw_g (lw_at lw_m4 166 rfl) rfl
theorem q985 : (Jvm.Cond.stringRef "SomebodysLift$Reader" (120 : Nat) "down ") ∈ lw_tbl := lw_at lw_m4 179 rfl
theorem q986 : (Jvm.Cond.stringRef "SomebodysLift$Reader" (122 : Nat) "base ") ∈ lw_tbl := lw_at lw_m4 180 rfl
theorem q987 : (Jvm.Cond.methodLink "SomebodysLift$Reader" (124 : Nat) ({ cls := "SomebodysLift$Reader", name := "told", desc := "(Ljava/lang/String;)I" } : Jvm.MethodName)) ∈ lw_all := lw_g (lw_at lw_m4 181 rfl) rfl
theorem q988 : (Jvm.Cond.privateMethod ({ cls := "SomebodysLift$Reader", name := "told", desc := "(Ljava/lang/String;)I" } : Jvm.MethodName)) ∈ lw_tbl := lw_at lw_m4 182 rfl
theorem q989 : (Jvm.Cond.instanceMethod ({ cls := "SomebodysLift$Reader", name := "told", desc := "(Ljava/lang/String;)I" } : Jvm.MethodName)) ∈ lw_all := lw_g (lw_at lw_m4 183 rfl) rfl
theorem q990 : (Jvm.Cond.code ({ cls := "SomebodysLift$Reader", name := "told", desc := "(Ljava/lang/String;)I" } : Jvm.MethodName) prog_11_method_12_code (2 : Nat) (Option.some Jvm.ClassFile.FieldType.int)) ∈ lw_all := lw_g (lw_at lw_m4 184 rfl) rfl
theorem q991 : (Jvm.Cond.stringRef "SomebodysLift$Reader" (131 : Nat) "safe ") ∈ lw_tbl := lw_at lw_m4 185 rfl
theorem q2081 : (Jvm.Cond.castable "SomebodysLift$Reader" "java/lang/Object") ∈ lw_tbl := lw_at lw_m9 75 rfl
theorem in_X14 : ∀ w ∈ wsX140, w ∈ lw_all := lw_in wsX140 [663, 665, 667, 669, 671] (by decide +kernel) (by decide +kernel)

/-! SomebodysLift$Off -/
set_option maxRecDepth 100000
def RX15 : String := "SomebodysLift$Off"
def TX15 : u_T := fun k => match k with
  | 0 => ("java/lang/Throwable", "cause", "Ljava/lang/Throwable;", false)
  | 1 => ("java/lang/Throwable", "stackTrace", "[Ljava/lang/StackTraceElement;", false)
  | 2 => ("java/lang/Throwable", "suppressedExceptions", "Ljava/util/List;", false)
  | 3 => ("java/lang/Throwable", "detailMessage", "Ljava/lang/String;", false)
  | 4 => ("java/lang/Throwable", "backtrace", "Ljava/lang/Object;", false)
  | 5 => ("java/lang/Throwable", "depth", "I", false)
  | _ => ("SomebodysLift$Off", "place", "I", true)
def tyX15 : Nat → FieldType := fun k => match k with
  | 0 => .object "java/lang/Throwable"
  | 1 => .array (.object "java/lang/StackTraceElement")
  | 2 => .object "java/util/List"
  | 3 => .object "java/lang/String"
  | 4 => .object "java/lang/Object"
  | 5 => .int
  | _ => .int
abbrev wsX150 : List Cond := u_ws RX15 TX15 7
theorem nmX15 : ∀ a, a < 7 → ∀ b, b < 7 → a ≠ b → (TX15 a).2.1 ≠ (TX15 b).2.1 := by decide +kernel
theorem tyX15_ok : ∀ k, k < 7 → parseFieldDescriptor (TX15 k).2.2.1 = some (tyX15 k) := by decide +kernel
abbrev cX15_init : ByteArray := prog_10_method_1_code
def yX15_init : MethodName := ⟨RX15, "<init>", "(I)V"⟩
def dkwX15_init_0 : List UInt8 := [42, 183, 0, 1, 42, 27, 181, 0, 7, 177]
abbrev dktX15_init_0 : List UInt8 := dkwX15_init_0 ++ []
theorem dksX15_init_0 : cX15_init.data.toList.drop 0 = dktX15_init_0 := by decide +kernel
theorem dX15_init_0 : decode cX15_init 0 = .ok (.aload_n 0, 1) := dk_42 (dk_at dksX15_init_0 0 rfl rfl)
theorem dX15_init_1 : decode cX15_init 1 = .ok (.invokespecial 1, 3) := dk_183 0 1 (dk_at dksX15_init_0 1 rfl rfl)
theorem dX15_init_4 : decode cX15_init 4 = .ok (.aload_n 0, 1) := dk_42 (dk_at dksX15_init_0 4 rfl rfl)
theorem dX15_init_5 : decode cX15_init 5 = .ok (.iload_n 1, 1) := dk_27 (dk_at dksX15_init_0 5 rfl rfl)
theorem dX15_init_6 : decode cX15_init 6 = .ok (.putfield 7, 3) := dk_181 0 7 (dk_at dksX15_init_0 6 rfl rfl)
theorem dX15_init_9 : decode cX15_init 9 = .ok (.return_, 1) := dk_177 (dk_at dksX15_init_0 9 rfl rfl)
theorem q114 : (Jvm.Cond.initialized "SomebodysLift$Off") ∈ lw_all := lw_g (lw_at lw_m1 28 rfl) rfl
theorem q750 : (Jvm.Cond.instantiable "SomebodysLift$Off" (7 : Nat)) ∈ lw_all := lw_g (lw_at lw_m3 184 rfl) rfl
theorem q751 : (Jvm.Cond.castable "SomebodysLift$Off" "SomebodysLift$Off") ∈ lw_tbl := lw_at lw_m3 185 rfl
theorem q758 : (Jvm.Cond.selects "SomebodysLift$Off" ({ cls := "java/lang/Throwable", name := "fillInStackTrace", desc := "(I)Ljava/lang/Throwable;" } : Jvm.MethodName) ({ cls := "java/lang/Throwable", name := "fillInStackTrace", desc := "(I)Ljava/lang/Throwable;" } : Jvm.MethodName)) ∈ lw_all := lw_g (lw_at lw_m3 192 rfl) rfl
theorem q759 : (Jvm.Cond.selects "SomebodysLift$Off" ({ cls := "java/lang/Throwable", name := "fillInStackTrace", desc := "()Ljava/lang/Throwable;" } : Jvm.MethodName) ({ cls := "java/lang/Throwable", name := "fillInStackTrace", desc := "()Ljava/lang/Throwable;" } : Jvm.MethodName)) ∈ lw_all := lw_g (lw_at lw_m3 193 rfl) rfl
theorem q760 : (Jvm.Cond.lays "SomebodysLift$Off" "java/lang/Throwable" "cause" "Ljava/lang/Throwable;") ∈ lw_all := lw_g (lw_at lw_m3 194 rfl) rfl
theorem q762 : (Jvm.Cond.lays "SomebodysLift$Off" "java/lang/Throwable" "stackTrace" "[Ljava/lang/StackTraceElement;") ∈ lw_all := lw_g (lw_at lw_m3 196 rfl) rfl
theorem q764 : (Jvm.Cond.lays "SomebodysLift$Off" "java/lang/Throwable" "suppressedExceptions" "Ljava/util/List;") ∈ lw_all := lw_g (lw_at lw_m3 198 rfl) rfl
theorem q766 : (Jvm.Cond.lays "SomebodysLift$Off" "java/lang/Throwable" "detailMessage" "Ljava/lang/String;") ∈ lw_all := lw_g (lw_at lw_m3 200 rfl) rfl
theorem q768 : (Jvm.Cond.lays "SomebodysLift$Off" "java/lang/Throwable" "backtrace" "Ljava/lang/Object;") ∈ lw_all := lw_g (lw_at lw_m3 202 rfl) rfl
theorem q807 : (Jvm.Cond.instanceMethod ({ cls := "SomebodysLift$Off", name := "<init>", desc := "(I)V" } : Jvm.MethodName)) ∈ lw_all := lw_g (lw_at lw_m4 1 rfl) rfl
theorem q808 : (Jvm.Cond.code ({ cls := "SomebodysLift$Off", name := "<init>", desc := "(I)V" } : Jvm.MethodName) prog_10_method_1_code (2 : Nat) (Option.none : Option Jvm.ClassFile.FieldType)) ∈ lw_all := lw_g (lw_at lw_m4 2 rfl) rfl
theorem q809 : (Jvm.Cond.methodLink "SomebodysLift$Off" (1 : Nat) ({ cls := "java/lang/RuntimeException", name := "<init>", desc := "()V" } : Jvm.MethodName)) ∈ lw_all := lw_g (lw_at lw_m4 3 rfl) rfl
theorem q816 : (Jvm.Cond.fieldLink "SomebodysLift$Off" (7 : Nat) "SomebodysLift$Off" "place" "I") ∈ lw_all := lw_g (lw_at lw_m4 10 rfl) rfl
theorem q823 : (Jvm.Cond.laysFinal "SomebodysLift$Off" "SomebodysLift$Off" "place" "I") ∈ lw_all := lw_g (lw_at lw_m4 17 rfl) rfl
theorem q824 : (Jvm.Cond.soleField "SomebodysLift$Off" "place") ∈ lw_all := lw_g (lw_at lw_m4 18 rfl) rfl
theorem q829 : (Jvm.Cond.lays "SomebodysLift$Off" "java/lang/Throwable" "depth" "I") ∈ lw_all := lw_g (lw_at lw_m4 23 rfl) rfl
theorem q832 : (Jvm.Cond.superclass "SomebodysLift$Off" "java/lang/RuntimeException") ∈ lw_all := lw_g (lw_at lw_m4 26 rfl) rfl
theorem q942 : (Jvm.Cond.selects "SomebodysLift$Off" ({ cls := "java/lang/Object", name := "getClass", desc := "()Ljava/lang/Class;" } : Jvm.MethodName) ({ cls := "java/lang/Object", name := "getClass", desc := "()Ljava/lang/Class;" } : Jvm.MethodName)) ∈ lw_all := lw_g (lw_at lw_m4 136 rfl) rfl
theorem q2082 : (Jvm.Cond.castable "SomebodysLift$Off" "java/lang/Object") ∈ lw_tbl := lw_at lw_m9 76 rfl
theorem in_X15 : ∀ w ∈ wsX150, w ∈ lw_all := lw_in wsX150 [760, 762, 764, 766, 768, 829, 823] (by decide +kernel) (by decide +kernel)

/-! SomebodysLift$Clause -/
set_option maxRecDepth 100000
def RX16 : String := "SomebodysLift$Clause"
def TX16 : u_T := fun k => match k with
  | 0 => ("SomebodysLift$Clause", "n", "I", true)
  | _ => ("SomebodysLift$Clause", "test", "LSomebodysLift$Test;", true)
def tyX16 : Nat → FieldType := fun k => match k with
  | 0 => .int
  | _ => .object "SomebodysLift$Test"
abbrev wsX160 : List Cond := u_ws RX16 TX16 2
theorem nmX16 : ∀ a, a < 2 → ∀ b, b < 2 → a ≠ b → (TX16 a).2.1 ≠ (TX16 b).2.1 := by decide +kernel
theorem tyX16_ok : ∀ k, k < 2 → parseFieldDescriptor (TX16 k).2.2.1 = some (tyX16 k) := by decide +kernel
abbrev cX16_init : ByteArray := prog_5_method_1_code
def yX16_init : MethodName := ⟨RX16, "<init>", "(ILSomebodysLift$Test;)V"⟩
def dkwX16_init_0 : List UInt8 := [42, 183, 0, 1, 42, 27, 181, 0, 7, 42, 44, 181, 0, 13, 177]
abbrev dktX16_init_0 : List UInt8 := dkwX16_init_0 ++ []
theorem dksX16_init_0 : cX16_init.data.toList.drop 0 = dktX16_init_0 := by decide +kernel
theorem dX16_init_0 : decode cX16_init 0 = .ok (.aload_n 0, 1) := dk_42 (dk_at dksX16_init_0 0 rfl rfl)
theorem dX16_init_1 : decode cX16_init 1 = .ok (.invokespecial 1, 3) := dk_183 0 1 (dk_at dksX16_init_0 1 rfl rfl)
theorem dX16_init_4 : decode cX16_init 4 = .ok (.aload_n 0, 1) := dk_42 (dk_at dksX16_init_0 4 rfl rfl)
theorem dX16_init_5 : decode cX16_init 5 = .ok (.iload_n 1, 1) := dk_27 (dk_at dksX16_init_0 5 rfl rfl)
theorem dX16_init_6 : decode cX16_init 6 = .ok (.putfield 7, 3) := dk_181 0 7 (dk_at dksX16_init_0 6 rfl rfl)
theorem dX16_init_9 : decode cX16_init 9 = .ok (.aload_n 0, 1) := dk_42 (dk_at dksX16_init_0 9 rfl rfl)
theorem dX16_init_10 : decode cX16_init 10 = .ok (.aload_n 2, 1) := dk_44 (dk_at dksX16_init_0 10 rfl rfl)
theorem dX16_init_11 : decode cX16_init 11 = .ok (.putfield 13, 3) := dk_181 0 13 (dk_at dksX16_init_0 11 rfl rfl)
theorem dX16_init_14 : decode cX16_init 14 = .ok (.return_, 1) := dk_177 (dk_at dksX16_init_0 14 rfl rfl)
theorem q115 : (Jvm.Cond.initialized "SomebodysLift$Clause") ∈ lw_all := lw_g (lw_at lw_m1 29 rfl) rfl
theorem q839 : (Jvm.Cond.instantiable "SomebodysLift$Clause" (2 : Nat)) ∈ lw_all := lw_g (lw_at lw_m4 33 rfl) rfl
theorem q937 : (Jvm.Cond.selects "SomebodysLift$Clause" ({ cls := "java/lang/Object", name := "getClass", desc := "()Ljava/lang/Class;" } : Jvm.MethodName) ({ cls := "java/lang/Object", name := "getClass", desc := "()Ljava/lang/Class;" } : Jvm.MethodName)) ∈ lw_all := lw_g (lw_at lw_m4 131 rfl) rfl
theorem q973 : (Jvm.Cond.instanceMethod ({ cls := "SomebodysLift$Clause", name := "<init>", desc := "(ILSomebodysLift$Test;)V" } : Jvm.MethodName)) ∈ lw_all := lw_g (lw_at lw_m4 167 rfl) rfl
theorem q974 : (Jvm.Cond.code ({ cls := "SomebodysLift$Clause", name := "<init>", desc := "(ILSomebodysLift$Test;)V" } : Jvm.MethodName) prog_5_method_1_code (3 : Nat) (Option.none : Option Jvm.ClassFile.FieldType)) ∈ lw_all := lw_g (lw_at lw_m4 168 rfl) rfl
theorem q975 : (Jvm.Cond.methodLink "SomebodysLift$Clause" (1 : Nat) ({ cls := "java/lang/Object", name := "<init>", desc := "()V" } : Jvm.MethodName)) ∈ lw_all := lw_g (lw_at lw_m4 169 rfl) rfl
theorem q976 : (Jvm.Cond.fieldLink "SomebodysLift$Clause" (7 : Nat) "SomebodysLift$Clause" "n" "I") ∈ lw_all := lw_g (lw_at lw_m4 170 rfl) rfl
theorem q978 : (Jvm.Cond.fieldLink "SomebodysLift$Clause" (13 : Nat) "SomebodysLift$Clause" "test" "LSomebodysLift$Test;") ∈ lw_all := lw_g (lw_at lw_m4 172 rfl) rfl
theorem q980 : (Jvm.Cond.laysFinal "SomebodysLift$Clause" "SomebodysLift$Clause" "n" "I") ∈ lw_all := lw_g (lw_at lw_m4 174 rfl) rfl
theorem q981 : (Jvm.Cond.soleField "SomebodysLift$Clause" "n") ∈ lw_all := lw_g (lw_at lw_m4 175 rfl) rfl
theorem q982 : (Jvm.Cond.laysFinal "SomebodysLift$Clause" "SomebodysLift$Clause" "test" "LSomebodysLift$Test;") ∈ lw_all := lw_g (lw_at lw_m4 176 rfl) rfl
theorem q983 : (Jvm.Cond.soleField "SomebodysLift$Clause" "test") ∈ lw_all := lw_g (lw_at lw_m4 177 rfl) rfl
theorem q984 : (Jvm.Cond.superclass "SomebodysLift$Clause" "java/lang/Object") ∈ lw_all := lw_g (lw_at lw_m4 178 rfl) rfl
theorem q2083 : (Jvm.Cond.castable "SomebodysLift$Clause" "java/lang/Object") ∈ lw_tbl := lw_at lw_m9 77 rfl
theorem in_X16 : ∀ w ∈ wsX160, w ∈ lw_all := lw_in wsX160 [980, 982] (by decide +kernel) (by decide +kernel)

/-! SomebodysLift$Test -/
set_option maxRecDepth 100000
def RX17 : String := "SomebodysLift$Test"
abbrev cX17_init : ByteArray := prog_16_method_1_code
def yX17_init : MethodName := ⟨RX17, "<init>", "()V"⟩
theorem dX17_init_0 : decode cX17_init 0 = .ok (.aload_n 0, 1) := by decide +kernel
theorem dX17_init_1 : decode cX17_init 1 = .ok (.invokespecial 1, 3) := by decide +kernel
theorem dX17_init_4 : decode cX17_init 4 = .ok (.return_, 1) := by decide +kernel
theorem q116 : (Jvm.Cond.initialized "SomebodysLift$Test") ∈ lw_all := lw_g (lw_at lw_m1 30 rfl) rfl
theorem q580 : (Jvm.Cond.declares ({ cls := "SomebodysLift$Test", name := "holds", desc := "(LSomebodysLift$Look;)Z" } : Jvm.MethodName)) ∈ lw_tbl := lw_at lw_m3 14 rfl
theorem q581 : (Jvm.Cond.sameMethod "SomebodysLift$Test" "SomebodysLift$Test" "holds" "(LSomebodysLift$Look;)Z") ∈ lw_all := lw_g (lw_at lw_m3 15 rfl) rfl
theorem q850 : (Jvm.Cond.instanceMethod ({ cls := "SomebodysLift$Test", name := "<init>", desc := "()V" } : Jvm.MethodName)) ∈ lw_all := lw_g (lw_at lw_m4 44 rfl) rfl
theorem q851 : (Jvm.Cond.code ({ cls := "SomebodysLift$Test", name := "<init>", desc := "()V" } : Jvm.MethodName) prog_16_method_1_code (1 : Nat) (Option.none : Option Jvm.ClassFile.FieldType)) ∈ lw_all := lw_g (lw_at lw_m4 45 rfl) rfl
theorem q852 : (Jvm.Cond.methodLink "SomebodysLift$Test" (1 : Nat) ({ cls := "java/lang/Object", name := "<init>", desc := "()V" } : Jvm.MethodName)) ∈ lw_all := lw_g (lw_at lw_m4 46 rfl) rfl

/-! SomebodysLift$Some -/
set_option maxRecDepth 100000
def RX18 : String := "SomebodysLift$Some"
def TX18 : u_T := fun k => match k with
  | 0 => ("SomebodysLift$Some", "isAll", "Z", true)
  | _ => ("SomebodysLift$Some", "of", "Ljava/util/ArrayList;", true)
def tyX18 : Nat → FieldType := fun k => match k with
  | 0 => .boolean
  | _ => .object "java/util/ArrayList"
abbrev wsX180 : List Cond := u_ws RX18 TX18 2
theorem nmX18 : ∀ a, a < 2 → ∀ b, b < 2 → a ≠ b → (TX18 a).2.1 ≠ (TX18 b).2.1 := by decide +kernel
theorem tyX18_ok : ∀ k, k < 2 → parseFieldDescriptor (TX18 k).2.2.1 = some (tyX18 k) := by decide +kernel
abbrev cX18_holds : ByteArray := prog_12_method_2_code
def yX18_holds : MethodName := ⟨RX18, "holds", "(LSomebodysLift$Look;)Z"⟩
def dkwX18_holds_2 : List UInt8 := [132, 2, 1, 167, 255, 207, 42, 180, 0, 16, 172]
abbrev dktX18_holds_2 : List UInt8 := dkwX18_holds_2 ++ []
def dkwX18_holds_1 : List UInt8 := [43, 182, 0, 28, 42, 180, 0, 16, 159, 0, 16, 42, 180, 0, 16, 154, 0, 7, 4, 167, 0, 4, 3, 172]
abbrev dktX18_holds_1 : List UInt8 := dkwX18_holds_1 ++ dktX18_holds_2
def dkwX18_holds_0 : List UInt8 := [3, 61, 28, 42, 180, 0, 10, 182, 0, 20, 162, 0, 44, 42, 180, 0, 10, 28, 182, 0, 24, 192, 0, 2]
abbrev dktX18_holds_0 : List UInt8 := dkwX18_holds_0 ++ dktX18_holds_1
theorem dksX18_holds_0 : cX18_holds.data.toList.drop 0 = dktX18_holds_0 := by decide +kernel
theorem dksX18_holds_1 : cX18_holds.data.toList.drop 24 = dktX18_holds_1 := dk_seg dksX18_holds_0 24 rfl rfl
theorem dksX18_holds_2 : cX18_holds.data.toList.drop 48 = dktX18_holds_2 := dk_seg dksX18_holds_1 24 rfl rfl
theorem dX18_holds_0 : decode cX18_holds 0 = .ok (.iconst 0, 1) := dk_3 (dk_at dksX18_holds_0 0 rfl rfl)
theorem dX18_holds_1 : decode cX18_holds 1 = .ok (.istore_n 2, 1) := dk_61 (dk_at dksX18_holds_0 1 rfl rfl)
theorem dX18_holds_2 : decode cX18_holds 2 = .ok (.iload_n 2, 1) := dk_28 (dk_at dksX18_holds_0 2 rfl rfl)
theorem dX18_holds_3 : decode cX18_holds 3 = .ok (.aload_n 0, 1) := dk_42 (dk_at dksX18_holds_0 3 rfl rfl)
theorem dX18_holds_4 : decode cX18_holds 4 = .ok (.getfield 10, 3) := dk_180 0 10 (dk_at dksX18_holds_0 4 rfl rfl)
theorem dX18_holds_7 : decode cX18_holds 7 = .ok (.invokevirtual 20, 3) := dk_182 0 20 (dk_at dksX18_holds_0 7 rfl rfl)
theorem dX18_holds_10 : decode cX18_holds 10 = .ok (.if_icmp .ge 44, 3) := dk_162 0 44 (dk_at dksX18_holds_0 10 rfl rfl)
theorem dX18_holds_13 : decode cX18_holds 13 = .ok (.aload_n 0, 1) := dk_42 (dk_at dksX18_holds_0 13 rfl rfl)
theorem dX18_holds_14 : decode cX18_holds 14 = .ok (.getfield 10, 3) := dk_180 0 10 (dk_at dksX18_holds_0 14 rfl rfl)
theorem dX18_holds_17 : decode cX18_holds 17 = .ok (.iload_n 2, 1) := dk_28 (dk_at dksX18_holds_0 17 rfl rfl)
theorem dX18_holds_18 : decode cX18_holds 18 = .ok (.invokevirtual 24, 3) := dk_182 0 24 (dk_at dksX18_holds_0 18 rfl rfl)
theorem dX18_holds_21 : decode cX18_holds 21 = .ok (.checkcast 2, 3) := dk_192 0 2 (dk_at dksX18_holds_0 21 rfl rfl)
theorem dX18_holds_24 : decode cX18_holds 24 = .ok (.aload_n 1, 1) := dk_43 (dk_at dksX18_holds_1 0 rfl rfl)
theorem dX18_holds_25 : decode cX18_holds 25 = .ok (.invokevirtual 28, 3) := dk_182 0 28 (dk_at dksX18_holds_1 1 rfl rfl)
theorem dX18_holds_28 : decode cX18_holds 28 = .ok (.aload_n 0, 1) := dk_42 (dk_at dksX18_holds_1 4 rfl rfl)
theorem dX18_holds_29 : decode cX18_holds 29 = .ok (.getfield 16, 3) := dk_180 0 16 (dk_at dksX18_holds_1 5 rfl rfl)
theorem dX18_holds_32 : decode cX18_holds 32 = .ok (.if_icmp .eq 16, 3) := dk_159 0 16 (dk_at dksX18_holds_1 8 rfl rfl)
theorem dX18_holds_35 : decode cX18_holds 35 = .ok (.aload_n 0, 1) := dk_42 (dk_at dksX18_holds_1 11 rfl rfl)
theorem dX18_holds_36 : decode cX18_holds 36 = .ok (.getfield 16, 3) := dk_180 0 16 (dk_at dksX18_holds_1 12 rfl rfl)
theorem dX18_holds_39 : decode cX18_holds 39 = .ok (.ifCond .ne 7, 3) := dk_154 0 7 (dk_at dksX18_holds_1 15 rfl rfl)
theorem dX18_holds_42 : decode cX18_holds 42 = .ok (.iconst 1, 1) := dk_4 (dk_at dksX18_holds_1 18 rfl rfl)
theorem dX18_holds_43 : decode cX18_holds 43 = .ok (.goto 4, 3) := dk_167 0 4 (dk_at dksX18_holds_1 19 rfl rfl)
theorem dX18_holds_46 : decode cX18_holds 46 = .ok (.iconst 0, 1) := dk_3 (dk_at dksX18_holds_1 22 rfl rfl)
theorem dX18_holds_47 : decode cX18_holds 47 = .ok (.ireturn, 1) := dk_172 (dk_at dksX18_holds_1 23 rfl rfl)
theorem dX18_holds_48 : decode cX18_holds 48 = .ok (.iinc 2 1, 3) := dk_132 2 1 (dk_at dksX18_holds_2 0 rfl rfl)
theorem dX18_holds_51 : decode cX18_holds 51 = .ok (.goto (-49), 3) := dk_167 255 207 (dk_at dksX18_holds_2 3 rfl rfl)
theorem dX18_holds_54 : decode cX18_holds 54 = .ok (.aload_n 0, 1) := dk_42 (dk_at dksX18_holds_2 6 rfl rfl)
theorem dX18_holds_55 : decode cX18_holds 55 = .ok (.getfield 16, 3) := dk_180 0 16 (dk_at dksX18_holds_2 7 rfl rfl)
theorem dX18_holds_58 : decode cX18_holds 58 = .ok (.ireturn, 1) := dk_172 (dk_at dksX18_holds_2 10 rfl rfl)
abbrev cX18_init : ByteArray := prog_12_method_1_code
def yX18_init : MethodName := ⟨RX18, "<init>", "(Z)V"⟩
def dkwX18_init_0 : List UInt8 := [42, 183, 0, 1, 42, 187, 0, 7, 89, 183, 0, 9, 181, 0, 10, 42, 27, 181, 0, 16, 177]
abbrev dktX18_init_0 : List UInt8 := dkwX18_init_0 ++ []
theorem dksX18_init_0 : cX18_init.data.toList.drop 0 = dktX18_init_0 := by decide +kernel
theorem dX18_init_0 : decode cX18_init 0 = .ok (.aload_n 0, 1) := dk_42 (dk_at dksX18_init_0 0 rfl rfl)
theorem dX18_init_1 : decode cX18_init 1 = .ok (.invokespecial 1, 3) := dk_183 0 1 (dk_at dksX18_init_0 1 rfl rfl)
theorem dX18_init_4 : decode cX18_init 4 = .ok (.aload_n 0, 1) := dk_42 (dk_at dksX18_init_0 4 rfl rfl)
theorem dX18_init_5 : decode cX18_init 5 = .ok (.new 7, 3) := dk_187 0 7 (dk_at dksX18_init_0 5 rfl rfl)
theorem dX18_init_8 : decode cX18_init 8 = .ok (.dup, 1) := dk_89 (dk_at dksX18_init_0 8 rfl rfl)
theorem dX18_init_9 : decode cX18_init 9 = .ok (.invokespecial 9, 3) := dk_183 0 9 (dk_at dksX18_init_0 9 rfl rfl)
theorem dX18_init_12 : decode cX18_init 12 = .ok (.putfield 10, 3) := dk_181 0 10 (dk_at dksX18_init_0 12 rfl rfl)
theorem dX18_init_15 : decode cX18_init 15 = .ok (.aload_n 0, 1) := dk_42 (dk_at dksX18_init_0 15 rfl rfl)
theorem dX18_init_16 : decode cX18_init 16 = .ok (.iload_n 1, 1) := dk_27 (dk_at dksX18_init_0 16 rfl rfl)
theorem dX18_init_17 : decode cX18_init 17 = .ok (.putfield 16, 3) := dk_181 0 16 (dk_at dksX18_init_0 17 rfl rfl)
theorem dX18_init_20 : decode cX18_init 20 = .ok (.return_, 1) := dk_177 (dk_at dksX18_init_0 20 rfl rfl)
theorem q117 : (Jvm.Cond.initialized "SomebodysLift$Some") ∈ lw_all := lw_g (lw_at lw_m1 31 rfl) rfl
theorem q593 : (Jvm.Cond.instanceMethod ({ cls := "SomebodysLift$Some", name := "holds", desc := "(LSomebodysLift$Look;)Z" } : Jvm.MethodName)) ∈ lw_all := lw_g (lw_at lw_m3 27 rfl) rfl
theorem q594 : (Jvm.Cond.code ({ cls := "SomebodysLift$Some", name := "holds", desc := "(LSomebodysLift$Look;)Z" } : Jvm.MethodName) prog_12_method_2_code (3 : Nat) (Option.some Jvm.ClassFile.FieldType.boolean)) ∈ lw_all := lw_g (lw_at lw_m3 28 rfl) rfl
theorem q595 : (Jvm.Cond.methodLink "SomebodysLift$Some" (20 : Nat) ({ cls := "java/util/ArrayList", name := "size", desc := "()I" } : Jvm.MethodName)) ∈ lw_all := lw_g (lw_at lw_m3 29 rfl) rfl
theorem q596 : (Jvm.Cond.methodLink "SomebodysLift$Some" (24 : Nat) ({ cls := "java/util/ArrayList", name := "get", desc := "(I)Ljava/lang/Object;" } : Jvm.MethodName)) ∈ lw_all := lw_g (lw_at lw_m3 30 rfl) rfl
theorem q597 : (Jvm.Cond.classLink "SomebodysLift$Some" (2 : Nat) "SomebodysLift$Test") ∈ lw_all := lw_g (lw_at lw_m3 31 rfl) rfl
theorem q598 : (Jvm.Cond.methodLink "SomebodysLift$Some" (28 : Nat) ({ cls := "SomebodysLift$Test", name := "holds", desc := "(LSomebodysLift$Look;)Z" } : Jvm.MethodName)) ∈ lw_all := lw_g (lw_at lw_m3 32 rfl) rfl
theorem q599 : (Jvm.Cond.selects "SomebodysLift$Some" ({ cls := "SomebodysLift$Test", name := "holds", desc := "(LSomebodysLift$Look;)Z" } : Jvm.MethodName) ({ cls := "SomebodysLift$Some", name := "holds", desc := "(LSomebodysLift$Look;)Z" } : Jvm.MethodName)) ∈ lw_all := lw_g (lw_at lw_m3 33 rfl) rfl
theorem q845 : (Jvm.Cond.instantiable "SomebodysLift$Some" (2 : Nat)) ∈ lw_all := lw_g (lw_at lw_m4 39 rfl) rfl
theorem q847 : (Jvm.Cond.instanceMethod ({ cls := "SomebodysLift$Some", name := "<init>", desc := "(Z)V" } : Jvm.MethodName)) ∈ lw_all := lw_g (lw_at lw_m4 41 rfl) rfl
theorem q848 : (Jvm.Cond.code ({ cls := "SomebodysLift$Some", name := "<init>", desc := "(Z)V" } : Jvm.MethodName) prog_12_method_1_code (2 : Nat) (Option.none : Option Jvm.ClassFile.FieldType)) ∈ lw_all := lw_g (lw_at lw_m4 42 rfl) rfl
theorem q849 : (Jvm.Cond.methodLinkNest "SomebodysLift$Some" (1 : Nat) ({ cls := "SomebodysLift$Test", name := "<init>", desc := "()V" } : Jvm.MethodName) "SomebodysLift") ∈ lw_tbl := lw_at lw_m4 43 rfl
theorem q853 : (Jvm.Cond.classLink "SomebodysLift$Some" (7 : Nat) "java/util/ArrayList") ∈ lw_all := lw_g (lw_at lw_m4 47 rfl) rfl
theorem q854 : (Jvm.Cond.methodLink "SomebodysLift$Some" (9 : Nat) ({ cls := "java/util/ArrayList", name := "<init>", desc := "()V" } : Jvm.MethodName)) ∈ lw_all := lw_g (lw_at lw_m4 48 rfl) rfl
theorem q855 : (Jvm.Cond.fieldLink "SomebodysLift$Some" (16 : Nat) "SomebodysLift$Some" "isAll" "Z") ∈ lw_all := lw_g (lw_at lw_m4 49 rfl) rfl
theorem q856 : (Jvm.Cond.fieldLink "SomebodysLift$Some" (10 : Nat) "SomebodysLift$Some" "of" "Ljava/util/ArrayList;") ∈ lw_all := lw_g (lw_at lw_m4 50 rfl) rfl
theorem q858 : (Jvm.Cond.laysFinal "SomebodysLift$Some" "SomebodysLift$Some" "isAll" "Z") ∈ lw_all := lw_g (lw_at lw_m4 52 rfl) rfl
theorem q859 : (Jvm.Cond.soleField "SomebodysLift$Some" "isAll") ∈ lw_all := lw_g (lw_at lw_m4 53 rfl) rfl
theorem q860 : (Jvm.Cond.laysFinal "SomebodysLift$Some" "SomebodysLift$Some" "of" "Ljava/util/ArrayList;") ∈ lw_all := lw_g (lw_at lw_m4 54 rfl) rfl
theorem q861 : (Jvm.Cond.soleField "SomebodysLift$Some" "of") ∈ lw_all := lw_g (lw_at lw_m4 55 rfl) rfl
theorem q862 : (Jvm.Cond.superclass "SomebodysLift$Some" "SomebodysLift$Test") ∈ lw_all := lw_g (lw_at lw_m4 56 rfl) rfl
theorem q944 : (Jvm.Cond.selects "SomebodysLift$Some" ({ cls := "java/lang/Object", name := "getClass", desc := "()Ljava/lang/Class;" } : Jvm.MethodName) ({ cls := "java/lang/Object", name := "getClass", desc := "()Ljava/lang/Class;" } : Jvm.MethodName)) ∈ lw_all := lw_g (lw_at lw_m4 138 rfl) rfl
theorem q2056 : (Jvm.Cond.castable "SomebodysLift$Some" "SomebodysLift$Test") ∈ lw_tbl := lw_at lw_m9 50 rfl
theorem q2084 : (Jvm.Cond.castable "SomebodysLift$Some" "java/lang/Object") ∈ lw_tbl := lw_at lw_m9 78 rfl
theorem in_X18 : ∀ w ∈ wsX180, w ∈ lw_all := lw_in wsX180 [858, 860] (by decide +kernel) (by decide +kernel)

/-! SomebodysLift$Not -/
set_option maxRecDepth 100000
def RX19 : String := "SomebodysLift$Not"
def TX19 : u_T := fun k => match k with
  | _ => ("SomebodysLift$Not", "of", "LSomebodysLift$Test;", true)
def tyX19 : Nat → FieldType := fun k => match k with
  | _ => .object "SomebodysLift$Test"
abbrev wsX190 : List Cond := u_ws RX19 TX19 1
theorem nmX19 : ∀ a, a < 1 → ∀ b, b < 1 → a ≠ b → (TX19 a).2.1 ≠ (TX19 b).2.1 := by decide +kernel
theorem tyX19_ok : ∀ k, k < 1 → parseFieldDescriptor (TX19 k).2.2.1 = some (tyX19 k) := by decide +kernel
abbrev cX19_holds : ByteArray := prog_9_method_2_code
def yX19_holds : MethodName := ⟨RX19, "holds", "(LSomebodysLift$Look;)Z"⟩
def dkwX19_holds_0 : List UInt8 := [42, 180, 0, 7, 43, 182, 0, 13, 154, 0, 7, 4, 167, 0, 4, 3, 172]
abbrev dktX19_holds_0 : List UInt8 := dkwX19_holds_0 ++ []
theorem dksX19_holds_0 : cX19_holds.data.toList.drop 0 = dktX19_holds_0 := by decide +kernel
theorem dX19_holds_0 : decode cX19_holds 0 = .ok (.aload_n 0, 1) := dk_42 (dk_at dksX19_holds_0 0 rfl rfl)
theorem dX19_holds_1 : decode cX19_holds 1 = .ok (.getfield 7, 3) := dk_180 0 7 (dk_at dksX19_holds_0 1 rfl rfl)
theorem dX19_holds_4 : decode cX19_holds 4 = .ok (.aload_n 1, 1) := dk_43 (dk_at dksX19_holds_0 4 rfl rfl)
theorem dX19_holds_5 : decode cX19_holds 5 = .ok (.invokevirtual 13, 3) := dk_182 0 13 (dk_at dksX19_holds_0 5 rfl rfl)
theorem dX19_holds_8 : decode cX19_holds 8 = .ok (.ifCond .ne 7, 3) := dk_154 0 7 (dk_at dksX19_holds_0 8 rfl rfl)
theorem dX19_holds_11 : decode cX19_holds 11 = .ok (.iconst 1, 1) := dk_4 (dk_at dksX19_holds_0 11 rfl rfl)
theorem dX19_holds_12 : decode cX19_holds 12 = .ok (.goto 4, 3) := dk_167 0 4 (dk_at dksX19_holds_0 12 rfl rfl)
theorem dX19_holds_15 : decode cX19_holds 15 = .ok (.iconst 0, 1) := dk_3 (dk_at dksX19_holds_0 15 rfl rfl)
theorem dX19_holds_16 : decode cX19_holds 16 = .ok (.ireturn, 1) := dk_172 (dk_at dksX19_holds_0 16 rfl rfl)
abbrev cX19_init : ByteArray := prog_9_method_1_code
def yX19_init : MethodName := ⟨RX19, "<init>", "(LSomebodysLift$Test;)V"⟩
def dkwX19_init_0 : List UInt8 := [42, 183, 0, 1, 42, 43, 181, 0, 7, 177]
abbrev dktX19_init_0 : List UInt8 := dkwX19_init_0 ++ []
theorem dksX19_init_0 : cX19_init.data.toList.drop 0 = dktX19_init_0 := by decide +kernel
theorem dX19_init_0 : decode cX19_init 0 = .ok (.aload_n 0, 1) := dk_42 (dk_at dksX19_init_0 0 rfl rfl)
theorem dX19_init_1 : decode cX19_init 1 = .ok (.invokespecial 1, 3) := dk_183 0 1 (dk_at dksX19_init_0 1 rfl rfl)
theorem dX19_init_4 : decode cX19_init 4 = .ok (.aload_n 0, 1) := dk_42 (dk_at dksX19_init_0 4 rfl rfl)
theorem dX19_init_5 : decode cX19_init 5 = .ok (.aload_n 1, 1) := dk_43 (dk_at dksX19_init_0 5 rfl rfl)
theorem dX19_init_6 : decode cX19_init 6 = .ok (.putfield 7, 3) := dk_181 0 7 (dk_at dksX19_init_0 6 rfl rfl)
theorem dX19_init_9 : decode cX19_init 9 = .ok (.return_, 1) := dk_177 (dk_at dksX19_init_0 9 rfl rfl)
theorem q118 : (Jvm.Cond.initialized "SomebodysLift$Not") ∈ lw_all := lw_g (lw_at lw_m1 32 rfl) rfl
theorem q589 : (Jvm.Cond.selects "SomebodysLift$Not" ({ cls := "SomebodysLift$Test", name := "holds", desc := "(LSomebodysLift$Look;)Z" } : Jvm.MethodName) ({ cls := "SomebodysLift$Not", name := "holds", desc := "(LSomebodysLift$Look;)Z" } : Jvm.MethodName)) ∈ lw_all := lw_g (lw_at lw_m3 23 rfl) rfl
theorem q590 : (Jvm.Cond.instanceMethod ({ cls := "SomebodysLift$Not", name := "holds", desc := "(LSomebodysLift$Look;)Z" } : Jvm.MethodName)) ∈ lw_all := lw_g (lw_at lw_m3 24 rfl) rfl
theorem q591 : (Jvm.Cond.code ({ cls := "SomebodysLift$Not", name := "holds", desc := "(LSomebodysLift$Look;)Z" } : Jvm.MethodName) prog_9_method_2_code (2 : Nat) (Option.some Jvm.ClassFile.FieldType.boolean)) ∈ lw_all := lw_g (lw_at lw_m3 25 rfl) rfl
theorem q592 : (Jvm.Cond.methodLink "SomebodysLift$Not" (13 : Nat) ({ cls := "SomebodysLift$Test", name := "holds", desc := "(LSomebodysLift$Look;)Z" } : Jvm.MethodName)) ∈ lw_all := lw_g (lw_at lw_m3 26 rfl) rfl
theorem q876 : (Jvm.Cond.instantiable "SomebodysLift$Not" (1 : Nat)) ∈ lw_all := lw_g (lw_at lw_m4 70 rfl) rfl
theorem q878 : (Jvm.Cond.instanceMethod ({ cls := "SomebodysLift$Not", name := "<init>", desc := "(LSomebodysLift$Test;)V" } : Jvm.MethodName)) ∈ lw_all := lw_g (lw_at lw_m4 72 rfl) rfl
theorem q879 : (Jvm.Cond.code ({ cls := "SomebodysLift$Not", name := "<init>", desc := "(LSomebodysLift$Test;)V" } : Jvm.MethodName) prog_9_method_1_code (2 : Nat) (Option.none : Option Jvm.ClassFile.FieldType)) ∈ lw_all := lw_g (lw_at lw_m4 73 rfl) rfl
theorem q880 : (Jvm.Cond.methodLinkNest "SomebodysLift$Not" (1 : Nat) ({ cls := "SomebodysLift$Test", name := "<init>", desc := "()V" } : Jvm.MethodName) "SomebodysLift") ∈ lw_tbl := lw_at lw_m4 74 rfl
theorem q881 : (Jvm.Cond.fieldLink "SomebodysLift$Not" (7 : Nat) "SomebodysLift$Not" "of" "LSomebodysLift$Test;") ∈ lw_all := lw_g (lw_at lw_m4 75 rfl) rfl
theorem q882 : (Jvm.Cond.laysFinal "SomebodysLift$Not" "SomebodysLift$Not" "of" "LSomebodysLift$Test;") ∈ lw_all := lw_g (lw_at lw_m4 76 rfl) rfl
theorem q883 : (Jvm.Cond.soleField "SomebodysLift$Not" "of") ∈ lw_all := lw_g (lw_at lw_m4 77 rfl) rfl
theorem q884 : (Jvm.Cond.superclass "SomebodysLift$Not" "SomebodysLift$Test") ∈ lw_all := lw_g (lw_at lw_m4 78 rfl) rfl
theorem q941 : (Jvm.Cond.selects "SomebodysLift$Not" ({ cls := "java/lang/Object", name := "getClass", desc := "()Ljava/lang/Class;" } : Jvm.MethodName) ({ cls := "java/lang/Object", name := "getClass", desc := "()Ljava/lang/Class;" } : Jvm.MethodName)) ∈ lw_all := lw_g (lw_at lw_m4 135 rfl) rfl
theorem q2055 : (Jvm.Cond.castable "SomebodysLift$Not" "SomebodysLift$Test") ∈ lw_tbl := lw_at lw_m9 49 rfl
theorem q2085 : (Jvm.Cond.castable "SomebodysLift$Not" "java/lang/Object") ∈ lw_tbl := lw_at lw_m9 79 rfl
theorem in_X19 : ∀ w ∈ wsX190, w ∈ lw_all := lw_in wsX190 [882] (by decide +kernel) (by decide +kernel)

/-! SomebodysLift$Against -/
set_option maxRecDepth 100000
def RX20 : String := "SomebodysLift$Against"
def TX20 : u_T := fun k => match k with
  | 0 => ("SomebodysLift$Against", "letter", "I", true)
  | 1 => ("SomebodysLift$Against", "sign", "I", true)
  | _ => ("SomebodysLift$Against", "n", "I", true)
def tyX20 : Nat → FieldType := fun k => match k with
  | 0 => .int
  | 1 => .int
  | _ => .int
abbrev wsX200 : List Cond := u_ws RX20 TX20 3
theorem nmX20 : ∀ a, a < 3 → ∀ b, b < 3 → a ≠ b → (TX20 a).2.1 ≠ (TX20 b).2.1 := by decide +kernel
theorem tyX20_ok : ∀ k, k < 3 → parseFieldDescriptor (TX20 k).2.2.1 = some (tyX20 k) := by decide +kernel
abbrev cX20_holds : ByteArray := prog_2_method_2_code
def yX20_holds : MethodName := ⟨RX20, "holds", "(LSomebodysLift$Look;)Z"⟩
def dkwX20_holds_3 : List UInt8 := [182, 0, 19, 42, 180, 0, 16, 164, 0, 7, 4, 167, 0, 4, 3, 172]
abbrev dktX20_holds_3 : List UInt8 := dkwX20_holds_3 ++ []
def dkwX20_holds_2 : List UInt8 := [182, 0, 19, 42, 180, 0, 16, 160, 0, 7, 4, 167, 0, 27, 3, 167, 0, 23, 43, 42, 180, 0, 7]
abbrev dktX20_holds_2 : List UInt8 := dkwX20_holds_2 ++ dktX20_holds_3
def dkwX20_holds_1 : List UInt8 := [4, 167, 0, 59, 3, 167, 0, 55, 42, 180, 0, 13, 16, 61, 160, 0, 26, 43, 42, 180, 0, 7]
abbrev dktX20_holds_1 : List UInt8 := dkwX20_holds_1 ++ dktX20_holds_2
def dkwX20_holds_0 : List UInt8 := [42, 180, 0, 13, 16, 60, 160, 0, 26, 43, 42, 180, 0, 7, 182, 0, 19, 42, 180, 0, 16, 162, 0, 7]
abbrev dktX20_holds_0 : List UInt8 := dkwX20_holds_0 ++ dktX20_holds_1
theorem dksX20_holds_0 : cX20_holds.data.toList.drop 0 = dktX20_holds_0 := by decide +kernel
theorem dksX20_holds_1 : cX20_holds.data.toList.drop 24 = dktX20_holds_1 := dk_seg dksX20_holds_0 24 rfl rfl
theorem dksX20_holds_2 : cX20_holds.data.toList.drop 46 = dktX20_holds_2 := dk_seg dksX20_holds_1 22 rfl rfl
theorem dksX20_holds_3 : cX20_holds.data.toList.drop 69 = dktX20_holds_3 := dk_seg dksX20_holds_2 23 rfl rfl
theorem dX20_holds_0 : decode cX20_holds 0 = .ok (.aload_n 0, 1) := dk_42 (dk_at dksX20_holds_0 0 rfl rfl)
theorem dX20_holds_1 : decode cX20_holds 1 = .ok (.getfield 13, 3) := dk_180 0 13 (dk_at dksX20_holds_0 1 rfl rfl)
theorem dX20_holds_4 : decode cX20_holds 4 = .ok (.bipush 60, 2) := dk_16 60 (dk_at dksX20_holds_0 4 rfl rfl)
theorem dX20_holds_6 : decode cX20_holds 6 = .ok (.if_icmp .ne 26, 3) := dk_160 0 26 (dk_at dksX20_holds_0 6 rfl rfl)
theorem dX20_holds_9 : decode cX20_holds 9 = .ok (.aload_n 1, 1) := dk_43 (dk_at dksX20_holds_0 9 rfl rfl)
theorem dX20_holds_10 : decode cX20_holds 10 = .ok (.aload_n 0, 1) := dk_42 (dk_at dksX20_holds_0 10 rfl rfl)
theorem dX20_holds_11 : decode cX20_holds 11 = .ok (.getfield 7, 3) := dk_180 0 7 (dk_at dksX20_holds_0 11 rfl rfl)
theorem dX20_holds_14 : decode cX20_holds 14 = .ok (.invokevirtual 19, 3) := dk_182 0 19 (dk_at dksX20_holds_0 14 rfl rfl)
theorem dX20_holds_17 : decode cX20_holds 17 = .ok (.aload_n 0, 1) := dk_42 (dk_at dksX20_holds_0 17 rfl rfl)
theorem dX20_holds_18 : decode cX20_holds 18 = .ok (.getfield 16, 3) := dk_180 0 16 (dk_at dksX20_holds_0 18 rfl rfl)
theorem dX20_holds_21 : decode cX20_holds 21 = .ok (.if_icmp .ge 7, 3) := dk_162 0 7 (dk_at dksX20_holds_0 21 rfl rfl)
theorem dX20_holds_24 : decode cX20_holds 24 = .ok (.iconst 1, 1) := dk_4 (dk_at dksX20_holds_1 0 rfl rfl)
theorem dX20_holds_25 : decode cX20_holds 25 = .ok (.goto 59, 3) := dk_167 0 59 (dk_at dksX20_holds_1 1 rfl rfl)
theorem dX20_holds_28 : decode cX20_holds 28 = .ok (.iconst 0, 1) := dk_3 (dk_at dksX20_holds_1 4 rfl rfl)
theorem dX20_holds_29 : decode cX20_holds 29 = .ok (.goto 55, 3) := dk_167 0 55 (dk_at dksX20_holds_1 5 rfl rfl)
theorem dX20_holds_32 : decode cX20_holds 32 = .ok (.aload_n 0, 1) := dk_42 (dk_at dksX20_holds_1 8 rfl rfl)
theorem dX20_holds_33 : decode cX20_holds 33 = .ok (.getfield 13, 3) := dk_180 0 13 (dk_at dksX20_holds_1 9 rfl rfl)
theorem dX20_holds_36 : decode cX20_holds 36 = .ok (.bipush 61, 2) := dk_16 61 (dk_at dksX20_holds_1 12 rfl rfl)
theorem dX20_holds_38 : decode cX20_holds 38 = .ok (.if_icmp .ne 26, 3) := dk_160 0 26 (dk_at dksX20_holds_1 14 rfl rfl)
theorem dX20_holds_41 : decode cX20_holds 41 = .ok (.aload_n 1, 1) := dk_43 (dk_at dksX20_holds_1 17 rfl rfl)
theorem dX20_holds_42 : decode cX20_holds 42 = .ok (.aload_n 0, 1) := dk_42 (dk_at dksX20_holds_1 18 rfl rfl)
theorem dX20_holds_43 : decode cX20_holds 43 = .ok (.getfield 7, 3) := dk_180 0 7 (dk_at dksX20_holds_1 19 rfl rfl)
theorem dX20_holds_46 : decode cX20_holds 46 = .ok (.invokevirtual 19, 3) := dk_182 0 19 (dk_at dksX20_holds_2 0 rfl rfl)
theorem dX20_holds_49 : decode cX20_holds 49 = .ok (.aload_n 0, 1) := dk_42 (dk_at dksX20_holds_2 3 rfl rfl)
theorem dX20_holds_50 : decode cX20_holds 50 = .ok (.getfield 16, 3) := dk_180 0 16 (dk_at dksX20_holds_2 4 rfl rfl)
theorem dX20_holds_53 : decode cX20_holds 53 = .ok (.if_icmp .ne 7, 3) := dk_160 0 7 (dk_at dksX20_holds_2 7 rfl rfl)
theorem dX20_holds_56 : decode cX20_holds 56 = .ok (.iconst 1, 1) := dk_4 (dk_at dksX20_holds_2 10 rfl rfl)
theorem dX20_holds_57 : decode cX20_holds 57 = .ok (.goto 27, 3) := dk_167 0 27 (dk_at dksX20_holds_2 11 rfl rfl)
theorem dX20_holds_60 : decode cX20_holds 60 = .ok (.iconst 0, 1) := dk_3 (dk_at dksX20_holds_2 14 rfl rfl)
theorem dX20_holds_61 : decode cX20_holds 61 = .ok (.goto 23, 3) := dk_167 0 23 (dk_at dksX20_holds_2 15 rfl rfl)
theorem dX20_holds_64 : decode cX20_holds 64 = .ok (.aload_n 1, 1) := dk_43 (dk_at dksX20_holds_2 18 rfl rfl)
theorem dX20_holds_65 : decode cX20_holds 65 = .ok (.aload_n 0, 1) := dk_42 (dk_at dksX20_holds_2 19 rfl rfl)
theorem dX20_holds_66 : decode cX20_holds 66 = .ok (.getfield 7, 3) := dk_180 0 7 (dk_at dksX20_holds_2 20 rfl rfl)
theorem dX20_holds_69 : decode cX20_holds 69 = .ok (.invokevirtual 19, 3) := dk_182 0 19 (dk_at dksX20_holds_3 0 rfl rfl)
theorem dX20_holds_72 : decode cX20_holds 72 = .ok (.aload_n 0, 1) := dk_42 (dk_at dksX20_holds_3 3 rfl rfl)
theorem dX20_holds_73 : decode cX20_holds 73 = .ok (.getfield 16, 3) := dk_180 0 16 (dk_at dksX20_holds_3 4 rfl rfl)
theorem dX20_holds_76 : decode cX20_holds 76 = .ok (.if_icmp .le 7, 3) := dk_164 0 7 (dk_at dksX20_holds_3 7 rfl rfl)
theorem dX20_holds_79 : decode cX20_holds 79 = .ok (.iconst 1, 1) := dk_4 (dk_at dksX20_holds_3 10 rfl rfl)
theorem dX20_holds_80 : decode cX20_holds 80 = .ok (.goto 4, 3) := dk_167 0 4 (dk_at dksX20_holds_3 11 rfl rfl)
theorem dX20_holds_83 : decode cX20_holds 83 = .ok (.iconst 0, 1) := dk_3 (dk_at dksX20_holds_3 14 rfl rfl)
theorem dX20_holds_84 : decode cX20_holds 84 = .ok (.ireturn, 1) := dk_172 (dk_at dksX20_holds_3 15 rfl rfl)
abbrev cX20_init : ByteArray := prog_2_method_1_code
def yX20_init : MethodName := ⟨RX20, "<init>", "(III)V"⟩
def dkwX20_init_0 : List UInt8 := [42, 183, 0, 1, 42, 27, 181, 0, 7, 42, 28, 181, 0, 13, 42, 29, 181, 0, 16, 177]
abbrev dktX20_init_0 : List UInt8 := dkwX20_init_0 ++ []
theorem dksX20_init_0 : cX20_init.data.toList.drop 0 = dktX20_init_0 := by decide +kernel
theorem dX20_init_0 : decode cX20_init 0 = .ok (.aload_n 0, 1) := dk_42 (dk_at dksX20_init_0 0 rfl rfl)
theorem dX20_init_1 : decode cX20_init 1 = .ok (.invokespecial 1, 3) := dk_183 0 1 (dk_at dksX20_init_0 1 rfl rfl)
theorem dX20_init_4 : decode cX20_init 4 = .ok (.aload_n 0, 1) := dk_42 (dk_at dksX20_init_0 4 rfl rfl)
theorem dX20_init_5 : decode cX20_init 5 = .ok (.iload_n 1, 1) := dk_27 (dk_at dksX20_init_0 5 rfl rfl)
theorem dX20_init_6 : decode cX20_init 6 = .ok (.putfield 7, 3) := dk_181 0 7 (dk_at dksX20_init_0 6 rfl rfl)
theorem dX20_init_9 : decode cX20_init 9 = .ok (.aload_n 0, 1) := dk_42 (dk_at dksX20_init_0 9 rfl rfl)
theorem dX20_init_10 : decode cX20_init 10 = .ok (.iload_n 2, 1) := dk_28 (dk_at dksX20_init_0 10 rfl rfl)
theorem dX20_init_11 : decode cX20_init 11 = .ok (.putfield 13, 3) := dk_181 0 13 (dk_at dksX20_init_0 11 rfl rfl)
theorem dX20_init_14 : decode cX20_init 14 = .ok (.aload_n 0, 1) := dk_42 (dk_at dksX20_init_0 14 rfl rfl)
theorem dX20_init_15 : decode cX20_init 15 = .ok (.iload_n 3, 1) := dk_29 (dk_at dksX20_init_0 15 rfl rfl)
theorem dX20_init_16 : decode cX20_init 16 = .ok (.putfield 16, 3) := dk_181 0 16 (dk_at dksX20_init_0 16 rfl rfl)
theorem dX20_init_19 : decode cX20_init 19 = .ok (.return_, 1) := dk_177 (dk_at dksX20_init_0 19 rfl rfl)
theorem q119 : (Jvm.Cond.initialized "SomebodysLift$Against") ∈ lw_all := lw_g (lw_at lw_m1 33 rfl) rfl
theorem q582 : (Jvm.Cond.selects "SomebodysLift$Against" ({ cls := "SomebodysLift$Test", name := "holds", desc := "(LSomebodysLift$Look;)Z" } : Jvm.MethodName) ({ cls := "SomebodysLift$Against", name := "holds", desc := "(LSomebodysLift$Look;)Z" } : Jvm.MethodName)) ∈ lw_all := lw_g (lw_at lw_m3 16 rfl) rfl
theorem q583 : (Jvm.Cond.instanceMethod ({ cls := "SomebodysLift$Against", name := "holds", desc := "(LSomebodysLift$Look;)Z" } : Jvm.MethodName)) ∈ lw_all := lw_g (lw_at lw_m3 17 rfl) rfl
theorem q584 : (Jvm.Cond.code ({ cls := "SomebodysLift$Against", name := "holds", desc := "(LSomebodysLift$Look;)Z" } : Jvm.MethodName) prog_2_method_2_code (2 : Nat) (Option.some Jvm.ClassFile.FieldType.boolean)) ∈ lw_all := lw_g (lw_at lw_m3 18 rfl) rfl
theorem q585 : (Jvm.Cond.methodLink "SomebodysLift$Against" (19 : Nat) ({ cls := "SomebodysLift$Look", name := "of", desc := "(I)I" } : Jvm.MethodName)) ∈ lw_all := lw_g (lw_at lw_m3 19 rfl) rfl
theorem q886 : (Jvm.Cond.instantiable "SomebodysLift$Against" (3 : Nat)) ∈ lw_all := lw_g (lw_at lw_m4 80 rfl) rfl
theorem q888 : (Jvm.Cond.instanceMethod ({ cls := "SomebodysLift$Against", name := "<init>", desc := "(III)V" } : Jvm.MethodName)) ∈ lw_all := lw_g (lw_at lw_m4 82 rfl) rfl
theorem q889 : (Jvm.Cond.code ({ cls := "SomebodysLift$Against", name := "<init>", desc := "(III)V" } : Jvm.MethodName) prog_2_method_1_code (4 : Nat) (Option.none : Option Jvm.ClassFile.FieldType)) ∈ lw_all := lw_g (lw_at lw_m4 83 rfl) rfl
theorem q890 : (Jvm.Cond.methodLinkNest "SomebodysLift$Against" (1 : Nat) ({ cls := "SomebodysLift$Test", name := "<init>", desc := "()V" } : Jvm.MethodName) "SomebodysLift") ∈ lw_tbl := lw_at lw_m4 84 rfl
theorem q891 : (Jvm.Cond.fieldLink "SomebodysLift$Against" (7 : Nat) "SomebodysLift$Against" "letter" "I") ∈ lw_all := lw_g (lw_at lw_m4 85 rfl) rfl
theorem q892 : (Jvm.Cond.fieldLink "SomebodysLift$Against" (13 : Nat) "SomebodysLift$Against" "sign" "I") ∈ lw_all := lw_g (lw_at lw_m4 86 rfl) rfl
theorem q893 : (Jvm.Cond.fieldLink "SomebodysLift$Against" (16 : Nat) "SomebodysLift$Against" "n" "I") ∈ lw_all := lw_g (lw_at lw_m4 87 rfl) rfl
theorem q894 : (Jvm.Cond.laysFinal "SomebodysLift$Against" "SomebodysLift$Against" "letter" "I") ∈ lw_all := lw_g (lw_at lw_m4 88 rfl) rfl
theorem q895 : (Jvm.Cond.soleField "SomebodysLift$Against" "letter") ∈ lw_all := lw_g (lw_at lw_m4 89 rfl) rfl
theorem q896 : (Jvm.Cond.laysFinal "SomebodysLift$Against" "SomebodysLift$Against" "sign" "I") ∈ lw_all := lw_g (lw_at lw_m4 90 rfl) rfl
theorem q897 : (Jvm.Cond.soleField "SomebodysLift$Against" "sign") ∈ lw_all := lw_g (lw_at lw_m4 91 rfl) rfl
theorem q898 : (Jvm.Cond.laysFinal "SomebodysLift$Against" "SomebodysLift$Against" "n" "I") ∈ lw_all := lw_g (lw_at lw_m4 92 rfl) rfl
theorem q899 : (Jvm.Cond.soleField "SomebodysLift$Against" "n") ∈ lw_all := lw_g (lw_at lw_m4 93 rfl) rfl
theorem q900 : (Jvm.Cond.superclass "SomebodysLift$Against" "SomebodysLift$Test") ∈ lw_all := lw_g (lw_at lw_m4 94 rfl) rfl
theorem q934 : (Jvm.Cond.selects "SomebodysLift$Against" ({ cls := "java/lang/Object", name := "getClass", desc := "()Ljava/lang/Class;" } : Jvm.MethodName) ({ cls := "java/lang/Object", name := "getClass", desc := "()Ljava/lang/Class;" } : Jvm.MethodName)) ∈ lw_all := lw_g (lw_at lw_m4 128 rfl) rfl
theorem q2054 : (Jvm.Cond.castable "SomebodysLift$Against" "SomebodysLift$Test") ∈ lw_tbl := lw_at lw_m9 48 rfl
theorem q2086 : (Jvm.Cond.castable "SomebodysLift$Against" "java/lang/Object") ∈ lw_tbl := lw_at lw_m9 80 rfl
theorem in_X20 : ∀ w ∈ wsX200, w ∈ lw_all := lw_in wsX200 [894, 896, 898] (by decide +kernel) (by decide +kernel)

