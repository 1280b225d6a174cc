/-! SomebodysLift -/
set_option maxRecDepth 100000
def RX0 : String := "SomebodysLift"
def TX0 : u_T := fun k => match k with
  | 0 => ("SomebodysLift", "lifts", "[LSomebodysLift$Lift;", true)
  | 1 => ("SomebodysLift", "pulls", "[I", true)
  | 2 => ("SomebodysLift", "rows", "[I", true)
  | 3 => ("SomebodysLift", "many", "I", false)
  | 4 => ("SomebodysLift", "now", "LSomebodysLift$Time;", true)
  | 5 => ("SomebodysLift", "tried", "LSomebodysLift$Time;", true)
  | 6 => ("SomebodysLift", "home", "I", false)
  | 7 => ("SomebodysLift", "text", "[B", true)
  | 8 => ("SomebodysLift", "texted", "I", false)
  | 9 => ("SomebodysLift", "airMany", "I", false)
  | 10 => ("SomebodysLift", "air", "LSomebodysLift$Air;", false)
  | 11 => ("SomebodysLift", "look", "LSomebodysLift$Look;", true)
  | 12 => ("SomebodysLift", "trace", "LSomebodysLift$Trace;", true)
  | 13 => ("SomebodysLift", "flightLifts", "[I", true)
  | 14 => ("SomebodysLift", "flightMinutes", "[I", true)
  | 15 => ("SomebodysLift", "seen", "[I", true)
  | 16 => ("SomebodysLift", "bookLifts", "[I", true)
  | 17 => ("SomebodysLift", "bookClimbs", "[I", true)
  | 18 => ("SomebodysLift", "flightMany", "I", false)
  | 19 => ("SomebodysLift", "seenMany", "I", false)
  | 20 => ("SomebodysLift", "bookMany", "I", false)
  | 21 => ("SomebodysLift", "tapes", "[LSomebodysLift$Tape;", true)
  | 22 => ("SomebodysLift", "leftAt", "I", false)
  | 23 => ("SomebodysLift", "bestLift", "I", false)
  | 24 => ("SomebodysLift", "bestPace", "I", false)
  | 25 => ("SomebodysLift", "imageNow", "LSomebodysLift$Time;", true)
  | 26 => ("SomebodysLift", "imageLifts", "[LSomebodysLift$Lift;", true)
  | 27 => ("SomebodysLift", "imagePulls", "[I", true)
  | 28 => ("SomebodysLift", "imageRows", "[I", true)
  | 29 => ("SomebodysLift", "imageFlightLifts", "[I", true)
  | 30 => ("SomebodysLift", "imageFlightMinutes", "[I", true)
  | 31 => ("SomebodysLift", "imageSeen", "[I", true)
  | 32 => ("SomebodysLift", "imageBookLifts", "[I", true)
  | 33 => ("SomebodysLift", "imageBookClimbs", "[I", true)
  | 34 => ("SomebodysLift", "imageMany", "I", false)
  | 35 => ("SomebodysLift", "imageHome", "I", false)
  | 36 => ("SomebodysLift", "imageFlight", "I", false)
  | 37 => ("SomebodysLift", "imageSeenMany", "I", false)
  | 38 => ("SomebodysLift", "imageBooked", "I", false)
  | _ => ("SomebodysLift", "imageAir", "LSomebodysLift$Air;", false)
def tyX0 : Nat → FieldType := fun k => match k with
  | 0 => .array (.object "SomebodysLift$Lift")
  | 1 => .array .int
  | 2 => .array .int
  | 3 => .int
  | 4 => .object "SomebodysLift$Time"
  | 5 => .object "SomebodysLift$Time"
  | 6 => .int
  | 7 => .array .byte
  | 8 => .int
  | 9 => .int
  | 10 => .object "SomebodysLift$Air"
  | 11 => .object "SomebodysLift$Look"
  | 12 => .object "SomebodysLift$Trace"
  | 13 => .array .int
  | 14 => .array .int
  | 15 => .array .int
  | 16 => .array .int
  | 17 => .array .int
  | 18 => .int
  | 19 => .int
  | 20 => .int
  | 21 => .array (.object "SomebodysLift$Tape")
  | 22 => .int
  | 23 => .int
  | 24 => .int
  | 25 => .object "SomebodysLift$Time"
  | 26 => .array (.object "SomebodysLift$Lift")
  | 27 => .array .int
  | 28 => .array .int
  | 29 => .array .int
  | 30 => .array .int
  | 31 => .array .int
  | 32 => .array .int
  | 33 => .array .int
  | 34 => .int
  | 35 => .int
  | 36 => .int
  | 37 => .int
  | 38 => .int
  | _ => .object "SomebodysLift$Air"
abbrev wsX00 : List Cond := u_ws RX0 TX0 40
set_option maxRecDepth 100000 in
theorem nmX0 : ∀ a, a < 40 → ∀ b, b < 40 → a ≠ b → (TX0 a).2.1 ≠ (TX0 b).2.1 := by decide +kernel
set_option maxRecDepth 100000 in
theorem tyX0_ok : ∀ k, k < 40 → parseFieldDescriptor (TX0 k).2.2.1 = some (tyX0 k) := by decide +kernel
abbrev cX0_init : ByteArray := prog_1_method_4_code
def yX0_init : MethodName := ⟨RX0, "<init>", "()V"⟩
def dkwX0_init_10 : List UInt8 := [187, 0, 82, 89, 183, 0, 115, 83, 132, 1, 1, 167, 255, 234, 177]
abbrev dktX0_init_10 : List UInt8 := dkwX0_init_10 ++ []
def dkwX0_init_9 : List UInt8 := [181, 0, 109, 42, 16, 8, 188, 10, 181, 0, 112, 3, 60, 27, 16, 6, 162, 0, 22, 42, 180, 0, 84, 27]
abbrev dktX0_init_9 : List UInt8 := dkwX0_init_9 ++ dktX0_init_10
def dkwX0_init_8 : List UInt8 := [181, 0, 100, 42, 7, 188, 10, 181, 0, 103, 42, 8, 188, 10, 181, 0, 106, 42, 16, 8, 188, 10]
abbrev dktX0_init_8 : List UInt8 := dkwX0_init_8 ++ dktX0_init_9
def dkwX0_init_7 : List UInt8 := [181, 0, 91, 42, 16, 6, 188, 10, 181, 0, 94, 42, 16, 24, 188, 10, 181, 0, 97, 42, 7, 188, 10]
abbrev dktX0_init_7 : List UInt8 := dkwX0_init_7 ++ dktX0_init_8
def dkwX0_init_6 : List UInt8 := [189, 0, 82, 181, 0, 84, 42, 187, 0, 28, 89, 183, 0, 30, 181, 0, 88, 42, 16, 6, 189, 0, 15]
abbrev dktX0_init_6 : List UInt8 := dkwX0_init_6 ++ dktX0_init_7
def dkwX0_init_5 : List UInt8 := [181, 0, 73, 42, 16, 8, 188, 10, 181, 0, 76, 42, 16, 8, 188, 10, 181, 0, 79, 42, 16, 6]
abbrev dktX0_init_5 : List UInt8 := dkwX0_init_5 ++ dktX0_init_6
def dkwX0_init_4 : List UInt8 := [183, 0, 62, 181, 0, 63, 42, 7, 188, 10, 181, 0, 67, 42, 7, 188, 10, 181, 0, 70, 42, 8, 188, 10]
abbrev dktX0_init_4 : List UInt8 := dkwX0_init_4 ++ dktX0_init_5
def dkwX0_init_3 : List UInt8 := [183, 0, 48, 181, 0, 49, 42, 187, 0, 53, 89, 183, 0, 55, 181, 0, 56, 42, 187, 0, 60, 89]
abbrev dktX0_init_3 : List UInt8 := dkwX0_init_3 ++ dktX0_init_4
def dkwX0_init_2 : List UInt8 := [181, 0, 35, 42, 16, 60, 181, 0, 38, 42, 16, 100, 188, 8, 181, 0, 42, 42, 187, 0, 46, 89]
abbrev dktX0_init_2 : List UInt8 := dkwX0_init_2 ++ dktX0_init_3
def dkwX0_init_1 : List UInt8 := [188, 10, 181, 0, 25, 42, 187, 0, 28, 89, 183, 0, 30, 181, 0, 31, 42, 187, 0, 28, 89, 183, 0, 30]
abbrev dktX0_init_1 : List UInt8 := dkwX0_init_1 ++ dktX0_init_2
def dkwX0_init_0 : List UInt8 := [42, 183, 0, 9, 42, 16, 6, 189, 0, 15, 181, 0, 17, 42, 16, 6, 188, 10, 181, 0, 21, 42, 16, 24]
abbrev dktX0_init_0 : List UInt8 := dkwX0_init_0 ++ dktX0_init_1
theorem dksX0_init_0 : cX0_init.data.toList.drop 0 = dktX0_init_0 := by decide +kernel
theorem dksX0_init_1 : cX0_init.data.toList.drop 24 = dktX0_init_1 := dk_seg dksX0_init_0 24 rfl rfl
theorem dksX0_init_2 : cX0_init.data.toList.drop 48 = dktX0_init_2 := dk_seg dksX0_init_1 24 rfl rfl
theorem dksX0_init_3 : cX0_init.data.toList.drop 70 = dktX0_init_3 := dk_seg dksX0_init_2 22 rfl rfl
theorem dksX0_init_4 : cX0_init.data.toList.drop 92 = dktX0_init_4 := dk_seg dksX0_init_3 22 rfl rfl
theorem dksX0_init_5 : cX0_init.data.toList.drop 116 = dktX0_init_5 := dk_seg dksX0_init_4 24 rfl rfl
theorem dksX0_init_6 : cX0_init.data.toList.drop 138 = dktX0_init_6 := dk_seg dksX0_init_5 22 rfl rfl
theorem dksX0_init_7 : cX0_init.data.toList.drop 161 = dktX0_init_7 := dk_seg dksX0_init_6 23 rfl rfl
theorem dksX0_init_8 : cX0_init.data.toList.drop 184 = dktX0_init_8 := dk_seg dksX0_init_7 23 rfl rfl
theorem dksX0_init_9 : cX0_init.data.toList.drop 206 = dktX0_init_9 := dk_seg dksX0_init_8 22 rfl rfl
theorem dksX0_init_10 : cX0_init.data.toList.drop 230 = dktX0_init_10 := dk_seg dksX0_init_9 24 rfl rfl
theorem dX0_init_0 : decode cX0_init 0 = .ok (.aload_n 0, 1) := dk_42 (dk_at dksX0_init_0 0 rfl rfl)
theorem dX0_init_1 : decode cX0_init 1 = .ok (.invokespecial 9, 3) := dk_183 0 9 (dk_at dksX0_init_0 1 rfl rfl)
theorem dX0_init_4 : decode cX0_init 4 = .ok (.aload_n 0, 1) := dk_42 (dk_at dksX0_init_0 4 rfl rfl)
theorem dX0_init_5 : decode cX0_init 5 = .ok (.bipush 6, 2) := dk_16 6 (dk_at dksX0_init_0 5 rfl rfl)
theorem dX0_init_7 : decode cX0_init 7 = .ok (.anewarray 15, 3) := dk_189 0 15 (dk_at dksX0_init_0 7 rfl rfl)
theorem dX0_init_10 : decode cX0_init 10 = .ok (.putfield 17, 3) := dk_181 0 17 (dk_at dksX0_init_0 10 rfl rfl)
theorem dX0_init_13 : decode cX0_init 13 = .ok (.aload_n 0, 1) := dk_42 (dk_at dksX0_init_0 13 rfl rfl)
theorem dX0_init_14 : decode cX0_init 14 = .ok (.bipush 6, 2) := dk_16 6 (dk_at dksX0_init_0 14 rfl rfl)
theorem dX0_init_16 : decode cX0_init 16 = .ok (.newarray .int, 2) := dk_188_10 (dk_at dksX0_init_0 16 rfl rfl)
theorem dX0_init_18 : decode cX0_init 18 = .ok (.putfield 21, 3) := dk_181 0 21 (dk_at dksX0_init_0 18 rfl rfl)
theorem dX0_init_21 : decode cX0_init 21 = .ok (.aload_n 0, 1) := dk_42 (dk_at dksX0_init_0 21 rfl rfl)
theorem dX0_init_22 : decode cX0_init 22 = .ok (.bipush 24, 2) := dk_16 24 (dk_at dksX0_init_0 22 rfl rfl)
theorem dX0_init_24 : decode cX0_init 24 = .ok (.newarray .int, 2) := dk_188_10 (dk_at dksX0_init_1 0 rfl rfl)
theorem dX0_init_26 : decode cX0_init 26 = .ok (.putfield 25, 3) := dk_181 0 25 (dk_at dksX0_init_1 2 rfl rfl)
theorem dX0_init_29 : decode cX0_init 29 = .ok (.aload_n 0, 1) := dk_42 (dk_at dksX0_init_1 5 rfl rfl)
theorem dX0_init_30 : decode cX0_init 30 = .ok (.new 28, 3) := dk_187 0 28 (dk_at dksX0_init_1 6 rfl rfl)
theorem dX0_init_33 : decode cX0_init 33 = .ok (.dup, 1) := dk_89 (dk_at dksX0_init_1 9 rfl rfl)
theorem dX0_init_34 : decode cX0_init 34 = .ok (.invokespecial 30, 3) := dk_183 0 30 (dk_at dksX0_init_1 10 rfl rfl)
theorem dX0_init_37 : decode cX0_init 37 = .ok (.putfield 31, 3) := dk_181 0 31 (dk_at dksX0_init_1 13 rfl rfl)
theorem dX0_init_40 : decode cX0_init 40 = .ok (.aload_n 0, 1) := dk_42 (dk_at dksX0_init_1 16 rfl rfl)
theorem dX0_init_41 : decode cX0_init 41 = .ok (.new 28, 3) := dk_187 0 28 (dk_at dksX0_init_1 17 rfl rfl)
theorem dX0_init_44 : decode cX0_init 44 = .ok (.dup, 1) := dk_89 (dk_at dksX0_init_1 20 rfl rfl)
theorem dX0_init_45 : decode cX0_init 45 = .ok (.invokespecial 30, 3) := dk_183 0 30 (dk_at dksX0_init_1 21 rfl rfl)
theorem dX0_init_48 : decode cX0_init 48 = .ok (.putfield 35, 3) := dk_181 0 35 (dk_at dksX0_init_2 0 rfl rfl)
theorem dX0_init_51 : decode cX0_init 51 = .ok (.aload_n 0, 1) := dk_42 (dk_at dksX0_init_2 3 rfl rfl)
theorem dX0_init_52 : decode cX0_init 52 = .ok (.bipush 60, 2) := dk_16 60 (dk_at dksX0_init_2 4 rfl rfl)
theorem dX0_init_54 : decode cX0_init 54 = .ok (.putfield 38, 3) := dk_181 0 38 (dk_at dksX0_init_2 6 rfl rfl)
theorem dX0_init_57 : decode cX0_init 57 = .ok (.aload_n 0, 1) := dk_42 (dk_at dksX0_init_2 9 rfl rfl)
theorem dX0_init_58 : decode cX0_init 58 = .ok (.bipush 100, 2) := dk_16 100 (dk_at dksX0_init_2 10 rfl rfl)
theorem dX0_init_60 : decode cX0_init 60 = .ok (.newarray .byte, 2) := dk_188_8 (dk_at dksX0_init_2 12 rfl rfl)
theorem dX0_init_62 : decode cX0_init 62 = .ok (.putfield 42, 3) := dk_181 0 42 (dk_at dksX0_init_2 14 rfl rfl)
theorem dX0_init_65 : decode cX0_init 65 = .ok (.aload_n 0, 1) := dk_42 (dk_at dksX0_init_2 17 rfl rfl)
theorem dX0_init_66 : decode cX0_init 66 = .ok (.new 46, 3) := dk_187 0 46 (dk_at dksX0_init_2 18 rfl rfl)
theorem dX0_init_69 : decode cX0_init 69 = .ok (.dup, 1) := dk_89 (dk_at dksX0_init_2 21 rfl rfl)
theorem dX0_init_70 : decode cX0_init 70 = .ok (.invokespecial 48, 3) := dk_183 0 48 (dk_at dksX0_init_3 0 rfl rfl)
theorem dX0_init_73 : decode cX0_init 73 = .ok (.putfield 49, 3) := dk_181 0 49 (dk_at dksX0_init_3 3 rfl rfl)
theorem dX0_init_76 : decode cX0_init 76 = .ok (.aload_n 0, 1) := dk_42 (dk_at dksX0_init_3 6 rfl rfl)
theorem dX0_init_77 : decode cX0_init 77 = .ok (.new 53, 3) := dk_187 0 53 (dk_at dksX0_init_3 7 rfl rfl)
theorem dX0_init_80 : decode cX0_init 80 = .ok (.dup, 1) := dk_89 (dk_at dksX0_init_3 10 rfl rfl)
theorem dX0_init_81 : decode cX0_init 81 = .ok (.invokespecial 55, 3) := dk_183 0 55 (dk_at dksX0_init_3 11 rfl rfl)
theorem dX0_init_84 : decode cX0_init 84 = .ok (.putfield 56, 3) := dk_181 0 56 (dk_at dksX0_init_3 14 rfl rfl)
theorem dX0_init_87 : decode cX0_init 87 = .ok (.aload_n 0, 1) := dk_42 (dk_at dksX0_init_3 17 rfl rfl)
theorem dX0_init_88 : decode cX0_init 88 = .ok (.new 60, 3) := dk_187 0 60 (dk_at dksX0_init_3 18 rfl rfl)
theorem dX0_init_91 : decode cX0_init 91 = .ok (.dup, 1) := dk_89 (dk_at dksX0_init_3 21 rfl rfl)
theorem dX0_init_92 : decode cX0_init 92 = .ok (.invokespecial 62, 3) := dk_183 0 62 (dk_at dksX0_init_4 0 rfl rfl)
theorem dX0_init_95 : decode cX0_init 95 = .ok (.putfield 63, 3) := dk_181 0 63 (dk_at dksX0_init_4 3 rfl rfl)
theorem dX0_init_98 : decode cX0_init 98 = .ok (.aload_n 0, 1) := dk_42 (dk_at dksX0_init_4 6 rfl rfl)
theorem dX0_init_99 : decode cX0_init 99 = .ok (.iconst 4, 1) := dk_7 (dk_at dksX0_init_4 7 rfl rfl)
theorem dX0_init_100 : decode cX0_init 100 = .ok (.newarray .int, 2) := dk_188_10 (dk_at dksX0_init_4 8 rfl rfl)
theorem dX0_init_102 : decode cX0_init 102 = .ok (.putfield 67, 3) := dk_181 0 67 (dk_at dksX0_init_4 10 rfl rfl)
theorem dX0_init_105 : decode cX0_init 105 = .ok (.aload_n 0, 1) := dk_42 (dk_at dksX0_init_4 13 rfl rfl)
theorem dX0_init_106 : decode cX0_init 106 = .ok (.iconst 4, 1) := dk_7 (dk_at dksX0_init_4 14 rfl rfl)
theorem dX0_init_107 : decode cX0_init 107 = .ok (.newarray .int, 2) := dk_188_10 (dk_at dksX0_init_4 15 rfl rfl)
theorem dX0_init_109 : decode cX0_init 109 = .ok (.putfield 70, 3) := dk_181 0 70 (dk_at dksX0_init_4 17 rfl rfl)
theorem dX0_init_112 : decode cX0_init 112 = .ok (.aload_n 0, 1) := dk_42 (dk_at dksX0_init_4 20 rfl rfl)
theorem dX0_init_113 : decode cX0_init 113 = .ok (.iconst 5, 1) := dk_8 (dk_at dksX0_init_4 21 rfl rfl)
theorem dX0_init_114 : decode cX0_init 114 = .ok (.newarray .int, 2) := dk_188_10 (dk_at dksX0_init_4 22 rfl rfl)
theorem dX0_init_116 : decode cX0_init 116 = .ok (.putfield 73, 3) := dk_181 0 73 (dk_at dksX0_init_5 0 rfl rfl)
theorem dX0_init_119 : decode cX0_init 119 = .ok (.aload_n 0, 1) := dk_42 (dk_at dksX0_init_5 3 rfl rfl)
theorem dX0_init_120 : decode cX0_init 120 = .ok (.bipush 8, 2) := dk_16 8 (dk_at dksX0_init_5 4 rfl rfl)
theorem dX0_init_122 : decode cX0_init 122 = .ok (.newarray .int, 2) := dk_188_10 (dk_at dksX0_init_5 6 rfl rfl)
theorem dX0_init_124 : decode cX0_init 124 = .ok (.putfield 76, 3) := dk_181 0 76 (dk_at dksX0_init_5 8 rfl rfl)
theorem dX0_init_127 : decode cX0_init 127 = .ok (.aload_n 0, 1) := dk_42 (dk_at dksX0_init_5 11 rfl rfl)
theorem dX0_init_128 : decode cX0_init 128 = .ok (.bipush 8, 2) := dk_16 8 (dk_at dksX0_init_5 12 rfl rfl)
theorem dX0_init_130 : decode cX0_init 130 = .ok (.newarray .int, 2) := dk_188_10 (dk_at dksX0_init_5 14 rfl rfl)
theorem dX0_init_132 : decode cX0_init 132 = .ok (.putfield 79, 3) := dk_181 0 79 (dk_at dksX0_init_5 16 rfl rfl)
theorem dX0_init_135 : decode cX0_init 135 = .ok (.aload_n 0, 1) := dk_42 (dk_at dksX0_init_5 19 rfl rfl)
theorem dX0_init_136 : decode cX0_init 136 = .ok (.bipush 6, 2) := dk_16 6 (dk_at dksX0_init_5 20 rfl rfl)
theorem dX0_init_138 : decode cX0_init 138 = .ok (.anewarray 82, 3) := dk_189 0 82 (dk_at dksX0_init_6 0 rfl rfl)
theorem dX0_init_141 : decode cX0_init 141 = .ok (.putfield 84, 3) := dk_181 0 84 (dk_at dksX0_init_6 3 rfl rfl)
theorem dX0_init_144 : decode cX0_init 144 = .ok (.aload_n 0, 1) := dk_42 (dk_at dksX0_init_6 6 rfl rfl)
theorem dX0_init_145 : decode cX0_init 145 = .ok (.new 28, 3) := dk_187 0 28 (dk_at dksX0_init_6 7 rfl rfl)
theorem dX0_init_148 : decode cX0_init 148 = .ok (.dup, 1) := dk_89 (dk_at dksX0_init_6 10 rfl rfl)
theorem dX0_init_149 : decode cX0_init 149 = .ok (.invokespecial 30, 3) := dk_183 0 30 (dk_at dksX0_init_6 11 rfl rfl)
theorem dX0_init_152 : decode cX0_init 152 = .ok (.putfield 88, 3) := dk_181 0 88 (dk_at dksX0_init_6 14 rfl rfl)
theorem dX0_init_155 : decode cX0_init 155 = .ok (.aload_n 0, 1) := dk_42 (dk_at dksX0_init_6 17 rfl rfl)
theorem dX0_init_156 : decode cX0_init 156 = .ok (.bipush 6, 2) := dk_16 6 (dk_at dksX0_init_6 18 rfl rfl)
theorem dX0_init_158 : decode cX0_init 158 = .ok (.anewarray 15, 3) := dk_189 0 15 (dk_at dksX0_init_6 20 rfl rfl)
theorem dX0_init_161 : decode cX0_init 161 = .ok (.putfield 91, 3) := dk_181 0 91 (dk_at dksX0_init_7 0 rfl rfl)
theorem dX0_init_164 : decode cX0_init 164 = .ok (.aload_n 0, 1) := dk_42 (dk_at dksX0_init_7 3 rfl rfl)
theorem dX0_init_165 : decode cX0_init 165 = .ok (.bipush 6, 2) := dk_16 6 (dk_at dksX0_init_7 4 rfl rfl)
theorem dX0_init_167 : decode cX0_init 167 = .ok (.newarray .int, 2) := dk_188_10 (dk_at dksX0_init_7 6 rfl rfl)
theorem dX0_init_169 : decode cX0_init 169 = .ok (.putfield 94, 3) := dk_181 0 94 (dk_at dksX0_init_7 8 rfl rfl)
theorem dX0_init_172 : decode cX0_init 172 = .ok (.aload_n 0, 1) := dk_42 (dk_at dksX0_init_7 11 rfl rfl)
theorem dX0_init_173 : decode cX0_init 173 = .ok (.bipush 24, 2) := dk_16 24 (dk_at dksX0_init_7 12 rfl rfl)
theorem dX0_init_175 : decode cX0_init 175 = .ok (.newarray .int, 2) := dk_188_10 (dk_at dksX0_init_7 14 rfl rfl)
theorem dX0_init_177 : decode cX0_init 177 = .ok (.putfield 97, 3) := dk_181 0 97 (dk_at dksX0_init_7 16 rfl rfl)
theorem dX0_init_180 : decode cX0_init 180 = .ok (.aload_n 0, 1) := dk_42 (dk_at dksX0_init_7 19 rfl rfl)
theorem dX0_init_181 : decode cX0_init 181 = .ok (.iconst 4, 1) := dk_7 (dk_at dksX0_init_7 20 rfl rfl)
theorem dX0_init_182 : decode cX0_init 182 = .ok (.newarray .int, 2) := dk_188_10 (dk_at dksX0_init_7 21 rfl rfl)
theorem dX0_init_184 : decode cX0_init 184 = .ok (.putfield 100, 3) := dk_181 0 100 (dk_at dksX0_init_8 0 rfl rfl)
theorem dX0_init_187 : decode cX0_init 187 = .ok (.aload_n 0, 1) := dk_42 (dk_at dksX0_init_8 3 rfl rfl)
theorem dX0_init_188 : decode cX0_init 188 = .ok (.iconst 4, 1) := dk_7 (dk_at dksX0_init_8 4 rfl rfl)
theorem dX0_init_189 : decode cX0_init 189 = .ok (.newarray .int, 2) := dk_188_10 (dk_at dksX0_init_8 5 rfl rfl)
theorem dX0_init_191 : decode cX0_init 191 = .ok (.putfield 103, 3) := dk_181 0 103 (dk_at dksX0_init_8 7 rfl rfl)
theorem dX0_init_194 : decode cX0_init 194 = .ok (.aload_n 0, 1) := dk_42 (dk_at dksX0_init_8 10 rfl rfl)
theorem dX0_init_195 : decode cX0_init 195 = .ok (.iconst 5, 1) := dk_8 (dk_at dksX0_init_8 11 rfl rfl)
theorem dX0_init_196 : decode cX0_init 196 = .ok (.newarray .int, 2) := dk_188_10 (dk_at dksX0_init_8 12 rfl rfl)
theorem dX0_init_198 : decode cX0_init 198 = .ok (.putfield 106, 3) := dk_181 0 106 (dk_at dksX0_init_8 14 rfl rfl)
theorem dX0_init_201 : decode cX0_init 201 = .ok (.aload_n 0, 1) := dk_42 (dk_at dksX0_init_8 17 rfl rfl)
theorem dX0_init_202 : decode cX0_init 202 = .ok (.bipush 8, 2) := dk_16 8 (dk_at dksX0_init_8 18 rfl rfl)
theorem dX0_init_204 : decode cX0_init 204 = .ok (.newarray .int, 2) := dk_188_10 (dk_at dksX0_init_8 20 rfl rfl)
theorem dX0_init_206 : decode cX0_init 206 = .ok (.putfield 109, 3) := dk_181 0 109 (dk_at dksX0_init_9 0 rfl rfl)
theorem dX0_init_209 : decode cX0_init 209 = .ok (.aload_n 0, 1) := dk_42 (dk_at dksX0_init_9 3 rfl rfl)
theorem dX0_init_210 : decode cX0_init 210 = .ok (.bipush 8, 2) := dk_16 8 (dk_at dksX0_init_9 4 rfl rfl)
theorem dX0_init_212 : decode cX0_init 212 = .ok (.newarray .int, 2) := dk_188_10 (dk_at dksX0_init_9 6 rfl rfl)
theorem dX0_init_214 : decode cX0_init 214 = .ok (.putfield 112, 3) := dk_181 0 112 (dk_at dksX0_init_9 8 rfl rfl)
theorem dX0_init_217 : decode cX0_init 217 = .ok (.iconst 0, 1) := dk_3 (dk_at dksX0_init_9 11 rfl rfl)
theorem dX0_init_218 : decode cX0_init 218 = .ok (.istore_n 1, 1) := dk_60 (dk_at dksX0_init_9 12 rfl rfl)
theorem dX0_init_219 : decode cX0_init 219 = .ok (.iload_n 1, 1) := dk_27 (dk_at dksX0_init_9 13 rfl rfl)
theorem dX0_init_220 : decode cX0_init 220 = .ok (.bipush 6, 2) := dk_16 6 (dk_at dksX0_init_9 14 rfl rfl)
theorem dX0_init_222 : decode cX0_init 222 = .ok (.if_icmp .ge 22, 3) := dk_162 0 22 (dk_at dksX0_init_9 16 rfl rfl)
theorem dX0_init_225 : decode cX0_init 225 = .ok (.aload_n 0, 1) := dk_42 (dk_at dksX0_init_9 19 rfl rfl)
theorem dX0_init_226 : decode cX0_init 226 = .ok (.getfield 84, 3) := dk_180 0 84 (dk_at dksX0_init_9 20 rfl rfl)
theorem dX0_init_229 : decode cX0_init 229 = .ok (.iload_n 1, 1) := dk_27 (dk_at dksX0_init_9 23 rfl rfl)
theorem dX0_init_230 : decode cX0_init 230 = .ok (.new 82, 3) := dk_187 0 82 (dk_at dksX0_init_10 0 rfl rfl)
theorem dX0_init_233 : decode cX0_init 233 = .ok (.dup, 1) := dk_89 (dk_at dksX0_init_10 3 rfl rfl)
theorem dX0_init_234 : decode cX0_init 234 = .ok (.invokespecial 115, 3) := dk_183 0 115 (dk_at dksX0_init_10 4 rfl rfl)
theorem dX0_init_237 : decode cX0_init 237 = .ok (.aastore, 1) := dk_83 (dk_at dksX0_init_10 7 rfl rfl)
theorem dX0_init_238 : decode cX0_init 238 = .ok (.iinc 1 1, 3) := dk_132 1 1 (dk_at dksX0_init_10 8 rfl rfl)
theorem dX0_init_241 : decode cX0_init 241 = .ok (.goto (-22), 3) := dk_167 255 234 (dk_at dksX0_init_10 11 rfl rfl)
theorem dX0_init_244 : decode cX0_init 244 = .ok (.return_, 1) := dk_177 (dk_at dksX0_init_10 14 rfl rfl)
abbrev cX0_lift : ByteArray := prog_1_method_7_code
def yX0_lift : MethodName := ⟨RX0, "lift", "(IIII)I"⟩
def dkwX0_lift_5 : List UInt8 := [96, 181, 0, 116, 172]
abbrev dktX0_lift_5 : List UInt8 := dkwX0_lift_5 ++ []
def dkwX0_lift_4 : List UInt8 := [7, 42, 180, 0, 116, 104, 21, 5, 96, 3, 79, 132, 5, 1, 167, 255, 232, 42, 89, 180, 0, 116, 90, 4]
abbrev dktX0_lift_4 : List UInt8 := dkwX0_lift_4 ++ dktX0_lift_5
def dkwX0_lift_3 : List UInt8 := [42, 180, 0, 21, 42, 180, 0, 116, 21, 4, 79, 3, 54, 5, 21, 5, 7, 162, 0, 24, 42, 180, 0, 25]
abbrev dktX0_lift_3 : List UInt8 := dkwX0_lift_3 ++ dktX0_lift_4
def dkwX0_lift_2 : List UInt8 := [16, 6, 160, 0, 6, 16, 252, 172, 42, 180, 0, 17, 42, 180, 0, 116, 42, 27, 28, 29, 182, 0, 146, 83]
abbrev dktX0_lift_2 : List UInt8 := dkwX0_lift_2 ++ dktX0_lift_3
def dkwX0_lift_1 : List UInt8 := [184, 0, 142, 153, 0, 14, 21, 4, 3, 16, 20, 184, 0, 5, 154, 0, 6, 16, 254, 172, 42, 180, 0, 116]
abbrev dktX0_lift_1 : List UInt8 := dkwX0_lift_1 ++ dktX0_lift_2
def dkwX0_lift_0 : List UInt8 := [27, 3, 16, 6, 184, 0, 5, 154, 0, 5, 2, 172, 28, 3, 16, 9, 184, 0, 5, 153, 0, 21, 29]
abbrev dktX0_lift_0 : List UInt8 := dkwX0_lift_0 ++ dktX0_lift_1
theorem dksX0_lift_0 : cX0_lift.data.toList.drop 0 = dktX0_lift_0 := by decide +kernel
theorem dksX0_lift_1 : cX0_lift.data.toList.drop 23 = dktX0_lift_1 := dk_seg dksX0_lift_0 23 rfl rfl
theorem dksX0_lift_2 : cX0_lift.data.toList.drop 47 = dktX0_lift_2 := dk_seg dksX0_lift_1 24 rfl rfl
theorem dksX0_lift_3 : cX0_lift.data.toList.drop 71 = dktX0_lift_3 := dk_seg dksX0_lift_2 24 rfl rfl
theorem dksX0_lift_4 : cX0_lift.data.toList.drop 95 = dktX0_lift_4 := dk_seg dksX0_lift_3 24 rfl rfl
theorem dksX0_lift_5 : cX0_lift.data.toList.drop 119 = dktX0_lift_5 := dk_seg dksX0_lift_4 24 rfl rfl
theorem dX0_lift_0 : decode cX0_lift 0 = .ok (.iload_n 1, 1) := dk_27 (dk_at dksX0_lift_0 0 rfl rfl)
theorem dX0_lift_1 : decode cX0_lift 1 = .ok (.iconst 0, 1) := dk_3 (dk_at dksX0_lift_0 1 rfl rfl)
theorem dX0_lift_2 : decode cX0_lift 2 = .ok (.bipush 6, 2) := dk_16 6 (dk_at dksX0_lift_0 2 rfl rfl)
theorem dX0_lift_4 : decode cX0_lift 4 = .ok (.invokestatic 5, 3) := dk_184 0 5 (dk_at dksX0_lift_0 4 rfl rfl)
theorem dX0_lift_7 : decode cX0_lift 7 = .ok (.ifCond .ne 5, 3) := dk_154 0 5 (dk_at dksX0_lift_0 7 rfl rfl)
theorem dX0_lift_10 : decode cX0_lift 10 = .ok (.iconst (-1), 1) := dk_2 (dk_at dksX0_lift_0 10 rfl rfl)
theorem dX0_lift_11 : decode cX0_lift 11 = .ok (.ireturn, 1) := dk_172 (dk_at dksX0_lift_0 11 rfl rfl)
theorem dX0_lift_12 : decode cX0_lift 12 = .ok (.iload_n 2, 1) := dk_28 (dk_at dksX0_lift_0 12 rfl rfl)
theorem dX0_lift_13 : decode cX0_lift 13 = .ok (.iconst 0, 1) := dk_3 (dk_at dksX0_lift_0 13 rfl rfl)
theorem dX0_lift_14 : decode cX0_lift 14 = .ok (.bipush 9, 2) := dk_16 9 (dk_at dksX0_lift_0 14 rfl rfl)
theorem dX0_lift_16 : decode cX0_lift 16 = .ok (.invokestatic 5, 3) := dk_184 0 5 (dk_at dksX0_lift_0 16 rfl rfl)
theorem dX0_lift_19 : decode cX0_lift 19 = .ok (.ifCond .eq 21, 3) := dk_153 0 21 (dk_at dksX0_lift_0 19 rfl rfl)
theorem dX0_lift_22 : decode cX0_lift 22 = .ok (.iload_n 3, 1) := dk_29 (dk_at dksX0_lift_0 22 rfl rfl)
theorem dX0_lift_23 : decode cX0_lift 23 = .ok (.invokestatic 142, 3) := dk_184 0 142 (dk_at dksX0_lift_1 0 rfl rfl)
theorem dX0_lift_26 : decode cX0_lift 26 = .ok (.ifCond .eq 14, 3) := dk_153 0 14 (dk_at dksX0_lift_1 3 rfl rfl)
theorem dX0_lift_29 : decode cX0_lift 29 = .ok (.iload 4, 2) := dk_21 4 (dk_at dksX0_lift_1 6 rfl rfl)
theorem dX0_lift_31 : decode cX0_lift 31 = .ok (.iconst 0, 1) := dk_3 (dk_at dksX0_lift_1 8 rfl rfl)
theorem dX0_lift_32 : decode cX0_lift 32 = .ok (.bipush 20, 2) := dk_16 20 (dk_at dksX0_lift_1 9 rfl rfl)
theorem dX0_lift_34 : decode cX0_lift 34 = .ok (.invokestatic 5, 3) := dk_184 0 5 (dk_at dksX0_lift_1 11 rfl rfl)
theorem dX0_lift_37 : decode cX0_lift 37 = .ok (.ifCond .ne 6, 3) := dk_154 0 6 (dk_at dksX0_lift_1 14 rfl rfl)
theorem dX0_lift_40 : decode cX0_lift 40 = .ok (.bipush (-2), 2) := dk_16 254 (dk_at dksX0_lift_1 17 rfl rfl)
theorem dX0_lift_42 : decode cX0_lift 42 = .ok (.ireturn, 1) := dk_172 (dk_at dksX0_lift_1 19 rfl rfl)
theorem dX0_lift_43 : decode cX0_lift 43 = .ok (.aload_n 0, 1) := dk_42 (dk_at dksX0_lift_1 20 rfl rfl)
theorem dX0_lift_44 : decode cX0_lift 44 = .ok (.getfield 116, 3) := dk_180 0 116 (dk_at dksX0_lift_1 21 rfl rfl)
theorem dX0_lift_47 : decode cX0_lift 47 = .ok (.bipush 6, 2) := dk_16 6 (dk_at dksX0_lift_2 0 rfl rfl)
theorem dX0_lift_49 : decode cX0_lift 49 = .ok (.if_icmp .ne 6, 3) := dk_160 0 6 (dk_at dksX0_lift_2 2 rfl rfl)
theorem dX0_lift_52 : decode cX0_lift 52 = .ok (.bipush (-4), 2) := dk_16 252 (dk_at dksX0_lift_2 5 rfl rfl)
theorem dX0_lift_54 : decode cX0_lift 54 = .ok (.ireturn, 1) := dk_172 (dk_at dksX0_lift_2 7 rfl rfl)
theorem dX0_lift_55 : decode cX0_lift 55 = .ok (.aload_n 0, 1) := dk_42 (dk_at dksX0_lift_2 8 rfl rfl)
theorem dX0_lift_56 : decode cX0_lift 56 = .ok (.getfield 17, 3) := dk_180 0 17 (dk_at dksX0_lift_2 9 rfl rfl)
theorem dX0_lift_59 : decode cX0_lift 59 = .ok (.aload_n 0, 1) := dk_42 (dk_at dksX0_lift_2 12 rfl rfl)
theorem dX0_lift_60 : decode cX0_lift 60 = .ok (.getfield 116, 3) := dk_180 0 116 (dk_at dksX0_lift_2 13 rfl rfl)
theorem dX0_lift_63 : decode cX0_lift 63 = .ok (.aload_n 0, 1) := dk_42 (dk_at dksX0_lift_2 16 rfl rfl)
theorem dX0_lift_64 : decode cX0_lift 64 = .ok (.iload_n 1, 1) := dk_27 (dk_at dksX0_lift_2 17 rfl rfl)
theorem dX0_lift_65 : decode cX0_lift 65 = .ok (.iload_n 2, 1) := dk_28 (dk_at dksX0_lift_2 18 rfl rfl)
theorem dX0_lift_66 : decode cX0_lift 66 = .ok (.iload_n 3, 1) := dk_29 (dk_at dksX0_lift_2 19 rfl rfl)
theorem dX0_lift_67 : decode cX0_lift 67 = .ok (.invokevirtual 146, 3) := dk_182 0 146 (dk_at dksX0_lift_2 20 rfl rfl)
theorem dX0_lift_70 : decode cX0_lift 70 = .ok (.aastore, 1) := dk_83 (dk_at dksX0_lift_2 23 rfl rfl)
theorem dX0_lift_71 : decode cX0_lift 71 = .ok (.aload_n 0, 1) := dk_42 (dk_at dksX0_lift_3 0 rfl rfl)
theorem dX0_lift_72 : decode cX0_lift 72 = .ok (.getfield 21, 3) := dk_180 0 21 (dk_at dksX0_lift_3 1 rfl rfl)
theorem dX0_lift_75 : decode cX0_lift 75 = .ok (.aload_n 0, 1) := dk_42 (dk_at dksX0_lift_3 4 rfl rfl)
theorem dX0_lift_76 : decode cX0_lift 76 = .ok (.getfield 116, 3) := dk_180 0 116 (dk_at dksX0_lift_3 5 rfl rfl)
theorem dX0_lift_79 : decode cX0_lift 79 = .ok (.iload 4, 2) := dk_21 4 (dk_at dksX0_lift_3 8 rfl rfl)
theorem dX0_lift_81 : decode cX0_lift 81 = .ok (.iastore, 1) := dk_79 (dk_at dksX0_lift_3 10 rfl rfl)
theorem dX0_lift_82 : decode cX0_lift 82 = .ok (.iconst 0, 1) := dk_3 (dk_at dksX0_lift_3 11 rfl rfl)
theorem dX0_lift_83 : decode cX0_lift 83 = .ok (.istore 5, 2) := dk_54 5 (dk_at dksX0_lift_3 12 rfl rfl)
theorem dX0_lift_85 : decode cX0_lift 85 = .ok (.iload 5, 2) := dk_21 5 (dk_at dksX0_lift_3 14 rfl rfl)
theorem dX0_lift_87 : decode cX0_lift 87 = .ok (.iconst 4, 1) := dk_7 (dk_at dksX0_lift_3 16 rfl rfl)
theorem dX0_lift_88 : decode cX0_lift 88 = .ok (.if_icmp .ge 24, 3) := dk_162 0 24 (dk_at dksX0_lift_3 17 rfl rfl)
theorem dX0_lift_91 : decode cX0_lift 91 = .ok (.aload_n 0, 1) := dk_42 (dk_at dksX0_lift_3 20 rfl rfl)
theorem dX0_lift_92 : decode cX0_lift 92 = .ok (.getfield 25, 3) := dk_180 0 25 (dk_at dksX0_lift_3 21 rfl rfl)
theorem dX0_lift_95 : decode cX0_lift 95 = .ok (.iconst 4, 1) := dk_7 (dk_at dksX0_lift_4 0 rfl rfl)
theorem dX0_lift_96 : decode cX0_lift 96 = .ok (.aload_n 0, 1) := dk_42 (dk_at dksX0_lift_4 1 rfl rfl)
theorem dX0_lift_97 : decode cX0_lift 97 = .ok (.getfield 116, 3) := dk_180 0 116 (dk_at dksX0_lift_4 2 rfl rfl)
theorem dX0_lift_100 : decode cX0_lift 100 = .ok (.imul, 1) := dk_104 (dk_at dksX0_lift_4 5 rfl rfl)
theorem dX0_lift_101 : decode cX0_lift 101 = .ok (.iload 5, 2) := dk_21 5 (dk_at dksX0_lift_4 6 rfl rfl)
theorem dX0_lift_103 : decode cX0_lift 103 = .ok (.iadd, 1) := dk_96 (dk_at dksX0_lift_4 8 rfl rfl)
theorem dX0_lift_104 : decode cX0_lift 104 = .ok (.iconst 0, 1) := dk_3 (dk_at dksX0_lift_4 9 rfl rfl)
theorem dX0_lift_105 : decode cX0_lift 105 = .ok (.iastore, 1) := dk_79 (dk_at dksX0_lift_4 10 rfl rfl)
theorem dX0_lift_106 : decode cX0_lift 106 = .ok (.iinc 5 1, 3) := dk_132 5 1 (dk_at dksX0_lift_4 11 rfl rfl)
theorem dX0_lift_109 : decode cX0_lift 109 = .ok (.goto (-24), 3) := dk_167 255 232 (dk_at dksX0_lift_4 14 rfl rfl)
theorem dX0_lift_112 : decode cX0_lift 112 = .ok (.aload_n 0, 1) := dk_42 (dk_at dksX0_lift_4 17 rfl rfl)
theorem dX0_lift_113 : decode cX0_lift 113 = .ok (.dup, 1) := dk_89 (dk_at dksX0_lift_4 18 rfl rfl)
theorem dX0_lift_114 : decode cX0_lift 114 = .ok (.getfield 116, 3) := dk_180 0 116 (dk_at dksX0_lift_4 19 rfl rfl)
theorem dX0_lift_117 : decode cX0_lift 117 = .ok (.dup_x1, 1) := dk_90 (dk_at dksX0_lift_4 22 rfl rfl)
theorem dX0_lift_118 : decode cX0_lift 118 = .ok (.iconst 1, 1) := dk_4 (dk_at dksX0_lift_4 23 rfl rfl)
theorem dX0_lift_119 : decode cX0_lift 119 = .ok (.iadd, 1) := dk_96 (dk_at dksX0_lift_5 0 rfl rfl)
theorem dX0_lift_120 : decode cX0_lift 120 = .ok (.putfield 116, 3) := dk_181 0 116 (dk_at dksX0_lift_5 1 rfl rfl)
theorem dX0_lift_123 : decode cX0_lift 123 = .ok (.ireturn, 1) := dk_172 (dk_at dksX0_lift_5 4 rfl rfl)
abbrev cX0_in : ByteArray := prog_1_method_1_code
def yX0_in : MethodName := ⟨RX0, "in", "(III)Z"⟩
def dkwX0_in_0 : List UInt8 := [26, 27, 161, 0, 12, 26, 28, 163, 0, 7, 4, 167, 0, 4, 3, 172]
abbrev dktX0_in_0 : List UInt8 := dkwX0_in_0 ++ []
theorem dksX0_in_0 : cX0_in.data.toList.drop 0 = dktX0_in_0 := by decide +kernel
theorem dX0_in_0 : decode cX0_in 0 = .ok (.iload_n 0, 1) := dk_26 (dk_at dksX0_in_0 0 rfl rfl)
theorem dX0_in_1 : decode cX0_in 1 = .ok (.iload_n 1, 1) := dk_27 (dk_at dksX0_in_0 1 rfl rfl)
theorem dX0_in_2 : decode cX0_in 2 = .ok (.if_icmp .lt 12, 3) := dk_161 0 12 (dk_at dksX0_in_0 2 rfl rfl)
theorem dX0_in_5 : decode cX0_in 5 = .ok (.iload_n 0, 1) := dk_26 (dk_at dksX0_in_0 5 rfl rfl)
theorem dX0_in_6 : decode cX0_in 6 = .ok (.iload_n 2, 1) := dk_28 (dk_at dksX0_in_0 6 rfl rfl)
theorem dX0_in_7 : decode cX0_in 7 = .ok (.if_icmp .gt 7, 3) := dk_163 0 7 (dk_at dksX0_in_0 7 rfl rfl)
theorem dX0_in_10 : decode cX0_in 10 = .ok (.iconst 1, 1) := dk_4 (dk_at dksX0_in_0 10 rfl rfl)
theorem dX0_in_11 : decode cX0_in 11 = .ok (.goto 4, 3) := dk_167 0 4 (dk_at dksX0_in_0 11 rfl rfl)
theorem dX0_in_14 : decode cX0_in 14 = .ok (.iconst 0, 1) := dk_3 (dk_at dksX0_in_0 14 rfl rfl)
theorem dX0_in_15 : decode cX0_in 15 = .ok (.ireturn, 1) := dk_172 (dk_at dksX0_in_0 15 rfl rfl)
abbrev cX0_isMile : ByteArray := prog_1_method_2_code
def yX0_isMile : MethodName := ⟨RX0, "isMile", "(I)Z"⟩
def dkwX0_isMile_0 : List UInt8 := [26, 3, 16, 99, 184, 0, 5, 172]
abbrev dktX0_isMile_0 : List UInt8 := dkwX0_isMile_0 ++ []
theorem dksX0_isMile_0 : cX0_isMile.data.toList.drop 0 = dktX0_isMile_0 := by decide +kernel
theorem dX0_isMile_0 : decode cX0_isMile 0 = .ok (.iload_n 0, 1) := dk_26 (dk_at dksX0_isMile_0 0 rfl rfl)
theorem dX0_isMile_1 : decode cX0_isMile 1 = .ok (.iconst 0, 1) := dk_3 (dk_at dksX0_isMile_0 1 rfl rfl)
theorem dX0_isMile_2 : decode cX0_isMile 2 = .ok (.bipush 99, 2) := dk_16 99 (dk_at dksX0_isMile_0 2 rfl rfl)
theorem dX0_isMile_4 : decode cX0_isMile 4 = .ok (.invokestatic 5, 3) := dk_184 0 5 (dk_at dksX0_isMile_0 4 rfl rfl)
theorem dX0_isMile_7 : decode cX0_isMile 7 = .ok (.ireturn, 1) := dk_172 (dk_at dksX0_isMile_0 7 rfl rfl)
abbrev cX0_liftOf : ByteArray := prog_1_method_6_code
def yX0_liftOf : MethodName := ⟨RX0, "liftOf", "(III)LSomebodysLift$Lift;"⟩
def dkwX0_liftOf_7 : List UInt8 := [187, 0, 15, 89, 42, 180, 0, 63, 42, 180, 0, 116, 28, 29, 183, 0, 141, 176]
abbrev dktX0_liftOf_7 : List UInt8 := dkwX0_liftOf_7 ++ []
def dkwX0_liftOf_6 : List UInt8 := [187, 0, 136, 89, 42, 180, 0, 63, 42, 180, 0, 116, 28, 29, 42, 180, 0, 25, 183, 0, 138, 176]
abbrev dktX0_liftOf_6 : List UInt8 := dkwX0_liftOf_6 ++ dktX0_liftOf_7
def dkwX0_liftOf_5 : List UInt8 := [183, 0, 132, 176, 187, 0, 133, 89, 42, 180, 0, 63, 42, 180, 0, 116, 28, 29, 183, 0, 135, 176]
abbrev dktX0_liftOf_5 : List UInt8 := dkwX0_liftOf_5 ++ dktX0_liftOf_6
def dkwX0_liftOf_4 : List UInt8 := [180, 0, 116, 28, 29, 183, 0, 129, 176, 187, 0, 130, 89, 42, 180, 0, 63, 42, 180, 0, 116, 28, 29]
abbrev dktX0_liftOf_4 : List UInt8 := dkwX0_liftOf_4 ++ dktX0_liftOf_5
def dkwX0_liftOf_3 : List UInt8 := [180, 0, 63, 42, 180, 0, 116, 28, 29, 183, 0, 126, 176, 187, 0, 127, 89, 42, 180, 0, 63, 42]
abbrev dktX0_liftOf_3 : List UInt8 := dkwX0_liftOf_3 ++ dktX0_liftOf_4
def dkwX0_liftOf_2 : List UInt8 := [187, 0, 119, 89, 42, 180, 0, 63, 42, 180, 0, 116, 28, 29, 183, 0, 121, 176, 187, 0, 124, 89, 42]
abbrev dktX0_liftOf_2 : List UInt8 := dkwX0_liftOf_2 ++ dktX0_liftOf_3
def dkwX0_liftOf_1 : List UInt8 := [170, 0, 0, 0, 0, 0, 151, 0, 0, 0, 1, 0, 0, 0, 6, 0, 0, 0, 39, 0, 0, 0, 57, 0, 0, 0, 75, 0, 0, 0, 93, 0, 0, 0, 111, 0, 0, 0, 129]
abbrev dktX0_liftOf_1 : List UInt8 := dkwX0_liftOf_1 ++ dktX0_liftOf_2
def dkwX0_liftOf_0 : List UInt8 := [27]
abbrev dktX0_liftOf_0 : List UInt8 := dkwX0_liftOf_0 ++ dktX0_liftOf_1
theorem dksX0_liftOf_0 : cX0_liftOf.data.toList.drop 0 = dktX0_liftOf_0 := by decide +kernel
theorem dksX0_liftOf_1 : cX0_liftOf.data.toList.drop 1 = dktX0_liftOf_1 := dk_seg dksX0_liftOf_0 1 rfl rfl
theorem dksX0_liftOf_2 : cX0_liftOf.data.toList.drop 40 = dktX0_liftOf_2 := dk_seg dksX0_liftOf_1 39 rfl rfl
theorem dksX0_liftOf_3 : cX0_liftOf.data.toList.drop 63 = dktX0_liftOf_3 := dk_seg dksX0_liftOf_2 23 rfl rfl
theorem dksX0_liftOf_4 : cX0_liftOf.data.toList.drop 85 = dktX0_liftOf_4 := dk_seg dksX0_liftOf_3 22 rfl rfl
theorem dksX0_liftOf_5 : cX0_liftOf.data.toList.drop 108 = dktX0_liftOf_5 := dk_seg dksX0_liftOf_4 23 rfl rfl
theorem dksX0_liftOf_6 : cX0_liftOf.data.toList.drop 130 = dktX0_liftOf_6 := dk_seg dksX0_liftOf_5 22 rfl rfl
theorem dksX0_liftOf_7 : cX0_liftOf.data.toList.drop 152 = dktX0_liftOf_7 := dk_seg dksX0_liftOf_6 22 rfl rfl
theorem dX0_liftOf_0 : decode cX0_liftOf 0 = .ok (.iload_n 1, 1) := dk_27 (dk_at dksX0_liftOf_0 0 rfl rfl)
theorem dX0_liftOf_1 : decode cX0_liftOf 1 = .ok (.tableswitch 151 1 6 #[39, 57, 75, 93, 111, 129], 39) := by decide +kernel
theorem dX0_liftOf_40 : decode cX0_liftOf 40 = .ok (.new 119, 3) := dk_187 0 119 (dk_at dksX0_liftOf_2 0 rfl rfl)
theorem dX0_liftOf_43 : decode cX0_liftOf 43 = .ok (.dup, 1) := dk_89 (dk_at dksX0_liftOf_2 3 rfl rfl)
theorem dX0_liftOf_44 : decode cX0_liftOf 44 = .ok (.aload_n 0, 1) := dk_42 (dk_at dksX0_liftOf_2 4 rfl rfl)
theorem dX0_liftOf_45 : decode cX0_liftOf 45 = .ok (.getfield 63, 3) := dk_180 0 63 (dk_at dksX0_liftOf_2 5 rfl rfl)
theorem dX0_liftOf_48 : decode cX0_liftOf 48 = .ok (.aload_n 0, 1) := dk_42 (dk_at dksX0_liftOf_2 8 rfl rfl)
theorem dX0_liftOf_49 : decode cX0_liftOf 49 = .ok (.getfield 116, 3) := dk_180 0 116 (dk_at dksX0_liftOf_2 9 rfl rfl)
theorem dX0_liftOf_52 : decode cX0_liftOf 52 = .ok (.iload_n 2, 1) := dk_28 (dk_at dksX0_liftOf_2 12 rfl rfl)
theorem dX0_liftOf_53 : decode cX0_liftOf 53 = .ok (.iload_n 3, 1) := dk_29 (dk_at dksX0_liftOf_2 13 rfl rfl)
theorem dX0_liftOf_54 : decode cX0_liftOf 54 = .ok (.invokespecial 121, 3) := dk_183 0 121 (dk_at dksX0_liftOf_2 14 rfl rfl)
theorem dX0_liftOf_57 : decode cX0_liftOf 57 = .ok (.areturn, 1) := dk_176 (dk_at dksX0_liftOf_2 17 rfl rfl)
theorem dX0_liftOf_58 : decode cX0_liftOf 58 = .ok (.new 124, 3) := dk_187 0 124 (dk_at dksX0_liftOf_2 18 rfl rfl)
theorem dX0_liftOf_61 : decode cX0_liftOf 61 = .ok (.dup, 1) := dk_89 (dk_at dksX0_liftOf_2 21 rfl rfl)
theorem dX0_liftOf_62 : decode cX0_liftOf 62 = .ok (.aload_n 0, 1) := dk_42 (dk_at dksX0_liftOf_2 22 rfl rfl)
theorem dX0_liftOf_63 : decode cX0_liftOf 63 = .ok (.getfield 63, 3) := dk_180 0 63 (dk_at dksX0_liftOf_3 0 rfl rfl)
theorem dX0_liftOf_66 : decode cX0_liftOf 66 = .ok (.aload_n 0, 1) := dk_42 (dk_at dksX0_liftOf_3 3 rfl rfl)
theorem dX0_liftOf_67 : decode cX0_liftOf 67 = .ok (.getfield 116, 3) := dk_180 0 116 (dk_at dksX0_liftOf_3 4 rfl rfl)
theorem dX0_liftOf_70 : decode cX0_liftOf 70 = .ok (.iload_n 2, 1) := dk_28 (dk_at dksX0_liftOf_3 7 rfl rfl)
theorem dX0_liftOf_71 : decode cX0_liftOf 71 = .ok (.iload_n 3, 1) := dk_29 (dk_at dksX0_liftOf_3 8 rfl rfl)
theorem dX0_liftOf_72 : decode cX0_liftOf 72 = .ok (.invokespecial 126, 3) := dk_183 0 126 (dk_at dksX0_liftOf_3 9 rfl rfl)
theorem dX0_liftOf_75 : decode cX0_liftOf 75 = .ok (.areturn, 1) := dk_176 (dk_at dksX0_liftOf_3 12 rfl rfl)
theorem dX0_liftOf_76 : decode cX0_liftOf 76 = .ok (.new 127, 3) := dk_187 0 127 (dk_at dksX0_liftOf_3 13 rfl rfl)
theorem dX0_liftOf_79 : decode cX0_liftOf 79 = .ok (.dup, 1) := dk_89 (dk_at dksX0_liftOf_3 16 rfl rfl)
theorem dX0_liftOf_80 : decode cX0_liftOf 80 = .ok (.aload_n 0, 1) := dk_42 (dk_at dksX0_liftOf_3 17 rfl rfl)
theorem dX0_liftOf_81 : decode cX0_liftOf 81 = .ok (.getfield 63, 3) := dk_180 0 63 (dk_at dksX0_liftOf_3 18 rfl rfl)
theorem dX0_liftOf_84 : decode cX0_liftOf 84 = .ok (.aload_n 0, 1) := dk_42 (dk_at dksX0_liftOf_3 21 rfl rfl)
theorem dX0_liftOf_85 : decode cX0_liftOf 85 = .ok (.getfield 116, 3) := dk_180 0 116 (dk_at dksX0_liftOf_4 0 rfl rfl)
theorem dX0_liftOf_88 : decode cX0_liftOf 88 = .ok (.iload_n 2, 1) := dk_28 (dk_at dksX0_liftOf_4 3 rfl rfl)
theorem dX0_liftOf_89 : decode cX0_liftOf 89 = .ok (.iload_n 3, 1) := dk_29 (dk_at dksX0_liftOf_4 4 rfl rfl)
theorem dX0_liftOf_90 : decode cX0_liftOf 90 = .ok (.invokespecial 129, 3) := dk_183 0 129 (dk_at dksX0_liftOf_4 5 rfl rfl)
theorem dX0_liftOf_93 : decode cX0_liftOf 93 = .ok (.areturn, 1) := dk_176 (dk_at dksX0_liftOf_4 8 rfl rfl)
theorem dX0_liftOf_94 : decode cX0_liftOf 94 = .ok (.new 130, 3) := dk_187 0 130 (dk_at dksX0_liftOf_4 9 rfl rfl)
theorem dX0_liftOf_97 : decode cX0_liftOf 97 = .ok (.dup, 1) := dk_89 (dk_at dksX0_liftOf_4 12 rfl rfl)
theorem dX0_liftOf_98 : decode cX0_liftOf 98 = .ok (.aload_n 0, 1) := dk_42 (dk_at dksX0_liftOf_4 13 rfl rfl)
theorem dX0_liftOf_99 : decode cX0_liftOf 99 = .ok (.getfield 63, 3) := dk_180 0 63 (dk_at dksX0_liftOf_4 14 rfl rfl)
theorem dX0_liftOf_102 : decode cX0_liftOf 102 = .ok (.aload_n 0, 1) := dk_42 (dk_at dksX0_liftOf_4 17 rfl rfl)
theorem dX0_liftOf_103 : decode cX0_liftOf 103 = .ok (.getfield 116, 3) := dk_180 0 116 (dk_at dksX0_liftOf_4 18 rfl rfl)
theorem dX0_liftOf_106 : decode cX0_liftOf 106 = .ok (.iload_n 2, 1) := dk_28 (dk_at dksX0_liftOf_4 21 rfl rfl)
theorem dX0_liftOf_107 : decode cX0_liftOf 107 = .ok (.iload_n 3, 1) := dk_29 (dk_at dksX0_liftOf_4 22 rfl rfl)
theorem dX0_liftOf_108 : decode cX0_liftOf 108 = .ok (.invokespecial 132, 3) := dk_183 0 132 (dk_at dksX0_liftOf_5 0 rfl rfl)
theorem dX0_liftOf_111 : decode cX0_liftOf 111 = .ok (.areturn, 1) := dk_176 (dk_at dksX0_liftOf_5 3 rfl rfl)
theorem dX0_liftOf_112 : decode cX0_liftOf 112 = .ok (.new 133, 3) := dk_187 0 133 (dk_at dksX0_liftOf_5 4 rfl rfl)
theorem dX0_liftOf_115 : decode cX0_liftOf 115 = .ok (.dup, 1) := dk_89 (dk_at dksX0_liftOf_5 7 rfl rfl)
theorem dX0_liftOf_116 : decode cX0_liftOf 116 = .ok (.aload_n 0, 1) := dk_42 (dk_at dksX0_liftOf_5 8 rfl rfl)
theorem dX0_liftOf_117 : decode cX0_liftOf 117 = .ok (.getfield 63, 3) := dk_180 0 63 (dk_at dksX0_liftOf_5 9 rfl rfl)
theorem dX0_liftOf_120 : decode cX0_liftOf 120 = .ok (.aload_n 0, 1) := dk_42 (dk_at dksX0_liftOf_5 12 rfl rfl)
theorem dX0_liftOf_121 : decode cX0_liftOf 121 = .ok (.getfield 116, 3) := dk_180 0 116 (dk_at dksX0_liftOf_5 13 rfl rfl)
theorem dX0_liftOf_124 : decode cX0_liftOf 124 = .ok (.iload_n 2, 1) := dk_28 (dk_at dksX0_liftOf_5 16 rfl rfl)
theorem dX0_liftOf_125 : decode cX0_liftOf 125 = .ok (.iload_n 3, 1) := dk_29 (dk_at dksX0_liftOf_5 17 rfl rfl)
theorem dX0_liftOf_126 : decode cX0_liftOf 126 = .ok (.invokespecial 135, 3) := dk_183 0 135 (dk_at dksX0_liftOf_5 18 rfl rfl)
theorem dX0_liftOf_129 : decode cX0_liftOf 129 = .ok (.areturn, 1) := dk_176 (dk_at dksX0_liftOf_5 21 rfl rfl)
theorem dX0_liftOf_130 : decode cX0_liftOf 130 = .ok (.new 136, 3) := dk_187 0 136 (dk_at dksX0_liftOf_6 0 rfl rfl)
theorem dX0_liftOf_133 : decode cX0_liftOf 133 = .ok (.dup, 1) := dk_89 (dk_at dksX0_liftOf_6 3 rfl rfl)
theorem dX0_liftOf_134 : decode cX0_liftOf 134 = .ok (.aload_n 0, 1) := dk_42 (dk_at dksX0_liftOf_6 4 rfl rfl)
theorem dX0_liftOf_135 : decode cX0_liftOf 135 = .ok (.getfield 63, 3) := dk_180 0 63 (dk_at dksX0_liftOf_6 5 rfl rfl)
theorem dX0_liftOf_138 : decode cX0_liftOf 138 = .ok (.aload_n 0, 1) := dk_42 (dk_at dksX0_liftOf_6 8 rfl rfl)
theorem dX0_liftOf_139 : decode cX0_liftOf 139 = .ok (.getfield 116, 3) := dk_180 0 116 (dk_at dksX0_liftOf_6 9 rfl rfl)
theorem dX0_liftOf_142 : decode cX0_liftOf 142 = .ok (.iload_n 2, 1) := dk_28 (dk_at dksX0_liftOf_6 12 rfl rfl)
theorem dX0_liftOf_143 : decode cX0_liftOf 143 = .ok (.iload_n 3, 1) := dk_29 (dk_at dksX0_liftOf_6 13 rfl rfl)
theorem dX0_liftOf_144 : decode cX0_liftOf 144 = .ok (.aload_n 0, 1) := dk_42 (dk_at dksX0_liftOf_6 14 rfl rfl)
theorem dX0_liftOf_145 : decode cX0_liftOf 145 = .ok (.getfield 25, 3) := dk_180 0 25 (dk_at dksX0_liftOf_6 15 rfl rfl)
theorem dX0_liftOf_148 : decode cX0_liftOf 148 = .ok (.invokespecial 138, 3) := dk_183 0 138 (dk_at dksX0_liftOf_6 18 rfl rfl)
theorem dX0_liftOf_151 : decode cX0_liftOf 151 = .ok (.areturn, 1) := dk_176 (dk_at dksX0_liftOf_6 21 rfl rfl)
theorem dX0_liftOf_152 : decode cX0_liftOf 152 = .ok (.new 15, 3) := dk_187 0 15 (dk_at dksX0_liftOf_7 0 rfl rfl)
theorem dX0_liftOf_155 : decode cX0_liftOf 155 = .ok (.dup, 1) := dk_89 (dk_at dksX0_liftOf_7 3 rfl rfl)
theorem dX0_liftOf_156 : decode cX0_liftOf 156 = .ok (.aload_n 0, 1) := dk_42 (dk_at dksX0_liftOf_7 4 rfl rfl)
theorem dX0_liftOf_157 : decode cX0_liftOf 157 = .ok (.getfield 63, 3) := dk_180 0 63 (dk_at dksX0_liftOf_7 5 rfl rfl)
theorem dX0_liftOf_160 : decode cX0_liftOf 160 = .ok (.aload_n 0, 1) := dk_42 (dk_at dksX0_liftOf_7 8 rfl rfl)
theorem dX0_liftOf_161 : decode cX0_liftOf 161 = .ok (.getfield 116, 3) := dk_180 0 116 (dk_at dksX0_liftOf_7 9 rfl rfl)
theorem dX0_liftOf_164 : decode cX0_liftOf 164 = .ok (.iload_n 2, 1) := dk_28 (dk_at dksX0_liftOf_7 12 rfl rfl)
theorem dX0_liftOf_165 : decode cX0_liftOf 165 = .ok (.iload_n 3, 1) := dk_29 (dk_at dksX0_liftOf_7 13 rfl rfl)
theorem dX0_liftOf_166 : decode cX0_liftOf 166 = .ok (.invokespecial 141, 3) := dk_183 0 141 (dk_at dksX0_liftOf_7 14 rfl rfl)
theorem dX0_liftOf_169 : decode cX0_liftOf 169 = .ok (.areturn, 1) := dk_176 (dk_at dksX0_liftOf_7 17 rfl rfl)
abbrev cX0_of : ByteArray := prog_1_method_10_code
def yX0_of : MethodName := ⟨RX0, "of", "(II)I"⟩
def dkwX0_of_4 : List UInt8 := [42, 180, 0, 31, 27, 182, 0, 196, 172, 17, 252, 23, 172]
abbrev dktX0_of_4 : List UInt8 := dkwX0_of_4 ++ []
def dkwX0_of_3 : List UInt8 := [27, 50, 180, 0, 177, 172, 42, 180, 0, 21, 27, 46, 172, 42, 42, 180, 0, 31, 27, 182, 0, 185, 172, 42]
abbrev dktX0_of_3 : List UInt8 := dkwX0_of_3 ++ dktX0_of_4
def dkwX0_of_2 : List UInt8 := [42, 180, 0, 17, 27, 50, 182, 0, 153, 172, 42, 180, 0, 17, 27, 50, 180, 0, 173, 172, 42, 180, 0, 17]
abbrev dktX0_of_2 : List UInt8 := dkwX0_of_2 ++ dktX0_of_3
def dkwX0_of_1 : List UInt8 := [170, 0, 0, 0, 0, 0, 96, 0, 0, 0, 0, 0, 0, 0, 5, 0, 0, 0, 39, 0, 0, 0, 49, 0, 0, 0, 59, 0, 0, 0, 69, 0, 0, 0, 76, 0, 0, 0, 86]
abbrev dktX0_of_1 : List UInt8 := dkwX0_of_1 ++ dktX0_of_2
def dkwX0_of_0 : List UInt8 := [42, 27, 182, 0, 193, 154, 0, 7, 17, 252, 23, 172, 28]
abbrev dktX0_of_0 : List UInt8 := dkwX0_of_0 ++ dktX0_of_1
theorem dksX0_of_0 : cX0_of.data.toList.drop 0 = dktX0_of_0 := by decide +kernel
theorem dksX0_of_1 : cX0_of.data.toList.drop 13 = dktX0_of_1 := dk_seg dksX0_of_0 13 rfl rfl
theorem dksX0_of_2 : cX0_of.data.toList.drop 52 = dktX0_of_2 := dk_seg dksX0_of_1 39 rfl rfl
theorem dksX0_of_3 : cX0_of.data.toList.drop 76 = dktX0_of_3 := dk_seg dksX0_of_2 24 rfl rfl
theorem dksX0_of_4 : cX0_of.data.toList.drop 100 = dktX0_of_4 := dk_seg dksX0_of_3 24 rfl rfl
theorem dX0_of_0 : decode cX0_of 0 = .ok (.aload_n 0, 1) := dk_42 (dk_at dksX0_of_0 0 rfl rfl)
theorem dX0_of_1 : decode cX0_of 1 = .ok (.iload_n 1, 1) := dk_27 (dk_at dksX0_of_0 1 rfl rfl)
theorem dX0_of_2 : decode cX0_of 2 = .ok (.invokevirtual 193, 3) := dk_182 0 193 (dk_at dksX0_of_0 2 rfl rfl)
theorem dX0_of_5 : decode cX0_of 5 = .ok (.ifCond .ne 7, 3) := dk_154 0 7 (dk_at dksX0_of_0 5 rfl rfl)
theorem dX0_of_8 : decode cX0_of 8 = .ok (.sipush (-1001), 3) := dk_17 252 23 (dk_at dksX0_of_0 8 rfl rfl)
theorem dX0_of_11 : decode cX0_of 11 = .ok (.ireturn, 1) := dk_172 (dk_at dksX0_of_0 11 rfl rfl)
theorem dX0_of_12 : decode cX0_of 12 = .ok (.iload_n 2, 1) := dk_28 (dk_at dksX0_of_0 12 rfl rfl)
theorem dX0_of_13 : decode cX0_of 13 = .ok (.tableswitch 96 0 5 #[39, 49, 59, 69, 76, 86], 39) := by decide +kernel
theorem dX0_of_52 : decode cX0_of 52 = .ok (.aload_n 0, 1) := dk_42 (dk_at dksX0_of_2 0 rfl rfl)
theorem dX0_of_53 : decode cX0_of 53 = .ok (.getfield 17, 3) := dk_180 0 17 (dk_at dksX0_of_2 1 rfl rfl)
theorem dX0_of_56 : decode cX0_of 56 = .ok (.iload_n 1, 1) := dk_27 (dk_at dksX0_of_2 4 rfl rfl)
theorem dX0_of_57 : decode cX0_of 57 = .ok (.aaload, 1) := dk_50 (dk_at dksX0_of_2 5 rfl rfl)
theorem dX0_of_58 : decode cX0_of 58 = .ok (.invokevirtual 153, 3) := dk_182 0 153 (dk_at dksX0_of_2 6 rfl rfl)
theorem dX0_of_61 : decode cX0_of 61 = .ok (.ireturn, 1) := dk_172 (dk_at dksX0_of_2 9 rfl rfl)
theorem dX0_of_62 : decode cX0_of 62 = .ok (.aload_n 0, 1) := dk_42 (dk_at dksX0_of_2 10 rfl rfl)
theorem dX0_of_63 : decode cX0_of 63 = .ok (.getfield 17, 3) := dk_180 0 17 (dk_at dksX0_of_2 11 rfl rfl)
theorem dX0_of_66 : decode cX0_of 66 = .ok (.iload_n 1, 1) := dk_27 (dk_at dksX0_of_2 14 rfl rfl)
theorem dX0_of_67 : decode cX0_of 67 = .ok (.aaload, 1) := dk_50 (dk_at dksX0_of_2 15 rfl rfl)
theorem dX0_of_68 : decode cX0_of 68 = .ok (.getfield 173, 3) := dk_180 0 173 (dk_at dksX0_of_2 16 rfl rfl)
theorem dX0_of_71 : decode cX0_of 71 = .ok (.ireturn, 1) := dk_172 (dk_at dksX0_of_2 19 rfl rfl)
theorem dX0_of_72 : decode cX0_of 72 = .ok (.aload_n 0, 1) := dk_42 (dk_at dksX0_of_2 20 rfl rfl)
theorem dX0_of_73 : decode cX0_of 73 = .ok (.getfield 17, 3) := dk_180 0 17 (dk_at dksX0_of_2 21 rfl rfl)
theorem dX0_of_76 : decode cX0_of 76 = .ok (.iload_n 1, 1) := dk_27 (dk_at dksX0_of_3 0 rfl rfl)
theorem dX0_of_77 : decode cX0_of 77 = .ok (.aaload, 1) := dk_50 (dk_at dksX0_of_3 1 rfl rfl)
theorem dX0_of_78 : decode cX0_of 78 = .ok (.getfield 177, 3) := dk_180 0 177 (dk_at dksX0_of_3 2 rfl rfl)
theorem dX0_of_81 : decode cX0_of 81 = .ok (.ireturn, 1) := dk_172 (dk_at dksX0_of_3 5 rfl rfl)
theorem dX0_of_82 : decode cX0_of 82 = .ok (.aload_n 0, 1) := dk_42 (dk_at dksX0_of_3 6 rfl rfl)
theorem dX0_of_83 : decode cX0_of 83 = .ok (.getfield 21, 3) := dk_180 0 21 (dk_at dksX0_of_3 7 rfl rfl)
theorem dX0_of_86 : decode cX0_of 86 = .ok (.iload_n 1, 1) := dk_27 (dk_at dksX0_of_3 10 rfl rfl)
theorem dX0_of_87 : decode cX0_of 87 = .ok (.iaload, 1) := dk_46 (dk_at dksX0_of_3 11 rfl rfl)
theorem dX0_of_88 : decode cX0_of 88 = .ok (.ireturn, 1) := dk_172 (dk_at dksX0_of_3 12 rfl rfl)
theorem dX0_of_89 : decode cX0_of 89 = .ok (.aload_n 0, 1) := dk_42 (dk_at dksX0_of_3 13 rfl rfl)
theorem dX0_of_90 : decode cX0_of 90 = .ok (.aload_n 0, 1) := dk_42 (dk_at dksX0_of_3 14 rfl rfl)
theorem dX0_of_91 : decode cX0_of 91 = .ok (.getfield 31, 3) := dk_180 0 31 (dk_at dksX0_of_3 15 rfl rfl)
theorem dX0_of_94 : decode cX0_of 94 = .ok (.iload_n 1, 1) := dk_27 (dk_at dksX0_of_3 18 rfl rfl)
theorem dX0_of_95 : decode cX0_of 95 = .ok (.invokevirtual 185, 3) := dk_182 0 185 (dk_at dksX0_of_3 19 rfl rfl)
theorem dX0_of_98 : decode cX0_of 98 = .ok (.ireturn, 1) := dk_172 (dk_at dksX0_of_3 22 rfl rfl)
theorem dX0_of_99 : decode cX0_of 99 = .ok (.aload_n 0, 1) := dk_42 (dk_at dksX0_of_3 23 rfl rfl)
theorem dX0_of_100 : decode cX0_of 100 = .ok (.aload_n 0, 1) := dk_42 (dk_at dksX0_of_4 0 rfl rfl)
theorem dX0_of_101 : decode cX0_of 101 = .ok (.getfield 31, 3) := dk_180 0 31 (dk_at dksX0_of_4 1 rfl rfl)
theorem dX0_of_104 : decode cX0_of 104 = .ok (.iload_n 1, 1) := dk_27 (dk_at dksX0_of_4 4 rfl rfl)
theorem dX0_of_105 : decode cX0_of 105 = .ok (.invokevirtual 196, 3) := dk_182 0 196 (dk_at dksX0_of_4 5 rfl rfl)
theorem dX0_of_108 : decode cX0_of 108 = .ok (.ireturn, 1) := dk_172 (dk_at dksX0_of_4 8 rfl rfl)
theorem dX0_of_109 : decode cX0_of 109 = .ok (.sipush (-1001), 3) := dk_17 252 23 (dk_at dksX0_of_4 9 rfl rfl)
theorem dX0_of_112 : decode cX0_of 112 = .ok (.ireturn, 1) := dk_172 (dk_at dksX0_of_4 12 rfl rfl)
abbrev cX0_isLift : ByteArray := prog_1_method_5_code
def yX0_isLift : MethodName := ⟨RX0, "isLift", "(I)Z"⟩
def dkwX0_isLift_0 : List UInt8 := [27, 3, 42, 180, 0, 116, 4, 100, 184, 0, 5, 172]
abbrev dktX0_isLift_0 : List UInt8 := dkwX0_isLift_0 ++ []
theorem dksX0_isLift_0 : cX0_isLift.data.toList.drop 0 = dktX0_isLift_0 := by decide +kernel
theorem dX0_isLift_0 : decode cX0_isLift 0 = .ok (.iload_n 1, 1) := dk_27 (dk_at dksX0_isLift_0 0 rfl rfl)
theorem dX0_isLift_1 : decode cX0_isLift 1 = .ok (.iconst 0, 1) := dk_3 (dk_at dksX0_isLift_0 1 rfl rfl)
theorem dX0_isLift_2 : decode cX0_isLift 2 = .ok (.aload_n 0, 1) := dk_42 (dk_at dksX0_isLift_0 2 rfl rfl)
theorem dX0_isLift_3 : decode cX0_isLift 3 = .ok (.getfield 116, 3) := dk_180 0 116 (dk_at dksX0_isLift_0 3 rfl rfl)
theorem dX0_isLift_6 : decode cX0_isLift 6 = .ok (.iconst 1, 1) := dk_4 (dk_at dksX0_isLift_0 6 rfl rfl)
theorem dX0_isLift_7 : decode cX0_isLift 7 = .ok (.isub, 1) := dk_100 (dk_at dksX0_isLift_0 7 rfl rfl)
theorem dX0_isLift_8 : decode cX0_isLift 8 = .ok (.invokestatic 5, 3) := dk_184 0 5 (dk_at dksX0_isLift_0 8 rfl rfl)
theorem dX0_isLift_11 : decode cX0_isLift 11 = .ok (.ireturn, 1) := dk_172 (dk_at dksX0_isLift_0 11 rfl rfl)
abbrev cX0_gainOf : ByteArray := prog_1_method_8_code
def yX0_gainOf : MethodName := ⟨RX0, "gainOf", "(LSomebodysLift$Time;I)I"⟩
def dkwX0_gainOf_4 : List UInt8 := [180, 0, 21, 28, 46, 42, 180, 0, 49, 42, 180, 0, 56, 182, 0, 181, 96, 172]
abbrev dktX0_gainOf_4 : List UInt8 := dkwX0_gainOf_4 ++ []
def dkwX0_gainOf_3 : List UInt8 := [181, 0, 176, 42, 180, 0, 56, 42, 180, 0, 17, 28, 50, 180, 0, 177, 16, 10, 108, 181, 0, 180, 42]
abbrev dktX0_gainOf_3 : List UInt8 := dkwX0_gainOf_3 ++ dktX0_gainOf_4
def dkwX0_gainOf_2 : List UInt8 := [16, 10, 108, 184, 0, 166, 181, 0, 172, 42, 180, 0, 56, 42, 180, 0, 17, 28, 50, 180, 0, 173]
abbrev dktX0_gainOf_2 : List UInt8 := dkwX0_gainOf_2 ++ dktX0_gainOf_3
def dkwX0_gainOf_1 : List UInt8 := [42, 180, 0, 56, 43, 180, 0, 159, 16, 50, 108, 181, 0, 162, 42, 180, 0, 56, 16, 99, 43, 180, 0, 163]
abbrev dktX0_gainOf_1 : List UInt8 := dkwX0_gainOf_1 ++ dktX0_gainOf_2
def dkwX0_gainOf_0 : List UInt8 := [42, 180, 0, 56, 28, 181, 0, 150, 42, 180, 0, 56, 42, 180, 0, 17, 28, 50, 182, 0, 153, 181, 0, 157]
abbrev dktX0_gainOf_0 : List UInt8 := dkwX0_gainOf_0 ++ dktX0_gainOf_1
theorem dksX0_gainOf_0 : cX0_gainOf.data.toList.drop 0 = dktX0_gainOf_0 := by decide +kernel
theorem dksX0_gainOf_1 : cX0_gainOf.data.toList.drop 24 = dktX0_gainOf_1 := dk_seg dksX0_gainOf_0 24 rfl rfl
theorem dksX0_gainOf_2 : cX0_gainOf.data.toList.drop 48 = dktX0_gainOf_2 := dk_seg dksX0_gainOf_1 24 rfl rfl
theorem dksX0_gainOf_3 : cX0_gainOf.data.toList.drop 70 = dktX0_gainOf_3 := dk_seg dksX0_gainOf_2 22 rfl rfl
theorem dksX0_gainOf_4 : cX0_gainOf.data.toList.drop 93 = dktX0_gainOf_4 := dk_seg dksX0_gainOf_3 23 rfl rfl
theorem dX0_gainOf_0 : decode cX0_gainOf 0 = .ok (.aload_n 0, 1) := dk_42 (dk_at dksX0_gainOf_0 0 rfl rfl)
theorem dX0_gainOf_1 : decode cX0_gainOf 1 = .ok (.getfield 56, 3) := dk_180 0 56 (dk_at dksX0_gainOf_0 1 rfl rfl)
theorem dX0_gainOf_4 : decode cX0_gainOf 4 = .ok (.iload_n 2, 1) := dk_28 (dk_at dksX0_gainOf_0 4 rfl rfl)
theorem dX0_gainOf_5 : decode cX0_gainOf 5 = .ok (.putfield 150, 3) := dk_181 0 150 (dk_at dksX0_gainOf_0 5 rfl rfl)
theorem dX0_gainOf_8 : decode cX0_gainOf 8 = .ok (.aload_n 0, 1) := dk_42 (dk_at dksX0_gainOf_0 8 rfl rfl)
theorem dX0_gainOf_9 : decode cX0_gainOf 9 = .ok (.getfield 56, 3) := dk_180 0 56 (dk_at dksX0_gainOf_0 9 rfl rfl)
theorem dX0_gainOf_12 : decode cX0_gainOf 12 = .ok (.aload_n 0, 1) := dk_42 (dk_at dksX0_gainOf_0 12 rfl rfl)
theorem dX0_gainOf_13 : decode cX0_gainOf 13 = .ok (.getfield 17, 3) := dk_180 0 17 (dk_at dksX0_gainOf_0 13 rfl rfl)
theorem dX0_gainOf_16 : decode cX0_gainOf 16 = .ok (.iload_n 2, 1) := dk_28 (dk_at dksX0_gainOf_0 16 rfl rfl)
theorem dX0_gainOf_17 : decode cX0_gainOf 17 = .ok (.aaload, 1) := dk_50 (dk_at dksX0_gainOf_0 17 rfl rfl)
theorem dX0_gainOf_18 : decode cX0_gainOf 18 = .ok (.invokevirtual 153, 3) := dk_182 0 153 (dk_at dksX0_gainOf_0 18 rfl rfl)
theorem dX0_gainOf_21 : decode cX0_gainOf 21 = .ok (.putfield 157, 3) := dk_181 0 157 (dk_at dksX0_gainOf_0 21 rfl rfl)
theorem dX0_gainOf_24 : decode cX0_gainOf 24 = .ok (.aload_n 0, 1) := dk_42 (dk_at dksX0_gainOf_1 0 rfl rfl)
theorem dX0_gainOf_25 : decode cX0_gainOf 25 = .ok (.getfield 56, 3) := dk_180 0 56 (dk_at dksX0_gainOf_1 1 rfl rfl)
theorem dX0_gainOf_28 : decode cX0_gainOf 28 = .ok (.aload_n 1, 1) := dk_43 (dk_at dksX0_gainOf_1 4 rfl rfl)
theorem dX0_gainOf_29 : decode cX0_gainOf 29 = .ok (.getfield 159, 3) := dk_180 0 159 (dk_at dksX0_gainOf_1 5 rfl rfl)
theorem dX0_gainOf_32 : decode cX0_gainOf 32 = .ok (.bipush 50, 2) := dk_16 50 (dk_at dksX0_gainOf_1 8 rfl rfl)
theorem dX0_gainOf_34 : decode cX0_gainOf 34 = .ok (.idiv, 1) := dk_108 (dk_at dksX0_gainOf_1 10 rfl rfl)
theorem dX0_gainOf_35 : decode cX0_gainOf 35 = .ok (.putfield 162, 3) := dk_181 0 162 (dk_at dksX0_gainOf_1 11 rfl rfl)
theorem dX0_gainOf_38 : decode cX0_gainOf 38 = .ok (.aload_n 0, 1) := dk_42 (dk_at dksX0_gainOf_1 14 rfl rfl)
theorem dX0_gainOf_39 : decode cX0_gainOf 39 = .ok (.getfield 56, 3) := dk_180 0 56 (dk_at dksX0_gainOf_1 15 rfl rfl)
theorem dX0_gainOf_42 : decode cX0_gainOf 42 = .ok (.bipush 99, 2) := dk_16 99 (dk_at dksX0_gainOf_1 18 rfl rfl)
theorem dX0_gainOf_44 : decode cX0_gainOf 44 = .ok (.aload_n 1, 1) := dk_43 (dk_at dksX0_gainOf_1 20 rfl rfl)
theorem dX0_gainOf_45 : decode cX0_gainOf 45 = .ok (.getfield 163, 3) := dk_180 0 163 (dk_at dksX0_gainOf_1 21 rfl rfl)
theorem dX0_gainOf_48 : decode cX0_gainOf 48 = .ok (.bipush 10, 2) := dk_16 10 (dk_at dksX0_gainOf_2 0 rfl rfl)
theorem dX0_gainOf_50 : decode cX0_gainOf 50 = .ok (.idiv, 1) := dk_108 (dk_at dksX0_gainOf_2 2 rfl rfl)
theorem dX0_gainOf_51 : decode cX0_gainOf 51 = .ok (.invokestatic 166, 3) := dk_184 0 166 (dk_at dksX0_gainOf_2 3 rfl rfl)
theorem dX0_gainOf_54 : decode cX0_gainOf 54 = .ok (.putfield 172, 3) := dk_181 0 172 (dk_at dksX0_gainOf_2 6 rfl rfl)
theorem dX0_gainOf_57 : decode cX0_gainOf 57 = .ok (.aload_n 0, 1) := dk_42 (dk_at dksX0_gainOf_2 9 rfl rfl)
theorem dX0_gainOf_58 : decode cX0_gainOf 58 = .ok (.getfield 56, 3) := dk_180 0 56 (dk_at dksX0_gainOf_2 10 rfl rfl)
theorem dX0_gainOf_61 : decode cX0_gainOf 61 = .ok (.aload_n 0, 1) := dk_42 (dk_at dksX0_gainOf_2 13 rfl rfl)
theorem dX0_gainOf_62 : decode cX0_gainOf 62 = .ok (.getfield 17, 3) := dk_180 0 17 (dk_at dksX0_gainOf_2 14 rfl rfl)
theorem dX0_gainOf_65 : decode cX0_gainOf 65 = .ok (.iload_n 2, 1) := dk_28 (dk_at dksX0_gainOf_2 17 rfl rfl)
theorem dX0_gainOf_66 : decode cX0_gainOf 66 = .ok (.aaload, 1) := dk_50 (dk_at dksX0_gainOf_2 18 rfl rfl)
theorem dX0_gainOf_67 : decode cX0_gainOf 67 = .ok (.getfield 173, 3) := dk_180 0 173 (dk_at dksX0_gainOf_2 19 rfl rfl)
theorem dX0_gainOf_70 : decode cX0_gainOf 70 = .ok (.putfield 176, 3) := dk_181 0 176 (dk_at dksX0_gainOf_3 0 rfl rfl)
theorem dX0_gainOf_73 : decode cX0_gainOf 73 = .ok (.aload_n 0, 1) := dk_42 (dk_at dksX0_gainOf_3 3 rfl rfl)
theorem dX0_gainOf_74 : decode cX0_gainOf 74 = .ok (.getfield 56, 3) := dk_180 0 56 (dk_at dksX0_gainOf_3 4 rfl rfl)
theorem dX0_gainOf_77 : decode cX0_gainOf 77 = .ok (.aload_n 0, 1) := dk_42 (dk_at dksX0_gainOf_3 7 rfl rfl)
theorem dX0_gainOf_78 : decode cX0_gainOf 78 = .ok (.getfield 17, 3) := dk_180 0 17 (dk_at dksX0_gainOf_3 8 rfl rfl)
theorem dX0_gainOf_81 : decode cX0_gainOf 81 = .ok (.iload_n 2, 1) := dk_28 (dk_at dksX0_gainOf_3 11 rfl rfl)
theorem dX0_gainOf_82 : decode cX0_gainOf 82 = .ok (.aaload, 1) := dk_50 (dk_at dksX0_gainOf_3 12 rfl rfl)
theorem dX0_gainOf_83 : decode cX0_gainOf 83 = .ok (.getfield 177, 3) := dk_180 0 177 (dk_at dksX0_gainOf_3 13 rfl rfl)
theorem dX0_gainOf_86 : decode cX0_gainOf 86 = .ok (.bipush 10, 2) := dk_16 10 (dk_at dksX0_gainOf_3 16 rfl rfl)
theorem dX0_gainOf_88 : decode cX0_gainOf 88 = .ok (.idiv, 1) := dk_108 (dk_at dksX0_gainOf_3 18 rfl rfl)
theorem dX0_gainOf_89 : decode cX0_gainOf 89 = .ok (.putfield 180, 3) := dk_181 0 180 (dk_at dksX0_gainOf_3 19 rfl rfl)
theorem dX0_gainOf_92 : decode cX0_gainOf 92 = .ok (.aload_n 0, 1) := dk_42 (dk_at dksX0_gainOf_3 22 rfl rfl)
theorem dX0_gainOf_93 : decode cX0_gainOf 93 = .ok (.getfield 21, 3) := dk_180 0 21 (dk_at dksX0_gainOf_4 0 rfl rfl)
theorem dX0_gainOf_96 : decode cX0_gainOf 96 = .ok (.iload_n 2, 1) := dk_28 (dk_at dksX0_gainOf_4 3 rfl rfl)
theorem dX0_gainOf_97 : decode cX0_gainOf 97 = .ok (.iaload, 1) := dk_46 (dk_at dksX0_gainOf_4 4 rfl rfl)
theorem dX0_gainOf_98 : decode cX0_gainOf 98 = .ok (.aload_n 0, 1) := dk_42 (dk_at dksX0_gainOf_4 5 rfl rfl)
theorem dX0_gainOf_99 : decode cX0_gainOf 99 = .ok (.getfield 49, 3) := dk_180 0 49 (dk_at dksX0_gainOf_4 6 rfl rfl)
theorem dX0_gainOf_102 : decode cX0_gainOf 102 = .ok (.aload_n 0, 1) := dk_42 (dk_at dksX0_gainOf_4 9 rfl rfl)
theorem dX0_gainOf_103 : decode cX0_gainOf 103 = .ok (.getfield 56, 3) := dk_180 0 56 (dk_at dksX0_gainOf_4 10 rfl rfl)
theorem dX0_gainOf_106 : decode cX0_gainOf 106 = .ok (.invokevirtual 181, 3) := dk_182 0 181 (dk_at dksX0_gainOf_4 13 rfl rfl)
theorem dX0_gainOf_109 : decode cX0_gainOf 109 = .ok (.iadd, 1) := dk_96 (dk_at dksX0_gainOf_4 16 rfl rfl)
theorem dX0_gainOf_110 : decode cX0_gainOf 110 = .ok (.ireturn, 1) := dk_172 (dk_at dksX0_gainOf_4 17 rfl rfl)
abbrev cX0_climbOf : ByteArray := prog_1_method_9_code
def yX0_climbOf : MethodName := ⟨RX0, "climbOf", "(LSomebodysLift$Time;I)I"⟩
def dkwX0_climbOf_0 : List UInt8 := [42, 180, 0, 17, 28, 50, 42, 43, 28, 182, 0, 185, 43, 180, 0, 159, 43, 180, 0, 163, 182, 0, 189, 172]
abbrev dktX0_climbOf_0 : List UInt8 := dkwX0_climbOf_0 ++ []
theorem dksX0_climbOf_0 : cX0_climbOf.data.toList.drop 0 = dktX0_climbOf_0 := by decide +kernel
theorem dX0_climbOf_0 : decode cX0_climbOf 0 = .ok (.aload_n 0, 1) := dk_42 (dk_at dksX0_climbOf_0 0 rfl rfl)
theorem dX0_climbOf_1 : decode cX0_climbOf 1 = .ok (.getfield 17, 3) := dk_180 0 17 (dk_at dksX0_climbOf_0 1 rfl rfl)
theorem dX0_climbOf_4 : decode cX0_climbOf 4 = .ok (.iload_n 2, 1) := dk_28 (dk_at dksX0_climbOf_0 4 rfl rfl)
theorem dX0_climbOf_5 : decode cX0_climbOf 5 = .ok (.aaload, 1) := dk_50 (dk_at dksX0_climbOf_0 5 rfl rfl)
theorem dX0_climbOf_6 : decode cX0_climbOf 6 = .ok (.aload_n 0, 1) := dk_42 (dk_at dksX0_climbOf_0 6 rfl rfl)
theorem dX0_climbOf_7 : decode cX0_climbOf 7 = .ok (.aload_n 1, 1) := dk_43 (dk_at dksX0_climbOf_0 7 rfl rfl)
theorem dX0_climbOf_8 : decode cX0_climbOf 8 = .ok (.iload_n 2, 1) := dk_28 (dk_at dksX0_climbOf_0 8 rfl rfl)
theorem dX0_climbOf_9 : decode cX0_climbOf 9 = .ok (.invokevirtual 185, 3) := dk_182 0 185 (dk_at dksX0_climbOf_0 9 rfl rfl)
theorem dX0_climbOf_12 : decode cX0_climbOf 12 = .ok (.aload_n 1, 1) := dk_43 (dk_at dksX0_climbOf_0 12 rfl rfl)
theorem dX0_climbOf_13 : decode cX0_climbOf 13 = .ok (.getfield 159, 3) := dk_180 0 159 (dk_at dksX0_climbOf_0 13 rfl rfl)
theorem dX0_climbOf_16 : decode cX0_climbOf 16 = .ok (.aload_n 1, 1) := dk_43 (dk_at dksX0_climbOf_0 16 rfl rfl)
theorem dX0_climbOf_17 : decode cX0_climbOf 17 = .ok (.getfield 163, 3) := dk_180 0 163 (dk_at dksX0_climbOf_0 17 rfl rfl)
theorem dX0_climbOf_20 : decode cX0_climbOf 20 = .ok (.invokevirtual 189, 3) := dk_182 0 189 (dk_at dksX0_climbOf_0 20 rfl rfl)
theorem dX0_climbOf_23 : decode cX0_climbOf 23 = .ok (.ireturn, 1) := dk_172 (dk_at dksX0_climbOf_0 23 rfl rfl)
abbrev cX0_pull : ByteArray := prog_1_method_11_code
def yX0_pull : MethodName := ⟨RX0, "pull", "(II)I"⟩
def dkwX0_pull_1 : List UInt8 := [180, 0, 21, 27, 46, 62, 42, 180, 0, 21, 27, 28, 79, 29, 172]
abbrev dktX0_pull_1 : List UInt8 := dkwX0_pull_1 ++ []
def dkwX0_pull_0 : List UInt8 := [42, 27, 182, 0, 193, 154, 0, 5, 2, 172, 28, 3, 16, 20, 184, 0, 5, 154, 0, 6, 16, 254, 172, 42]
abbrev dktX0_pull_0 : List UInt8 := dkwX0_pull_0 ++ dktX0_pull_1
theorem dksX0_pull_0 : cX0_pull.data.toList.drop 0 = dktX0_pull_0 := by decide +kernel
theorem dksX0_pull_1 : cX0_pull.data.toList.drop 24 = dktX0_pull_1 := dk_seg dksX0_pull_0 24 rfl rfl
theorem dX0_pull_0 : decode cX0_pull 0 = .ok (.aload_n 0, 1) := dk_42 (dk_at dksX0_pull_0 0 rfl rfl)
theorem dX0_pull_1 : decode cX0_pull 1 = .ok (.iload_n 1, 1) := dk_27 (dk_at dksX0_pull_0 1 rfl rfl)
theorem dX0_pull_2 : decode cX0_pull 2 = .ok (.invokevirtual 193, 3) := dk_182 0 193 (dk_at dksX0_pull_0 2 rfl rfl)
theorem dX0_pull_5 : decode cX0_pull 5 = .ok (.ifCond .ne 5, 3) := dk_154 0 5 (dk_at dksX0_pull_0 5 rfl rfl)
theorem dX0_pull_8 : decode cX0_pull 8 = .ok (.iconst (-1), 1) := dk_2 (dk_at dksX0_pull_0 8 rfl rfl)
theorem dX0_pull_9 : decode cX0_pull 9 = .ok (.ireturn, 1) := dk_172 (dk_at dksX0_pull_0 9 rfl rfl)
theorem dX0_pull_10 : decode cX0_pull 10 = .ok (.iload_n 2, 1) := dk_28 (dk_at dksX0_pull_0 10 rfl rfl)
theorem dX0_pull_11 : decode cX0_pull 11 = .ok (.iconst 0, 1) := dk_3 (dk_at dksX0_pull_0 11 rfl rfl)
theorem dX0_pull_12 : decode cX0_pull 12 = .ok (.bipush 20, 2) := dk_16 20 (dk_at dksX0_pull_0 12 rfl rfl)
theorem dX0_pull_14 : decode cX0_pull 14 = .ok (.invokestatic 5, 3) := dk_184 0 5 (dk_at dksX0_pull_0 14 rfl rfl)
theorem dX0_pull_17 : decode cX0_pull 17 = .ok (.ifCond .ne 6, 3) := dk_154 0 6 (dk_at dksX0_pull_0 17 rfl rfl)
theorem dX0_pull_20 : decode cX0_pull 20 = .ok (.bipush (-2), 2) := dk_16 254 (dk_at dksX0_pull_0 20 rfl rfl)
theorem dX0_pull_22 : decode cX0_pull 22 = .ok (.ireturn, 1) := dk_172 (dk_at dksX0_pull_0 22 rfl rfl)
theorem dX0_pull_23 : decode cX0_pull 23 = .ok (.aload_n 0, 1) := dk_42 (dk_at dksX0_pull_0 23 rfl rfl)
theorem dX0_pull_24 : decode cX0_pull 24 = .ok (.getfield 21, 3) := dk_180 0 21 (dk_at dksX0_pull_1 0 rfl rfl)
theorem dX0_pull_27 : decode cX0_pull 27 = .ok (.iload_n 1, 1) := dk_27 (dk_at dksX0_pull_1 3 rfl rfl)
theorem dX0_pull_28 : decode cX0_pull 28 = .ok (.iaload, 1) := dk_46 (dk_at dksX0_pull_1 4 rfl rfl)
theorem dX0_pull_29 : decode cX0_pull 29 = .ok (.istore_n 3, 1) := dk_62 (dk_at dksX0_pull_1 5 rfl rfl)
theorem dX0_pull_30 : decode cX0_pull 30 = .ok (.aload_n 0, 1) := dk_42 (dk_at dksX0_pull_1 6 rfl rfl)
theorem dX0_pull_31 : decode cX0_pull 31 = .ok (.getfield 21, 3) := dk_180 0 21 (dk_at dksX0_pull_1 7 rfl rfl)
theorem dX0_pull_34 : decode cX0_pull 34 = .ok (.iload_n 1, 1) := dk_27 (dk_at dksX0_pull_1 10 rfl rfl)
theorem dX0_pull_35 : decode cX0_pull 35 = .ok (.iload_n 2, 1) := dk_28 (dk_at dksX0_pull_1 11 rfl rfl)
theorem dX0_pull_36 : decode cX0_pull 36 = .ok (.iastore, 1) := dk_79 (dk_at dksX0_pull_1 12 rfl rfl)
theorem dX0_pull_37 : decode cX0_pull 37 = .ok (.iload_n 3, 1) := dk_29 (dk_at dksX0_pull_1 13 rfl rfl)
theorem dX0_pull_38 : decode cX0_pull 38 = .ok (.ireturn, 1) := dk_172 (dk_at dksX0_pull_1 14 rfl rfl)
abbrev cX0_row : ByteArray := prog_1_method_12_code
def yX0_row : MethodName := ⟨RX0, "row", "(III)I"⟩
def dkwX0_row_3 : List UInt8 := [29, 79, 21, 4, 172]
abbrev dktX0_row_3 : List UInt8 := dkwX0_row_3 ++ []
def dkwX0_row_2 : List UInt8 := [16, 253, 172, 42, 180, 0, 25, 7, 27, 104, 28, 96, 46, 54, 4, 42, 180, 0, 25, 7, 27, 104, 28, 96]
abbrev dktX0_row_2 : List UInt8 := dkwX0_row_2 ++ dktX0_row_3
def dkwX0_row_1 : List UInt8 := [184, 0, 5, 154, 0, 6, 16, 254, 172, 42, 180, 0, 17, 27, 50, 182, 0, 153, 16, 6, 159, 0, 6]
abbrev dktX0_row_1 : List UInt8 := dkwX0_row_1 ++ dktX0_row_2
def dkwX0_row_0 : List UInt8 := [42, 27, 182, 0, 193, 153, 0, 12, 28, 3, 6, 184, 0, 5, 154, 0, 5, 2, 172, 29, 3, 16, 9]
abbrev dktX0_row_0 : List UInt8 := dkwX0_row_0 ++ dktX0_row_1
theorem dksX0_row_0 : cX0_row.data.toList.drop 0 = dktX0_row_0 := by decide +kernel
theorem dksX0_row_1 : cX0_row.data.toList.drop 23 = dktX0_row_1 := dk_seg dksX0_row_0 23 rfl rfl
theorem dksX0_row_2 : cX0_row.data.toList.drop 46 = dktX0_row_2 := dk_seg dksX0_row_1 23 rfl rfl
theorem dksX0_row_3 : cX0_row.data.toList.drop 70 = dktX0_row_3 := dk_seg dksX0_row_2 24 rfl rfl
theorem dX0_row_0 : decode cX0_row 0 = .ok (.aload_n 0, 1) := dk_42 (dk_at dksX0_row_0 0 rfl rfl)
theorem dX0_row_1 : decode cX0_row 1 = .ok (.iload_n 1, 1) := dk_27 (dk_at dksX0_row_0 1 rfl rfl)
theorem dX0_row_2 : decode cX0_row 2 = .ok (.invokevirtual 193, 3) := dk_182 0 193 (dk_at dksX0_row_0 2 rfl rfl)
theorem dX0_row_5 : decode cX0_row 5 = .ok (.ifCond .eq 12, 3) := dk_153 0 12 (dk_at dksX0_row_0 5 rfl rfl)
theorem dX0_row_8 : decode cX0_row 8 = .ok (.iload_n 2, 1) := dk_28 (dk_at dksX0_row_0 8 rfl rfl)
theorem dX0_row_9 : decode cX0_row 9 = .ok (.iconst 0, 1) := dk_3 (dk_at dksX0_row_0 9 rfl rfl)
theorem dX0_row_10 : decode cX0_row 10 = .ok (.iconst 3, 1) := dk_6 (dk_at dksX0_row_0 10 rfl rfl)
theorem dX0_row_11 : decode cX0_row 11 = .ok (.invokestatic 5, 3) := dk_184 0 5 (dk_at dksX0_row_0 11 rfl rfl)
theorem dX0_row_14 : decode cX0_row 14 = .ok (.ifCond .ne 5, 3) := dk_154 0 5 (dk_at dksX0_row_0 14 rfl rfl)
theorem dX0_row_17 : decode cX0_row 17 = .ok (.iconst (-1), 1) := dk_2 (dk_at dksX0_row_0 17 rfl rfl)
theorem dX0_row_18 : decode cX0_row 18 = .ok (.ireturn, 1) := dk_172 (dk_at dksX0_row_0 18 rfl rfl)
theorem dX0_row_19 : decode cX0_row 19 = .ok (.iload_n 3, 1) := dk_29 (dk_at dksX0_row_0 19 rfl rfl)
theorem dX0_row_20 : decode cX0_row 20 = .ok (.iconst 0, 1) := dk_3 (dk_at dksX0_row_0 20 rfl rfl)
theorem dX0_row_21 : decode cX0_row 21 = .ok (.bipush 9, 2) := dk_16 9 (dk_at dksX0_row_0 21 rfl rfl)
theorem dX0_row_23 : decode cX0_row 23 = .ok (.invokestatic 5, 3) := dk_184 0 5 (dk_at dksX0_row_1 0 rfl rfl)
theorem dX0_row_26 : decode cX0_row 26 = .ok (.ifCond .ne 6, 3) := dk_154 0 6 (dk_at dksX0_row_1 3 rfl rfl)
theorem dX0_row_29 : decode cX0_row 29 = .ok (.bipush (-2), 2) := dk_16 254 (dk_at dksX0_row_1 6 rfl rfl)
theorem dX0_row_31 : decode cX0_row 31 = .ok (.ireturn, 1) := dk_172 (dk_at dksX0_row_1 8 rfl rfl)
theorem dX0_row_32 : decode cX0_row 32 = .ok (.aload_n 0, 1) := dk_42 (dk_at dksX0_row_1 9 rfl rfl)
theorem dX0_row_33 : decode cX0_row 33 = .ok (.getfield 17, 3) := dk_180 0 17 (dk_at dksX0_row_1 10 rfl rfl)
theorem dX0_row_36 : decode cX0_row 36 = .ok (.iload_n 1, 1) := dk_27 (dk_at dksX0_row_1 13 rfl rfl)
theorem dX0_row_37 : decode cX0_row 37 = .ok (.aaload, 1) := dk_50 (dk_at dksX0_row_1 14 rfl rfl)
theorem dX0_row_38 : decode cX0_row 38 = .ok (.invokevirtual 153, 3) := dk_182 0 153 (dk_at dksX0_row_1 15 rfl rfl)
theorem dX0_row_41 : decode cX0_row 41 = .ok (.bipush 6, 2) := dk_16 6 (dk_at dksX0_row_1 18 rfl rfl)
theorem dX0_row_43 : decode cX0_row 43 = .ok (.if_icmp .eq 6, 3) := dk_159 0 6 (dk_at dksX0_row_1 20 rfl rfl)
theorem dX0_row_46 : decode cX0_row 46 = .ok (.bipush (-3), 2) := dk_16 253 (dk_at dksX0_row_2 0 rfl rfl)
theorem dX0_row_48 : decode cX0_row 48 = .ok (.ireturn, 1) := dk_172 (dk_at dksX0_row_2 2 rfl rfl)
theorem dX0_row_49 : decode cX0_row 49 = .ok (.aload_n 0, 1) := dk_42 (dk_at dksX0_row_2 3 rfl rfl)
theorem dX0_row_50 : decode cX0_row 50 = .ok (.getfield 25, 3) := dk_180 0 25 (dk_at dksX0_row_2 4 rfl rfl)
theorem dX0_row_53 : decode cX0_row 53 = .ok (.iconst 4, 1) := dk_7 (dk_at dksX0_row_2 7 rfl rfl)
theorem dX0_row_54 : decode cX0_row 54 = .ok (.iload_n 1, 1) := dk_27 (dk_at dksX0_row_2 8 rfl rfl)
theorem dX0_row_55 : decode cX0_row 55 = .ok (.imul, 1) := dk_104 (dk_at dksX0_row_2 9 rfl rfl)
theorem dX0_row_56 : decode cX0_row 56 = .ok (.iload_n 2, 1) := dk_28 (dk_at dksX0_row_2 10 rfl rfl)
theorem dX0_row_57 : decode cX0_row 57 = .ok (.iadd, 1) := dk_96 (dk_at dksX0_row_2 11 rfl rfl)
theorem dX0_row_58 : decode cX0_row 58 = .ok (.iaload, 1) := dk_46 (dk_at dksX0_row_2 12 rfl rfl)
theorem dX0_row_59 : decode cX0_row 59 = .ok (.istore 4, 2) := dk_54 4 (dk_at dksX0_row_2 13 rfl rfl)
theorem dX0_row_61 : decode cX0_row 61 = .ok (.aload_n 0, 1) := dk_42 (dk_at dksX0_row_2 15 rfl rfl)
theorem dX0_row_62 : decode cX0_row 62 = .ok (.getfield 25, 3) := dk_180 0 25 (dk_at dksX0_row_2 16 rfl rfl)
theorem dX0_row_65 : decode cX0_row 65 = .ok (.iconst 4, 1) := dk_7 (dk_at dksX0_row_2 19 rfl rfl)
theorem dX0_row_66 : decode cX0_row 66 = .ok (.iload_n 1, 1) := dk_27 (dk_at dksX0_row_2 20 rfl rfl)
theorem dX0_row_67 : decode cX0_row 67 = .ok (.imul, 1) := dk_104 (dk_at dksX0_row_2 21 rfl rfl)
theorem dX0_row_68 : decode cX0_row 68 = .ok (.iload_n 2, 1) := dk_28 (dk_at dksX0_row_2 22 rfl rfl)
theorem dX0_row_69 : decode cX0_row 69 = .ok (.iadd, 1) := dk_96 (dk_at dksX0_row_2 23 rfl rfl)
theorem dX0_row_70 : decode cX0_row 70 = .ok (.iload_n 3, 1) := dk_29 (dk_at dksX0_row_3 0 rfl rfl)
theorem dX0_row_71 : decode cX0_row 71 = .ok (.iastore, 1) := dk_79 (dk_at dksX0_row_3 1 rfl rfl)
theorem dX0_row_72 : decode cX0_row 72 = .ok (.iload 4, 2) := dk_21 4 (dk_at dksX0_row_3 2 rfl rfl)
theorem dX0_row_74 : decode cX0_row 74 = .ok (.ireturn, 1) := dk_172 (dk_at dksX0_row_3 4 rfl rfl)
abbrev cX0_feed : ByteArray := prog_1_method_13_code
def yX0_feed : MethodName := ⟨RX0, "feed", "(I)I"⟩
def dkwX0_feed_1 : List UInt8 := [172, 42, 180, 0, 42, 42, 89, 180, 0, 199, 90, 4, 96, 181, 0, 199, 27, 145, 84, 42, 180, 0, 199, 172]
abbrev dktX0_feed_1 : List UInt8 := dkwX0_feed_1 ++ []
def dkwX0_feed_0 : List UInt8 := [27, 3, 16, 127, 184, 0, 5, 154, 0, 6, 16, 254, 172, 42, 180, 0, 199, 16, 100, 160, 0, 6, 16, 252]
abbrev dktX0_feed_0 : List UInt8 := dkwX0_feed_0 ++ dktX0_feed_1
theorem dksX0_feed_0 : cX0_feed.data.toList.drop 0 = dktX0_feed_0 := by decide +kernel
theorem dksX0_feed_1 : cX0_feed.data.toList.drop 24 = dktX0_feed_1 := dk_seg dksX0_feed_0 24 rfl rfl
theorem dX0_feed_0 : decode cX0_feed 0 = .ok (.iload_n 1, 1) := dk_27 (dk_at dksX0_feed_0 0 rfl rfl)
theorem dX0_feed_1 : decode cX0_feed 1 = .ok (.iconst 0, 1) := dk_3 (dk_at dksX0_feed_0 1 rfl rfl)
theorem dX0_feed_2 : decode cX0_feed 2 = .ok (.bipush 127, 2) := dk_16 127 (dk_at dksX0_feed_0 2 rfl rfl)
theorem dX0_feed_4 : decode cX0_feed 4 = .ok (.invokestatic 5, 3) := dk_184 0 5 (dk_at dksX0_feed_0 4 rfl rfl)
theorem dX0_feed_7 : decode cX0_feed 7 = .ok (.ifCond .ne 6, 3) := dk_154 0 6 (dk_at dksX0_feed_0 7 rfl rfl)
theorem dX0_feed_10 : decode cX0_feed 10 = .ok (.bipush (-2), 2) := dk_16 254 (dk_at dksX0_feed_0 10 rfl rfl)
theorem dX0_feed_12 : decode cX0_feed 12 = .ok (.ireturn, 1) := dk_172 (dk_at dksX0_feed_0 12 rfl rfl)
theorem dX0_feed_13 : decode cX0_feed 13 = .ok (.aload_n 0, 1) := dk_42 (dk_at dksX0_feed_0 13 rfl rfl)
theorem dX0_feed_14 : decode cX0_feed 14 = .ok (.getfield 199, 3) := dk_180 0 199 (dk_at dksX0_feed_0 14 rfl rfl)
theorem dX0_feed_17 : decode cX0_feed 17 = .ok (.bipush 100, 2) := dk_16 100 (dk_at dksX0_feed_0 17 rfl rfl)
theorem dX0_feed_19 : decode cX0_feed 19 = .ok (.if_icmp .ne 6, 3) := dk_160 0 6 (dk_at dksX0_feed_0 19 rfl rfl)
theorem dX0_feed_22 : decode cX0_feed 22 = .ok (.bipush (-4), 2) := dk_16 252 (dk_at dksX0_feed_0 22 rfl rfl)
theorem dX0_feed_24 : decode cX0_feed 24 = .ok (.ireturn, 1) := dk_172 (dk_at dksX0_feed_1 0 rfl rfl)
theorem dX0_feed_25 : decode cX0_feed 25 = .ok (.aload_n 0, 1) := dk_42 (dk_at dksX0_feed_1 1 rfl rfl)
theorem dX0_feed_26 : decode cX0_feed 26 = .ok (.getfield 42, 3) := dk_180 0 42 (dk_at dksX0_feed_1 2 rfl rfl)
theorem dX0_feed_29 : decode cX0_feed 29 = .ok (.aload_n 0, 1) := dk_42 (dk_at dksX0_feed_1 5 rfl rfl)
theorem dX0_feed_30 : decode cX0_feed 30 = .ok (.dup, 1) := dk_89 (dk_at dksX0_feed_1 6 rfl rfl)
theorem dX0_feed_31 : decode cX0_feed 31 = .ok (.getfield 199, 3) := dk_180 0 199 (dk_at dksX0_feed_1 7 rfl rfl)
theorem dX0_feed_34 : decode cX0_feed 34 = .ok (.dup_x1, 1) := dk_90 (dk_at dksX0_feed_1 10 rfl rfl)
theorem dX0_feed_35 : decode cX0_feed 35 = .ok (.iconst 1, 1) := dk_4 (dk_at dksX0_feed_1 11 rfl rfl)
theorem dX0_feed_36 : decode cX0_feed 36 = .ok (.iadd, 1) := dk_96 (dk_at dksX0_feed_1 12 rfl rfl)
theorem dX0_feed_37 : decode cX0_feed 37 = .ok (.putfield 199, 3) := dk_181 0 199 (dk_at dksX0_feed_1 13 rfl rfl)
theorem dX0_feed_40 : decode cX0_feed 40 = .ok (.iload_n 1, 1) := dk_27 (dk_at dksX0_feed_1 16 rfl rfl)
theorem dX0_feed_41 : decode cX0_feed 41 = .ok (.i2b, 1) := dk_145 (dk_at dksX0_feed_1 17 rfl rfl)
theorem dX0_feed_42 : decode cX0_feed 42 = .ok (.bastore, 1) := dk_84 (dk_at dksX0_feed_1 18 rfl rfl)
theorem dX0_feed_43 : decode cX0_feed 43 = .ok (.aload_n 0, 1) := dk_42 (dk_at dksX0_feed_1 19 rfl rfl)
theorem dX0_feed_44 : decode cX0_feed 44 = .ok (.getfield 199, 3) := dk_180 0 199 (dk_at dksX0_feed_1 20 rfl rfl)
theorem dX0_feed_47 : decode cX0_feed 47 = .ok (.ireturn, 1) := dk_172 (dk_at dksX0_feed_1 23 rfl rfl)
abbrev cX0_air : ByteArray := prog_1_method_14_code
def yX0_air : MethodName := ⟨RX0, "air", "()I"⟩
def dkwX0_air_2 : List UInt8 := [4, 96, 181, 0, 202, 172, 77, 16, 246, 44, 180, 0, 215, 100, 172]
abbrev dktX0_air_2 : List UInt8 := dkwX0_air_2 ++ []
def dkwX0_air_1 : List UInt8 := [187, 0, 205, 89, 42, 180, 0, 42, 27, 183, 0, 207, 182, 0, 210, 181, 0, 49, 42, 89, 180, 0, 202, 90]
abbrev dktX0_air_1 : List UInt8 := dkwX0_air_1 ++ dktX0_air_2
def dkwX0_air_0 : List UInt8 := [42, 180, 0, 202, 16, 6, 160, 0, 6, 16, 252, 172, 42, 180, 0, 199, 60, 42, 3, 181, 0, 199, 42]
abbrev dktX0_air_0 : List UInt8 := dkwX0_air_0 ++ dktX0_air_1
theorem dksX0_air_0 : cX0_air.data.toList.drop 0 = dktX0_air_0 := by decide +kernel
theorem dksX0_air_1 : cX0_air.data.toList.drop 23 = dktX0_air_1 := dk_seg dksX0_air_0 23 rfl rfl
theorem dksX0_air_2 : cX0_air.data.toList.drop 47 = dktX0_air_2 := dk_seg dksX0_air_1 24 rfl rfl
theorem dX0_air_0 : decode cX0_air 0 = .ok (.aload_n 0, 1) := dk_42 (dk_at dksX0_air_0 0 rfl rfl)
theorem dX0_air_1 : decode cX0_air 1 = .ok (.getfield 202, 3) := dk_180 0 202 (dk_at dksX0_air_0 1 rfl rfl)
theorem dX0_air_4 : decode cX0_air 4 = .ok (.bipush 6, 2) := dk_16 6 (dk_at dksX0_air_0 4 rfl rfl)
theorem dX0_air_6 : decode cX0_air 6 = .ok (.if_icmp .ne 6, 3) := dk_160 0 6 (dk_at dksX0_air_0 6 rfl rfl)
theorem dX0_air_9 : decode cX0_air 9 = .ok (.bipush (-4), 2) := dk_16 252 (dk_at dksX0_air_0 9 rfl rfl)
theorem dX0_air_11 : decode cX0_air 11 = .ok (.ireturn, 1) := dk_172 (dk_at dksX0_air_0 11 rfl rfl)
theorem dX0_air_12 : decode cX0_air 12 = .ok (.aload_n 0, 1) := dk_42 (dk_at dksX0_air_0 12 rfl rfl)
theorem dX0_air_13 : decode cX0_air 13 = .ok (.getfield 199, 3) := dk_180 0 199 (dk_at dksX0_air_0 13 rfl rfl)
theorem dX0_air_16 : decode cX0_air 16 = .ok (.istore_n 1, 1) := dk_60 (dk_at dksX0_air_0 16 rfl rfl)
theorem dX0_air_17 : decode cX0_air 17 = .ok (.aload_n 0, 1) := dk_42 (dk_at dksX0_air_0 17 rfl rfl)
theorem dX0_air_18 : decode cX0_air 18 = .ok (.iconst 0, 1) := dk_3 (dk_at dksX0_air_0 18 rfl rfl)
theorem dX0_air_19 : decode cX0_air 19 = .ok (.putfield 199, 3) := dk_181 0 199 (dk_at dksX0_air_0 19 rfl rfl)
theorem dX0_air_22 : decode cX0_air 22 = .ok (.aload_n 0, 1) := dk_42 (dk_at dksX0_air_0 22 rfl rfl)
theorem dX0_air_23 : decode cX0_air 23 = .ok (.new 205, 3) := dk_187 0 205 (dk_at dksX0_air_1 0 rfl rfl)
theorem dX0_air_26 : decode cX0_air 26 = .ok (.dup, 1) := dk_89 (dk_at dksX0_air_1 3 rfl rfl)
theorem dX0_air_27 : decode cX0_air 27 = .ok (.aload_n 0, 1) := dk_42 (dk_at dksX0_air_1 4 rfl rfl)
theorem dX0_air_28 : decode cX0_air 28 = .ok (.getfield 42, 3) := dk_180 0 42 (dk_at dksX0_air_1 5 rfl rfl)
theorem dX0_air_31 : decode cX0_air 31 = .ok (.iload_n 1, 1) := dk_27 (dk_at dksX0_air_1 8 rfl rfl)
theorem dX0_air_32 : decode cX0_air 32 = .ok (.invokespecial 207, 3) := dk_183 0 207 (dk_at dksX0_air_1 9 rfl rfl)
theorem dX0_air_35 : decode cX0_air 35 = .ok (.invokevirtual 210, 3) := dk_182 0 210 (dk_at dksX0_air_1 12 rfl rfl)
theorem dX0_air_38 : decode cX0_air 38 = .ok (.putfield 49, 3) := dk_181 0 49 (dk_at dksX0_air_1 15 rfl rfl)
theorem dX0_air_41 : decode cX0_air 41 = .ok (.aload_n 0, 1) := dk_42 (dk_at dksX0_air_1 18 rfl rfl)
theorem dX0_air_42 : decode cX0_air 42 = .ok (.dup, 1) := dk_89 (dk_at dksX0_air_1 19 rfl rfl)
theorem dX0_air_43 : decode cX0_air 43 = .ok (.getfield 202, 3) := dk_180 0 202 (dk_at dksX0_air_1 20 rfl rfl)
theorem dX0_air_46 : decode cX0_air 46 = .ok (.dup_x1, 1) := dk_90 (dk_at dksX0_air_1 23 rfl rfl)
theorem dX0_air_47 : decode cX0_air 47 = .ok (.iconst 1, 1) := dk_4 (dk_at dksX0_air_2 0 rfl rfl)
theorem dX0_air_48 : decode cX0_air 48 = .ok (.iadd, 1) := dk_96 (dk_at dksX0_air_2 1 rfl rfl)
theorem dX0_air_49 : decode cX0_air 49 = .ok (.putfield 202, 3) := dk_181 0 202 (dk_at dksX0_air_2 2 rfl rfl)
theorem dX0_air_52 : decode cX0_air 52 = .ok (.ireturn, 1) := dk_172 (dk_at dksX0_air_2 5 rfl rfl)
theorem dX0_air_53 : decode cX0_air 53 = .ok (.astore_n 2, 1) := dk_77 (dk_at dksX0_air_2 6 rfl rfl)
theorem dX0_air_54 : decode cX0_air 54 = .ok (.bipush (-10), 2) := dk_16 246 (dk_at dksX0_air_2 7 rfl rfl)
theorem dX0_air_56 : decode cX0_air 56 = .ok (.aload_n 2, 1) := dk_44 (dk_at dksX0_air_2 9 rfl rfl)
theorem dX0_air_57 : decode cX0_air 57 = .ok (.getfield 215, 3) := dk_180 0 215 (dk_at dksX0_air_2 10 rfl rfl)
theorem dX0_air_60 : decode cX0_air 60 = .ok (.isub, 1) := dk_100 (dk_at dksX0_air_2 13 rfl rfl)
theorem dX0_air_61 : decode cX0_air 61 = .ok (.ireturn, 1) := dk_172 (dk_at dksX0_air_2 14 rfl rfl)
abbrev cX0_home : ByteArray := prog_1_method_15_code
def yX0_home : MethodName := ⟨RX0, "home", "(I)I"⟩
def dkwX0_home_0 : List UInt8 := [27, 184, 0, 142, 154, 0, 6, 16, 254, 172, 42, 180, 0, 38, 61, 42, 27, 181, 0, 38, 28, 172]
abbrev dktX0_home_0 : List UInt8 := dkwX0_home_0 ++ []
theorem dksX0_home_0 : cX0_home.data.toList.drop 0 = dktX0_home_0 := by decide +kernel
theorem dX0_home_0 : decode cX0_home 0 = .ok (.iload_n 1, 1) := dk_27 (dk_at dksX0_home_0 0 rfl rfl)
theorem dX0_home_1 : decode cX0_home 1 = .ok (.invokestatic 142, 3) := dk_184 0 142 (dk_at dksX0_home_0 1 rfl rfl)
theorem dX0_home_4 : decode cX0_home 4 = .ok (.ifCond .ne 6, 3) := dk_154 0 6 (dk_at dksX0_home_0 4 rfl rfl)
theorem dX0_home_7 : decode cX0_home 7 = .ok (.bipush (-2), 2) := dk_16 254 (dk_at dksX0_home_0 7 rfl rfl)
theorem dX0_home_9 : decode cX0_home 9 = .ok (.ireturn, 1) := dk_172 (dk_at dksX0_home_0 9 rfl rfl)
theorem dX0_home_10 : decode cX0_home 10 = .ok (.aload_n 0, 1) := dk_42 (dk_at dksX0_home_0 10 rfl rfl)
theorem dX0_home_11 : decode cX0_home 11 = .ok (.getfield 38, 3) := dk_180 0 38 (dk_at dksX0_home_0 11 rfl rfl)
theorem dX0_home_14 : decode cX0_home 14 = .ok (.istore_n 2, 1) := dk_61 (dk_at dksX0_home_0 14 rfl rfl)
theorem dX0_home_15 : decode cX0_home 15 = .ok (.aload_n 0, 1) := dk_42 (dk_at dksX0_home_0 15 rfl rfl)
theorem dX0_home_16 : decode cX0_home 16 = .ok (.iload_n 1, 1) := dk_27 (dk_at dksX0_home_0 16 rfl rfl)
theorem dX0_home_17 : decode cX0_home 17 = .ok (.putfield 38, 3) := dk_181 0 38 (dk_at dksX0_home_0 17 rfl rfl)
theorem dX0_home_20 : decode cX0_home 20 = .ok (.iload_n 2, 1) := dk_28 (dk_at dksX0_home_0 20 rfl rfl)
theorem dX0_home_21 : decode cX0_home 21 = .ok (.ireturn, 1) := dk_172 (dk_at dksX0_home_0 21 rfl rfl)
abbrev cX0_height : ByteArray := prog_1_method_16_code
def yX0_height : MethodName := ⟨RX0, "height", "(I)I"⟩
def dkwX0_height_1 : List UInt8 := [180, 0, 31, 27, 181, 0, 159, 28, 172]
abbrev dktX0_height_1 : List UInt8 := dkwX0_height_1 ++ []
def dkwX0_height_0 : List UInt8 := [27, 3, 17, 1, 144, 184, 0, 5, 154, 0, 6, 16, 254, 172, 42, 180, 0, 31, 180, 0, 159, 61, 42]
abbrev dktX0_height_0 : List UInt8 := dkwX0_height_0 ++ dktX0_height_1
theorem dksX0_height_0 : cX0_height.data.toList.drop 0 = dktX0_height_0 := by decide +kernel
theorem dksX0_height_1 : cX0_height.data.toList.drop 23 = dktX0_height_1 := dk_seg dksX0_height_0 23 rfl rfl
theorem dX0_height_0 : decode cX0_height 0 = .ok (.iload_n 1, 1) := dk_27 (dk_at dksX0_height_0 0 rfl rfl)
theorem dX0_height_1 : decode cX0_height 1 = .ok (.iconst 0, 1) := dk_3 (dk_at dksX0_height_0 1 rfl rfl)
theorem dX0_height_2 : decode cX0_height 2 = .ok (.sipush 400, 3) := dk_17 1 144 (dk_at dksX0_height_0 2 rfl rfl)
theorem dX0_height_5 : decode cX0_height 5 = .ok (.invokestatic 5, 3) := dk_184 0 5 (dk_at dksX0_height_0 5 rfl rfl)
theorem dX0_height_8 : decode cX0_height 8 = .ok (.ifCond .ne 6, 3) := dk_154 0 6 (dk_at dksX0_height_0 8 rfl rfl)
theorem dX0_height_11 : decode cX0_height 11 = .ok (.bipush (-2), 2) := dk_16 254 (dk_at dksX0_height_0 11 rfl rfl)
theorem dX0_height_13 : decode cX0_height 13 = .ok (.ireturn, 1) := dk_172 (dk_at dksX0_height_0 13 rfl rfl)
theorem dX0_height_14 : decode cX0_height 14 = .ok (.aload_n 0, 1) := dk_42 (dk_at dksX0_height_0 14 rfl rfl)
theorem dX0_height_15 : decode cX0_height 15 = .ok (.getfield 31, 3) := dk_180 0 31 (dk_at dksX0_height_0 15 rfl rfl)
theorem dX0_height_18 : decode cX0_height 18 = .ok (.getfield 159, 3) := dk_180 0 159 (dk_at dksX0_height_0 18 rfl rfl)
theorem dX0_height_21 : decode cX0_height 21 = .ok (.istore_n 2, 1) := dk_61 (dk_at dksX0_height_0 21 rfl rfl)
theorem dX0_height_22 : decode cX0_height 22 = .ok (.aload_n 0, 1) := dk_42 (dk_at dksX0_height_0 22 rfl rfl)
theorem dX0_height_23 : decode cX0_height 23 = .ok (.getfield 31, 3) := dk_180 0 31 (dk_at dksX0_height_1 0 rfl rfl)
theorem dX0_height_26 : decode cX0_height 26 = .ok (.iload_n 1, 1) := dk_27 (dk_at dksX0_height_1 3 rfl rfl)
theorem dX0_height_27 : decode cX0_height 27 = .ok (.putfield 159, 3) := dk_181 0 159 (dk_at dksX0_height_1 4 rfl rfl)
theorem dX0_height_30 : decode cX0_height 30 = .ok (.iload_n 2, 1) := dk_28 (dk_at dksX0_height_1 7 rfl rfl)
theorem dX0_height_31 : decode cX0_height 31 = .ok (.ireturn, 1) := dk_172 (dk_at dksX0_height_1 8 rfl rfl)
abbrev cX0_told : ByteArray := prog_1_method_17_code
def yX0_told : MethodName := ⟨RX0, "told", "(I)I"⟩
def dkwX0_told_4 : List UInt8 := [42, 180, 0, 38, 172, 42, 180, 0, 49, 182, 0, 221, 172, 42, 180, 0, 49, 182, 0, 224, 172, 2, 172]
abbrev dktX0_told_4 : List UInt8 := dkwX0_told_4 ++ []
def dkwX0_told_3 : List UInt8 := [42, 180, 0, 31, 180, 0, 219, 2, 160, 0, 8, 16, 251, 167, 0, 10, 42, 180, 0, 31, 180, 0, 219, 172]
abbrev dktX0_told_3 : List UInt8 := dkwX0_told_3 ++ dktX0_told_4
def dkwX0_told_2 : List UInt8 := [42, 180, 0, 31, 180, 0, 163, 172, 42, 180, 0, 31, 180, 0, 218, 172, 42, 180, 0, 31, 180, 0, 159, 172]
abbrev dktX0_told_2 : List UInt8 := dkwX0_told_2 ++ dktX0_told_3
def dkwX0_told_1 : List UInt8 := [170, 0, 0, 0, 0, 0, 112, 0, 0, 0, 0, 0, 0, 0, 6, 0, 0, 0, 43, 0, 0, 0, 51, 0, 0, 0, 59, 0, 0, 0, 67, 0, 0, 0, 91, 0, 0, 0, 96, 0, 0, 0, 104]
abbrev dktX0_told_1 : List UInt8 := dkwX0_told_1 ++ dktX0_told_2
def dkwX0_told_0 : List UInt8 := [27]
abbrev dktX0_told_0 : List UInt8 := dkwX0_told_0 ++ dktX0_told_1
theorem dksX0_told_0 : cX0_told.data.toList.drop 0 = dktX0_told_0 := by decide +kernel
theorem dksX0_told_1 : cX0_told.data.toList.drop 1 = dktX0_told_1 := dk_seg dksX0_told_0 1 rfl rfl
theorem dksX0_told_2 : cX0_told.data.toList.drop 44 = dktX0_told_2 := dk_seg dksX0_told_1 43 rfl rfl
theorem dksX0_told_3 : cX0_told.data.toList.drop 68 = dktX0_told_3 := dk_seg dksX0_told_2 24 rfl rfl
theorem dksX0_told_4 : cX0_told.data.toList.drop 92 = dktX0_told_4 := dk_seg dksX0_told_3 24 rfl rfl
theorem dX0_told_0 : decode cX0_told 0 = .ok (.iload_n 1, 1) := dk_27 (dk_at dksX0_told_0 0 rfl rfl)
theorem dX0_told_1 : decode cX0_told 1 = .ok (.tableswitch 112 0 6 #[43, 51, 59, 67, 91, 96, 104], 43) := by decide +kernel
theorem dX0_told_44 : decode cX0_told 44 = .ok (.aload_n 0, 1) := dk_42 (dk_at dksX0_told_2 0 rfl rfl)
theorem dX0_told_45 : decode cX0_told 45 = .ok (.getfield 31, 3) := dk_180 0 31 (dk_at dksX0_told_2 1 rfl rfl)
theorem dX0_told_48 : decode cX0_told 48 = .ok (.getfield 163, 3) := dk_180 0 163 (dk_at dksX0_told_2 4 rfl rfl)
theorem dX0_told_51 : decode cX0_told 51 = .ok (.ireturn, 1) := dk_172 (dk_at dksX0_told_2 7 rfl rfl)
theorem dX0_told_52 : decode cX0_told 52 = .ok (.aload_n 0, 1) := dk_42 (dk_at dksX0_told_2 8 rfl rfl)
theorem dX0_told_53 : decode cX0_told 53 = .ok (.getfield 31, 3) := dk_180 0 31 (dk_at dksX0_told_2 9 rfl rfl)
theorem dX0_told_56 : decode cX0_told 56 = .ok (.getfield 218, 3) := dk_180 0 218 (dk_at dksX0_told_2 12 rfl rfl)
theorem dX0_told_59 : decode cX0_told 59 = .ok (.ireturn, 1) := dk_172 (dk_at dksX0_told_2 15 rfl rfl)
theorem dX0_told_60 : decode cX0_told 60 = .ok (.aload_n 0, 1) := dk_42 (dk_at dksX0_told_2 16 rfl rfl)
theorem dX0_told_61 : decode cX0_told 61 = .ok (.getfield 31, 3) := dk_180 0 31 (dk_at dksX0_told_2 17 rfl rfl)
theorem dX0_told_64 : decode cX0_told 64 = .ok (.getfield 159, 3) := dk_180 0 159 (dk_at dksX0_told_2 20 rfl rfl)
theorem dX0_told_67 : decode cX0_told 67 = .ok (.ireturn, 1) := dk_172 (dk_at dksX0_told_2 23 rfl rfl)
theorem dX0_told_68 : decode cX0_told 68 = .ok (.aload_n 0, 1) := dk_42 (dk_at dksX0_told_3 0 rfl rfl)
theorem dX0_told_69 : decode cX0_told 69 = .ok (.getfield 31, 3) := dk_180 0 31 (dk_at dksX0_told_3 1 rfl rfl)
theorem dX0_told_72 : decode cX0_told 72 = .ok (.getfield 219, 3) := dk_180 0 219 (dk_at dksX0_told_3 4 rfl rfl)
theorem dX0_told_75 : decode cX0_told 75 = .ok (.iconst (-1), 1) := dk_2 (dk_at dksX0_told_3 7 rfl rfl)
theorem dX0_told_76 : decode cX0_told 76 = .ok (.if_icmp .ne 8, 3) := dk_160 0 8 (dk_at dksX0_told_3 8 rfl rfl)
theorem dX0_told_79 : decode cX0_told 79 = .ok (.bipush (-5), 2) := dk_16 251 (dk_at dksX0_told_3 11 rfl rfl)
theorem dX0_told_81 : decode cX0_told 81 = .ok (.goto 10, 3) := dk_167 0 10 (dk_at dksX0_told_3 13 rfl rfl)
theorem dX0_told_84 : decode cX0_told 84 = .ok (.aload_n 0, 1) := dk_42 (dk_at dksX0_told_3 16 rfl rfl)
theorem dX0_told_85 : decode cX0_told 85 = .ok (.getfield 31, 3) := dk_180 0 31 (dk_at dksX0_told_3 17 rfl rfl)
theorem dX0_told_88 : decode cX0_told 88 = .ok (.getfield 219, 3) := dk_180 0 219 (dk_at dksX0_told_3 20 rfl rfl)
theorem dX0_told_91 : decode cX0_told 91 = .ok (.ireturn, 1) := dk_172 (dk_at dksX0_told_3 23 rfl rfl)
theorem dX0_told_92 : decode cX0_told 92 = .ok (.aload_n 0, 1) := dk_42 (dk_at dksX0_told_4 0 rfl rfl)
theorem dX0_told_93 : decode cX0_told 93 = .ok (.getfield 38, 3) := dk_180 0 38 (dk_at dksX0_told_4 1 rfl rfl)
theorem dX0_told_96 : decode cX0_told 96 = .ok (.ireturn, 1) := dk_172 (dk_at dksX0_told_4 4 rfl rfl)
theorem dX0_told_97 : decode cX0_told 97 = .ok (.aload_n 0, 1) := dk_42 (dk_at dksX0_told_4 5 rfl rfl)
theorem dX0_told_98 : decode cX0_told 98 = .ok (.getfield 49, 3) := dk_180 0 49 (dk_at dksX0_told_4 6 rfl rfl)
theorem dX0_told_101 : decode cX0_told 101 = .ok (.invokevirtual 221, 3) := dk_182 0 221 (dk_at dksX0_told_4 9 rfl rfl)
theorem dX0_told_104 : decode cX0_told 104 = .ok (.ireturn, 1) := dk_172 (dk_at dksX0_told_4 12 rfl rfl)
theorem dX0_told_105 : decode cX0_told 105 = .ok (.aload_n 0, 1) := dk_42 (dk_at dksX0_told_4 13 rfl rfl)
theorem dX0_told_106 : decode cX0_told 106 = .ok (.getfield 49, 3) := dk_180 0 49 (dk_at dksX0_told_4 14 rfl rfl)
theorem dX0_told_109 : decode cX0_told 109 = .ok (.invokevirtual 224, 3) := dk_182 0 224 (dk_at dksX0_told_4 17 rfl rfl)
theorem dX0_told_112 : decode cX0_told 112 = .ok (.ireturn, 1) := dk_172 (dk_at dksX0_told_4 20 rfl rfl)
theorem dX0_told_113 : decode cX0_told 113 = .ok (.iconst (-1), 1) := dk_2 (dk_at dksX0_told_4 21 rfl rfl)
theorem dX0_told_114 : decode cX0_told 114 = .ok (.ireturn, 1) := dk_172 (dk_at dksX0_told_4 22 rfl rfl)
abbrev cX0_enter : ByteArray := prog_1_method_18_code
def yX0_enter : MethodName := ⟨RX0, "enter", "(I)I"⟩
def dkwX0_enter_2 : List UInt8 := [180, 0, 31, 27, 182, 0, 196, 172]
abbrev dktX0_enter_2 : List UInt8 := dkwX0_enter_2 ++ []
def dkwX0_enter_1 : List UInt8 := [180, 0, 31, 180, 0, 218, 159, 0, 7, 17, 252, 22, 172, 42, 180, 0, 31, 27, 181, 0, 219, 42, 42]
abbrev dktX0_enter_1 : List UInt8 := dkwX0_enter_1 ++ dktX0_enter_2
def dkwX0_enter_0 : List UInt8 := [42, 27, 182, 0, 193, 154, 0, 7, 17, 252, 23, 172, 42, 180, 0, 17, 27, 50, 180, 0, 177, 42]
abbrev dktX0_enter_0 : List UInt8 := dkwX0_enter_0 ++ dktX0_enter_1
theorem dksX0_enter_0 : cX0_enter.data.toList.drop 0 = dktX0_enter_0 := by decide +kernel
theorem dksX0_enter_1 : cX0_enter.data.toList.drop 22 = dktX0_enter_1 := dk_seg dksX0_enter_0 22 rfl rfl
theorem dksX0_enter_2 : cX0_enter.data.toList.drop 45 = dktX0_enter_2 := dk_seg dksX0_enter_1 23 rfl rfl
theorem dX0_enter_0 : decode cX0_enter 0 = .ok (.aload_n 0, 1) := dk_42 (dk_at dksX0_enter_0 0 rfl rfl)
theorem dX0_enter_1 : decode cX0_enter 1 = .ok (.iload_n 1, 1) := dk_27 (dk_at dksX0_enter_0 1 rfl rfl)
theorem dX0_enter_2 : decode cX0_enter 2 = .ok (.invokevirtual 193, 3) := dk_182 0 193 (dk_at dksX0_enter_0 2 rfl rfl)
theorem dX0_enter_5 : decode cX0_enter 5 = .ok (.ifCond .ne 7, 3) := dk_154 0 7 (dk_at dksX0_enter_0 5 rfl rfl)
theorem dX0_enter_8 : decode cX0_enter 8 = .ok (.sipush (-1001), 3) := dk_17 252 23 (dk_at dksX0_enter_0 8 rfl rfl)
theorem dX0_enter_11 : decode cX0_enter 11 = .ok (.ireturn, 1) := dk_172 (dk_at dksX0_enter_0 11 rfl rfl)
theorem dX0_enter_12 : decode cX0_enter 12 = .ok (.aload_n 0, 1) := dk_42 (dk_at dksX0_enter_0 12 rfl rfl)
theorem dX0_enter_13 : decode cX0_enter 13 = .ok (.getfield 17, 3) := dk_180 0 17 (dk_at dksX0_enter_0 13 rfl rfl)
theorem dX0_enter_16 : decode cX0_enter 16 = .ok (.iload_n 1, 1) := dk_27 (dk_at dksX0_enter_0 16 rfl rfl)
theorem dX0_enter_17 : decode cX0_enter 17 = .ok (.aaload, 1) := dk_50 (dk_at dksX0_enter_0 17 rfl rfl)
theorem dX0_enter_18 : decode cX0_enter 18 = .ok (.getfield 177, 3) := dk_180 0 177 (dk_at dksX0_enter_0 18 rfl rfl)
theorem dX0_enter_21 : decode cX0_enter 21 = .ok (.aload_n 0, 1) := dk_42 (dk_at dksX0_enter_0 21 rfl rfl)
theorem dX0_enter_22 : decode cX0_enter 22 = .ok (.getfield 31, 3) := dk_180 0 31 (dk_at dksX0_enter_1 0 rfl rfl)
theorem dX0_enter_25 : decode cX0_enter 25 = .ok (.getfield 218, 3) := dk_180 0 218 (dk_at dksX0_enter_1 3 rfl rfl)
theorem dX0_enter_28 : decode cX0_enter 28 = .ok (.if_icmp .eq 7, 3) := dk_159 0 7 (dk_at dksX0_enter_1 6 rfl rfl)
theorem dX0_enter_31 : decode cX0_enter 31 = .ok (.sipush (-1002), 3) := dk_17 252 22 (dk_at dksX0_enter_1 9 rfl rfl)
theorem dX0_enter_34 : decode cX0_enter 34 = .ok (.ireturn, 1) := dk_172 (dk_at dksX0_enter_1 12 rfl rfl)
theorem dX0_enter_35 : decode cX0_enter 35 = .ok (.aload_n 0, 1) := dk_42 (dk_at dksX0_enter_1 13 rfl rfl)
theorem dX0_enter_36 : decode cX0_enter 36 = .ok (.getfield 31, 3) := dk_180 0 31 (dk_at dksX0_enter_1 14 rfl rfl)
theorem dX0_enter_39 : decode cX0_enter 39 = .ok (.iload_n 1, 1) := dk_27 (dk_at dksX0_enter_1 17 rfl rfl)
theorem dX0_enter_40 : decode cX0_enter 40 = .ok (.putfield 219, 3) := dk_181 0 219 (dk_at dksX0_enter_1 18 rfl rfl)
theorem dX0_enter_43 : decode cX0_enter 43 = .ok (.aload_n 0, 1) := dk_42 (dk_at dksX0_enter_1 21 rfl rfl)
theorem dX0_enter_44 : decode cX0_enter 44 = .ok (.aload_n 0, 1) := dk_42 (dk_at dksX0_enter_1 22 rfl rfl)
theorem dX0_enter_45 : decode cX0_enter 45 = .ok (.getfield 31, 3) := dk_180 0 31 (dk_at dksX0_enter_2 0 rfl rfl)
theorem dX0_enter_48 : decode cX0_enter 48 = .ok (.iload_n 1, 1) := dk_27 (dk_at dksX0_enter_2 3 rfl rfl)
theorem dX0_enter_49 : decode cX0_enter 49 = .ok (.invokevirtual 196, 3) := dk_182 0 196 (dk_at dksX0_enter_2 4 rfl rfl)
theorem dX0_enter_52 : decode cX0_enter 52 = .ok (.ireturn, 1) := dk_172 (dk_at dksX0_enter_2 7 rfl rfl)
abbrev cX0_turn : ByteArray := prog_1_method_20_code
def yX0_turn : MethodName := ⟨RX0, "turn", "(I)I"⟩
def dkwX0_turn_2 : List UInt8 := [180, 0, 31, 180, 0, 219, 27, 182, 0, 231, 42, 180, 0, 31, 180, 0, 159, 172]
abbrev dktX0_turn_2 : List UInt8 := dkwX0_turn_2 ++ []
def dkwX0_turn_1 : List UInt8 := [42, 180, 0, 31, 180, 0, 163, 27, 96, 17, 39, 15, 164, 0, 6, 16, 253, 172, 42, 42, 180, 0, 31, 42]
abbrev dktX0_turn_1 : List UInt8 := dkwX0_turn_1 ++ dktX0_turn_2
def dkwX0_turn_0 : List UInt8 := [27, 3, 16, 60, 184, 0, 5, 154, 0, 6, 16, 254, 172, 42, 180, 0, 31, 180, 0, 219, 2, 159, 0, 18]
abbrev dktX0_turn_0 : List UInt8 := dkwX0_turn_0 ++ dktX0_turn_1
theorem dksX0_turn_0 : cX0_turn.data.toList.drop 0 = dktX0_turn_0 := by decide +kernel
theorem dksX0_turn_1 : cX0_turn.data.toList.drop 24 = dktX0_turn_1 := dk_seg dksX0_turn_0 24 rfl rfl
theorem dksX0_turn_2 : cX0_turn.data.toList.drop 48 = dktX0_turn_2 := dk_seg dksX0_turn_1 24 rfl rfl
theorem dX0_turn_0 : decode cX0_turn 0 = .ok (.iload_n 1, 1) := dk_27 (dk_at dksX0_turn_0 0 rfl rfl)
theorem dX0_turn_1 : decode cX0_turn 1 = .ok (.iconst 0, 1) := dk_3 (dk_at dksX0_turn_0 1 rfl rfl)
theorem dX0_turn_2 : decode cX0_turn 2 = .ok (.bipush 60, 2) := dk_16 60 (dk_at dksX0_turn_0 2 rfl rfl)
theorem dX0_turn_4 : decode cX0_turn 4 = .ok (.invokestatic 5, 3) := dk_184 0 5 (dk_at dksX0_turn_0 4 rfl rfl)
theorem dX0_turn_7 : decode cX0_turn 7 = .ok (.ifCond .ne 6, 3) := dk_154 0 6 (dk_at dksX0_turn_0 7 rfl rfl)
theorem dX0_turn_10 : decode cX0_turn 10 = .ok (.bipush (-2), 2) := dk_16 254 (dk_at dksX0_turn_0 10 rfl rfl)
theorem dX0_turn_12 : decode cX0_turn 12 = .ok (.ireturn, 1) := dk_172 (dk_at dksX0_turn_0 12 rfl rfl)
theorem dX0_turn_13 : decode cX0_turn 13 = .ok (.aload_n 0, 1) := dk_42 (dk_at dksX0_turn_0 13 rfl rfl)
theorem dX0_turn_14 : decode cX0_turn 14 = .ok (.getfield 31, 3) := dk_180 0 31 (dk_at dksX0_turn_0 14 rfl rfl)
theorem dX0_turn_17 : decode cX0_turn 17 = .ok (.getfield 219, 3) := dk_180 0 219 (dk_at dksX0_turn_0 17 rfl rfl)
theorem dX0_turn_20 : decode cX0_turn 20 = .ok (.iconst (-1), 1) := dk_2 (dk_at dksX0_turn_0 20 rfl rfl)
theorem dX0_turn_21 : decode cX0_turn 21 = .ok (.if_icmp .eq 18, 3) := dk_159 0 18 (dk_at dksX0_turn_0 21 rfl rfl)
theorem dX0_turn_24 : decode cX0_turn 24 = .ok (.aload_n 0, 1) := dk_42 (dk_at dksX0_turn_1 0 rfl rfl)
theorem dX0_turn_25 : decode cX0_turn 25 = .ok (.getfield 31, 3) := dk_180 0 31 (dk_at dksX0_turn_1 1 rfl rfl)
theorem dX0_turn_28 : decode cX0_turn 28 = .ok (.getfield 163, 3) := dk_180 0 163 (dk_at dksX0_turn_1 4 rfl rfl)
theorem dX0_turn_31 : decode cX0_turn 31 = .ok (.iload_n 1, 1) := dk_27 (dk_at dksX0_turn_1 7 rfl rfl)
theorem dX0_turn_32 : decode cX0_turn 32 = .ok (.iadd, 1) := dk_96 (dk_at dksX0_turn_1 8 rfl rfl)
theorem dX0_turn_33 : decode cX0_turn 33 = .ok (.sipush 9999, 3) := dk_17 39 15 (dk_at dksX0_turn_1 9 rfl rfl)
theorem dX0_turn_36 : decode cX0_turn 36 = .ok (.if_icmp .le 6, 3) := dk_164 0 6 (dk_at dksX0_turn_1 12 rfl rfl)
theorem dX0_turn_39 : decode cX0_turn 39 = .ok (.bipush (-3), 2) := dk_16 253 (dk_at dksX0_turn_1 15 rfl rfl)
theorem dX0_turn_41 : decode cX0_turn 41 = .ok (.ireturn, 1) := dk_172 (dk_at dksX0_turn_1 17 rfl rfl)
theorem dX0_turn_42 : decode cX0_turn 42 = .ok (.aload_n 0, 1) := dk_42 (dk_at dksX0_turn_1 18 rfl rfl)
theorem dX0_turn_43 : decode cX0_turn 43 = .ok (.aload_n 0, 1) := dk_42 (dk_at dksX0_turn_1 19 rfl rfl)
theorem dX0_turn_44 : decode cX0_turn 44 = .ok (.getfield 31, 3) := dk_180 0 31 (dk_at dksX0_turn_1 20 rfl rfl)
theorem dX0_turn_47 : decode cX0_turn 47 = .ok (.aload_n 0, 1) := dk_42 (dk_at dksX0_turn_1 23 rfl rfl)
theorem dX0_turn_48 : decode cX0_turn 48 = .ok (.getfield 31, 3) := dk_180 0 31 (dk_at dksX0_turn_2 0 rfl rfl)
theorem dX0_turn_51 : decode cX0_turn 51 = .ok (.getfield 219, 3) := dk_180 0 219 (dk_at dksX0_turn_2 3 rfl rfl)
theorem dX0_turn_54 : decode cX0_turn 54 = .ok (.iload_n 1, 1) := dk_27 (dk_at dksX0_turn_2 6 rfl rfl)
theorem dX0_turn_55 : decode cX0_turn 55 = .ok (.invokevirtual 231, 3) := dk_182 0 231 (dk_at dksX0_turn_2 7 rfl rfl)
theorem dX0_turn_58 : decode cX0_turn 58 = .ok (.aload_n 0, 1) := dk_42 (dk_at dksX0_turn_2 10 rfl rfl)
theorem dX0_turn_59 : decode cX0_turn 59 = .ok (.getfield 31, 3) := dk_180 0 31 (dk_at dksX0_turn_2 11 rfl rfl)
theorem dX0_turn_62 : decode cX0_turn 62 = .ok (.getfield 159, 3) := dk_180 0 159 (dk_at dksX0_turn_2 14 rfl rfl)
theorem dX0_turn_65 : decode cX0_turn 65 = .ok (.ireturn, 1) := dk_172 (dk_at dksX0_turn_2 17 rfl rfl)
abbrev cX0_turns : ByteArray := prog_1_method_19_code
def yX0_turns : MethodName := ⟨RX0, "turns", "(LSomebodysLift$Time;II)V"⟩
def dkwX0_turns_1 : List UInt8 := [182, 0, 227, 132, 4, 1, 167, 255, 230, 177]
abbrev dktX0_turns_1 : List UInt8 := dkwX0_turns_1 ++ []
def dkwX0_turns_0 : List UInt8 := [3, 54, 4, 21, 4, 29, 162, 0, 26, 43, 42, 43, 28, 182, 0, 196, 42, 180, 0, 49, 182, 0, 221]
abbrev dktX0_turns_0 : List UInt8 := dkwX0_turns_0 ++ dktX0_turns_1
theorem dksX0_turns_0 : cX0_turns.data.toList.drop 0 = dktX0_turns_0 := by decide +kernel
theorem dksX0_turns_1 : cX0_turns.data.toList.drop 23 = dktX0_turns_1 := dk_seg dksX0_turns_0 23 rfl rfl
theorem dX0_turns_0 : decode cX0_turns 0 = .ok (.iconst 0, 1) := dk_3 (dk_at dksX0_turns_0 0 rfl rfl)
theorem dX0_turns_1 : decode cX0_turns 1 = .ok (.istore 4, 2) := dk_54 4 (dk_at dksX0_turns_0 1 rfl rfl)
theorem dX0_turns_3 : decode cX0_turns 3 = .ok (.iload 4, 2) := dk_21 4 (dk_at dksX0_turns_0 3 rfl rfl)
theorem dX0_turns_5 : decode cX0_turns 5 = .ok (.iload_n 3, 1) := dk_29 (dk_at dksX0_turns_0 5 rfl rfl)
theorem dX0_turns_6 : decode cX0_turns 6 = .ok (.if_icmp .ge 26, 3) := dk_162 0 26 (dk_at dksX0_turns_0 6 rfl rfl)
theorem dX0_turns_9 : decode cX0_turns 9 = .ok (.aload_n 1, 1) := dk_43 (dk_at dksX0_turns_0 9 rfl rfl)
theorem dX0_turns_10 : decode cX0_turns 10 = .ok (.aload_n 0, 1) := dk_42 (dk_at dksX0_turns_0 10 rfl rfl)
theorem dX0_turns_11 : decode cX0_turns 11 = .ok (.aload_n 1, 1) := dk_43 (dk_at dksX0_turns_0 11 rfl rfl)
theorem dX0_turns_12 : decode cX0_turns 12 = .ok (.iload_n 2, 1) := dk_28 (dk_at dksX0_turns_0 12 rfl rfl)
theorem dX0_turns_13 : decode cX0_turns 13 = .ok (.invokevirtual 196, 3) := dk_182 0 196 (dk_at dksX0_turns_0 13 rfl rfl)
theorem dX0_turns_16 : decode cX0_turns 16 = .ok (.aload_n 0, 1) := dk_42 (dk_at dksX0_turns_0 16 rfl rfl)
theorem dX0_turns_17 : decode cX0_turns 17 = .ok (.getfield 49, 3) := dk_180 0 49 (dk_at dksX0_turns_0 17 rfl rfl)
theorem dX0_turns_20 : decode cX0_turns 20 = .ok (.invokevirtual 221, 3) := dk_182 0 221 (dk_at dksX0_turns_0 20 rfl rfl)
theorem dX0_turns_23 : decode cX0_turns 23 = .ok (.invokevirtual 227, 3) := dk_182 0 227 (dk_at dksX0_turns_1 0 rfl rfl)
theorem dX0_turns_26 : decode cX0_turns 26 = .ok (.iinc 4 1, 3) := dk_132 4 1 (dk_at dksX0_turns_1 3 rfl rfl)
theorem dX0_turns_29 : decode cX0_turns 29 = .ok (.goto (-26), 3) := dk_167 255 230 (dk_at dksX0_turns_1 6 rfl rfl)
theorem dX0_turns_32 : decode cX0_turns 32 = .ok (.return_, 1) := dk_177 (dk_at dksX0_turns_1 9 rfl rfl)
abbrev cX0_glide : ByteArray := prog_1_method_22_code
def yX0_glide : MethodName := ⟨RX0, "glide", "(II)I"⟩
def dkwX0_glide_2 : List UInt8 := [16, 253, 172, 42, 180, 0, 31, 42, 180, 0, 35, 182, 0, 242, 42, 180, 0, 31, 180, 0, 159, 172]
abbrev dktX0_glide_2 : List UInt8 := dkwX0_glide_2 ++ []
def dkwX0_glide_1 : List UInt8 := [180, 0, 35, 27, 28, 182, 0, 246, 153, 0, 16, 42, 180, 0, 35, 180, 0, 163, 17, 39, 15, 164, 0, 6]
abbrev dktX0_glide_1 : List UInt8 := dkwX0_glide_1 ++ dktX0_glide_2
def dkwX0_glide_0 : List UInt8 := [27, 28, 184, 0, 238, 154, 0, 6, 16, 254, 172, 42, 180, 0, 35, 42, 180, 0, 31, 182, 0, 242, 42]
abbrev dktX0_glide_0 : List UInt8 := dkwX0_glide_0 ++ dktX0_glide_1
theorem dksX0_glide_0 : cX0_glide.data.toList.drop 0 = dktX0_glide_0 := by decide +kernel
theorem dksX0_glide_1 : cX0_glide.data.toList.drop 23 = dktX0_glide_1 := dk_seg dksX0_glide_0 23 rfl rfl
theorem dksX0_glide_2 : cX0_glide.data.toList.drop 47 = dktX0_glide_2 := dk_seg dksX0_glide_1 24 rfl rfl
theorem dX0_glide_0 : decode cX0_glide 0 = .ok (.iload_n 1, 1) := dk_27 (dk_at dksX0_glide_0 0 rfl rfl)
theorem dX0_glide_1 : decode cX0_glide 1 = .ok (.iload_n 2, 1) := dk_28 (dk_at dksX0_glide_0 1 rfl rfl)
theorem dX0_glide_2 : decode cX0_glide 2 = .ok (.invokestatic 238, 3) := dk_184 0 238 (dk_at dksX0_glide_0 2 rfl rfl)
theorem dX0_glide_5 : decode cX0_glide 5 = .ok (.ifCond .ne 6, 3) := dk_154 0 6 (dk_at dksX0_glide_0 5 rfl rfl)
theorem dX0_glide_8 : decode cX0_glide 8 = .ok (.bipush (-2), 2) := dk_16 254 (dk_at dksX0_glide_0 8 rfl rfl)
theorem dX0_glide_10 : decode cX0_glide 10 = .ok (.ireturn, 1) := dk_172 (dk_at dksX0_glide_0 10 rfl rfl)
theorem dX0_glide_11 : decode cX0_glide 11 = .ok (.aload_n 0, 1) := dk_42 (dk_at dksX0_glide_0 11 rfl rfl)
theorem dX0_glide_12 : decode cX0_glide 12 = .ok (.getfield 35, 3) := dk_180 0 35 (dk_at dksX0_glide_0 12 rfl rfl)
theorem dX0_glide_15 : decode cX0_glide 15 = .ok (.aload_n 0, 1) := dk_42 (dk_at dksX0_glide_0 15 rfl rfl)
theorem dX0_glide_16 : decode cX0_glide 16 = .ok (.getfield 31, 3) := dk_180 0 31 (dk_at dksX0_glide_0 16 rfl rfl)
theorem dX0_glide_19 : decode cX0_glide 19 = .ok (.invokevirtual 242, 3) := dk_182 0 242 (dk_at dksX0_glide_0 19 rfl rfl)
theorem dX0_glide_22 : decode cX0_glide 22 = .ok (.aload_n 0, 1) := dk_42 (dk_at dksX0_glide_0 22 rfl rfl)
theorem dX0_glide_23 : decode cX0_glide 23 = .ok (.getfield 35, 3) := dk_180 0 35 (dk_at dksX0_glide_1 0 rfl rfl)
theorem dX0_glide_26 : decode cX0_glide 26 = .ok (.iload_n 1, 1) := dk_27 (dk_at dksX0_glide_1 3 rfl rfl)
theorem dX0_glide_27 : decode cX0_glide 27 = .ok (.iload_n 2, 1) := dk_28 (dk_at dksX0_glide_1 4 rfl rfl)
theorem dX0_glide_28 : decode cX0_glide 28 = .ok (.invokevirtual 246, 3) := dk_182 0 246 (dk_at dksX0_glide_1 5 rfl rfl)
theorem dX0_glide_31 : decode cX0_glide 31 = .ok (.ifCond .eq 16, 3) := dk_153 0 16 (dk_at dksX0_glide_1 8 rfl rfl)
theorem dX0_glide_34 : decode cX0_glide 34 = .ok (.aload_n 0, 1) := dk_42 (dk_at dksX0_glide_1 11 rfl rfl)
theorem dX0_glide_35 : decode cX0_glide 35 = .ok (.getfield 35, 3) := dk_180 0 35 (dk_at dksX0_glide_1 12 rfl rfl)
theorem dX0_glide_38 : decode cX0_glide 38 = .ok (.getfield 163, 3) := dk_180 0 163 (dk_at dksX0_glide_1 15 rfl rfl)
theorem dX0_glide_41 : decode cX0_glide 41 = .ok (.sipush 9999, 3) := dk_17 39 15 (dk_at dksX0_glide_1 18 rfl rfl)
theorem dX0_glide_44 : decode cX0_glide 44 = .ok (.if_icmp .le 6, 3) := dk_164 0 6 (dk_at dksX0_glide_1 21 rfl rfl)
theorem dX0_glide_47 : decode cX0_glide 47 = .ok (.bipush (-3), 2) := dk_16 253 (dk_at dksX0_glide_2 0 rfl rfl)
theorem dX0_glide_49 : decode cX0_glide 49 = .ok (.ireturn, 1) := dk_172 (dk_at dksX0_glide_2 2 rfl rfl)
theorem dX0_glide_50 : decode cX0_glide 50 = .ok (.aload_n 0, 1) := dk_42 (dk_at dksX0_glide_2 3 rfl rfl)
theorem dX0_glide_51 : decode cX0_glide 51 = .ok (.getfield 31, 3) := dk_180 0 31 (dk_at dksX0_glide_2 4 rfl rfl)
theorem dX0_glide_54 : decode cX0_glide 54 = .ok (.aload_n 0, 1) := dk_42 (dk_at dksX0_glide_2 7 rfl rfl)
theorem dX0_glide_55 : decode cX0_glide 55 = .ok (.getfield 35, 3) := dk_180 0 35 (dk_at dksX0_glide_2 8 rfl rfl)
theorem dX0_glide_58 : decode cX0_glide 58 = .ok (.invokevirtual 242, 3) := dk_182 0 242 (dk_at dksX0_glide_2 11 rfl rfl)
theorem dX0_glide_61 : decode cX0_glide 61 = .ok (.aload_n 0, 1) := dk_42 (dk_at dksX0_glide_2 14 rfl rfl)
theorem dX0_glide_62 : decode cX0_glide 62 = .ok (.getfield 31, 3) := dk_180 0 31 (dk_at dksX0_glide_2 15 rfl rfl)
theorem dX0_glide_65 : decode cX0_glide 65 = .ok (.getfield 159, 3) := dk_180 0 159 (dk_at dksX0_glide_2 18 rfl rfl)
theorem dX0_glide_68 : decode cX0_glide 68 = .ok (.ireturn, 1) := dk_172 (dk_at dksX0_glide_2 21 rfl rfl)
abbrev cX0_isGlide : ByteArray := prog_1_method_21_code
def yX0_isGlide : MethodName := ⟨RX0, "isGlide", "(II)Z"⟩
def dkwX0_isGlide_0 : List UInt8 := [26, 184, 0, 142, 153, 0, 14, 27, 184, 0, 235, 153, 0, 7, 4, 167, 0, 4, 3, 172]
abbrev dktX0_isGlide_0 : List UInt8 := dkwX0_isGlide_0 ++ []
theorem dksX0_isGlide_0 : cX0_isGlide.data.toList.drop 0 = dktX0_isGlide_0 := by decide +kernel
theorem dX0_isGlide_0 : decode cX0_isGlide 0 = .ok (.iload_n 0, 1) := dk_26 (dk_at dksX0_isGlide_0 0 rfl rfl)
theorem dX0_isGlide_1 : decode cX0_isGlide 1 = .ok (.invokestatic 142, 3) := dk_184 0 142 (dk_at dksX0_isGlide_0 1 rfl rfl)
theorem dX0_isGlide_4 : decode cX0_isGlide 4 = .ok (.ifCond .eq 14, 3) := dk_153 0 14 (dk_at dksX0_isGlide_0 4 rfl rfl)
theorem dX0_isGlide_7 : decode cX0_isGlide 7 = .ok (.iload_n 1, 1) := dk_27 (dk_at dksX0_isGlide_0 7 rfl rfl)
theorem dX0_isGlide_8 : decode cX0_isGlide 8 = .ok (.invokestatic 235, 3) := dk_184 0 235 (dk_at dksX0_isGlide_0 8 rfl rfl)
theorem dX0_isGlide_11 : decode cX0_isGlide 11 = .ok (.ifCond .eq 7, 3) := dk_153 0 7 (dk_at dksX0_isGlide_0 11 rfl rfl)
theorem dX0_isGlide_14 : decode cX0_isGlide 14 = .ok (.iconst 1, 1) := dk_4 (dk_at dksX0_isGlide_0 14 rfl rfl)
theorem dX0_isGlide_15 : decode cX0_isGlide 15 = .ok (.goto 4, 3) := dk_167 0 4 (dk_at dksX0_isGlide_0 15 rfl rfl)
theorem dX0_isGlide_18 : decode cX0_isGlide 18 = .ok (.iconst 0, 1) := dk_3 (dk_at dksX0_isGlide_0 18 rfl rfl)
theorem dX0_isGlide_19 : decode cX0_isGlide 19 = .ok (.ireturn, 1) := dk_172 (dk_at dksX0_isGlide_0 19 rfl rfl)
abbrev cX0_isPace : ByteArray := prog_1_method_3_code
def yX0_isPace : MethodName := ⟨RX0, "isPace", "(I)Z"⟩
def dkwX0_isPace_0 : List UInt8 := [26, 4, 16, 9, 184, 0, 5, 172]
abbrev dktX0_isPace_0 : List UInt8 := dkwX0_isPace_0 ++ []
theorem dksX0_isPace_0 : cX0_isPace.data.toList.drop 0 = dktX0_isPace_0 := by decide +kernel
theorem dX0_isPace_0 : decode cX0_isPace 0 = .ok (.iload_n 0, 1) := dk_26 (dk_at dksX0_isPace_0 0 rfl rfl)
theorem dX0_isPace_1 : decode cX0_isPace 1 = .ok (.iconst 1, 1) := dk_4 (dk_at dksX0_isPace_0 1 rfl rfl)
theorem dX0_isPace_2 : decode cX0_isPace 2 = .ok (.bipush 9, 2) := dk_16 9 (dk_at dksX0_isPace_0 2 rfl rfl)
theorem dX0_isPace_4 : decode cX0_isPace 4 = .ok (.invokestatic 5, 3) := dk_184 0 5 (dk_at dksX0_isPace_0 4 rfl rfl)
theorem dX0_isPace_7 : decode cX0_isPace 7 = .ok (.ireturn, 1) := dk_172 (dk_at dksX0_isPace_0 7 rfl rfl)
abbrev cX0_up : ByteArray := prog_1_method_23_code
def yX0_up : MethodName := ⟨RX0, "up", "(II)I"⟩
def dkwX0_up_2 : List UInt8 := [180, 0, 159, 172]
abbrev dktX0_up_2 : List UInt8 := dkwX0_up_2 ++ []
def dkwX0_up_1 : List UInt8 := [180, 0, 35, 42, 180, 0, 31, 182, 0, 242, 42, 42, 180, 0, 35, 27, 28, 182, 0, 231, 42, 180, 0, 35]
abbrev dktX0_up_1 : List UInt8 := dkwX0_up_1 ++ dktX0_up_2
def dkwX0_up_0 : List UInt8 := [42, 27, 182, 0, 193, 154, 0, 5, 2, 172, 28, 3, 16, 60, 184, 0, 5, 154, 0, 6, 16, 254, 172, 42]
abbrev dktX0_up_0 : List UInt8 := dkwX0_up_0 ++ dktX0_up_1
theorem dksX0_up_0 : cX0_up.data.toList.drop 0 = dktX0_up_0 := by decide +kernel
theorem dksX0_up_1 : cX0_up.data.toList.drop 24 = dktX0_up_1 := dk_seg dksX0_up_0 24 rfl rfl
theorem dksX0_up_2 : cX0_up.data.toList.drop 48 = dktX0_up_2 := dk_seg dksX0_up_1 24 rfl rfl
theorem dX0_up_0 : decode cX0_up 0 = .ok (.aload_n 0, 1) := dk_42 (dk_at dksX0_up_0 0 rfl rfl)
theorem dX0_up_1 : decode cX0_up 1 = .ok (.iload_n 1, 1) := dk_27 (dk_at dksX0_up_0 1 rfl rfl)
theorem dX0_up_2 : decode cX0_up 2 = .ok (.invokevirtual 193, 3) := dk_182 0 193 (dk_at dksX0_up_0 2 rfl rfl)
theorem dX0_up_5 : decode cX0_up 5 = .ok (.ifCond .ne 5, 3) := dk_154 0 5 (dk_at dksX0_up_0 5 rfl rfl)
theorem dX0_up_8 : decode cX0_up 8 = .ok (.iconst (-1), 1) := dk_2 (dk_at dksX0_up_0 8 rfl rfl)
theorem dX0_up_9 : decode cX0_up 9 = .ok (.ireturn, 1) := dk_172 (dk_at dksX0_up_0 9 rfl rfl)
theorem dX0_up_10 : decode cX0_up 10 = .ok (.iload_n 2, 1) := dk_28 (dk_at dksX0_up_0 10 rfl rfl)
theorem dX0_up_11 : decode cX0_up 11 = .ok (.iconst 0, 1) := dk_3 (dk_at dksX0_up_0 11 rfl rfl)
theorem dX0_up_12 : decode cX0_up 12 = .ok (.bipush 60, 2) := dk_16 60 (dk_at dksX0_up_0 12 rfl rfl)
theorem dX0_up_14 : decode cX0_up 14 = .ok (.invokestatic 5, 3) := dk_184 0 5 (dk_at dksX0_up_0 14 rfl rfl)
theorem dX0_up_17 : decode cX0_up 17 = .ok (.ifCond .ne 6, 3) := dk_154 0 6 (dk_at dksX0_up_0 17 rfl rfl)
theorem dX0_up_20 : decode cX0_up 20 = .ok (.bipush (-2), 2) := dk_16 254 (dk_at dksX0_up_0 20 rfl rfl)
theorem dX0_up_22 : decode cX0_up 22 = .ok (.ireturn, 1) := dk_172 (dk_at dksX0_up_0 22 rfl rfl)
theorem dX0_up_23 : decode cX0_up 23 = .ok (.aload_n 0, 1) := dk_42 (dk_at dksX0_up_0 23 rfl rfl)
theorem dX0_up_24 : decode cX0_up 24 = .ok (.getfield 35, 3) := dk_180 0 35 (dk_at dksX0_up_1 0 rfl rfl)
theorem dX0_up_27 : decode cX0_up 27 = .ok (.aload_n 0, 1) := dk_42 (dk_at dksX0_up_1 3 rfl rfl)
theorem dX0_up_28 : decode cX0_up 28 = .ok (.getfield 31, 3) := dk_180 0 31 (dk_at dksX0_up_1 4 rfl rfl)
theorem dX0_up_31 : decode cX0_up 31 = .ok (.invokevirtual 242, 3) := dk_182 0 242 (dk_at dksX0_up_1 7 rfl rfl)
theorem dX0_up_34 : decode cX0_up 34 = .ok (.aload_n 0, 1) := dk_42 (dk_at dksX0_up_1 10 rfl rfl)
theorem dX0_up_35 : decode cX0_up 35 = .ok (.aload_n 0, 1) := dk_42 (dk_at dksX0_up_1 11 rfl rfl)
theorem dX0_up_36 : decode cX0_up 36 = .ok (.getfield 35, 3) := dk_180 0 35 (dk_at dksX0_up_1 12 rfl rfl)
theorem dX0_up_39 : decode cX0_up 39 = .ok (.iload_n 1, 1) := dk_27 (dk_at dksX0_up_1 15 rfl rfl)
theorem dX0_up_40 : decode cX0_up 40 = .ok (.iload_n 2, 1) := dk_28 (dk_at dksX0_up_1 16 rfl rfl)
theorem dX0_up_41 : decode cX0_up 41 = .ok (.invokevirtual 231, 3) := dk_182 0 231 (dk_at dksX0_up_1 17 rfl rfl)
theorem dX0_up_44 : decode cX0_up 44 = .ok (.aload_n 0, 1) := dk_42 (dk_at dksX0_up_1 20 rfl rfl)
theorem dX0_up_45 : decode cX0_up 45 = .ok (.getfield 35, 3) := dk_180 0 35 (dk_at dksX0_up_1 21 rfl rfl)
theorem dX0_up_48 : decode cX0_up 48 = .ok (.getfield 159, 3) := dk_180 0 159 (dk_at dksX0_up_2 0 rfl rfl)
theorem dX0_up_51 : decode cX0_up 51 = .ok (.ireturn, 1) := dk_172 (dk_at dksX0_up_2 3 rfl rfl)
abbrev cX0_top : ByteArray := prog_1_method_24_code
def yX0_top : MethodName := ⟨RX0, "top", "(II)I"⟩
def dkwX0_top_4 : List UInt8 := [29, 172]
abbrev dktX0_top_4 : List UInt8 := dkwX0_top_4 ++ []
def dkwX0_top_3 : List UInt8 := [42, 180, 0, 35, 27, 4, 182, 0, 231, 132, 5, 1, 167, 255, 212, 28, 154, 0, 8, 21, 4, 167, 0, 4]
abbrev dktX0_top_3 : List UInt8 := dkwX0_top_3 ++ dktX0_top_4
def dkwX0_top_2 : List UInt8 := [180, 0, 35, 180, 0, 159, 21, 4, 164, 0, 15, 42, 180, 0, 35, 180, 0, 159, 54, 4, 21, 5, 62, 42]
abbrev dktX0_top_2 : List UInt8 := dkwX0_top_2 ++ dktX0_top_3
def dkwX0_top_1 : List UInt8 := [180, 0, 31, 182, 0, 242, 3, 62, 2, 54, 4, 3, 54, 5, 21, 5, 16, 60, 163, 0, 43, 42]
abbrev dktX0_top_1 : List UInt8 := dkwX0_top_1 ++ dktX0_top_2
def dkwX0_top_0 : List UInt8 := [42, 27, 182, 0, 193, 153, 0, 12, 28, 3, 4, 184, 0, 5, 154, 0, 5, 2, 172, 42, 180, 0, 35, 42]
abbrev dktX0_top_0 : List UInt8 := dkwX0_top_0 ++ dktX0_top_1
theorem dksX0_top_0 : cX0_top.data.toList.drop 0 = dktX0_top_0 := by decide +kernel
theorem dksX0_top_1 : cX0_top.data.toList.drop 24 = dktX0_top_1 := dk_seg dksX0_top_0 24 rfl rfl
theorem dksX0_top_2 : cX0_top.data.toList.drop 46 = dktX0_top_2 := dk_seg dksX0_top_1 22 rfl rfl
theorem dksX0_top_3 : cX0_top.data.toList.drop 70 = dktX0_top_3 := dk_seg dksX0_top_2 24 rfl rfl
theorem dksX0_top_4 : cX0_top.data.toList.drop 94 = dktX0_top_4 := dk_seg dksX0_top_3 24 rfl rfl
theorem dX0_top_0 : decode cX0_top 0 = .ok (.aload_n 0, 1) := dk_42 (dk_at dksX0_top_0 0 rfl rfl)
theorem dX0_top_1 : decode cX0_top 1 = .ok (.iload_n 1, 1) := dk_27 (dk_at dksX0_top_0 1 rfl rfl)
theorem dX0_top_2 : decode cX0_top 2 = .ok (.invokevirtual 193, 3) := dk_182 0 193 (dk_at dksX0_top_0 2 rfl rfl)
theorem dX0_top_5 : decode cX0_top 5 = .ok (.ifCond .eq 12, 3) := dk_153 0 12 (dk_at dksX0_top_0 5 rfl rfl)
theorem dX0_top_8 : decode cX0_top 8 = .ok (.iload_n 2, 1) := dk_28 (dk_at dksX0_top_0 8 rfl rfl)
theorem dX0_top_9 : decode cX0_top 9 = .ok (.iconst 0, 1) := dk_3 (dk_at dksX0_top_0 9 rfl rfl)
theorem dX0_top_10 : decode cX0_top 10 = .ok (.iconst 1, 1) := dk_4 (dk_at dksX0_top_0 10 rfl rfl)
theorem dX0_top_11 : decode cX0_top 11 = .ok (.invokestatic 5, 3) := dk_184 0 5 (dk_at dksX0_top_0 11 rfl rfl)
theorem dX0_top_14 : decode cX0_top 14 = .ok (.ifCond .ne 5, 3) := dk_154 0 5 (dk_at dksX0_top_0 14 rfl rfl)
theorem dX0_top_17 : decode cX0_top 17 = .ok (.iconst (-1), 1) := dk_2 (dk_at dksX0_top_0 17 rfl rfl)
theorem dX0_top_18 : decode cX0_top 18 = .ok (.ireturn, 1) := dk_172 (dk_at dksX0_top_0 18 rfl rfl)
theorem dX0_top_19 : decode cX0_top 19 = .ok (.aload_n 0, 1) := dk_42 (dk_at dksX0_top_0 19 rfl rfl)
theorem dX0_top_20 : decode cX0_top 20 = .ok (.getfield 35, 3) := dk_180 0 35 (dk_at dksX0_top_0 20 rfl rfl)
theorem dX0_top_23 : decode cX0_top 23 = .ok (.aload_n 0, 1) := dk_42 (dk_at dksX0_top_0 23 rfl rfl)
theorem dX0_top_24 : decode cX0_top 24 = .ok (.getfield 31, 3) := dk_180 0 31 (dk_at dksX0_top_1 0 rfl rfl)
theorem dX0_top_27 : decode cX0_top 27 = .ok (.invokevirtual 242, 3) := dk_182 0 242 (dk_at dksX0_top_1 3 rfl rfl)
theorem dX0_top_30 : decode cX0_top 30 = .ok (.iconst 0, 1) := dk_3 (dk_at dksX0_top_1 6 rfl rfl)
theorem dX0_top_31 : decode cX0_top 31 = .ok (.istore_n 3, 1) := dk_62 (dk_at dksX0_top_1 7 rfl rfl)
theorem dX0_top_32 : decode cX0_top 32 = .ok (.iconst (-1), 1) := dk_2 (dk_at dksX0_top_1 8 rfl rfl)
theorem dX0_top_33 : decode cX0_top 33 = .ok (.istore 4, 2) := dk_54 4 (dk_at dksX0_top_1 9 rfl rfl)
theorem dX0_top_35 : decode cX0_top 35 = .ok (.iconst 0, 1) := dk_3 (dk_at dksX0_top_1 11 rfl rfl)
theorem dX0_top_36 : decode cX0_top 36 = .ok (.istore 5, 2) := dk_54 5 (dk_at dksX0_top_1 12 rfl rfl)
theorem dX0_top_38 : decode cX0_top 38 = .ok (.iload 5, 2) := dk_21 5 (dk_at dksX0_top_1 14 rfl rfl)
theorem dX0_top_40 : decode cX0_top 40 = .ok (.bipush 60, 2) := dk_16 60 (dk_at dksX0_top_1 16 rfl rfl)
theorem dX0_top_42 : decode cX0_top 42 = .ok (.if_icmp .gt 43, 3) := dk_163 0 43 (dk_at dksX0_top_1 18 rfl rfl)
theorem dX0_top_45 : decode cX0_top 45 = .ok (.aload_n 0, 1) := dk_42 (dk_at dksX0_top_1 21 rfl rfl)
theorem dX0_top_46 : decode cX0_top 46 = .ok (.getfield 35, 3) := dk_180 0 35 (dk_at dksX0_top_2 0 rfl rfl)
theorem dX0_top_49 : decode cX0_top 49 = .ok (.getfield 159, 3) := dk_180 0 159 (dk_at dksX0_top_2 3 rfl rfl)
theorem dX0_top_52 : decode cX0_top 52 = .ok (.iload 4, 2) := dk_21 4 (dk_at dksX0_top_2 6 rfl rfl)
theorem dX0_top_54 : decode cX0_top 54 = .ok (.if_icmp .le 15, 3) := dk_164 0 15 (dk_at dksX0_top_2 8 rfl rfl)
theorem dX0_top_57 : decode cX0_top 57 = .ok (.aload_n 0, 1) := dk_42 (dk_at dksX0_top_2 11 rfl rfl)
theorem dX0_top_58 : decode cX0_top 58 = .ok (.getfield 35, 3) := dk_180 0 35 (dk_at dksX0_top_2 12 rfl rfl)
theorem dX0_top_61 : decode cX0_top 61 = .ok (.getfield 159, 3) := dk_180 0 159 (dk_at dksX0_top_2 15 rfl rfl)
theorem dX0_top_64 : decode cX0_top 64 = .ok (.istore 4, 2) := dk_54 4 (dk_at dksX0_top_2 18 rfl rfl)
theorem dX0_top_66 : decode cX0_top 66 = .ok (.iload 5, 2) := dk_21 5 (dk_at dksX0_top_2 20 rfl rfl)
theorem dX0_top_68 : decode cX0_top 68 = .ok (.istore_n 3, 1) := dk_62 (dk_at dksX0_top_2 22 rfl rfl)
theorem dX0_top_69 : decode cX0_top 69 = .ok (.aload_n 0, 1) := dk_42 (dk_at dksX0_top_2 23 rfl rfl)
theorem dX0_top_70 : decode cX0_top 70 = .ok (.aload_n 0, 1) := dk_42 (dk_at dksX0_top_3 0 rfl rfl)
theorem dX0_top_71 : decode cX0_top 71 = .ok (.getfield 35, 3) := dk_180 0 35 (dk_at dksX0_top_3 1 rfl rfl)
theorem dX0_top_74 : decode cX0_top 74 = .ok (.iload_n 1, 1) := dk_27 (dk_at dksX0_top_3 4 rfl rfl)
theorem dX0_top_75 : decode cX0_top 75 = .ok (.iconst 1, 1) := dk_4 (dk_at dksX0_top_3 5 rfl rfl)
theorem dX0_top_76 : decode cX0_top 76 = .ok (.invokevirtual 231, 3) := dk_182 0 231 (dk_at dksX0_top_3 6 rfl rfl)
theorem dX0_top_79 : decode cX0_top 79 = .ok (.iinc 5 1, 3) := dk_132 5 1 (dk_at dksX0_top_3 9 rfl rfl)
theorem dX0_top_82 : decode cX0_top 82 = .ok (.goto (-44), 3) := dk_167 255 212 (dk_at dksX0_top_3 12 rfl rfl)
theorem dX0_top_85 : decode cX0_top 85 = .ok (.iload_n 2, 1) := dk_28 (dk_at dksX0_top_3 15 rfl rfl)
theorem dX0_top_86 : decode cX0_top 86 = .ok (.ifCond .ne 8, 3) := dk_154 0 8 (dk_at dksX0_top_3 16 rfl rfl)
theorem dX0_top_89 : decode cX0_top 89 = .ok (.iload 4, 2) := dk_21 4 (dk_at dksX0_top_3 19 rfl rfl)
theorem dX0_top_91 : decode cX0_top 91 = .ok (.goto 4, 3) := dk_167 0 4 (dk_at dksX0_top_3 21 rfl rfl)
theorem dX0_top_94 : decode cX0_top 94 = .ok (.iload_n 3, 1) := dk_29 (dk_at dksX0_top_4 0 rfl rfl)
theorem dX0_top_95 : decode cX0_top 95 = .ok (.ireturn, 1) := dk_172 (dk_at dksX0_top_4 1 rfl rfl)
abbrev cX0_arrives : ByteArray := prog_1_method_25_code
def yX0_arrives : MethodName := ⟨RX0, "arrives", "(II)I"⟩
def dkwX0_arrives_1 : List UInt8 := [180, 0, 35, 27, 28, 182, 0, 246, 153, 0, 13, 42, 180, 0, 35, 180, 0, 159, 167, 0, 5, 16, 251, 172]
abbrev dktX0_arrives_1 : List UInt8 := dkwX0_arrives_1 ++ []
def dkwX0_arrives_0 : List UInt8 := [27, 28, 184, 0, 238, 154, 0, 6, 16, 254, 172, 42, 180, 0, 35, 42, 180, 0, 31, 182, 0, 242, 42]
abbrev dktX0_arrives_0 : List UInt8 := dkwX0_arrives_0 ++ dktX0_arrives_1
theorem dksX0_arrives_0 : cX0_arrives.data.toList.drop 0 = dktX0_arrives_0 := by decide +kernel
theorem dksX0_arrives_1 : cX0_arrives.data.toList.drop 23 = dktX0_arrives_1 := dk_seg dksX0_arrives_0 23 rfl rfl
theorem dX0_arrives_0 : decode cX0_arrives 0 = .ok (.iload_n 1, 1) := dk_27 (dk_at dksX0_arrives_0 0 rfl rfl)
theorem dX0_arrives_1 : decode cX0_arrives 1 = .ok (.iload_n 2, 1) := dk_28 (dk_at dksX0_arrives_0 1 rfl rfl)
theorem dX0_arrives_2 : decode cX0_arrives 2 = .ok (.invokestatic 238, 3) := dk_184 0 238 (dk_at dksX0_arrives_0 2 rfl rfl)
theorem dX0_arrives_5 : decode cX0_arrives 5 = .ok (.ifCond .ne 6, 3) := dk_154 0 6 (dk_at dksX0_arrives_0 5 rfl rfl)
theorem dX0_arrives_8 : decode cX0_arrives 8 = .ok (.bipush (-2), 2) := dk_16 254 (dk_at dksX0_arrives_0 8 rfl rfl)
theorem dX0_arrives_10 : decode cX0_arrives 10 = .ok (.ireturn, 1) := dk_172 (dk_at dksX0_arrives_0 10 rfl rfl)
theorem dX0_arrives_11 : decode cX0_arrives 11 = .ok (.aload_n 0, 1) := dk_42 (dk_at dksX0_arrives_0 11 rfl rfl)
theorem dX0_arrives_12 : decode cX0_arrives 12 = .ok (.getfield 35, 3) := dk_180 0 35 (dk_at dksX0_arrives_0 12 rfl rfl)
theorem dX0_arrives_15 : decode cX0_arrives 15 = .ok (.aload_n 0, 1) := dk_42 (dk_at dksX0_arrives_0 15 rfl rfl)
theorem dX0_arrives_16 : decode cX0_arrives 16 = .ok (.getfield 31, 3) := dk_180 0 31 (dk_at dksX0_arrives_0 16 rfl rfl)
theorem dX0_arrives_19 : decode cX0_arrives 19 = .ok (.invokevirtual 242, 3) := dk_182 0 242 (dk_at dksX0_arrives_0 19 rfl rfl)
theorem dX0_arrives_22 : decode cX0_arrives 22 = .ok (.aload_n 0, 1) := dk_42 (dk_at dksX0_arrives_0 22 rfl rfl)
theorem dX0_arrives_23 : decode cX0_arrives 23 = .ok (.getfield 35, 3) := dk_180 0 35 (dk_at dksX0_arrives_1 0 rfl rfl)
theorem dX0_arrives_26 : decode cX0_arrives 26 = .ok (.iload_n 1, 1) := dk_27 (dk_at dksX0_arrives_1 3 rfl rfl)
theorem dX0_arrives_27 : decode cX0_arrives 27 = .ok (.iload_n 2, 1) := dk_28 (dk_at dksX0_arrives_1 4 rfl rfl)
theorem dX0_arrives_28 : decode cX0_arrives 28 = .ok (.invokevirtual 246, 3) := dk_182 0 246 (dk_at dksX0_arrives_1 5 rfl rfl)
theorem dX0_arrives_31 : decode cX0_arrives 31 = .ok (.ifCond .eq 13, 3) := dk_153 0 13 (dk_at dksX0_arrives_1 8 rfl rfl)
theorem dX0_arrives_34 : decode cX0_arrives 34 = .ok (.aload_n 0, 1) := dk_42 (dk_at dksX0_arrives_1 11 rfl rfl)
theorem dX0_arrives_35 : decode cX0_arrives 35 = .ok (.getfield 35, 3) := dk_180 0 35 (dk_at dksX0_arrives_1 12 rfl rfl)
theorem dX0_arrives_38 : decode cX0_arrives 38 = .ok (.getfield 159, 3) := dk_180 0 159 (dk_at dksX0_arrives_1 15 rfl rfl)
theorem dX0_arrives_41 : decode cX0_arrives 41 = .ok (.goto 5, 3) := dk_167 0 5 (dk_at dksX0_arrives_1 18 rfl rfl)
theorem dX0_arrives_44 : decode cX0_arrives 44 = .ok (.bipush (-5), 2) := dk_16 251 (dk_at dksX0_arrives_1 21 rfl rfl)
theorem dX0_arrives_46 : decode cX0_arrives 46 = .ok (.ireturn, 1) := dk_172 (dk_at dksX0_arrives_1 23 rfl rfl)
abbrev cX0_outed : ByteArray := prog_1_method_26_code
def yX0_outed : MethodName := ⟨RX0, "outed", "(II)I"⟩
def dkwX0_outed_1 : List UInt8 := [180, 0, 159, 8, 28, 96, 108, 184, 0, 166, 167, 0, 5, 16, 254, 172]
abbrev dktX0_outed_1 : List UInt8 := dkwX0_outed_1 ++ []
def dkwX0_outed_0 : List UInt8 := [27, 28, 184, 0, 238, 153, 0, 32, 27, 42, 180, 0, 31, 180, 0, 218, 100, 184, 0, 249, 42, 180, 0, 31]
abbrev dktX0_outed_0 : List UInt8 := dkwX0_outed_0 ++ dktX0_outed_1
theorem dksX0_outed_0 : cX0_outed.data.toList.drop 0 = dktX0_outed_0 := by decide +kernel
theorem dksX0_outed_1 : cX0_outed.data.toList.drop 24 = dktX0_outed_1 := dk_seg dksX0_outed_0 24 rfl rfl
theorem dX0_outed_0 : decode cX0_outed 0 = .ok (.iload_n 1, 1) := dk_27 (dk_at dksX0_outed_0 0 rfl rfl)
theorem dX0_outed_1 : decode cX0_outed 1 = .ok (.iload_n 2, 1) := dk_28 (dk_at dksX0_outed_0 1 rfl rfl)
theorem dX0_outed_2 : decode cX0_outed 2 = .ok (.invokestatic 238, 3) := dk_184 0 238 (dk_at dksX0_outed_0 2 rfl rfl)
theorem dX0_outed_5 : decode cX0_outed 5 = .ok (.ifCond .eq 32, 3) := dk_153 0 32 (dk_at dksX0_outed_0 5 rfl rfl)
theorem dX0_outed_8 : decode cX0_outed 8 = .ok (.iload_n 1, 1) := dk_27 (dk_at dksX0_outed_0 8 rfl rfl)
theorem dX0_outed_9 : decode cX0_outed 9 = .ok (.aload_n 0, 1) := dk_42 (dk_at dksX0_outed_0 9 rfl rfl)
theorem dX0_outed_10 : decode cX0_outed 10 = .ok (.getfield 31, 3) := dk_180 0 31 (dk_at dksX0_outed_0 10 rfl rfl)
theorem dX0_outed_13 : decode cX0_outed 13 = .ok (.getfield 218, 3) := dk_180 0 218 (dk_at dksX0_outed_0 13 rfl rfl)
theorem dX0_outed_16 : decode cX0_outed 16 = .ok (.isub, 1) := dk_100 (dk_at dksX0_outed_0 16 rfl rfl)
theorem dX0_outed_17 : decode cX0_outed 17 = .ok (.invokestatic 249, 3) := dk_184 0 249 (dk_at dksX0_outed_0 17 rfl rfl)
theorem dX0_outed_20 : decode cX0_outed 20 = .ok (.aload_n 0, 1) := dk_42 (dk_at dksX0_outed_0 20 rfl rfl)
theorem dX0_outed_21 : decode cX0_outed 21 = .ok (.getfield 31, 3) := dk_180 0 31 (dk_at dksX0_outed_0 21 rfl rfl)
theorem dX0_outed_24 : decode cX0_outed 24 = .ok (.getfield 159, 3) := dk_180 0 159 (dk_at dksX0_outed_1 0 rfl rfl)
theorem dX0_outed_27 : decode cX0_outed 27 = .ok (.iconst 5, 1) := dk_8 (dk_at dksX0_outed_1 3 rfl rfl)
theorem dX0_outed_28 : decode cX0_outed 28 = .ok (.iload_n 2, 1) := dk_28 (dk_at dksX0_outed_1 4 rfl rfl)
theorem dX0_outed_29 : decode cX0_outed 29 = .ok (.iadd, 1) := dk_96 (dk_at dksX0_outed_1 5 rfl rfl)
theorem dX0_outed_30 : decode cX0_outed 30 = .ok (.idiv, 1) := dk_108 (dk_at dksX0_outed_1 6 rfl rfl)
theorem dX0_outed_31 : decode cX0_outed 31 = .ok (.invokestatic 166, 3) := dk_184 0 166 (dk_at dksX0_outed_1 7 rfl rfl)
theorem dX0_outed_34 : decode cX0_outed 34 = .ok (.goto 5, 3) := dk_167 0 5 (dk_at dksX0_outed_1 10 rfl rfl)
theorem dX0_outed_37 : decode cX0_outed 37 = .ok (.bipush (-2), 2) := dk_16 254 (dk_at dksX0_outed_1 13 rfl rfl)
theorem dX0_outed_39 : decode cX0_outed 39 = .ok (.ireturn, 1) := dk_172 (dk_at dksX0_outed_1 15 rfl rfl)
abbrev cX0_reach : ByteArray := prog_1_method_27_code
def yX0_reach : MethodName := ⟨RX0, "reach", "(I)I"⟩
def dkwX0_reach_2 : List UInt8 := [153, 0, 9, 28, 4, 29, 120, 128, 61, 132, 3, 1, 167, 255, 212, 28, 172]
abbrev dktX0_reach_2 : List UInt8 := dkwX0_reach_2 ++ []
def dkwX0_reach_1 : List UInt8 := [180, 0, 31, 42, 180, 0, 17, 29, 50, 180, 0, 177, 27, 42, 180, 0, 49, 182, 0, 224, 182, 0, 253]
abbrev dktX0_reach_1 : List UInt8 := dkwX0_reach_1 ++ dktX0_reach_2
def dkwX0_reach_0 : List UInt8 := [27, 184, 0, 235, 154, 0, 6, 16, 254, 172, 3, 61, 3, 62, 29, 42, 180, 0, 116, 162, 0, 42, 42]
abbrev dktX0_reach_0 : List UInt8 := dkwX0_reach_0 ++ dktX0_reach_1
theorem dksX0_reach_0 : cX0_reach.data.toList.drop 0 = dktX0_reach_0 := by decide +kernel
theorem dksX0_reach_1 : cX0_reach.data.toList.drop 23 = dktX0_reach_1 := dk_seg dksX0_reach_0 23 rfl rfl
theorem dksX0_reach_2 : cX0_reach.data.toList.drop 46 = dktX0_reach_2 := dk_seg dksX0_reach_1 23 rfl rfl
theorem dX0_reach_0 : decode cX0_reach 0 = .ok (.iload_n 1, 1) := dk_27 (dk_at dksX0_reach_0 0 rfl rfl)
theorem dX0_reach_1 : decode cX0_reach 1 = .ok (.invokestatic 235, 3) := dk_184 0 235 (dk_at dksX0_reach_0 1 rfl rfl)
theorem dX0_reach_4 : decode cX0_reach 4 = .ok (.ifCond .ne 6, 3) := dk_154 0 6 (dk_at dksX0_reach_0 4 rfl rfl)
theorem dX0_reach_7 : decode cX0_reach 7 = .ok (.bipush (-2), 2) := dk_16 254 (dk_at dksX0_reach_0 7 rfl rfl)
theorem dX0_reach_9 : decode cX0_reach 9 = .ok (.ireturn, 1) := dk_172 (dk_at dksX0_reach_0 9 rfl rfl)
theorem dX0_reach_10 : decode cX0_reach 10 = .ok (.iconst 0, 1) := dk_3 (dk_at dksX0_reach_0 10 rfl rfl)
theorem dX0_reach_11 : decode cX0_reach 11 = .ok (.istore_n 2, 1) := dk_61 (dk_at dksX0_reach_0 11 rfl rfl)
theorem dX0_reach_12 : decode cX0_reach 12 = .ok (.iconst 0, 1) := dk_3 (dk_at dksX0_reach_0 12 rfl rfl)
theorem dX0_reach_13 : decode cX0_reach 13 = .ok (.istore_n 3, 1) := dk_62 (dk_at dksX0_reach_0 13 rfl rfl)
theorem dX0_reach_14 : decode cX0_reach 14 = .ok (.iload_n 3, 1) := dk_29 (dk_at dksX0_reach_0 14 rfl rfl)
theorem dX0_reach_15 : decode cX0_reach 15 = .ok (.aload_n 0, 1) := dk_42 (dk_at dksX0_reach_0 15 rfl rfl)
theorem dX0_reach_16 : decode cX0_reach 16 = .ok (.getfield 116, 3) := dk_180 0 116 (dk_at dksX0_reach_0 16 rfl rfl)
theorem dX0_reach_19 : decode cX0_reach 19 = .ok (.if_icmp .ge 42, 3) := dk_162 0 42 (dk_at dksX0_reach_0 19 rfl rfl)
theorem dX0_reach_22 : decode cX0_reach 22 = .ok (.aload_n 0, 1) := dk_42 (dk_at dksX0_reach_0 22 rfl rfl)
theorem dX0_reach_23 : decode cX0_reach 23 = .ok (.getfield 31, 3) := dk_180 0 31 (dk_at dksX0_reach_1 0 rfl rfl)
theorem dX0_reach_26 : decode cX0_reach 26 = .ok (.aload_n 0, 1) := dk_42 (dk_at dksX0_reach_1 3 rfl rfl)
theorem dX0_reach_27 : decode cX0_reach 27 = .ok (.getfield 17, 3) := dk_180 0 17 (dk_at dksX0_reach_1 4 rfl rfl)
theorem dX0_reach_30 : decode cX0_reach 30 = .ok (.iload_n 3, 1) := dk_29 (dk_at dksX0_reach_1 7 rfl rfl)
theorem dX0_reach_31 : decode cX0_reach 31 = .ok (.aaload, 1) := dk_50 (dk_at dksX0_reach_1 8 rfl rfl)
theorem dX0_reach_32 : decode cX0_reach 32 = .ok (.getfield 177, 3) := dk_180 0 177 (dk_at dksX0_reach_1 9 rfl rfl)
theorem dX0_reach_35 : decode cX0_reach 35 = .ok (.iload_n 1, 1) := dk_27 (dk_at dksX0_reach_1 12 rfl rfl)
theorem dX0_reach_36 : decode cX0_reach 36 = .ok (.aload_n 0, 1) := dk_42 (dk_at dksX0_reach_1 13 rfl rfl)
theorem dX0_reach_37 : decode cX0_reach 37 = .ok (.getfield 49, 3) := dk_180 0 49 (dk_at dksX0_reach_1 14 rfl rfl)
theorem dX0_reach_40 : decode cX0_reach 40 = .ok (.invokevirtual 224, 3) := dk_182 0 224 (dk_at dksX0_reach_1 17 rfl rfl)
theorem dX0_reach_43 : decode cX0_reach 43 = .ok (.invokevirtual 253, 3) := dk_182 0 253 (dk_at dksX0_reach_1 20 rfl rfl)
theorem dX0_reach_46 : decode cX0_reach 46 = .ok (.ifCond .eq 9, 3) := dk_153 0 9 (dk_at dksX0_reach_2 0 rfl rfl)
theorem dX0_reach_49 : decode cX0_reach 49 = .ok (.iload_n 2, 1) := dk_28 (dk_at dksX0_reach_2 3 rfl rfl)
theorem dX0_reach_50 : decode cX0_reach 50 = .ok (.iconst 1, 1) := dk_4 (dk_at dksX0_reach_2 4 rfl rfl)
theorem dX0_reach_51 : decode cX0_reach 51 = .ok (.iload_n 3, 1) := dk_29 (dk_at dksX0_reach_2 5 rfl rfl)
theorem dX0_reach_52 : decode cX0_reach 52 = .ok (.ishl, 1) := dk_120 (dk_at dksX0_reach_2 6 rfl rfl)
theorem dX0_reach_53 : decode cX0_reach 53 = .ok (.ior, 1) := dk_128 (dk_at dksX0_reach_2 7 rfl rfl)
theorem dX0_reach_54 : decode cX0_reach 54 = .ok (.istore_n 2, 1) := dk_61 (dk_at dksX0_reach_2 8 rfl rfl)
theorem dX0_reach_55 : decode cX0_reach 55 = .ok (.iinc 3 1, 3) := dk_132 3 1 (dk_at dksX0_reach_2 9 rfl rfl)
theorem dX0_reach_58 : decode cX0_reach 58 = .ok (.goto (-44), 3) := dk_167 255 212 (dk_at dksX0_reach_2 12 rfl rfl)
theorem dX0_reach_61 : decode cX0_reach 61 = .ok (.iload_n 2, 1) := dk_28 (dk_at dksX0_reach_2 15 rfl rfl)
theorem dX0_reach_62 : decode cX0_reach 62 = .ok (.ireturn, 1) := dk_172 (dk_at dksX0_reach_2 16 rfl rfl)
abbrev cX0_next : ByteArray := prog_1_method_28_code
def yX0_next : MethodName := ⟨RX0, "next", "(I)I"⟩
def dkwX0_next_5 : List UInt8 := [62, 21, 4, 61, 132, 4, 1, 167, 255, 150, 28, 172]
abbrev dktX0_next_5 : List UInt8 := dkwX0_next_5 ++ []
def dkwX0_next_4 : List UInt8 := [21, 4, 182, 0, 196, 54, 5, 28, 16, 251, 159, 0, 12, 21, 5, 29, 163, 0, 6, 167, 0, 9, 21, 5]
abbrev dktX0_next_4 : List UInt8 := dkwX0_next_4 ++ dktX0_next_5
def dkwX0_next_3 : List UInt8 := [180, 0, 35, 42, 180, 0, 17, 21, 4, 50, 180, 0, 177, 27, 182, 0, 246, 87, 42, 42, 180, 0, 35]
abbrev dktX0_next_3 : List UInt8 := dkwX0_next_3 ++ dktX0_next_4
def dkwX0_next_2 : List UInt8 := [182, 0, 224, 182, 0, 253, 154, 0, 6, 167, 0, 66, 42, 180, 0, 35, 42, 180, 0, 31, 182, 0, 242, 42]
abbrev dktX0_next_2 : List UInt8 := dkwX0_next_2 ++ dktX0_next_3
def dkwX0_next_1 : List UInt8 := [162, 0, 103, 42, 180, 0, 31, 42, 180, 0, 17, 21, 4, 50, 180, 0, 177, 27, 42, 180, 0, 49]
abbrev dktX0_next_1 : List UInt8 := dkwX0_next_1 ++ dktX0_next_2
def dkwX0_next_0 : List UInt8 := [27, 184, 0, 235, 154, 0, 6, 16, 254, 172, 16, 251, 61, 3, 62, 3, 54, 4, 21, 4, 42, 180, 0, 116]
abbrev dktX0_next_0 : List UInt8 := dkwX0_next_0 ++ dktX0_next_1
theorem dksX0_next_0 : cX0_next.data.toList.drop 0 = dktX0_next_0 := by decide +kernel
theorem dksX0_next_1 : cX0_next.data.toList.drop 24 = dktX0_next_1 := dk_seg dksX0_next_0 24 rfl rfl
theorem dksX0_next_2 : cX0_next.data.toList.drop 46 = dktX0_next_2 := dk_seg dksX0_next_1 22 rfl rfl
theorem dksX0_next_3 : cX0_next.data.toList.drop 70 = dktX0_next_3 := dk_seg dksX0_next_2 24 rfl rfl
theorem dksX0_next_4 : cX0_next.data.toList.drop 93 = dktX0_next_4 := dk_seg dksX0_next_3 23 rfl rfl
theorem dksX0_next_5 : cX0_next.data.toList.drop 117 = dktX0_next_5 := dk_seg dksX0_next_4 24 rfl rfl
theorem dX0_next_0 : decode cX0_next 0 = .ok (.iload_n 1, 1) := dk_27 (dk_at dksX0_next_0 0 rfl rfl)
theorem dX0_next_1 : decode cX0_next 1 = .ok (.invokestatic 235, 3) := dk_184 0 235 (dk_at dksX0_next_0 1 rfl rfl)
theorem dX0_next_4 : decode cX0_next 4 = .ok (.ifCond .ne 6, 3) := dk_154 0 6 (dk_at dksX0_next_0 4 rfl rfl)
theorem dX0_next_7 : decode cX0_next 7 = .ok (.bipush (-2), 2) := dk_16 254 (dk_at dksX0_next_0 7 rfl rfl)
theorem dX0_next_9 : decode cX0_next 9 = .ok (.ireturn, 1) := dk_172 (dk_at dksX0_next_0 9 rfl rfl)
theorem dX0_next_10 : decode cX0_next 10 = .ok (.bipush (-5), 2) := dk_16 251 (dk_at dksX0_next_0 10 rfl rfl)
theorem dX0_next_12 : decode cX0_next 12 = .ok (.istore_n 2, 1) := dk_61 (dk_at dksX0_next_0 12 rfl rfl)
theorem dX0_next_13 : decode cX0_next 13 = .ok (.iconst 0, 1) := dk_3 (dk_at dksX0_next_0 13 rfl rfl)
theorem dX0_next_14 : decode cX0_next 14 = .ok (.istore_n 3, 1) := dk_62 (dk_at dksX0_next_0 14 rfl rfl)
theorem dX0_next_15 : decode cX0_next 15 = .ok (.iconst 0, 1) := dk_3 (dk_at dksX0_next_0 15 rfl rfl)
theorem dX0_next_16 : decode cX0_next 16 = .ok (.istore 4, 2) := dk_54 4 (dk_at dksX0_next_0 16 rfl rfl)
theorem dX0_next_18 : decode cX0_next 18 = .ok (.iload 4, 2) := dk_21 4 (dk_at dksX0_next_0 18 rfl rfl)
theorem dX0_next_20 : decode cX0_next 20 = .ok (.aload_n 0, 1) := dk_42 (dk_at dksX0_next_0 20 rfl rfl)
theorem dX0_next_21 : decode cX0_next 21 = .ok (.getfield 116, 3) := dk_180 0 116 (dk_at dksX0_next_0 21 rfl rfl)
theorem dX0_next_24 : decode cX0_next 24 = .ok (.if_icmp .ge 103, 3) := dk_162 0 103 (dk_at dksX0_next_1 0 rfl rfl)
theorem dX0_next_27 : decode cX0_next 27 = .ok (.aload_n 0, 1) := dk_42 (dk_at dksX0_next_1 3 rfl rfl)
theorem dX0_next_28 : decode cX0_next 28 = .ok (.getfield 31, 3) := dk_180 0 31 (dk_at dksX0_next_1 4 rfl rfl)
theorem dX0_next_31 : decode cX0_next 31 = .ok (.aload_n 0, 1) := dk_42 (dk_at dksX0_next_1 7 rfl rfl)
theorem dX0_next_32 : decode cX0_next 32 = .ok (.getfield 17, 3) := dk_180 0 17 (dk_at dksX0_next_1 8 rfl rfl)
theorem dX0_next_35 : decode cX0_next 35 = .ok (.iload 4, 2) := dk_21 4 (dk_at dksX0_next_1 11 rfl rfl)
theorem dX0_next_37 : decode cX0_next 37 = .ok (.aaload, 1) := dk_50 (dk_at dksX0_next_1 13 rfl rfl)
theorem dX0_next_38 : decode cX0_next 38 = .ok (.getfield 177, 3) := dk_180 0 177 (dk_at dksX0_next_1 14 rfl rfl)
theorem dX0_next_41 : decode cX0_next 41 = .ok (.iload_n 1, 1) := dk_27 (dk_at dksX0_next_1 17 rfl rfl)
theorem dX0_next_42 : decode cX0_next 42 = .ok (.aload_n 0, 1) := dk_42 (dk_at dksX0_next_1 18 rfl rfl)
theorem dX0_next_43 : decode cX0_next 43 = .ok (.getfield 49, 3) := dk_180 0 49 (dk_at dksX0_next_1 19 rfl rfl)
theorem dX0_next_46 : decode cX0_next 46 = .ok (.invokevirtual 224, 3) := dk_182 0 224 (dk_at dksX0_next_2 0 rfl rfl)
theorem dX0_next_49 : decode cX0_next 49 = .ok (.invokevirtual 253, 3) := dk_182 0 253 (dk_at dksX0_next_2 3 rfl rfl)
theorem dX0_next_52 : decode cX0_next 52 = .ok (.ifCond .ne 6, 3) := dk_154 0 6 (dk_at dksX0_next_2 6 rfl rfl)
theorem dX0_next_55 : decode cX0_next 55 = .ok (.goto 66, 3) := dk_167 0 66 (dk_at dksX0_next_2 9 rfl rfl)
theorem dX0_next_58 : decode cX0_next 58 = .ok (.aload_n 0, 1) := dk_42 (dk_at dksX0_next_2 12 rfl rfl)
theorem dX0_next_59 : decode cX0_next 59 = .ok (.getfield 35, 3) := dk_180 0 35 (dk_at dksX0_next_2 13 rfl rfl)
theorem dX0_next_62 : decode cX0_next 62 = .ok (.aload_n 0, 1) := dk_42 (dk_at dksX0_next_2 16 rfl rfl)
theorem dX0_next_63 : decode cX0_next 63 = .ok (.getfield 31, 3) := dk_180 0 31 (dk_at dksX0_next_2 17 rfl rfl)
theorem dX0_next_66 : decode cX0_next 66 = .ok (.invokevirtual 242, 3) := dk_182 0 242 (dk_at dksX0_next_2 20 rfl rfl)
theorem dX0_next_69 : decode cX0_next 69 = .ok (.aload_n 0, 1) := dk_42 (dk_at dksX0_next_2 23 rfl rfl)
theorem dX0_next_70 : decode cX0_next 70 = .ok (.getfield 35, 3) := dk_180 0 35 (dk_at dksX0_next_3 0 rfl rfl)
theorem dX0_next_73 : decode cX0_next 73 = .ok (.aload_n 0, 1) := dk_42 (dk_at dksX0_next_3 3 rfl rfl)
theorem dX0_next_74 : decode cX0_next 74 = .ok (.getfield 17, 3) := dk_180 0 17 (dk_at dksX0_next_3 4 rfl rfl)
theorem dX0_next_77 : decode cX0_next 77 = .ok (.iload 4, 2) := dk_21 4 (dk_at dksX0_next_3 7 rfl rfl)
theorem dX0_next_79 : decode cX0_next 79 = .ok (.aaload, 1) := dk_50 (dk_at dksX0_next_3 9 rfl rfl)
theorem dX0_next_80 : decode cX0_next 80 = .ok (.getfield 177, 3) := dk_180 0 177 (dk_at dksX0_next_3 10 rfl rfl)
theorem dX0_next_83 : decode cX0_next 83 = .ok (.iload_n 1, 1) := dk_27 (dk_at dksX0_next_3 13 rfl rfl)
theorem dX0_next_84 : decode cX0_next 84 = .ok (.invokevirtual 246, 3) := dk_182 0 246 (dk_at dksX0_next_3 14 rfl rfl)
theorem dX0_next_87 : decode cX0_next 87 = .ok (.pop, 1) := dk_87 (dk_at dksX0_next_3 17 rfl rfl)
theorem dX0_next_88 : decode cX0_next 88 = .ok (.aload_n 0, 1) := dk_42 (dk_at dksX0_next_3 18 rfl rfl)
theorem dX0_next_89 : decode cX0_next 89 = .ok (.aload_n 0, 1) := dk_42 (dk_at dksX0_next_3 19 rfl rfl)
theorem dX0_next_90 : decode cX0_next 90 = .ok (.getfield 35, 3) := dk_180 0 35 (dk_at dksX0_next_3 20 rfl rfl)
theorem dX0_next_93 : decode cX0_next 93 = .ok (.iload 4, 2) := dk_21 4 (dk_at dksX0_next_4 0 rfl rfl)
theorem dX0_next_95 : decode cX0_next 95 = .ok (.invokevirtual 196, 3) := dk_182 0 196 (dk_at dksX0_next_4 2 rfl rfl)
theorem dX0_next_98 : decode cX0_next 98 = .ok (.istore 5, 2) := dk_54 5 (dk_at dksX0_next_4 5 rfl rfl)
theorem dX0_next_100 : decode cX0_next 100 = .ok (.iload_n 2, 1) := dk_28 (dk_at dksX0_next_4 7 rfl rfl)
theorem dX0_next_101 : decode cX0_next 101 = .ok (.bipush (-5), 2) := dk_16 251 (dk_at dksX0_next_4 8 rfl rfl)
theorem dX0_next_103 : decode cX0_next 103 = .ok (.if_icmp .eq 12, 3) := dk_159 0 12 (dk_at dksX0_next_4 10 rfl rfl)
theorem dX0_next_106 : decode cX0_next 106 = .ok (.iload 5, 2) := dk_21 5 (dk_at dksX0_next_4 13 rfl rfl)
theorem dX0_next_108 : decode cX0_next 108 = .ok (.iload_n 3, 1) := dk_29 (dk_at dksX0_next_4 15 rfl rfl)
theorem dX0_next_109 : decode cX0_next 109 = .ok (.if_icmp .gt 6, 3) := dk_163 0 6 (dk_at dksX0_next_4 16 rfl rfl)
theorem dX0_next_112 : decode cX0_next 112 = .ok (.goto 9, 3) := dk_167 0 9 (dk_at dksX0_next_4 19 rfl rfl)
theorem dX0_next_115 : decode cX0_next 115 = .ok (.iload 5, 2) := dk_21 5 (dk_at dksX0_next_4 22 rfl rfl)
theorem dX0_next_117 : decode cX0_next 117 = .ok (.istore_n 3, 1) := dk_62 (dk_at dksX0_next_5 0 rfl rfl)
theorem dX0_next_118 : decode cX0_next 118 = .ok (.iload 4, 2) := dk_21 4 (dk_at dksX0_next_5 1 rfl rfl)
theorem dX0_next_120 : decode cX0_next 120 = .ok (.istore_n 2, 1) := dk_61 (dk_at dksX0_next_5 3 rfl rfl)
theorem dX0_next_121 : decode cX0_next 121 = .ok (.iinc 4 1, 3) := dk_132 4 1 (dk_at dksX0_next_5 4 rfl rfl)
theorem dX0_next_124 : decode cX0_next 124 = .ok (.goto (-106), 3) := dk_167 255 150 (dk_at dksX0_next_5 7 rfl rfl)
theorem dX0_next_127 : decode cX0_next 127 = .ok (.iload_n 2, 1) := dk_28 (dk_at dksX0_next_5 10 rfl rfl)
theorem dX0_next_128 : decode cX0_next 128 = .ok (.ireturn, 1) := dk_172 (dk_at dksX0_next_5 11 rfl rfl)
abbrev cX0_lowest : ByteArray := prog_1_method_29_code
def yX0_lowest : MethodName := ⟨RX0, "lowest", "(II)I"⟩
def dkwX0_lowest_2 : List UInt8 := [17, 1, 144, 164, 0, 8, 16, 251, 167, 0, 4, 29, 172]
abbrev dktX0_lowest_2 : List UInt8 := dkwX0_lowest_2 ++ []
def dkwX0_lowest_1 : List UInt8 := [42, 180, 0, 17, 27, 50, 180, 0, 177, 28, 182, 1, 0, 42, 180, 0, 49, 182, 0, 224, 96, 62, 29]
abbrev dktX0_lowest_1 : List UInt8 := dkwX0_lowest_1 ++ dktX0_lowest_2
def dkwX0_lowest_0 : List UInt8 := [42, 27, 182, 0, 193, 154, 0, 5, 2, 172, 28, 184, 0, 235, 154, 0, 6, 16, 254, 172, 42, 180, 0, 31]
abbrev dktX0_lowest_0 : List UInt8 := dkwX0_lowest_0 ++ dktX0_lowest_1
theorem dksX0_lowest_0 : cX0_lowest.data.toList.drop 0 = dktX0_lowest_0 := by decide +kernel
theorem dksX0_lowest_1 : cX0_lowest.data.toList.drop 24 = dktX0_lowest_1 := dk_seg dksX0_lowest_0 24 rfl rfl
theorem dksX0_lowest_2 : cX0_lowest.data.toList.drop 47 = dktX0_lowest_2 := dk_seg dksX0_lowest_1 23 rfl rfl
theorem dX0_lowest_0 : decode cX0_lowest 0 = .ok (.aload_n 0, 1) := dk_42 (dk_at dksX0_lowest_0 0 rfl rfl)
theorem dX0_lowest_1 : decode cX0_lowest 1 = .ok (.iload_n 1, 1) := dk_27 (dk_at dksX0_lowest_0 1 rfl rfl)
theorem dX0_lowest_2 : decode cX0_lowest 2 = .ok (.invokevirtual 193, 3) := dk_182 0 193 (dk_at dksX0_lowest_0 2 rfl rfl)
theorem dX0_lowest_5 : decode cX0_lowest 5 = .ok (.ifCond .ne 5, 3) := dk_154 0 5 (dk_at dksX0_lowest_0 5 rfl rfl)
theorem dX0_lowest_8 : decode cX0_lowest 8 = .ok (.iconst (-1), 1) := dk_2 (dk_at dksX0_lowest_0 8 rfl rfl)
theorem dX0_lowest_9 : decode cX0_lowest 9 = .ok (.ireturn, 1) := dk_172 (dk_at dksX0_lowest_0 9 rfl rfl)
theorem dX0_lowest_10 : decode cX0_lowest 10 = .ok (.iload_n 2, 1) := dk_28 (dk_at dksX0_lowest_0 10 rfl rfl)
theorem dX0_lowest_11 : decode cX0_lowest 11 = .ok (.invokestatic 235, 3) := dk_184 0 235 (dk_at dksX0_lowest_0 11 rfl rfl)
theorem dX0_lowest_14 : decode cX0_lowest 14 = .ok (.ifCond .ne 6, 3) := dk_154 0 6 (dk_at dksX0_lowest_0 14 rfl rfl)
theorem dX0_lowest_17 : decode cX0_lowest 17 = .ok (.bipush (-2), 2) := dk_16 254 (dk_at dksX0_lowest_0 17 rfl rfl)
theorem dX0_lowest_19 : decode cX0_lowest 19 = .ok (.ireturn, 1) := dk_172 (dk_at dksX0_lowest_0 19 rfl rfl)
theorem dX0_lowest_20 : decode cX0_lowest 20 = .ok (.aload_n 0, 1) := dk_42 (dk_at dksX0_lowest_0 20 rfl rfl)
theorem dX0_lowest_21 : decode cX0_lowest 21 = .ok (.getfield 31, 3) := dk_180 0 31 (dk_at dksX0_lowest_0 21 rfl rfl)
theorem dX0_lowest_24 : decode cX0_lowest 24 = .ok (.aload_n 0, 1) := dk_42 (dk_at dksX0_lowest_1 0 rfl rfl)
theorem dX0_lowest_25 : decode cX0_lowest 25 = .ok (.getfield 17, 3) := dk_180 0 17 (dk_at dksX0_lowest_1 1 rfl rfl)
theorem dX0_lowest_28 : decode cX0_lowest 28 = .ok (.iload_n 1, 1) := dk_27 (dk_at dksX0_lowest_1 4 rfl rfl)
theorem dX0_lowest_29 : decode cX0_lowest 29 = .ok (.aaload, 1) := dk_50 (dk_at dksX0_lowest_1 5 rfl rfl)
theorem dX0_lowest_30 : decode cX0_lowest 30 = .ok (.getfield 177, 3) := dk_180 0 177 (dk_at dksX0_lowest_1 6 rfl rfl)
theorem dX0_lowest_33 : decode cX0_lowest 33 = .ok (.iload_n 2, 1) := dk_28 (dk_at dksX0_lowest_1 9 rfl rfl)
theorem dX0_lowest_34 : decode cX0_lowest 34 = .ok (.invokevirtual 256, 3) := dk_182 1 0 (dk_at dksX0_lowest_1 10 rfl rfl)
theorem dX0_lowest_37 : decode cX0_lowest 37 = .ok (.aload_n 0, 1) := dk_42 (dk_at dksX0_lowest_1 13 rfl rfl)
theorem dX0_lowest_38 : decode cX0_lowest 38 = .ok (.getfield 49, 3) := dk_180 0 49 (dk_at dksX0_lowest_1 14 rfl rfl)
theorem dX0_lowest_41 : decode cX0_lowest 41 = .ok (.invokevirtual 224, 3) := dk_182 0 224 (dk_at dksX0_lowest_1 17 rfl rfl)
theorem dX0_lowest_44 : decode cX0_lowest 44 = .ok (.iadd, 1) := dk_96 (dk_at dksX0_lowest_1 20 rfl rfl)
theorem dX0_lowest_45 : decode cX0_lowest 45 = .ok (.istore_n 3, 1) := dk_62 (dk_at dksX0_lowest_1 21 rfl rfl)
theorem dX0_lowest_46 : decode cX0_lowest 46 = .ok (.iload_n 3, 1) := dk_29 (dk_at dksX0_lowest_1 22 rfl rfl)
theorem dX0_lowest_47 : decode cX0_lowest 47 = .ok (.sipush 400, 3) := dk_17 1 144 (dk_at dksX0_lowest_2 0 rfl rfl)
theorem dX0_lowest_50 : decode cX0_lowest 50 = .ok (.if_icmp .le 8, 3) := dk_164 0 8 (dk_at dksX0_lowest_2 3 rfl rfl)
theorem dX0_lowest_53 : decode cX0_lowest 53 = .ok (.bipush (-5), 2) := dk_16 251 (dk_at dksX0_lowest_2 6 rfl rfl)
theorem dX0_lowest_55 : decode cX0_lowest 55 = .ok (.goto 4, 3) := dk_167 0 4 (dk_at dksX0_lowest_2 8 rfl rfl)
theorem dX0_lowest_58 : decode cX0_lowest 58 = .ok (.iload_n 3, 1) := dk_29 (dk_at dksX0_lowest_2 11 rfl rfl)
theorem dX0_lowest_59 : decode cX0_lowest 59 = .ok (.ireturn, 1) := dk_172 (dk_at dksX0_lowest_2 12 rfl rfl)
abbrev cX0_by : ByteArray := prog_1_method_32_code
def yX0_by : MethodName := ⟨RX0, "by", "(III)I"⟩
def dkwX0_by_2 : List UInt8 := [160, 0, 8, 21, 4, 167, 0, 7, 42, 180, 1, 7, 172]
abbrev dktX0_by_2 : List UInt8 := dkwX0_by_2 ++ []
def dkwX0_by_1 : List UInt8 := [154, 0, 6, 16, 254, 172, 42, 27, 28, 182, 1, 10, 54, 4, 29, 153, 0, 10, 21, 4, 16, 251]
abbrev dktX0_by_1 : List UInt8 := dkwX0_by_1 ++ dktX0_by_2
def dkwX0_by_0 : List UInt8 := [42, 27, 182, 0, 193, 153, 0, 12, 29, 3, 4, 184, 0, 5, 154, 0, 5, 2, 172, 28, 184, 0, 235]
abbrev dktX0_by_0 : List UInt8 := dkwX0_by_0 ++ dktX0_by_1
theorem dksX0_by_0 : cX0_by.data.toList.drop 0 = dktX0_by_0 := by decide +kernel
theorem dksX0_by_1 : cX0_by.data.toList.drop 23 = dktX0_by_1 := dk_seg dksX0_by_0 23 rfl rfl
theorem dksX0_by_2 : cX0_by.data.toList.drop 45 = dktX0_by_2 := dk_seg dksX0_by_1 22 rfl rfl
theorem dX0_by_0 : decode cX0_by 0 = .ok (.aload_n 0, 1) := dk_42 (dk_at dksX0_by_0 0 rfl rfl)
theorem dX0_by_1 : decode cX0_by 1 = .ok (.iload_n 1, 1) := dk_27 (dk_at dksX0_by_0 1 rfl rfl)
theorem dX0_by_2 : decode cX0_by 2 = .ok (.invokevirtual 193, 3) := dk_182 0 193 (dk_at dksX0_by_0 2 rfl rfl)
theorem dX0_by_5 : decode cX0_by 5 = .ok (.ifCond .eq 12, 3) := dk_153 0 12 (dk_at dksX0_by_0 5 rfl rfl)
theorem dX0_by_8 : decode cX0_by 8 = .ok (.iload_n 3, 1) := dk_29 (dk_at dksX0_by_0 8 rfl rfl)
theorem dX0_by_9 : decode cX0_by 9 = .ok (.iconst 0, 1) := dk_3 (dk_at dksX0_by_0 9 rfl rfl)
theorem dX0_by_10 : decode cX0_by 10 = .ok (.iconst 1, 1) := dk_4 (dk_at dksX0_by_0 10 rfl rfl)
theorem dX0_by_11 : decode cX0_by 11 = .ok (.invokestatic 5, 3) := dk_184 0 5 (dk_at dksX0_by_0 11 rfl rfl)
theorem dX0_by_14 : decode cX0_by 14 = .ok (.ifCond .ne 5, 3) := dk_154 0 5 (dk_at dksX0_by_0 14 rfl rfl)
theorem dX0_by_17 : decode cX0_by 17 = .ok (.iconst (-1), 1) := dk_2 (dk_at dksX0_by_0 17 rfl rfl)
theorem dX0_by_18 : decode cX0_by 18 = .ok (.ireturn, 1) := dk_172 (dk_at dksX0_by_0 18 rfl rfl)
theorem dX0_by_19 : decode cX0_by 19 = .ok (.iload_n 2, 1) := dk_28 (dk_at dksX0_by_0 19 rfl rfl)
theorem dX0_by_20 : decode cX0_by 20 = .ok (.invokestatic 235, 3) := dk_184 0 235 (dk_at dksX0_by_0 20 rfl rfl)
theorem dX0_by_23 : decode cX0_by 23 = .ok (.ifCond .ne 6, 3) := dk_154 0 6 (dk_at dksX0_by_1 0 rfl rfl)
theorem dX0_by_26 : decode cX0_by 26 = .ok (.bipush (-2), 2) := dk_16 254 (dk_at dksX0_by_1 3 rfl rfl)
theorem dX0_by_28 : decode cX0_by 28 = .ok (.ireturn, 1) := dk_172 (dk_at dksX0_by_1 5 rfl rfl)
theorem dX0_by_29 : decode cX0_by 29 = .ok (.aload_n 0, 1) := dk_42 (dk_at dksX0_by_1 6 rfl rfl)
theorem dX0_by_30 : decode cX0_by 30 = .ok (.iload_n 1, 1) := dk_27 (dk_at dksX0_by_1 7 rfl rfl)
theorem dX0_by_31 : decode cX0_by 31 = .ok (.iload_n 2, 1) := dk_28 (dk_at dksX0_by_1 8 rfl rfl)
theorem dX0_by_32 : decode cX0_by 32 = .ok (.invokevirtual 266, 3) := dk_182 1 10 (dk_at dksX0_by_1 9 rfl rfl)
theorem dX0_by_35 : decode cX0_by 35 = .ok (.istore 4, 2) := dk_54 4 (dk_at dksX0_by_1 12 rfl rfl)
theorem dX0_by_37 : decode cX0_by 37 = .ok (.iload_n 3, 1) := dk_29 (dk_at dksX0_by_1 14 rfl rfl)
theorem dX0_by_38 : decode cX0_by 38 = .ok (.ifCond .eq 10, 3) := dk_153 0 10 (dk_at dksX0_by_1 15 rfl rfl)
theorem dX0_by_41 : decode cX0_by 41 = .ok (.iload 4, 2) := dk_21 4 (dk_at dksX0_by_1 18 rfl rfl)
theorem dX0_by_43 : decode cX0_by 43 = .ok (.bipush (-5), 2) := dk_16 251 (dk_at dksX0_by_1 20 rfl rfl)
theorem dX0_by_45 : decode cX0_by 45 = .ok (.if_icmp .ne 8, 3) := dk_160 0 8 (dk_at dksX0_by_2 0 rfl rfl)
theorem dX0_by_48 : decode cX0_by 48 = .ok (.iload 4, 2) := dk_21 4 (dk_at dksX0_by_2 3 rfl rfl)
theorem dX0_by_50 : decode cX0_by 50 = .ok (.goto 7, 3) := dk_167 0 7 (dk_at dksX0_by_2 5 rfl rfl)
theorem dX0_by_53 : decode cX0_by 53 = .ok (.aload_n 0, 1) := dk_42 (dk_at dksX0_by_2 8 rfl rfl)
theorem dX0_by_54 : decode cX0_by 54 = .ok (.getfield 263, 3) := dk_180 1 7 (dk_at dksX0_by_2 9 rfl rfl)
theorem dX0_by_57 : decode cX0_by 57 = .ok (.ireturn, 1) := dk_172 (dk_at dksX0_by_2 12 rfl rfl)
abbrev cX0_minutesBy : ByteArray := prog_1_method_31_code
def yX0_minutesBy : MethodName := ⟨RX0, "minutesBy", "(II)I"⟩
def dkwX0_minutesBy_3 : List UInt8 := [87, 42, 180, 0, 35, 180, 0, 163, 42, 180, 0, 31, 180, 0, 163, 100, 172]
abbrev dktX0_minutesBy_3 : List UInt8 := dkwX0_minutesBy_3 ++ []
def dkwX0_minutesBy_2 : List UInt8 := [172, 42, 42, 180, 0, 35, 180, 0, 159, 181, 1, 7, 42, 180, 0, 35, 42, 180, 0, 38, 28, 182, 0, 246]
abbrev dktX0_minutesBy_2 : List UInt8 := dkwX0_minutesBy_2 ++ dktX0_minutesBy_3
def dkwX0_minutesBy_1 : List UInt8 := [28, 182, 0, 246, 153, 0, 18, 42, 27, 42, 180, 0, 38, 28, 16, 60, 182, 1, 3, 154, 0, 6, 16, 251]
abbrev dktX0_minutesBy_1 : List UInt8 := dkwX0_minutesBy_1 ++ dktX0_minutesBy_2
def dkwX0_minutesBy_0 : List UInt8 := [42, 180, 0, 35, 42, 180, 0, 31, 182, 0, 242, 42, 180, 0, 35, 42, 180, 0, 17, 27, 50, 180, 0, 177]
abbrev dktX0_minutesBy_0 : List UInt8 := dkwX0_minutesBy_0 ++ dktX0_minutesBy_1
theorem dksX0_minutesBy_0 : cX0_minutesBy.data.toList.drop 0 = dktX0_minutesBy_0 := by decide +kernel
theorem dksX0_minutesBy_1 : cX0_minutesBy.data.toList.drop 24 = dktX0_minutesBy_1 := dk_seg dksX0_minutesBy_0 24 rfl rfl
theorem dksX0_minutesBy_2 : cX0_minutesBy.data.toList.drop 48 = dktX0_minutesBy_2 := dk_seg dksX0_minutesBy_1 24 rfl rfl
theorem dksX0_minutesBy_3 : cX0_minutesBy.data.toList.drop 72 = dktX0_minutesBy_3 := dk_seg dksX0_minutesBy_2 24 rfl rfl
theorem dX0_minutesBy_0 : decode cX0_minutesBy 0 = .ok (.aload_n 0, 1) := dk_42 (dk_at dksX0_minutesBy_0 0 rfl rfl)
theorem dX0_minutesBy_1 : decode cX0_minutesBy 1 = .ok (.getfield 35, 3) := dk_180 0 35 (dk_at dksX0_minutesBy_0 1 rfl rfl)
theorem dX0_minutesBy_4 : decode cX0_minutesBy 4 = .ok (.aload_n 0, 1) := dk_42 (dk_at dksX0_minutesBy_0 4 rfl rfl)
theorem dX0_minutesBy_5 : decode cX0_minutesBy 5 = .ok (.getfield 31, 3) := dk_180 0 31 (dk_at dksX0_minutesBy_0 5 rfl rfl)
theorem dX0_minutesBy_8 : decode cX0_minutesBy 8 = .ok (.invokevirtual 242, 3) := dk_182 0 242 (dk_at dksX0_minutesBy_0 8 rfl rfl)
theorem dX0_minutesBy_11 : decode cX0_minutesBy 11 = .ok (.aload_n 0, 1) := dk_42 (dk_at dksX0_minutesBy_0 11 rfl rfl)
theorem dX0_minutesBy_12 : decode cX0_minutesBy 12 = .ok (.getfield 35, 3) := dk_180 0 35 (dk_at dksX0_minutesBy_0 12 rfl rfl)
theorem dX0_minutesBy_15 : decode cX0_minutesBy 15 = .ok (.aload_n 0, 1) := dk_42 (dk_at dksX0_minutesBy_0 15 rfl rfl)
theorem dX0_minutesBy_16 : decode cX0_minutesBy 16 = .ok (.getfield 17, 3) := dk_180 0 17 (dk_at dksX0_minutesBy_0 16 rfl rfl)
theorem dX0_minutesBy_19 : decode cX0_minutesBy 19 = .ok (.iload_n 1, 1) := dk_27 (dk_at dksX0_minutesBy_0 19 rfl rfl)
theorem dX0_minutesBy_20 : decode cX0_minutesBy 20 = .ok (.aaload, 1) := dk_50 (dk_at dksX0_minutesBy_0 20 rfl rfl)
theorem dX0_minutesBy_21 : decode cX0_minutesBy 21 = .ok (.getfield 177, 3) := dk_180 0 177 (dk_at dksX0_minutesBy_0 21 rfl rfl)
theorem dX0_minutesBy_24 : decode cX0_minutesBy 24 = .ok (.iload_n 2, 1) := dk_28 (dk_at dksX0_minutesBy_1 0 rfl rfl)
theorem dX0_minutesBy_25 : decode cX0_minutesBy 25 = .ok (.invokevirtual 246, 3) := dk_182 0 246 (dk_at dksX0_minutesBy_1 1 rfl rfl)
theorem dX0_minutesBy_28 : decode cX0_minutesBy 28 = .ok (.ifCond .eq 18, 3) := dk_153 0 18 (dk_at dksX0_minutesBy_1 4 rfl rfl)
theorem dX0_minutesBy_31 : decode cX0_minutesBy 31 = .ok (.aload_n 0, 1) := dk_42 (dk_at dksX0_minutesBy_1 7 rfl rfl)
theorem dX0_minutesBy_32 : decode cX0_minutesBy 32 = .ok (.iload_n 1, 1) := dk_27 (dk_at dksX0_minutesBy_1 8 rfl rfl)
theorem dX0_minutesBy_33 : decode cX0_minutesBy 33 = .ok (.aload_n 0, 1) := dk_42 (dk_at dksX0_minutesBy_1 9 rfl rfl)
theorem dX0_minutesBy_34 : decode cX0_minutesBy 34 = .ok (.getfield 38, 3) := dk_180 0 38 (dk_at dksX0_minutesBy_1 10 rfl rfl)
theorem dX0_minutesBy_37 : decode cX0_minutesBy 37 = .ok (.iload_n 2, 1) := dk_28 (dk_at dksX0_minutesBy_1 13 rfl rfl)
theorem dX0_minutesBy_38 : decode cX0_minutesBy 38 = .ok (.bipush 60, 2) := dk_16 60 (dk_at dksX0_minutesBy_1 14 rfl rfl)
theorem dX0_minutesBy_40 : decode cX0_minutesBy 40 = .ok (.invokevirtual 259, 3) := dk_182 1 3 (dk_at dksX0_minutesBy_1 16 rfl rfl)
theorem dX0_minutesBy_43 : decode cX0_minutesBy 43 = .ok (.ifCond .ne 6, 3) := dk_154 0 6 (dk_at dksX0_minutesBy_1 19 rfl rfl)
theorem dX0_minutesBy_46 : decode cX0_minutesBy 46 = .ok (.bipush (-5), 2) := dk_16 251 (dk_at dksX0_minutesBy_1 22 rfl rfl)
theorem dX0_minutesBy_48 : decode cX0_minutesBy 48 = .ok (.ireturn, 1) := dk_172 (dk_at dksX0_minutesBy_2 0 rfl rfl)
theorem dX0_minutesBy_49 : decode cX0_minutesBy 49 = .ok (.aload_n 0, 1) := dk_42 (dk_at dksX0_minutesBy_2 1 rfl rfl)
theorem dX0_minutesBy_50 : decode cX0_minutesBy 50 = .ok (.aload_n 0, 1) := dk_42 (dk_at dksX0_minutesBy_2 2 rfl rfl)
theorem dX0_minutesBy_51 : decode cX0_minutesBy 51 = .ok (.getfield 35, 3) := dk_180 0 35 (dk_at dksX0_minutesBy_2 3 rfl rfl)
theorem dX0_minutesBy_54 : decode cX0_minutesBy 54 = .ok (.getfield 159, 3) := dk_180 0 159 (dk_at dksX0_minutesBy_2 6 rfl rfl)
theorem dX0_minutesBy_57 : decode cX0_minutesBy 57 = .ok (.putfield 263, 3) := dk_181 1 7 (dk_at dksX0_minutesBy_2 9 rfl rfl)
theorem dX0_minutesBy_60 : decode cX0_minutesBy 60 = .ok (.aload_n 0, 1) := dk_42 (dk_at dksX0_minutesBy_2 12 rfl rfl)
theorem dX0_minutesBy_61 : decode cX0_minutesBy 61 = .ok (.getfield 35, 3) := dk_180 0 35 (dk_at dksX0_minutesBy_2 13 rfl rfl)
theorem dX0_minutesBy_64 : decode cX0_minutesBy 64 = .ok (.aload_n 0, 1) := dk_42 (dk_at dksX0_minutesBy_2 16 rfl rfl)
theorem dX0_minutesBy_65 : decode cX0_minutesBy 65 = .ok (.getfield 38, 3) := dk_180 0 38 (dk_at dksX0_minutesBy_2 17 rfl rfl)
theorem dX0_minutesBy_68 : decode cX0_minutesBy 68 = .ok (.iload_n 2, 1) := dk_28 (dk_at dksX0_minutesBy_2 20 rfl rfl)
theorem dX0_minutesBy_69 : decode cX0_minutesBy 69 = .ok (.invokevirtual 246, 3) := dk_182 0 246 (dk_at dksX0_minutesBy_2 21 rfl rfl)
theorem dX0_minutesBy_72 : decode cX0_minutesBy 72 = .ok (.pop, 1) := dk_87 (dk_at dksX0_minutesBy_3 0 rfl rfl)
theorem dX0_minutesBy_73 : decode cX0_minutesBy 73 = .ok (.aload_n 0, 1) := dk_42 (dk_at dksX0_minutesBy_3 1 rfl rfl)
theorem dX0_minutesBy_74 : decode cX0_minutesBy 74 = .ok (.getfield 35, 3) := dk_180 0 35 (dk_at dksX0_minutesBy_3 2 rfl rfl)
theorem dX0_minutesBy_77 : decode cX0_minutesBy 77 = .ok (.getfield 163, 3) := dk_180 0 163 (dk_at dksX0_minutesBy_3 5 rfl rfl)
theorem dX0_minutesBy_80 : decode cX0_minutesBy 80 = .ok (.aload_n 0, 1) := dk_42 (dk_at dksX0_minutesBy_3 8 rfl rfl)
theorem dX0_minutesBy_81 : decode cX0_minutesBy 81 = .ok (.getfield 31, 3) := dk_180 0 31 (dk_at dksX0_minutesBy_3 9 rfl rfl)
theorem dX0_minutesBy_84 : decode cX0_minutesBy 84 = .ok (.getfield 163, 3) := dk_180 0 163 (dk_at dksX0_minutesBy_3 12 rfl rfl)
theorem dX0_minutesBy_87 : decode cX0_minutesBy 87 = .ok (.isub, 1) := dk_100 (dk_at dksX0_minutesBy_3 15 rfl rfl)
theorem dX0_minutesBy_88 : decode cX0_minutesBy 88 = .ok (.ireturn, 1) := dk_172 (dk_at dksX0_minutesBy_3 16 rfl rfl)
abbrev cX0_climbsTill : ByteArray := prog_1_method_30_code
def yX0_climbsTill : MethodName := ⟨RX0, "climbsTill", "(IIII)Z"⟩
def dkwX0_climbsTill_2 : List UInt8 := [3, 172]
abbrev dktX0_climbsTill_2 : List UInt8 := dkwX0_climbsTill_2 ++ []
def dkwX0_climbsTill_1 : List UInt8 := [182, 0, 253, 153, 0, 5, 4, 172, 42, 42, 180, 0, 35, 27, 4, 182, 0, 231, 132, 5, 1, 167, 255, 215]
abbrev dktX0_climbsTill_1 : List UInt8 := dkwX0_climbsTill_1 ++ dktX0_climbsTill_2
def dkwX0_climbsTill_0 : List UInt8 := [3, 54, 5, 21, 5, 21, 4, 163, 0, 40, 42, 180, 0, 35, 28, 29, 42, 180, 0, 49, 182, 0, 224]
abbrev dktX0_climbsTill_0 : List UInt8 := dkwX0_climbsTill_0 ++ dktX0_climbsTill_1
theorem dksX0_climbsTill_0 : cX0_climbsTill.data.toList.drop 0 = dktX0_climbsTill_0 := by decide +kernel
theorem dksX0_climbsTill_1 : cX0_climbsTill.data.toList.drop 23 = dktX0_climbsTill_1 := dk_seg dksX0_climbsTill_0 23 rfl rfl
theorem dksX0_climbsTill_2 : cX0_climbsTill.data.toList.drop 47 = dktX0_climbsTill_2 := dk_seg dksX0_climbsTill_1 24 rfl rfl
theorem dX0_climbsTill_0 : decode cX0_climbsTill 0 = .ok (.iconst 0, 1) := dk_3 (dk_at dksX0_climbsTill_0 0 rfl rfl)
theorem dX0_climbsTill_1 : decode cX0_climbsTill 1 = .ok (.istore 5, 2) := dk_54 5 (dk_at dksX0_climbsTill_0 1 rfl rfl)
theorem dX0_climbsTill_3 : decode cX0_climbsTill 3 = .ok (.iload 5, 2) := dk_21 5 (dk_at dksX0_climbsTill_0 3 rfl rfl)
theorem dX0_climbsTill_5 : decode cX0_climbsTill 5 = .ok (.iload 4, 2) := dk_21 4 (dk_at dksX0_climbsTill_0 5 rfl rfl)
theorem dX0_climbsTill_7 : decode cX0_climbsTill 7 = .ok (.if_icmp .gt 40, 3) := dk_163 0 40 (dk_at dksX0_climbsTill_0 7 rfl rfl)
theorem dX0_climbsTill_10 : decode cX0_climbsTill 10 = .ok (.aload_n 0, 1) := dk_42 (dk_at dksX0_climbsTill_0 10 rfl rfl)
theorem dX0_climbsTill_11 : decode cX0_climbsTill 11 = .ok (.getfield 35, 3) := dk_180 0 35 (dk_at dksX0_climbsTill_0 11 rfl rfl)
theorem dX0_climbsTill_14 : decode cX0_climbsTill 14 = .ok (.iload_n 2, 1) := dk_28 (dk_at dksX0_climbsTill_0 14 rfl rfl)
theorem dX0_climbsTill_15 : decode cX0_climbsTill 15 = .ok (.iload_n 3, 1) := dk_29 (dk_at dksX0_climbsTill_0 15 rfl rfl)
theorem dX0_climbsTill_16 : decode cX0_climbsTill 16 = .ok (.aload_n 0, 1) := dk_42 (dk_at dksX0_climbsTill_0 16 rfl rfl)
theorem dX0_climbsTill_17 : decode cX0_climbsTill 17 = .ok (.getfield 49, 3) := dk_180 0 49 (dk_at dksX0_climbsTill_0 17 rfl rfl)
theorem dX0_climbsTill_20 : decode cX0_climbsTill 20 = .ok (.invokevirtual 224, 3) := dk_182 0 224 (dk_at dksX0_climbsTill_0 20 rfl rfl)
theorem dX0_climbsTill_23 : decode cX0_climbsTill 23 = .ok (.invokevirtual 253, 3) := dk_182 0 253 (dk_at dksX0_climbsTill_1 0 rfl rfl)
theorem dX0_climbsTill_26 : decode cX0_climbsTill 26 = .ok (.ifCond .eq 5, 3) := dk_153 0 5 (dk_at dksX0_climbsTill_1 3 rfl rfl)
theorem dX0_climbsTill_29 : decode cX0_climbsTill 29 = .ok (.iconst 1, 1) := dk_4 (dk_at dksX0_climbsTill_1 6 rfl rfl)
theorem dX0_climbsTill_30 : decode cX0_climbsTill 30 = .ok (.ireturn, 1) := dk_172 (dk_at dksX0_climbsTill_1 7 rfl rfl)
theorem dX0_climbsTill_31 : decode cX0_climbsTill 31 = .ok (.aload_n 0, 1) := dk_42 (dk_at dksX0_climbsTill_1 8 rfl rfl)
theorem dX0_climbsTill_32 : decode cX0_climbsTill 32 = .ok (.aload_n 0, 1) := dk_42 (dk_at dksX0_climbsTill_1 9 rfl rfl)
theorem dX0_climbsTill_33 : decode cX0_climbsTill 33 = .ok (.getfield 35, 3) := dk_180 0 35 (dk_at dksX0_climbsTill_1 10 rfl rfl)
theorem dX0_climbsTill_36 : decode cX0_climbsTill 36 = .ok (.iload_n 1, 1) := dk_27 (dk_at dksX0_climbsTill_1 13 rfl rfl)
theorem dX0_climbsTill_37 : decode cX0_climbsTill 37 = .ok (.iconst 1, 1) := dk_4 (dk_at dksX0_climbsTill_1 14 rfl rfl)
theorem dX0_climbsTill_38 : decode cX0_climbsTill 38 = .ok (.invokevirtual 231, 3) := dk_182 0 231 (dk_at dksX0_climbsTill_1 15 rfl rfl)
theorem dX0_climbsTill_41 : decode cX0_climbsTill 41 = .ok (.iinc 5 1, 3) := dk_132 5 1 (dk_at dksX0_climbsTill_1 18 rfl rfl)
theorem dX0_climbsTill_44 : decode cX0_climbsTill 44 = .ok (.goto (-41), 3) := dk_167 255 215 (dk_at dksX0_climbsTill_1 21 rfl rfl)
theorem dX0_climbsTill_47 : decode cX0_climbsTill 47 = .ok (.iconst 0, 1) := dk_3 (dk_at dksX0_climbsTill_2 0 rfl rfl)
theorem dX0_climbsTill_48 : decode cX0_climbsTill 48 = .ok (.ireturn, 1) := dk_172 (dk_at dksX0_climbsTill_2 1 rfl rfl)
abbrev cX0_straight : ByteArray := prog_1_method_34_code
def yX0_straight : MethodName := ⟨RX0, "straight", "(I)I"⟩
def dkwX0_straight_0 : List UInt8 := [27, 184, 0, 235, 153, 0, 11, 42, 27, 182, 1, 13, 167, 0, 5, 16, 254, 172]
abbrev dktX0_straight_0 : List UInt8 := dkwX0_straight_0 ++ []
theorem dksX0_straight_0 : cX0_straight.data.toList.drop 0 = dktX0_straight_0 := by decide +kernel
theorem dX0_straight_0 : decode cX0_straight 0 = .ok (.iload_n 1, 1) := dk_27 (dk_at dksX0_straight_0 0 rfl rfl)
theorem dX0_straight_1 : decode cX0_straight 1 = .ok (.invokestatic 235, 3) := dk_184 0 235 (dk_at dksX0_straight_0 1 rfl rfl)
theorem dX0_straight_4 : decode cX0_straight 4 = .ok (.ifCond .eq 11, 3) := dk_153 0 11 (dk_at dksX0_straight_0 4 rfl rfl)
theorem dX0_straight_7 : decode cX0_straight 7 = .ok (.aload_n 0, 1) := dk_42 (dk_at dksX0_straight_0 7 rfl rfl)
theorem dX0_straight_8 : decode cX0_straight 8 = .ok (.iload_n 1, 1) := dk_27 (dk_at dksX0_straight_0 8 rfl rfl)
theorem dX0_straight_9 : decode cX0_straight 9 = .ok (.invokevirtual 269, 3) := dk_182 1 13 (dk_at dksX0_straight_0 9 rfl rfl)
theorem dX0_straight_12 : decode cX0_straight 12 = .ok (.goto 5, 3) := dk_167 0 5 (dk_at dksX0_straight_0 12 rfl rfl)
theorem dX0_straight_15 : decode cX0_straight 15 = .ok (.bipush (-2), 2) := dk_16 254 (dk_at dksX0_straight_0 15 rfl rfl)
theorem dX0_straight_17 : decode cX0_straight 17 = .ok (.ireturn, 1) := dk_172 (dk_at dksX0_straight_0 17 rfl rfl)
abbrev cX0_minutesStraight : ByteArray := prog_1_method_33_code
def yX0_minutesStraight : MethodName := ⟨RX0, "minutesStraight", "(I)I"⟩
def dkwX0_minutesStraight_2 : List UInt8 := [172]
abbrev dktX0_minutesStraight_2 : List UInt8 := dkwX0_minutesStraight_2 ++ []
def dkwX0_minutesStraight_1 : List UInt8 := [180, 0, 38, 42, 180, 0, 31, 180, 0, 218, 100, 184, 0, 249, 16, 10, 27, 100, 104, 167, 0, 5, 16, 251]
abbrev dktX0_minutesStraight_1 : List UInt8 := dkwX0_minutesStraight_1 ++ dktX0_minutesStraight_2
def dkwX0_minutesStraight_0 : List UInt8 := [42, 180, 0, 31, 42, 180, 0, 38, 27, 42, 180, 0, 49, 182, 0, 224, 182, 0, 253, 153, 0, 26, 42]
abbrev dktX0_minutesStraight_0 : List UInt8 := dkwX0_minutesStraight_0 ++ dktX0_minutesStraight_1
theorem dksX0_minutesStraight_0 : cX0_minutesStraight.data.toList.drop 0 = dktX0_minutesStraight_0 := by decide +kernel
theorem dksX0_minutesStraight_1 : cX0_minutesStraight.data.toList.drop 23 = dktX0_minutesStraight_1 := dk_seg dksX0_minutesStraight_0 23 rfl rfl
theorem dksX0_minutesStraight_2 : cX0_minutesStraight.data.toList.drop 47 = dktX0_minutesStraight_2 := dk_seg dksX0_minutesStraight_1 24 rfl rfl
theorem dX0_minutesStraight_0 : decode cX0_minutesStraight 0 = .ok (.aload_n 0, 1) := dk_42 (dk_at dksX0_minutesStraight_0 0 rfl rfl)
theorem dX0_minutesStraight_1 : decode cX0_minutesStraight 1 = .ok (.getfield 31, 3) := dk_180 0 31 (dk_at dksX0_minutesStraight_0 1 rfl rfl)
theorem dX0_minutesStraight_4 : decode cX0_minutesStraight 4 = .ok (.aload_n 0, 1) := dk_42 (dk_at dksX0_minutesStraight_0 4 rfl rfl)
theorem dX0_minutesStraight_5 : decode cX0_minutesStraight 5 = .ok (.getfield 38, 3) := dk_180 0 38 (dk_at dksX0_minutesStraight_0 5 rfl rfl)
theorem dX0_minutesStraight_8 : decode cX0_minutesStraight 8 = .ok (.iload_n 1, 1) := dk_27 (dk_at dksX0_minutesStraight_0 8 rfl rfl)
theorem dX0_minutesStraight_9 : decode cX0_minutesStraight 9 = .ok (.aload_n 0, 1) := dk_42 (dk_at dksX0_minutesStraight_0 9 rfl rfl)
theorem dX0_minutesStraight_10 : decode cX0_minutesStraight 10 = .ok (.getfield 49, 3) := dk_180 0 49 (dk_at dksX0_minutesStraight_0 10 rfl rfl)
theorem dX0_minutesStraight_13 : decode cX0_minutesStraight 13 = .ok (.invokevirtual 224, 3) := dk_182 0 224 (dk_at dksX0_minutesStraight_0 13 rfl rfl)
theorem dX0_minutesStraight_16 : decode cX0_minutesStraight 16 = .ok (.invokevirtual 253, 3) := dk_182 0 253 (dk_at dksX0_minutesStraight_0 16 rfl rfl)
theorem dX0_minutesStraight_19 : decode cX0_minutesStraight 19 = .ok (.ifCond .eq 26, 3) := dk_153 0 26 (dk_at dksX0_minutesStraight_0 19 rfl rfl)
theorem dX0_minutesStraight_22 : decode cX0_minutesStraight 22 = .ok (.aload_n 0, 1) := dk_42 (dk_at dksX0_minutesStraight_0 22 rfl rfl)
theorem dX0_minutesStraight_23 : decode cX0_minutesStraight 23 = .ok (.getfield 38, 3) := dk_180 0 38 (dk_at dksX0_minutesStraight_1 0 rfl rfl)
theorem dX0_minutesStraight_26 : decode cX0_minutesStraight 26 = .ok (.aload_n 0, 1) := dk_42 (dk_at dksX0_minutesStraight_1 3 rfl rfl)
theorem dX0_minutesStraight_27 : decode cX0_minutesStraight 27 = .ok (.getfield 31, 3) := dk_180 0 31 (dk_at dksX0_minutesStraight_1 4 rfl rfl)
theorem dX0_minutesStraight_30 : decode cX0_minutesStraight 30 = .ok (.getfield 218, 3) := dk_180 0 218 (dk_at dksX0_minutesStraight_1 7 rfl rfl)
theorem dX0_minutesStraight_33 : decode cX0_minutesStraight 33 = .ok (.isub, 1) := dk_100 (dk_at dksX0_minutesStraight_1 10 rfl rfl)
theorem dX0_minutesStraight_34 : decode cX0_minutesStraight 34 = .ok (.invokestatic 249, 3) := dk_184 0 249 (dk_at dksX0_minutesStraight_1 11 rfl rfl)
theorem dX0_minutesStraight_37 : decode cX0_minutesStraight 37 = .ok (.bipush 10, 2) := dk_16 10 (dk_at dksX0_minutesStraight_1 14 rfl rfl)
theorem dX0_minutesStraight_39 : decode cX0_minutesStraight 39 = .ok (.iload_n 1, 1) := dk_27 (dk_at dksX0_minutesStraight_1 16 rfl rfl)
theorem dX0_minutesStraight_40 : decode cX0_minutesStraight 40 = .ok (.isub, 1) := dk_100 (dk_at dksX0_minutesStraight_1 17 rfl rfl)
theorem dX0_minutesStraight_41 : decode cX0_minutesStraight 41 = .ok (.imul, 1) := dk_104 (dk_at dksX0_minutesStraight_1 18 rfl rfl)
theorem dX0_minutesStraight_42 : decode cX0_minutesStraight 42 = .ok (.goto 5, 3) := dk_167 0 5 (dk_at dksX0_minutesStraight_1 19 rfl rfl)
theorem dX0_minutesStraight_45 : decode cX0_minutesStraight 45 = .ok (.bipush (-5), 2) := dk_16 251 (dk_at dksX0_minutesStraight_1 22 rfl rfl)
theorem dX0_minutesStraight_47 : decode cX0_minutesStraight 47 = .ok (.ireturn, 1) := dk_172 (dk_at dksX0_minutesStraight_2 0 rfl rfl)
abbrev cX0_best : ByteArray := prog_1_method_36_code
def yX0_best : MethodName := ⟨RX0, "best", "(I)I"⟩
def dkwX0_best_1 : List UInt8 := [180, 1, 16, 167, 0, 16, 27, 4, 160, 0, 10, 42, 180, 1, 19, 167, 0, 4, 28, 172]
abbrev dktX0_best_1 : List UInt8 := dkwX0_best_1 ++ []
def dkwX0_best_0 : List UInt8 := [27, 3, 5, 184, 0, 5, 154, 0, 7, 17, 252, 23, 172, 42, 2, 182, 1, 22, 61, 27, 154, 0, 10, 42]
abbrev dktX0_best_0 : List UInt8 := dkwX0_best_0 ++ dktX0_best_1
theorem dksX0_best_0 : cX0_best.data.toList.drop 0 = dktX0_best_0 := by decide +kernel
theorem dksX0_best_1 : cX0_best.data.toList.drop 24 = dktX0_best_1 := dk_seg dksX0_best_0 24 rfl rfl
theorem dX0_best_0 : decode cX0_best 0 = .ok (.iload_n 1, 1) := dk_27 (dk_at dksX0_best_0 0 rfl rfl)
theorem dX0_best_1 : decode cX0_best 1 = .ok (.iconst 0, 1) := dk_3 (dk_at dksX0_best_0 1 rfl rfl)
theorem dX0_best_2 : decode cX0_best 2 = .ok (.iconst 2, 1) := dk_5 (dk_at dksX0_best_0 2 rfl rfl)
theorem dX0_best_3 : decode cX0_best 3 = .ok (.invokestatic 5, 3) := dk_184 0 5 (dk_at dksX0_best_0 3 rfl rfl)
theorem dX0_best_6 : decode cX0_best 6 = .ok (.ifCond .ne 7, 3) := dk_154 0 7 (dk_at dksX0_best_0 6 rfl rfl)
theorem dX0_best_9 : decode cX0_best 9 = .ok (.sipush (-1001), 3) := dk_17 252 23 (dk_at dksX0_best_0 9 rfl rfl)
theorem dX0_best_12 : decode cX0_best 12 = .ok (.ireturn, 1) := dk_172 (dk_at dksX0_best_0 12 rfl rfl)
theorem dX0_best_13 : decode cX0_best 13 = .ok (.aload_n 0, 1) := dk_42 (dk_at dksX0_best_0 13 rfl rfl)
theorem dX0_best_14 : decode cX0_best 14 = .ok (.iconst (-1), 1) := dk_2 (dk_at dksX0_best_0 14 rfl rfl)
theorem dX0_best_15 : decode cX0_best 15 = .ok (.invokevirtual 278, 3) := dk_182 1 22 (dk_at dksX0_best_0 15 rfl rfl)
theorem dX0_best_18 : decode cX0_best 18 = .ok (.istore_n 2, 1) := dk_61 (dk_at dksX0_best_0 18 rfl rfl)
theorem dX0_best_19 : decode cX0_best 19 = .ok (.iload_n 1, 1) := dk_27 (dk_at dksX0_best_0 19 rfl rfl)
theorem dX0_best_20 : decode cX0_best 20 = .ok (.ifCond .ne 10, 3) := dk_154 0 10 (dk_at dksX0_best_0 20 rfl rfl)
theorem dX0_best_23 : decode cX0_best 23 = .ok (.aload_n 0, 1) := dk_42 (dk_at dksX0_best_0 23 rfl rfl)
theorem dX0_best_24 : decode cX0_best 24 = .ok (.getfield 272, 3) := dk_180 1 16 (dk_at dksX0_best_1 0 rfl rfl)
theorem dX0_best_27 : decode cX0_best 27 = .ok (.goto 16, 3) := dk_167 0 16 (dk_at dksX0_best_1 3 rfl rfl)
theorem dX0_best_30 : decode cX0_best 30 = .ok (.iload_n 1, 1) := dk_27 (dk_at dksX0_best_1 6 rfl rfl)
theorem dX0_best_31 : decode cX0_best 31 = .ok (.iconst 1, 1) := dk_4 (dk_at dksX0_best_1 7 rfl rfl)
theorem dX0_best_32 : decode cX0_best 32 = .ok (.if_icmp .ne 10, 3) := dk_160 0 10 (dk_at dksX0_best_1 8 rfl rfl)
theorem dX0_best_35 : decode cX0_best 35 = .ok (.aload_n 0, 1) := dk_42 (dk_at dksX0_best_1 11 rfl rfl)
theorem dX0_best_36 : decode cX0_best 36 = .ok (.getfield 275, 3) := dk_180 1 19 (dk_at dksX0_best_1 12 rfl rfl)
theorem dX0_best_39 : decode cX0_best 39 = .ok (.goto 4, 3) := dk_167 0 4 (dk_at dksX0_best_1 15 rfl rfl)
theorem dX0_best_42 : decode cX0_best 42 = .ok (.iload_n 2, 1) := dk_28 (dk_at dksX0_best_1 18 rfl rfl)
theorem dX0_best_43 : decode cX0_best 43 = .ok (.ireturn, 1) := dk_172 (dk_at dksX0_best_1 19 rfl rfl)
abbrev cX0_fewestBut : ByteArray := prog_1_method_35_code
def yX0_fewestBut : MethodName := ⟨RX0, "fewestBut", "(I)I"⟩
def dkwX0_fewestBut_4 : List UInt8 := [29, 181, 1, 16, 42, 21, 4, 181, 1, 19, 132, 4, 1, 167, 255, 177, 132, 3, 1, 167, 255, 160, 28, 172]
abbrev dktX0_fewestBut_4 : List UInt8 := dkwX0_fewestBut_4 ++ []
def dkwX0_fewestBut_3 : List UInt8 := [16, 251, 159, 0, 32, 28, 16, 251, 159, 0, 12, 21, 5, 28, 161, 0, 6, 167, 0, 17, 21, 5, 61, 42]
abbrev dktX0_fewestBut_3 : List UInt8 := dkwX0_fewestBut_3 ++ dktX0_fewestBut_4
def dkwX0_fewestBut_2 : List UInt8 := [2, 160, 0, 12, 42, 21, 4, 182, 1, 13, 167, 0, 10, 42, 29, 21, 4, 182, 1, 10, 54, 5, 21, 5]
abbrev dktX0_fewestBut_2 : List UInt8 := dkwX0_fewestBut_2 ++ dktX0_fewestBut_3
def dkwX0_fewestBut_1 : List UInt8 := [162, 0, 94, 4, 54, 4, 21, 4, 16, 9, 163, 0, 78, 29, 2, 159, 0, 8, 29, 27, 159, 0, 68, 29]
abbrev dktX0_fewestBut_1 : List UInt8 := dkwX0_fewestBut_1 ++ dktX0_fewestBut_2
def dkwX0_fewestBut_0 : List UInt8 := [42, 16, 251, 181, 1, 16, 42, 16, 251, 181, 1, 19, 16, 251, 61, 2, 62, 29, 42, 180, 0, 116]
abbrev dktX0_fewestBut_0 : List UInt8 := dkwX0_fewestBut_0 ++ dktX0_fewestBut_1
theorem dksX0_fewestBut_0 : cX0_fewestBut.data.toList.drop 0 = dktX0_fewestBut_0 := by decide +kernel
theorem dksX0_fewestBut_1 : cX0_fewestBut.data.toList.drop 22 = dktX0_fewestBut_1 := dk_seg dksX0_fewestBut_0 22 rfl rfl
theorem dksX0_fewestBut_2 : cX0_fewestBut.data.toList.drop 46 = dktX0_fewestBut_2 := dk_seg dksX0_fewestBut_1 24 rfl rfl
theorem dksX0_fewestBut_3 : cX0_fewestBut.data.toList.drop 70 = dktX0_fewestBut_3 := dk_seg dksX0_fewestBut_2 24 rfl rfl
theorem dksX0_fewestBut_4 : cX0_fewestBut.data.toList.drop 94 = dktX0_fewestBut_4 := dk_seg dksX0_fewestBut_3 24 rfl rfl
theorem dX0_fewestBut_0 : decode cX0_fewestBut 0 = .ok (.aload_n 0, 1) := dk_42 (dk_at dksX0_fewestBut_0 0 rfl rfl)
theorem dX0_fewestBut_1 : decode cX0_fewestBut 1 = .ok (.bipush (-5), 2) := dk_16 251 (dk_at dksX0_fewestBut_0 1 rfl rfl)
theorem dX0_fewestBut_3 : decode cX0_fewestBut 3 = .ok (.putfield 272, 3) := dk_181 1 16 (dk_at dksX0_fewestBut_0 3 rfl rfl)
theorem dX0_fewestBut_6 : decode cX0_fewestBut 6 = .ok (.aload_n 0, 1) := dk_42 (dk_at dksX0_fewestBut_0 6 rfl rfl)
theorem dX0_fewestBut_7 : decode cX0_fewestBut 7 = .ok (.bipush (-5), 2) := dk_16 251 (dk_at dksX0_fewestBut_0 7 rfl rfl)
theorem dX0_fewestBut_9 : decode cX0_fewestBut 9 = .ok (.putfield 275, 3) := dk_181 1 19 (dk_at dksX0_fewestBut_0 9 rfl rfl)
theorem dX0_fewestBut_12 : decode cX0_fewestBut 12 = .ok (.bipush (-5), 2) := dk_16 251 (dk_at dksX0_fewestBut_0 12 rfl rfl)
theorem dX0_fewestBut_14 : decode cX0_fewestBut 14 = .ok (.istore_n 2, 1) := dk_61 (dk_at dksX0_fewestBut_0 14 rfl rfl)
theorem dX0_fewestBut_15 : decode cX0_fewestBut 15 = .ok (.iconst (-1), 1) := dk_2 (dk_at dksX0_fewestBut_0 15 rfl rfl)
theorem dX0_fewestBut_16 : decode cX0_fewestBut 16 = .ok (.istore_n 3, 1) := dk_62 (dk_at dksX0_fewestBut_0 16 rfl rfl)
theorem dX0_fewestBut_17 : decode cX0_fewestBut 17 = .ok (.iload_n 3, 1) := dk_29 (dk_at dksX0_fewestBut_0 17 rfl rfl)
theorem dX0_fewestBut_18 : decode cX0_fewestBut 18 = .ok (.aload_n 0, 1) := dk_42 (dk_at dksX0_fewestBut_0 18 rfl rfl)
theorem dX0_fewestBut_19 : decode cX0_fewestBut 19 = .ok (.getfield 116, 3) := dk_180 0 116 (dk_at dksX0_fewestBut_0 19 rfl rfl)
theorem dX0_fewestBut_22 : decode cX0_fewestBut 22 = .ok (.if_icmp .ge 94, 3) := dk_162 0 94 (dk_at dksX0_fewestBut_1 0 rfl rfl)
theorem dX0_fewestBut_25 : decode cX0_fewestBut 25 = .ok (.iconst 1, 1) := dk_4 (dk_at dksX0_fewestBut_1 3 rfl rfl)
theorem dX0_fewestBut_26 : decode cX0_fewestBut 26 = .ok (.istore 4, 2) := dk_54 4 (dk_at dksX0_fewestBut_1 4 rfl rfl)
theorem dX0_fewestBut_28 : decode cX0_fewestBut 28 = .ok (.iload 4, 2) := dk_21 4 (dk_at dksX0_fewestBut_1 6 rfl rfl)
theorem dX0_fewestBut_30 : decode cX0_fewestBut 30 = .ok (.bipush 9, 2) := dk_16 9 (dk_at dksX0_fewestBut_1 8 rfl rfl)
theorem dX0_fewestBut_32 : decode cX0_fewestBut 32 = .ok (.if_icmp .gt 78, 3) := dk_163 0 78 (dk_at dksX0_fewestBut_1 10 rfl rfl)
theorem dX0_fewestBut_35 : decode cX0_fewestBut 35 = .ok (.iload_n 3, 1) := dk_29 (dk_at dksX0_fewestBut_1 13 rfl rfl)
theorem dX0_fewestBut_36 : decode cX0_fewestBut 36 = .ok (.iconst (-1), 1) := dk_2 (dk_at dksX0_fewestBut_1 14 rfl rfl)
theorem dX0_fewestBut_37 : decode cX0_fewestBut 37 = .ok (.if_icmp .eq 8, 3) := dk_159 0 8 (dk_at dksX0_fewestBut_1 15 rfl rfl)
theorem dX0_fewestBut_40 : decode cX0_fewestBut 40 = .ok (.iload_n 3, 1) := dk_29 (dk_at dksX0_fewestBut_1 18 rfl rfl)
theorem dX0_fewestBut_41 : decode cX0_fewestBut 41 = .ok (.iload_n 1, 1) := dk_27 (dk_at dksX0_fewestBut_1 19 rfl rfl)
theorem dX0_fewestBut_42 : decode cX0_fewestBut 42 = .ok (.if_icmp .eq 68, 3) := dk_159 0 68 (dk_at dksX0_fewestBut_1 20 rfl rfl)
theorem dX0_fewestBut_45 : decode cX0_fewestBut 45 = .ok (.iload_n 3, 1) := dk_29 (dk_at dksX0_fewestBut_1 23 rfl rfl)
theorem dX0_fewestBut_46 : decode cX0_fewestBut 46 = .ok (.iconst (-1), 1) := dk_2 (dk_at dksX0_fewestBut_2 0 rfl rfl)
theorem dX0_fewestBut_47 : decode cX0_fewestBut 47 = .ok (.if_icmp .ne 12, 3) := dk_160 0 12 (dk_at dksX0_fewestBut_2 1 rfl rfl)
theorem dX0_fewestBut_50 : decode cX0_fewestBut 50 = .ok (.aload_n 0, 1) := dk_42 (dk_at dksX0_fewestBut_2 4 rfl rfl)
theorem dX0_fewestBut_51 : decode cX0_fewestBut 51 = .ok (.iload 4, 2) := dk_21 4 (dk_at dksX0_fewestBut_2 5 rfl rfl)
theorem dX0_fewestBut_53 : decode cX0_fewestBut 53 = .ok (.invokevirtual 269, 3) := dk_182 1 13 (dk_at dksX0_fewestBut_2 7 rfl rfl)
theorem dX0_fewestBut_56 : decode cX0_fewestBut 56 = .ok (.goto 10, 3) := dk_167 0 10 (dk_at dksX0_fewestBut_2 10 rfl rfl)
theorem dX0_fewestBut_59 : decode cX0_fewestBut 59 = .ok (.aload_n 0, 1) := dk_42 (dk_at dksX0_fewestBut_2 13 rfl rfl)
theorem dX0_fewestBut_60 : decode cX0_fewestBut 60 = .ok (.iload_n 3, 1) := dk_29 (dk_at dksX0_fewestBut_2 14 rfl rfl)
theorem dX0_fewestBut_61 : decode cX0_fewestBut 61 = .ok (.iload 4, 2) := dk_21 4 (dk_at dksX0_fewestBut_2 15 rfl rfl)
theorem dX0_fewestBut_63 : decode cX0_fewestBut 63 = .ok (.invokevirtual 266, 3) := dk_182 1 10 (dk_at dksX0_fewestBut_2 17 rfl rfl)
theorem dX0_fewestBut_66 : decode cX0_fewestBut 66 = .ok (.istore 5, 2) := dk_54 5 (dk_at dksX0_fewestBut_2 20 rfl rfl)
theorem dX0_fewestBut_68 : decode cX0_fewestBut 68 = .ok (.iload 5, 2) := dk_21 5 (dk_at dksX0_fewestBut_2 22 rfl rfl)
theorem dX0_fewestBut_70 : decode cX0_fewestBut 70 = .ok (.bipush (-5), 2) := dk_16 251 (dk_at dksX0_fewestBut_3 0 rfl rfl)
theorem dX0_fewestBut_72 : decode cX0_fewestBut 72 = .ok (.if_icmp .eq 32, 3) := dk_159 0 32 (dk_at dksX0_fewestBut_3 2 rfl rfl)
theorem dX0_fewestBut_75 : decode cX0_fewestBut 75 = .ok (.iload_n 2, 1) := dk_28 (dk_at dksX0_fewestBut_3 5 rfl rfl)
theorem dX0_fewestBut_76 : decode cX0_fewestBut 76 = .ok (.bipush (-5), 2) := dk_16 251 (dk_at dksX0_fewestBut_3 6 rfl rfl)
theorem dX0_fewestBut_78 : decode cX0_fewestBut 78 = .ok (.if_icmp .eq 12, 3) := dk_159 0 12 (dk_at dksX0_fewestBut_3 8 rfl rfl)
theorem dX0_fewestBut_81 : decode cX0_fewestBut 81 = .ok (.iload 5, 2) := dk_21 5 (dk_at dksX0_fewestBut_3 11 rfl rfl)
theorem dX0_fewestBut_83 : decode cX0_fewestBut 83 = .ok (.iload_n 2, 1) := dk_28 (dk_at dksX0_fewestBut_3 13 rfl rfl)
theorem dX0_fewestBut_84 : decode cX0_fewestBut 84 = .ok (.if_icmp .lt 6, 3) := dk_161 0 6 (dk_at dksX0_fewestBut_3 14 rfl rfl)
theorem dX0_fewestBut_87 : decode cX0_fewestBut 87 = .ok (.goto 17, 3) := dk_167 0 17 (dk_at dksX0_fewestBut_3 17 rfl rfl)
theorem dX0_fewestBut_90 : decode cX0_fewestBut 90 = .ok (.iload 5, 2) := dk_21 5 (dk_at dksX0_fewestBut_3 20 rfl rfl)
theorem dX0_fewestBut_92 : decode cX0_fewestBut 92 = .ok (.istore_n 2, 1) := dk_61 (dk_at dksX0_fewestBut_3 22 rfl rfl)
theorem dX0_fewestBut_93 : decode cX0_fewestBut 93 = .ok (.aload_n 0, 1) := dk_42 (dk_at dksX0_fewestBut_3 23 rfl rfl)
theorem dX0_fewestBut_94 : decode cX0_fewestBut 94 = .ok (.iload_n 3, 1) := dk_29 (dk_at dksX0_fewestBut_4 0 rfl rfl)
theorem dX0_fewestBut_95 : decode cX0_fewestBut 95 = .ok (.putfield 272, 3) := dk_181 1 16 (dk_at dksX0_fewestBut_4 1 rfl rfl)
theorem dX0_fewestBut_98 : decode cX0_fewestBut 98 = .ok (.aload_n 0, 1) := dk_42 (dk_at dksX0_fewestBut_4 4 rfl rfl)
theorem dX0_fewestBut_99 : decode cX0_fewestBut 99 = .ok (.iload 4, 2) := dk_21 4 (dk_at dksX0_fewestBut_4 5 rfl rfl)
theorem dX0_fewestBut_101 : decode cX0_fewestBut 101 = .ok (.putfield 275, 3) := dk_181 1 19 (dk_at dksX0_fewestBut_4 7 rfl rfl)
theorem dX0_fewestBut_104 : decode cX0_fewestBut 104 = .ok (.iinc 4 1, 3) := dk_132 4 1 (dk_at dksX0_fewestBut_4 10 rfl rfl)
theorem dX0_fewestBut_107 : decode cX0_fewestBut 107 = .ok (.goto (-79), 3) := dk_167 255 177 (dk_at dksX0_fewestBut_4 13 rfl rfl)
theorem dX0_fewestBut_110 : decode cX0_fewestBut 110 = .ok (.iinc 3 1, 3) := dk_132 3 1 (dk_at dksX0_fewestBut_4 16 rfl rfl)
theorem dX0_fewestBut_113 : decode cX0_fewestBut 113 = .ok (.goto (-96), 3) := dk_167 255 160 (dk_at dksX0_fewestBut_4 19 rfl rfl)
theorem dX0_fewestBut_116 : decode cX0_fewestBut 116 = .ok (.iload_n 2, 1) := dk_28 (dk_at dksX0_fewestBut_4 22 rfl rfl)
theorem dX0_fewestBut_117 : decode cX0_fewestBut 117 = .ok (.ireturn, 1) := dk_172 (dk_at dksX0_fewestBut_4 23 rfl rfl)
abbrev cX0_two : ByteArray := prog_1_method_38_code
def yX0_two : MethodName := ⟨RX0, "two", "(II)I"⟩
def dkwX0_two_5 : List UInt8 := [167, 255, 184, 132, 5, 1, 167, 255, 166, 28, 154, 0, 7, 29, 167, 0, 5, 21, 4, 172]
abbrev dktX0_two_5 : List UInt8 := dkwX0_two_5 ++ []
def dkwX0_two_4 : List UInt8 := [161, 0, 6, 167, 0, 16, 21, 7, 54, 4, 16, 10, 21, 5, 104, 21, 6, 96, 62, 132, 6, 1]
abbrev dktX0_two_4 : List UInt8 := dkwX0_two_4 ++ dktX0_two_5
def dkwX0_two_3 : List UInt8 := [182, 1, 25, 54, 7, 21, 7, 16, 251, 159, 0, 33, 21, 4, 16, 251, 159, 0, 13, 21, 7, 21, 4]
abbrev dktX0_two_3 : List UInt8 := dkwX0_two_3 ++ dktX0_two_4
def dkwX0_two_2 : List UInt8 := [180, 0, 116, 162, 0, 69, 21, 5, 21, 6, 160, 0, 8, 16, 251, 167, 0, 12, 42, 21, 5, 21, 6, 27]
abbrev dktX0_two_2 : List UInt8 := dkwX0_two_2 ++ dktX0_two_3
def dkwX0_two_1 : List UInt8 := [16, 251, 54, 4, 3, 54, 5, 21, 5, 42, 180, 0, 116, 162, 0, 87, 3, 54, 6, 21, 6, 42]
abbrev dktX0_two_1 : List UInt8 := dkwX0_two_1 ++ dktX0_two_2
def dkwX0_two_0 : List UInt8 := [28, 3, 4, 184, 0, 5, 154, 0, 5, 2, 172, 27, 184, 0, 235, 154, 0, 6, 16, 254, 172, 16, 251, 62]
abbrev dktX0_two_0 : List UInt8 := dkwX0_two_0 ++ dktX0_two_1
theorem dksX0_two_0 : cX0_two.data.toList.drop 0 = dktX0_two_0 := by decide +kernel
theorem dksX0_two_1 : cX0_two.data.toList.drop 24 = dktX0_two_1 := dk_seg dksX0_two_0 24 rfl rfl
theorem dksX0_two_2 : cX0_two.data.toList.drop 46 = dktX0_two_2 := dk_seg dksX0_two_1 22 rfl rfl
theorem dksX0_two_3 : cX0_two.data.toList.drop 70 = dktX0_two_3 := dk_seg dksX0_two_2 24 rfl rfl
theorem dksX0_two_4 : cX0_two.data.toList.drop 93 = dktX0_two_4 := dk_seg dksX0_two_3 23 rfl rfl
theorem dksX0_two_5 : cX0_two.data.toList.drop 115 = dktX0_two_5 := dk_seg dksX0_two_4 22 rfl rfl
theorem dX0_two_0 : decode cX0_two 0 = .ok (.iload_n 2, 1) := dk_28 (dk_at dksX0_two_0 0 rfl rfl)
theorem dX0_two_1 : decode cX0_two 1 = .ok (.iconst 0, 1) := dk_3 (dk_at dksX0_two_0 1 rfl rfl)
theorem dX0_two_2 : decode cX0_two 2 = .ok (.iconst 1, 1) := dk_4 (dk_at dksX0_two_0 2 rfl rfl)
theorem dX0_two_3 : decode cX0_two 3 = .ok (.invokestatic 5, 3) := dk_184 0 5 (dk_at dksX0_two_0 3 rfl rfl)
theorem dX0_two_6 : decode cX0_two 6 = .ok (.ifCond .ne 5, 3) := dk_154 0 5 (dk_at dksX0_two_0 6 rfl rfl)
theorem dX0_two_9 : decode cX0_two 9 = .ok (.iconst (-1), 1) := dk_2 (dk_at dksX0_two_0 9 rfl rfl)
theorem dX0_two_10 : decode cX0_two 10 = .ok (.ireturn, 1) := dk_172 (dk_at dksX0_two_0 10 rfl rfl)
theorem dX0_two_11 : decode cX0_two 11 = .ok (.iload_n 1, 1) := dk_27 (dk_at dksX0_two_0 11 rfl rfl)
theorem dX0_two_12 : decode cX0_two 12 = .ok (.invokestatic 235, 3) := dk_184 0 235 (dk_at dksX0_two_0 12 rfl rfl)
theorem dX0_two_15 : decode cX0_two 15 = .ok (.ifCond .ne 6, 3) := dk_154 0 6 (dk_at dksX0_two_0 15 rfl rfl)
theorem dX0_two_18 : decode cX0_two 18 = .ok (.bipush (-2), 2) := dk_16 254 (dk_at dksX0_two_0 18 rfl rfl)
theorem dX0_two_20 : decode cX0_two 20 = .ok (.ireturn, 1) := dk_172 (dk_at dksX0_two_0 20 rfl rfl)
theorem dX0_two_21 : decode cX0_two 21 = .ok (.bipush (-5), 2) := dk_16 251 (dk_at dksX0_two_0 21 rfl rfl)
theorem dX0_two_23 : decode cX0_two 23 = .ok (.istore_n 3, 1) := dk_62 (dk_at dksX0_two_0 23 rfl rfl)
theorem dX0_two_24 : decode cX0_two 24 = .ok (.bipush (-5), 2) := dk_16 251 (dk_at dksX0_two_1 0 rfl rfl)
theorem dX0_two_26 : decode cX0_two 26 = .ok (.istore 4, 2) := dk_54 4 (dk_at dksX0_two_1 2 rfl rfl)
theorem dX0_two_28 : decode cX0_two 28 = .ok (.iconst 0, 1) := dk_3 (dk_at dksX0_two_1 4 rfl rfl)
theorem dX0_two_29 : decode cX0_two 29 = .ok (.istore 5, 2) := dk_54 5 (dk_at dksX0_two_1 5 rfl rfl)
theorem dX0_two_31 : decode cX0_two 31 = .ok (.iload 5, 2) := dk_21 5 (dk_at dksX0_two_1 7 rfl rfl)
theorem dX0_two_33 : decode cX0_two 33 = .ok (.aload_n 0, 1) := dk_42 (dk_at dksX0_two_1 9 rfl rfl)
theorem dX0_two_34 : decode cX0_two 34 = .ok (.getfield 116, 3) := dk_180 0 116 (dk_at dksX0_two_1 10 rfl rfl)
theorem dX0_two_37 : decode cX0_two 37 = .ok (.if_icmp .ge 87, 3) := dk_162 0 87 (dk_at dksX0_two_1 13 rfl rfl)
theorem dX0_two_40 : decode cX0_two 40 = .ok (.iconst 0, 1) := dk_3 (dk_at dksX0_two_1 16 rfl rfl)
theorem dX0_two_41 : decode cX0_two 41 = .ok (.istore 6, 2) := dk_54 6 (dk_at dksX0_two_1 17 rfl rfl)
theorem dX0_two_43 : decode cX0_two 43 = .ok (.iload 6, 2) := dk_21 6 (dk_at dksX0_two_1 19 rfl rfl)
theorem dX0_two_45 : decode cX0_two 45 = .ok (.aload_n 0, 1) := dk_42 (dk_at dksX0_two_1 21 rfl rfl)
theorem dX0_two_46 : decode cX0_two 46 = .ok (.getfield 116, 3) := dk_180 0 116 (dk_at dksX0_two_2 0 rfl rfl)
theorem dX0_two_49 : decode cX0_two 49 = .ok (.if_icmp .ge 69, 3) := dk_162 0 69 (dk_at dksX0_two_2 3 rfl rfl)
theorem dX0_two_52 : decode cX0_two 52 = .ok (.iload 5, 2) := dk_21 5 (dk_at dksX0_two_2 6 rfl rfl)
theorem dX0_two_54 : decode cX0_two 54 = .ok (.iload 6, 2) := dk_21 6 (dk_at dksX0_two_2 8 rfl rfl)
theorem dX0_two_56 : decode cX0_two 56 = .ok (.if_icmp .ne 8, 3) := dk_160 0 8 (dk_at dksX0_two_2 10 rfl rfl)
theorem dX0_two_59 : decode cX0_two 59 = .ok (.bipush (-5), 2) := dk_16 251 (dk_at dksX0_two_2 13 rfl rfl)
theorem dX0_two_61 : decode cX0_two 61 = .ok (.goto 12, 3) := dk_167 0 12 (dk_at dksX0_two_2 15 rfl rfl)
theorem dX0_two_64 : decode cX0_two 64 = .ok (.aload_n 0, 1) := dk_42 (dk_at dksX0_two_2 18 rfl rfl)
theorem dX0_two_65 : decode cX0_two 65 = .ok (.iload 5, 2) := dk_21 5 (dk_at dksX0_two_2 19 rfl rfl)
theorem dX0_two_67 : decode cX0_two 67 = .ok (.iload 6, 2) := dk_21 6 (dk_at dksX0_two_2 21 rfl rfl)
theorem dX0_two_69 : decode cX0_two 69 = .ok (.iload_n 1, 1) := dk_27 (dk_at dksX0_two_2 23 rfl rfl)
theorem dX0_two_70 : decode cX0_two 70 = .ok (.invokevirtual 281, 3) := dk_182 1 25 (dk_at dksX0_two_3 0 rfl rfl)
theorem dX0_two_73 : decode cX0_two 73 = .ok (.istore 7, 2) := dk_54 7 (dk_at dksX0_two_3 3 rfl rfl)
theorem dX0_two_75 : decode cX0_two 75 = .ok (.iload 7, 2) := dk_21 7 (dk_at dksX0_two_3 5 rfl rfl)
theorem dX0_two_77 : decode cX0_two 77 = .ok (.bipush (-5), 2) := dk_16 251 (dk_at dksX0_two_3 7 rfl rfl)
theorem dX0_two_79 : decode cX0_two 79 = .ok (.if_icmp .eq 33, 3) := dk_159 0 33 (dk_at dksX0_two_3 9 rfl rfl)
theorem dX0_two_82 : decode cX0_two 82 = .ok (.iload 4, 2) := dk_21 4 (dk_at dksX0_two_3 12 rfl rfl)
theorem dX0_two_84 : decode cX0_two 84 = .ok (.bipush (-5), 2) := dk_16 251 (dk_at dksX0_two_3 14 rfl rfl)
theorem dX0_two_86 : decode cX0_two 86 = .ok (.if_icmp .eq 13, 3) := dk_159 0 13 (dk_at dksX0_two_3 16 rfl rfl)
theorem dX0_two_89 : decode cX0_two 89 = .ok (.iload 7, 2) := dk_21 7 (dk_at dksX0_two_3 19 rfl rfl)
theorem dX0_two_91 : decode cX0_two 91 = .ok (.iload 4, 2) := dk_21 4 (dk_at dksX0_two_3 21 rfl rfl)
theorem dX0_two_93 : decode cX0_two 93 = .ok (.if_icmp .lt 6, 3) := dk_161 0 6 (dk_at dksX0_two_4 0 rfl rfl)
theorem dX0_two_96 : decode cX0_two 96 = .ok (.goto 16, 3) := dk_167 0 16 (dk_at dksX0_two_4 3 rfl rfl)
theorem dX0_two_99 : decode cX0_two 99 = .ok (.iload 7, 2) := dk_21 7 (dk_at dksX0_two_4 6 rfl rfl)
theorem dX0_two_101 : decode cX0_two 101 = .ok (.istore 4, 2) := dk_54 4 (dk_at dksX0_two_4 8 rfl rfl)
theorem dX0_two_103 : decode cX0_two 103 = .ok (.bipush 10, 2) := dk_16 10 (dk_at dksX0_two_4 10 rfl rfl)
theorem dX0_two_105 : decode cX0_two 105 = .ok (.iload 5, 2) := dk_21 5 (dk_at dksX0_two_4 12 rfl rfl)
theorem dX0_two_107 : decode cX0_two 107 = .ok (.imul, 1) := dk_104 (dk_at dksX0_two_4 14 rfl rfl)
theorem dX0_two_108 : decode cX0_two 108 = .ok (.iload 6, 2) := dk_21 6 (dk_at dksX0_two_4 15 rfl rfl)
theorem dX0_two_110 : decode cX0_two 110 = .ok (.iadd, 1) := dk_96 (dk_at dksX0_two_4 17 rfl rfl)
theorem dX0_two_111 : decode cX0_two 111 = .ok (.istore_n 3, 1) := dk_62 (dk_at dksX0_two_4 18 rfl rfl)
theorem dX0_two_112 : decode cX0_two 112 = .ok (.iinc 6 1, 3) := dk_132 6 1 (dk_at dksX0_two_4 19 rfl rfl)
theorem dX0_two_115 : decode cX0_two 115 = .ok (.goto (-72), 3) := dk_167 255 184 (dk_at dksX0_two_5 0 rfl rfl)
theorem dX0_two_118 : decode cX0_two 118 = .ok (.iinc 5 1, 3) := dk_132 5 1 (dk_at dksX0_two_5 3 rfl rfl)
theorem dX0_two_121 : decode cX0_two 121 = .ok (.goto (-90), 3) := dk_167 255 166 (dk_at dksX0_two_5 6 rfl rfl)
theorem dX0_two_124 : decode cX0_two 124 = .ok (.iload_n 2, 1) := dk_28 (dk_at dksX0_two_5 9 rfl rfl)
theorem dX0_two_125 : decode cX0_two 125 = .ok (.ifCond .ne 7, 3) := dk_154 0 7 (dk_at dksX0_two_5 10 rfl rfl)
theorem dX0_two_128 : decode cX0_two 128 = .ok (.iload_n 3, 1) := dk_29 (dk_at dksX0_two_5 13 rfl rfl)
theorem dX0_two_129 : decode cX0_two 129 = .ok (.goto 5, 3) := dk_167 0 5 (dk_at dksX0_two_5 14 rfl rfl)
theorem dX0_two_132 : decode cX0_two 132 = .ok (.iload 4, 2) := dk_21 4 (dk_at dksX0_two_5 17 rfl rfl)
theorem dX0_two_134 : decode cX0_two 134 = .ok (.ireturn, 1) := dk_172 (dk_at dksX0_two_5 19 rfl rfl)
abbrev cX0_minutesByTwo : ByteArray := prog_1_method_37_code
def yX0_minutesByTwo : MethodName := ⟨RX0, "minutesByTwo", "(III)I"⟩
def dkwX0_minutesByTwo_4 : List UInt8 := [180, 0, 38, 29, 182, 0, 246, 87, 42, 180, 0, 35, 180, 0, 163, 42, 180, 0, 31, 180, 0, 163, 100, 172]
abbrev dktX0_minutesByTwo_4 : List UInt8 := dkwX0_minutesByTwo_4 ++ []
def dkwX0_minutesByTwo_3 : List UInt8 := [42, 28, 42, 180, 0, 38, 29, 16, 40, 182, 1, 3, 154, 0, 6, 16, 251, 172, 42, 180, 0, 35, 42]
abbrev dktX0_minutesByTwo_3 : List UInt8 := dkwX0_minutesByTwo_3 ++ dktX0_minutesByTwo_4
def dkwX0_minutesByTwo_2 : List UInt8 := [154, 0, 6, 16, 251, 172, 42, 180, 0, 35, 42, 180, 0, 17, 28, 50, 180, 0, 177, 29, 182, 0, 246, 87]
abbrev dktX0_minutesByTwo_2 : List UInt8 := dkwX0_minutesByTwo_2 ++ dktX0_minutesByTwo_3
def dkwX0_minutesByTwo_1 : List UInt8 := [29, 182, 0, 246, 153, 0, 23, 42, 27, 42, 180, 0, 17, 28, 50, 180, 0, 177, 29, 16, 40, 182, 1, 3]
abbrev dktX0_minutesByTwo_1 : List UInt8 := dkwX0_minutesByTwo_1 ++ dktX0_minutesByTwo_2
def dkwX0_minutesByTwo_0 : List UInt8 := [42, 180, 0, 35, 42, 180, 0, 31, 182, 0, 242, 42, 180, 0, 35, 42, 180, 0, 17, 27, 50, 180, 0, 177]
abbrev dktX0_minutesByTwo_0 : List UInt8 := dkwX0_minutesByTwo_0 ++ dktX0_minutesByTwo_1
theorem dksX0_minutesByTwo_0 : cX0_minutesByTwo.data.toList.drop 0 = dktX0_minutesByTwo_0 := by decide +kernel
theorem dksX0_minutesByTwo_1 : cX0_minutesByTwo.data.toList.drop 24 = dktX0_minutesByTwo_1 := dk_seg dksX0_minutesByTwo_0 24 rfl rfl
theorem dksX0_minutesByTwo_2 : cX0_minutesByTwo.data.toList.drop 48 = dktX0_minutesByTwo_2 := dk_seg dksX0_minutesByTwo_1 24 rfl rfl
theorem dksX0_minutesByTwo_3 : cX0_minutesByTwo.data.toList.drop 72 = dktX0_minutesByTwo_3 := dk_seg dksX0_minutesByTwo_2 24 rfl rfl
theorem dksX0_minutesByTwo_4 : cX0_minutesByTwo.data.toList.drop 95 = dktX0_minutesByTwo_4 := dk_seg dksX0_minutesByTwo_3 23 rfl rfl
theorem dX0_minutesByTwo_0 : decode cX0_minutesByTwo 0 = .ok (.aload_n 0, 1) := dk_42 (dk_at dksX0_minutesByTwo_0 0 rfl rfl)
theorem dX0_minutesByTwo_1 : decode cX0_minutesByTwo 1 = .ok (.getfield 35, 3) := dk_180 0 35 (dk_at dksX0_minutesByTwo_0 1 rfl rfl)
theorem dX0_minutesByTwo_4 : decode cX0_minutesByTwo 4 = .ok (.aload_n 0, 1) := dk_42 (dk_at dksX0_minutesByTwo_0 4 rfl rfl)
theorem dX0_minutesByTwo_5 : decode cX0_minutesByTwo 5 = .ok (.getfield 31, 3) := dk_180 0 31 (dk_at dksX0_minutesByTwo_0 5 rfl rfl)
theorem dX0_minutesByTwo_8 : decode cX0_minutesByTwo 8 = .ok (.invokevirtual 242, 3) := dk_182 0 242 (dk_at dksX0_minutesByTwo_0 8 rfl rfl)
theorem dX0_minutesByTwo_11 : decode cX0_minutesByTwo 11 = .ok (.aload_n 0, 1) := dk_42 (dk_at dksX0_minutesByTwo_0 11 rfl rfl)
theorem dX0_minutesByTwo_12 : decode cX0_minutesByTwo 12 = .ok (.getfield 35, 3) := dk_180 0 35 (dk_at dksX0_minutesByTwo_0 12 rfl rfl)
theorem dX0_minutesByTwo_15 : decode cX0_minutesByTwo 15 = .ok (.aload_n 0, 1) := dk_42 (dk_at dksX0_minutesByTwo_0 15 rfl rfl)
theorem dX0_minutesByTwo_16 : decode cX0_minutesByTwo 16 = .ok (.getfield 17, 3) := dk_180 0 17 (dk_at dksX0_minutesByTwo_0 16 rfl rfl)
theorem dX0_minutesByTwo_19 : decode cX0_minutesByTwo 19 = .ok (.iload_n 1, 1) := dk_27 (dk_at dksX0_minutesByTwo_0 19 rfl rfl)
theorem dX0_minutesByTwo_20 : decode cX0_minutesByTwo 20 = .ok (.aaload, 1) := dk_50 (dk_at dksX0_minutesByTwo_0 20 rfl rfl)
theorem dX0_minutesByTwo_21 : decode cX0_minutesByTwo 21 = .ok (.getfield 177, 3) := dk_180 0 177 (dk_at dksX0_minutesByTwo_0 21 rfl rfl)
theorem dX0_minutesByTwo_24 : decode cX0_minutesByTwo 24 = .ok (.iload_n 3, 1) := dk_29 (dk_at dksX0_minutesByTwo_1 0 rfl rfl)
theorem dX0_minutesByTwo_25 : decode cX0_minutesByTwo 25 = .ok (.invokevirtual 246, 3) := dk_182 0 246 (dk_at dksX0_minutesByTwo_1 1 rfl rfl)
theorem dX0_minutesByTwo_28 : decode cX0_minutesByTwo 28 = .ok (.ifCond .eq 23, 3) := dk_153 0 23 (dk_at dksX0_minutesByTwo_1 4 rfl rfl)
theorem dX0_minutesByTwo_31 : decode cX0_minutesByTwo 31 = .ok (.aload_n 0, 1) := dk_42 (dk_at dksX0_minutesByTwo_1 7 rfl rfl)
theorem dX0_minutesByTwo_32 : decode cX0_minutesByTwo 32 = .ok (.iload_n 1, 1) := dk_27 (dk_at dksX0_minutesByTwo_1 8 rfl rfl)
theorem dX0_minutesByTwo_33 : decode cX0_minutesByTwo 33 = .ok (.aload_n 0, 1) := dk_42 (dk_at dksX0_minutesByTwo_1 9 rfl rfl)
theorem dX0_minutesByTwo_34 : decode cX0_minutesByTwo 34 = .ok (.getfield 17, 3) := dk_180 0 17 (dk_at dksX0_minutesByTwo_1 10 rfl rfl)
theorem dX0_minutesByTwo_37 : decode cX0_minutesByTwo 37 = .ok (.iload_n 2, 1) := dk_28 (dk_at dksX0_minutesByTwo_1 13 rfl rfl)
theorem dX0_minutesByTwo_38 : decode cX0_minutesByTwo 38 = .ok (.aaload, 1) := dk_50 (dk_at dksX0_minutesByTwo_1 14 rfl rfl)
theorem dX0_minutesByTwo_39 : decode cX0_minutesByTwo 39 = .ok (.getfield 177, 3) := dk_180 0 177 (dk_at dksX0_minutesByTwo_1 15 rfl rfl)
theorem dX0_minutesByTwo_42 : decode cX0_minutesByTwo 42 = .ok (.iload_n 3, 1) := dk_29 (dk_at dksX0_minutesByTwo_1 18 rfl rfl)
theorem dX0_minutesByTwo_43 : decode cX0_minutesByTwo 43 = .ok (.bipush 40, 2) := dk_16 40 (dk_at dksX0_minutesByTwo_1 19 rfl rfl)
theorem dX0_minutesByTwo_45 : decode cX0_minutesByTwo 45 = .ok (.invokevirtual 259, 3) := dk_182 1 3 (dk_at dksX0_minutesByTwo_1 21 rfl rfl)
theorem dX0_minutesByTwo_48 : decode cX0_minutesByTwo 48 = .ok (.ifCond .ne 6, 3) := dk_154 0 6 (dk_at dksX0_minutesByTwo_2 0 rfl rfl)
theorem dX0_minutesByTwo_51 : decode cX0_minutesByTwo 51 = .ok (.bipush (-5), 2) := dk_16 251 (dk_at dksX0_minutesByTwo_2 3 rfl rfl)
theorem dX0_minutesByTwo_53 : decode cX0_minutesByTwo 53 = .ok (.ireturn, 1) := dk_172 (dk_at dksX0_minutesByTwo_2 5 rfl rfl)
theorem dX0_minutesByTwo_54 : decode cX0_minutesByTwo 54 = .ok (.aload_n 0, 1) := dk_42 (dk_at dksX0_minutesByTwo_2 6 rfl rfl)
theorem dX0_minutesByTwo_55 : decode cX0_minutesByTwo 55 = .ok (.getfield 35, 3) := dk_180 0 35 (dk_at dksX0_minutesByTwo_2 7 rfl rfl)
theorem dX0_minutesByTwo_58 : decode cX0_minutesByTwo 58 = .ok (.aload_n 0, 1) := dk_42 (dk_at dksX0_minutesByTwo_2 10 rfl rfl)
theorem dX0_minutesByTwo_59 : decode cX0_minutesByTwo 59 = .ok (.getfield 17, 3) := dk_180 0 17 (dk_at dksX0_minutesByTwo_2 11 rfl rfl)
theorem dX0_minutesByTwo_62 : decode cX0_minutesByTwo 62 = .ok (.iload_n 2, 1) := dk_28 (dk_at dksX0_minutesByTwo_2 14 rfl rfl)
theorem dX0_minutesByTwo_63 : decode cX0_minutesByTwo 63 = .ok (.aaload, 1) := dk_50 (dk_at dksX0_minutesByTwo_2 15 rfl rfl)
theorem dX0_minutesByTwo_64 : decode cX0_minutesByTwo 64 = .ok (.getfield 177, 3) := dk_180 0 177 (dk_at dksX0_minutesByTwo_2 16 rfl rfl)
theorem dX0_minutesByTwo_67 : decode cX0_minutesByTwo 67 = .ok (.iload_n 3, 1) := dk_29 (dk_at dksX0_minutesByTwo_2 19 rfl rfl)
theorem dX0_minutesByTwo_68 : decode cX0_minutesByTwo 68 = .ok (.invokevirtual 246, 3) := dk_182 0 246 (dk_at dksX0_minutesByTwo_2 20 rfl rfl)
theorem dX0_minutesByTwo_71 : decode cX0_minutesByTwo 71 = .ok (.pop, 1) := dk_87 (dk_at dksX0_minutesByTwo_2 23 rfl rfl)
theorem dX0_minutesByTwo_72 : decode cX0_minutesByTwo 72 = .ok (.aload_n 0, 1) := dk_42 (dk_at dksX0_minutesByTwo_3 0 rfl rfl)
theorem dX0_minutesByTwo_73 : decode cX0_minutesByTwo 73 = .ok (.iload_n 2, 1) := dk_28 (dk_at dksX0_minutesByTwo_3 1 rfl rfl)
theorem dX0_minutesByTwo_74 : decode cX0_minutesByTwo 74 = .ok (.aload_n 0, 1) := dk_42 (dk_at dksX0_minutesByTwo_3 2 rfl rfl)
theorem dX0_minutesByTwo_75 : decode cX0_minutesByTwo 75 = .ok (.getfield 38, 3) := dk_180 0 38 (dk_at dksX0_minutesByTwo_3 3 rfl rfl)
theorem dX0_minutesByTwo_78 : decode cX0_minutesByTwo 78 = .ok (.iload_n 3, 1) := dk_29 (dk_at dksX0_minutesByTwo_3 6 rfl rfl)
theorem dX0_minutesByTwo_79 : decode cX0_minutesByTwo 79 = .ok (.bipush 40, 2) := dk_16 40 (dk_at dksX0_minutesByTwo_3 7 rfl rfl)
theorem dX0_minutesByTwo_81 : decode cX0_minutesByTwo 81 = .ok (.invokevirtual 259, 3) := dk_182 1 3 (dk_at dksX0_minutesByTwo_3 9 rfl rfl)
theorem dX0_minutesByTwo_84 : decode cX0_minutesByTwo 84 = .ok (.ifCond .ne 6, 3) := dk_154 0 6 (dk_at dksX0_minutesByTwo_3 12 rfl rfl)
theorem dX0_minutesByTwo_87 : decode cX0_minutesByTwo 87 = .ok (.bipush (-5), 2) := dk_16 251 (dk_at dksX0_minutesByTwo_3 15 rfl rfl)
theorem dX0_minutesByTwo_89 : decode cX0_minutesByTwo 89 = .ok (.ireturn, 1) := dk_172 (dk_at dksX0_minutesByTwo_3 17 rfl rfl)
theorem dX0_minutesByTwo_90 : decode cX0_minutesByTwo 90 = .ok (.aload_n 0, 1) := dk_42 (dk_at dksX0_minutesByTwo_3 18 rfl rfl)
theorem dX0_minutesByTwo_91 : decode cX0_minutesByTwo 91 = .ok (.getfield 35, 3) := dk_180 0 35 (dk_at dksX0_minutesByTwo_3 19 rfl rfl)
theorem dX0_minutesByTwo_94 : decode cX0_minutesByTwo 94 = .ok (.aload_n 0, 1) := dk_42 (dk_at dksX0_minutesByTwo_3 22 rfl rfl)
theorem dX0_minutesByTwo_95 : decode cX0_minutesByTwo 95 = .ok (.getfield 38, 3) := dk_180 0 38 (dk_at dksX0_minutesByTwo_4 0 rfl rfl)
theorem dX0_minutesByTwo_98 : decode cX0_minutesByTwo 98 = .ok (.iload_n 3, 1) := dk_29 (dk_at dksX0_minutesByTwo_4 3 rfl rfl)
theorem dX0_minutesByTwo_99 : decode cX0_minutesByTwo 99 = .ok (.invokevirtual 246, 3) := dk_182 0 246 (dk_at dksX0_minutesByTwo_4 4 rfl rfl)
theorem dX0_minutesByTwo_102 : decode cX0_minutesByTwo 102 = .ok (.pop, 1) := dk_87 (dk_at dksX0_minutesByTwo_4 7 rfl rfl)
theorem dX0_minutesByTwo_103 : decode cX0_minutesByTwo 103 = .ok (.aload_n 0, 1) := dk_42 (dk_at dksX0_minutesByTwo_4 8 rfl rfl)
theorem dX0_minutesByTwo_104 : decode cX0_minutesByTwo 104 = .ok (.getfield 35, 3) := dk_180 0 35 (dk_at dksX0_minutesByTwo_4 9 rfl rfl)
theorem dX0_minutesByTwo_107 : decode cX0_minutesByTwo 107 = .ok (.getfield 163, 3) := dk_180 0 163 (dk_at dksX0_minutesByTwo_4 12 rfl rfl)
theorem dX0_minutesByTwo_110 : decode cX0_minutesByTwo 110 = .ok (.aload_n 0, 1) := dk_42 (dk_at dksX0_minutesByTwo_4 15 rfl rfl)
theorem dX0_minutesByTwo_111 : decode cX0_minutesByTwo 111 = .ok (.getfield 31, 3) := dk_180 0 31 (dk_at dksX0_minutesByTwo_4 16 rfl rfl)
theorem dX0_minutesByTwo_114 : decode cX0_minutesByTwo 114 = .ok (.getfield 163, 3) := dk_180 0 163 (dk_at dksX0_minutesByTwo_4 19 rfl rfl)
theorem dX0_minutesByTwo_117 : decode cX0_minutesByTwo 117 = .ok (.isub, 1) := dk_100 (dk_at dksX0_minutesByTwo_4 22 rfl rfl)
theorem dX0_minutesByTwo_118 : decode cX0_minutesByTwo 118 = .ok (.ireturn, 1) := dk_172 (dk_at dksX0_minutesByTwo_4 23 rfl rfl)
abbrev cX0_worth : ByteArray := prog_1_method_40_code
def yX0_worth : MethodName := ⟨RX0, "worth", "(I)I"⟩
def dkwX0_worth_1 : List UInt8 := [182, 1, 22, 184, 1, 28, 100, 172]
abbrev dktX0_worth_1 : List UInt8 := dkwX0_worth_1 ++ []
def dkwX0_worth_0 : List UInt8 := [42, 27, 182, 0, 193, 154, 0, 5, 2, 172, 42, 27, 182, 1, 22, 184, 1, 28, 61, 28, 42, 2]
abbrev dktX0_worth_0 : List UInt8 := dkwX0_worth_0 ++ dktX0_worth_1
theorem dksX0_worth_0 : cX0_worth.data.toList.drop 0 = dktX0_worth_0 := by decide +kernel
theorem dksX0_worth_1 : cX0_worth.data.toList.drop 22 = dktX0_worth_1 := dk_seg dksX0_worth_0 22 rfl rfl
theorem dX0_worth_0 : decode cX0_worth 0 = .ok (.aload_n 0, 1) := dk_42 (dk_at dksX0_worth_0 0 rfl rfl)
theorem dX0_worth_1 : decode cX0_worth 1 = .ok (.iload_n 1, 1) := dk_27 (dk_at dksX0_worth_0 1 rfl rfl)
theorem dX0_worth_2 : decode cX0_worth 2 = .ok (.invokevirtual 193, 3) := dk_182 0 193 (dk_at dksX0_worth_0 2 rfl rfl)
theorem dX0_worth_5 : decode cX0_worth 5 = .ok (.ifCond .ne 5, 3) := dk_154 0 5 (dk_at dksX0_worth_0 5 rfl rfl)
theorem dX0_worth_8 : decode cX0_worth 8 = .ok (.iconst (-1), 1) := dk_2 (dk_at dksX0_worth_0 8 rfl rfl)
theorem dX0_worth_9 : decode cX0_worth 9 = .ok (.ireturn, 1) := dk_172 (dk_at dksX0_worth_0 9 rfl rfl)
theorem dX0_worth_10 : decode cX0_worth 10 = .ok (.aload_n 0, 1) := dk_42 (dk_at dksX0_worth_0 10 rfl rfl)
theorem dX0_worth_11 : decode cX0_worth 11 = .ok (.iload_n 1, 1) := dk_27 (dk_at dksX0_worth_0 11 rfl rfl)
theorem dX0_worth_12 : decode cX0_worth 12 = .ok (.invokevirtual 278, 3) := dk_182 1 22 (dk_at dksX0_worth_0 12 rfl rfl)
theorem dX0_worth_15 : decode cX0_worth 15 = .ok (.invokestatic 284, 3) := dk_184 1 28 (dk_at dksX0_worth_0 15 rfl rfl)
theorem dX0_worth_18 : decode cX0_worth 18 = .ok (.istore_n 2, 1) := dk_61 (dk_at dksX0_worth_0 18 rfl rfl)
theorem dX0_worth_19 : decode cX0_worth 19 = .ok (.iload_n 2, 1) := dk_28 (dk_at dksX0_worth_0 19 rfl rfl)
theorem dX0_worth_20 : decode cX0_worth 20 = .ok (.aload_n 0, 1) := dk_42 (dk_at dksX0_worth_0 20 rfl rfl)
theorem dX0_worth_21 : decode cX0_worth 21 = .ok (.iconst (-1), 1) := dk_2 (dk_at dksX0_worth_0 21 rfl rfl)
theorem dX0_worth_22 : decode cX0_worth 22 = .ok (.invokevirtual 278, 3) := dk_182 1 22 (dk_at dksX0_worth_1 0 rfl rfl)
theorem dX0_worth_25 : decode cX0_worth 25 = .ok (.invokestatic 284, 3) := dk_184 1 28 (dk_at dksX0_worth_1 3 rfl rfl)
theorem dX0_worth_28 : decode cX0_worth 28 = .ok (.isub, 1) := dk_100 (dk_at dksX0_worth_1 6 rfl rfl)
theorem dX0_worth_29 : decode cX0_worth 29 = .ok (.ireturn, 1) := dk_172 (dk_at dksX0_worth_1 7 rfl rfl)
abbrev cX0_orNever : ByteArray := prog_1_method_39_code
def yX0_orNever : MethodName := ⟨RX0, "orNever", "(I)I"⟩
def dkwX0_orNever_0 : List UInt8 := [26, 16, 251, 160, 0, 9, 17, 3, 231, 167, 0, 4, 26, 172]
abbrev dktX0_orNever_0 : List UInt8 := dkwX0_orNever_0 ++ []
theorem dksX0_orNever_0 : cX0_orNever.data.toList.drop 0 = dktX0_orNever_0 := by decide +kernel
theorem dX0_orNever_0 : decode cX0_orNever 0 = .ok (.iload_n 0, 1) := dk_26 (dk_at dksX0_orNever_0 0 rfl rfl)
theorem dX0_orNever_1 : decode cX0_orNever 1 = .ok (.bipush (-5), 2) := dk_16 251 (dk_at dksX0_orNever_0 1 rfl rfl)
theorem dX0_orNever_3 : decode cX0_orNever 3 = .ok (.if_icmp .ne 9, 3) := dk_160 0 9 (dk_at dksX0_orNever_0 3 rfl rfl)
theorem dX0_orNever_6 : decode cX0_orNever 6 = .ok (.sipush 999, 3) := dk_17 3 231 (dk_at dksX0_orNever_0 6 rfl rfl)
theorem dX0_orNever_9 : decode cX0_orNever 9 = .ok (.goto 4, 3) := dk_167 0 4 (dk_at dksX0_orNever_0 9 rfl rfl)
theorem dX0_orNever_12 : decode cX0_orNever 12 = .ok (.iload_n 0, 1) := dk_26 (dk_at dksX0_orNever_0 12 rfl rfl)
theorem dX0_orNever_13 : decode cX0_orNever 13 = .ok (.ireturn, 1) := dk_172 (dk_at dksX0_orNever_0 13 rfl rfl)
abbrev cX0_leg : ByteArray := prog_1_method_41_code
def yX0_leg : MethodName := ⟨RX0, "leg", "(II)I"⟩
def dkwX0_leg_3 : List UInt8 := [28, 79, 42, 180, 1, 31, 172]
abbrev dktX0_leg_3 : List UInt8 := dkwX0_leg_3 ++ []
def dkwX0_leg_2 : List UInt8 := [180, 0, 67, 42, 180, 1, 31, 27, 79, 42, 180, 0, 70, 42, 89, 180, 1, 31, 90, 4, 96, 181, 1, 31]
abbrev dktX0_leg_2 : List UInt8 := dkwX0_leg_2 ++ dktX0_leg_3
def dkwX0_leg_1 : List UInt8 := [16, 60, 184, 0, 5, 154, 0, 6, 16, 254, 172, 42, 180, 1, 31, 7, 160, 0, 6, 16, 252, 172, 42]
abbrev dktX0_leg_1 : List UInt8 := dkwX0_leg_1 ++ dktX0_leg_2
def dkwX0_leg_0 : List UInt8 := [27, 2, 160, 0, 10, 42, 3, 181, 1, 31, 3, 172, 42, 27, 182, 0, 193, 154, 0, 5, 2, 172, 28, 3]
abbrev dktX0_leg_0 : List UInt8 := dkwX0_leg_0 ++ dktX0_leg_1
theorem dksX0_leg_0 : cX0_leg.data.toList.drop 0 = dktX0_leg_0 := by decide +kernel
theorem dksX0_leg_1 : cX0_leg.data.toList.drop 24 = dktX0_leg_1 := dk_seg dksX0_leg_0 24 rfl rfl
theorem dksX0_leg_2 : cX0_leg.data.toList.drop 47 = dktX0_leg_2 := dk_seg dksX0_leg_1 23 rfl rfl
theorem dksX0_leg_3 : cX0_leg.data.toList.drop 71 = dktX0_leg_3 := dk_seg dksX0_leg_2 24 rfl rfl
theorem dX0_leg_0 : decode cX0_leg 0 = .ok (.iload_n 1, 1) := dk_27 (dk_at dksX0_leg_0 0 rfl rfl)
theorem dX0_leg_1 : decode cX0_leg 1 = .ok (.iconst (-1), 1) := dk_2 (dk_at dksX0_leg_0 1 rfl rfl)
theorem dX0_leg_2 : decode cX0_leg 2 = .ok (.if_icmp .ne 10, 3) := dk_160 0 10 (dk_at dksX0_leg_0 2 rfl rfl)
theorem dX0_leg_5 : decode cX0_leg 5 = .ok (.aload_n 0, 1) := dk_42 (dk_at dksX0_leg_0 5 rfl rfl)
theorem dX0_leg_6 : decode cX0_leg 6 = .ok (.iconst 0, 1) := dk_3 (dk_at dksX0_leg_0 6 rfl rfl)
theorem dX0_leg_7 : decode cX0_leg 7 = .ok (.putfield 287, 3) := dk_181 1 31 (dk_at dksX0_leg_0 7 rfl rfl)
theorem dX0_leg_10 : decode cX0_leg 10 = .ok (.iconst 0, 1) := dk_3 (dk_at dksX0_leg_0 10 rfl rfl)
theorem dX0_leg_11 : decode cX0_leg 11 = .ok (.ireturn, 1) := dk_172 (dk_at dksX0_leg_0 11 rfl rfl)
theorem dX0_leg_12 : decode cX0_leg 12 = .ok (.aload_n 0, 1) := dk_42 (dk_at dksX0_leg_0 12 rfl rfl)
theorem dX0_leg_13 : decode cX0_leg 13 = .ok (.iload_n 1, 1) := dk_27 (dk_at dksX0_leg_0 13 rfl rfl)
theorem dX0_leg_14 : decode cX0_leg 14 = .ok (.invokevirtual 193, 3) := dk_182 0 193 (dk_at dksX0_leg_0 14 rfl rfl)
theorem dX0_leg_17 : decode cX0_leg 17 = .ok (.ifCond .ne 5, 3) := dk_154 0 5 (dk_at dksX0_leg_0 17 rfl rfl)
theorem dX0_leg_20 : decode cX0_leg 20 = .ok (.iconst (-1), 1) := dk_2 (dk_at dksX0_leg_0 20 rfl rfl)
theorem dX0_leg_21 : decode cX0_leg 21 = .ok (.ireturn, 1) := dk_172 (dk_at dksX0_leg_0 21 rfl rfl)
theorem dX0_leg_22 : decode cX0_leg 22 = .ok (.iload_n 2, 1) := dk_28 (dk_at dksX0_leg_0 22 rfl rfl)
theorem dX0_leg_23 : decode cX0_leg 23 = .ok (.iconst 0, 1) := dk_3 (dk_at dksX0_leg_0 23 rfl rfl)
theorem dX0_leg_24 : decode cX0_leg 24 = .ok (.bipush 60, 2) := dk_16 60 (dk_at dksX0_leg_1 0 rfl rfl)
theorem dX0_leg_26 : decode cX0_leg 26 = .ok (.invokestatic 5, 3) := dk_184 0 5 (dk_at dksX0_leg_1 2 rfl rfl)
theorem dX0_leg_29 : decode cX0_leg 29 = .ok (.ifCond .ne 6, 3) := dk_154 0 6 (dk_at dksX0_leg_1 5 rfl rfl)
theorem dX0_leg_32 : decode cX0_leg 32 = .ok (.bipush (-2), 2) := dk_16 254 (dk_at dksX0_leg_1 8 rfl rfl)
theorem dX0_leg_34 : decode cX0_leg 34 = .ok (.ireturn, 1) := dk_172 (dk_at dksX0_leg_1 10 rfl rfl)
theorem dX0_leg_35 : decode cX0_leg 35 = .ok (.aload_n 0, 1) := dk_42 (dk_at dksX0_leg_1 11 rfl rfl)
theorem dX0_leg_36 : decode cX0_leg 36 = .ok (.getfield 287, 3) := dk_180 1 31 (dk_at dksX0_leg_1 12 rfl rfl)
theorem dX0_leg_39 : decode cX0_leg 39 = .ok (.iconst 4, 1) := dk_7 (dk_at dksX0_leg_1 15 rfl rfl)
theorem dX0_leg_40 : decode cX0_leg 40 = .ok (.if_icmp .ne 6, 3) := dk_160 0 6 (dk_at dksX0_leg_1 16 rfl rfl)
theorem dX0_leg_43 : decode cX0_leg 43 = .ok (.bipush (-4), 2) := dk_16 252 (dk_at dksX0_leg_1 19 rfl rfl)
theorem dX0_leg_45 : decode cX0_leg 45 = .ok (.ireturn, 1) := dk_172 (dk_at dksX0_leg_1 21 rfl rfl)
theorem dX0_leg_46 : decode cX0_leg 46 = .ok (.aload_n 0, 1) := dk_42 (dk_at dksX0_leg_1 22 rfl rfl)
theorem dX0_leg_47 : decode cX0_leg 47 = .ok (.getfield 67, 3) := dk_180 0 67 (dk_at dksX0_leg_2 0 rfl rfl)
theorem dX0_leg_50 : decode cX0_leg 50 = .ok (.aload_n 0, 1) := dk_42 (dk_at dksX0_leg_2 3 rfl rfl)
theorem dX0_leg_51 : decode cX0_leg 51 = .ok (.getfield 287, 3) := dk_180 1 31 (dk_at dksX0_leg_2 4 rfl rfl)
theorem dX0_leg_54 : decode cX0_leg 54 = .ok (.iload_n 1, 1) := dk_27 (dk_at dksX0_leg_2 7 rfl rfl)
theorem dX0_leg_55 : decode cX0_leg 55 = .ok (.iastore, 1) := dk_79 (dk_at dksX0_leg_2 8 rfl rfl)
theorem dX0_leg_56 : decode cX0_leg 56 = .ok (.aload_n 0, 1) := dk_42 (dk_at dksX0_leg_2 9 rfl rfl)
theorem dX0_leg_57 : decode cX0_leg 57 = .ok (.getfield 70, 3) := dk_180 0 70 (dk_at dksX0_leg_2 10 rfl rfl)
theorem dX0_leg_60 : decode cX0_leg 60 = .ok (.aload_n 0, 1) := dk_42 (dk_at dksX0_leg_2 13 rfl rfl)
theorem dX0_leg_61 : decode cX0_leg 61 = .ok (.dup, 1) := dk_89 (dk_at dksX0_leg_2 14 rfl rfl)
theorem dX0_leg_62 : decode cX0_leg 62 = .ok (.getfield 287, 3) := dk_180 1 31 (dk_at dksX0_leg_2 15 rfl rfl)
theorem dX0_leg_65 : decode cX0_leg 65 = .ok (.dup_x1, 1) := dk_90 (dk_at dksX0_leg_2 18 rfl rfl)
theorem dX0_leg_66 : decode cX0_leg 66 = .ok (.iconst 1, 1) := dk_4 (dk_at dksX0_leg_2 19 rfl rfl)
theorem dX0_leg_67 : decode cX0_leg 67 = .ok (.iadd, 1) := dk_96 (dk_at dksX0_leg_2 20 rfl rfl)
theorem dX0_leg_68 : decode cX0_leg 68 = .ok (.putfield 287, 3) := dk_181 1 31 (dk_at dksX0_leg_2 21 rfl rfl)
theorem dX0_leg_71 : decode cX0_leg 71 = .ok (.iload_n 2, 1) := dk_28 (dk_at dksX0_leg_3 0 rfl rfl)
theorem dX0_leg_72 : decode cX0_leg 72 = .ok (.iastore, 1) := dk_79 (dk_at dksX0_leg_3 1 rfl rfl)
theorem dX0_leg_73 : decode cX0_leg 73 = .ok (.aload_n 0, 1) := dk_42 (dk_at dksX0_leg_3 2 rfl rfl)
theorem dX0_leg_74 : decode cX0_leg 74 = .ok (.getfield 287, 3) := dk_180 1 31 (dk_at dksX0_leg_3 3 rfl rfl)
theorem dX0_leg_77 : decode cX0_leg 77 = .ok (.ireturn, 1) := dk_172 (dk_at dksX0_leg_3 6 rfl rfl)
abbrev cX0_flown : ByteArray := prog_1_method_43_code
def yX0_flown : MethodName := ⟨RX0, "flown", "(II)I"⟩
def dkwX0_flown_2 : List UInt8 := [167, 0, 18, 42, 180, 0, 35, 180, 0, 163, 42, 180, 0, 31, 180, 0, 163, 100, 172]
abbrev dktX0_flown_2 : List UInt8 := dkwX0_flown_2 ++ []
def dkwX0_flown_1 : List UInt8 := [182, 1, 34, 154, 0, 8, 16, 251, 167, 0, 32, 28, 154, 0, 13, 42, 180, 0, 35, 180, 0, 159]
abbrev dktX0_flown_1 : List UInt8 := dkwX0_flown_1 ++ dktX0_flown_2
def dkwX0_flown_0 : List UInt8 := [28, 3, 4, 184, 0, 5, 154, 0, 5, 2, 172, 27, 184, 0, 235, 154, 0, 6, 16, 254, 172, 42, 27]
abbrev dktX0_flown_0 : List UInt8 := dkwX0_flown_0 ++ dktX0_flown_1
theorem dksX0_flown_0 : cX0_flown.data.toList.drop 0 = dktX0_flown_0 := by decide +kernel
theorem dksX0_flown_1 : cX0_flown.data.toList.drop 23 = dktX0_flown_1 := dk_seg dksX0_flown_0 23 rfl rfl
theorem dksX0_flown_2 : cX0_flown.data.toList.drop 45 = dktX0_flown_2 := dk_seg dksX0_flown_1 22 rfl rfl
theorem dX0_flown_0 : decode cX0_flown 0 = .ok (.iload_n 2, 1) := dk_28 (dk_at dksX0_flown_0 0 rfl rfl)
theorem dX0_flown_1 : decode cX0_flown 1 = .ok (.iconst 0, 1) := dk_3 (dk_at dksX0_flown_0 1 rfl rfl)
theorem dX0_flown_2 : decode cX0_flown 2 = .ok (.iconst 1, 1) := dk_4 (dk_at dksX0_flown_0 2 rfl rfl)
theorem dX0_flown_3 : decode cX0_flown 3 = .ok (.invokestatic 5, 3) := dk_184 0 5 (dk_at dksX0_flown_0 3 rfl rfl)
theorem dX0_flown_6 : decode cX0_flown 6 = .ok (.ifCond .ne 5, 3) := dk_154 0 5 (dk_at dksX0_flown_0 6 rfl rfl)
theorem dX0_flown_9 : decode cX0_flown 9 = .ok (.iconst (-1), 1) := dk_2 (dk_at dksX0_flown_0 9 rfl rfl)
theorem dX0_flown_10 : decode cX0_flown 10 = .ok (.ireturn, 1) := dk_172 (dk_at dksX0_flown_0 10 rfl rfl)
theorem dX0_flown_11 : decode cX0_flown 11 = .ok (.iload_n 1, 1) := dk_27 (dk_at dksX0_flown_0 11 rfl rfl)
theorem dX0_flown_12 : decode cX0_flown 12 = .ok (.invokestatic 235, 3) := dk_184 0 235 (dk_at dksX0_flown_0 12 rfl rfl)
theorem dX0_flown_15 : decode cX0_flown 15 = .ok (.ifCond .ne 6, 3) := dk_154 0 6 (dk_at dksX0_flown_0 15 rfl rfl)
theorem dX0_flown_18 : decode cX0_flown 18 = .ok (.bipush (-2), 2) := dk_16 254 (dk_at dksX0_flown_0 18 rfl rfl)
theorem dX0_flown_20 : decode cX0_flown 20 = .ok (.ireturn, 1) := dk_172 (dk_at dksX0_flown_0 20 rfl rfl)
theorem dX0_flown_21 : decode cX0_flown 21 = .ok (.aload_n 0, 1) := dk_42 (dk_at dksX0_flown_0 21 rfl rfl)
theorem dX0_flown_22 : decode cX0_flown 22 = .ok (.iload_n 1, 1) := dk_27 (dk_at dksX0_flown_0 22 rfl rfl)
theorem dX0_flown_23 : decode cX0_flown 23 = .ok (.invokevirtual 290, 3) := dk_182 1 34 (dk_at dksX0_flown_1 0 rfl rfl)
theorem dX0_flown_26 : decode cX0_flown 26 = .ok (.ifCond .ne 8, 3) := dk_154 0 8 (dk_at dksX0_flown_1 3 rfl rfl)
theorem dX0_flown_29 : decode cX0_flown 29 = .ok (.bipush (-5), 2) := dk_16 251 (dk_at dksX0_flown_1 6 rfl rfl)
theorem dX0_flown_31 : decode cX0_flown 31 = .ok (.goto 32, 3) := dk_167 0 32 (dk_at dksX0_flown_1 8 rfl rfl)
theorem dX0_flown_34 : decode cX0_flown 34 = .ok (.iload_n 2, 1) := dk_28 (dk_at dksX0_flown_1 11 rfl rfl)
theorem dX0_flown_35 : decode cX0_flown 35 = .ok (.ifCond .ne 13, 3) := dk_154 0 13 (dk_at dksX0_flown_1 12 rfl rfl)
theorem dX0_flown_38 : decode cX0_flown 38 = .ok (.aload_n 0, 1) := dk_42 (dk_at dksX0_flown_1 15 rfl rfl)
theorem dX0_flown_39 : decode cX0_flown 39 = .ok (.getfield 35, 3) := dk_180 0 35 (dk_at dksX0_flown_1 16 rfl rfl)
theorem dX0_flown_42 : decode cX0_flown 42 = .ok (.getfield 159, 3) := dk_180 0 159 (dk_at dksX0_flown_1 19 rfl rfl)
theorem dX0_flown_45 : decode cX0_flown 45 = .ok (.goto 18, 3) := dk_167 0 18 (dk_at dksX0_flown_2 0 rfl rfl)
theorem dX0_flown_48 : decode cX0_flown 48 = .ok (.aload_n 0, 1) := dk_42 (dk_at dksX0_flown_2 3 rfl rfl)
theorem dX0_flown_49 : decode cX0_flown 49 = .ok (.getfield 35, 3) := dk_180 0 35 (dk_at dksX0_flown_2 4 rfl rfl)
theorem dX0_flown_52 : decode cX0_flown 52 = .ok (.getfield 163, 3) := dk_180 0 163 (dk_at dksX0_flown_2 7 rfl rfl)
theorem dX0_flown_55 : decode cX0_flown 55 = .ok (.aload_n 0, 1) := dk_42 (dk_at dksX0_flown_2 10 rfl rfl)
theorem dX0_flown_56 : decode cX0_flown 56 = .ok (.getfield 31, 3) := dk_180 0 31 (dk_at dksX0_flown_2 11 rfl rfl)
theorem dX0_flown_59 : decode cX0_flown 59 = .ok (.getfield 163, 3) := dk_180 0 163 (dk_at dksX0_flown_2 14 rfl rfl)
theorem dX0_flown_62 : decode cX0_flown 62 = .ok (.isub, 1) := dk_100 (dk_at dksX0_flown_2 17 rfl rfl)
theorem dX0_flown_63 : decode cX0_flown 63 = .ok (.ireturn, 1) := dk_172 (dk_at dksX0_flown_2 18 rfl rfl)
abbrev cX0_flies : ByteArray := prog_1_method_42_code
def yX0_flies : MethodName := ⟨RX0, "flies", "(I)Z"⟩
def dkwX0_flies_3 : List UInt8 := [132, 2, 1, 167, 255, 198, 42, 180, 0, 35, 42, 180, 0, 38, 27, 182, 0, 246, 172]
abbrev dktX0_flies_3 : List UInt8 := dkwX0_flies_3 ++ []
def dkwX0_flies_2 : List UInt8 := [3, 172, 42, 42, 180, 0, 35, 42, 180, 0, 67, 28, 46, 42, 180, 0, 70, 28, 46, 182, 0, 231]
abbrev dktX0_flies_2 : List UInt8 := dkwX0_flies_2 ++ dktX0_flies_3
def dkwX0_flies_1 : List UInt8 := [180, 0, 35, 42, 180, 0, 17, 42, 180, 0, 67, 28, 46, 50, 180, 0, 177, 27, 182, 0, 246, 154, 0, 5]
abbrev dktX0_flies_1 : List UInt8 := dkwX0_flies_1 ++ dktX0_flies_2
def dkwX0_flies_0 : List UInt8 := [42, 180, 0, 35, 42, 180, 0, 31, 182, 0, 242, 3, 61, 28, 42, 180, 1, 31, 162, 0, 56, 42]
abbrev dktX0_flies_0 : List UInt8 := dkwX0_flies_0 ++ dktX0_flies_1
theorem dksX0_flies_0 : cX0_flies.data.toList.drop 0 = dktX0_flies_0 := by decide +kernel
theorem dksX0_flies_1 : cX0_flies.data.toList.drop 22 = dktX0_flies_1 := dk_seg dksX0_flies_0 22 rfl rfl
theorem dksX0_flies_2 : cX0_flies.data.toList.drop 46 = dktX0_flies_2 := dk_seg dksX0_flies_1 24 rfl rfl
theorem dksX0_flies_3 : cX0_flies.data.toList.drop 68 = dktX0_flies_3 := dk_seg dksX0_flies_2 22 rfl rfl
theorem dX0_flies_0 : decode cX0_flies 0 = .ok (.aload_n 0, 1) := dk_42 (dk_at dksX0_flies_0 0 rfl rfl)
theorem dX0_flies_1 : decode cX0_flies 1 = .ok (.getfield 35, 3) := dk_180 0 35 (dk_at dksX0_flies_0 1 rfl rfl)
theorem dX0_flies_4 : decode cX0_flies 4 = .ok (.aload_n 0, 1) := dk_42 (dk_at dksX0_flies_0 4 rfl rfl)
theorem dX0_flies_5 : decode cX0_flies 5 = .ok (.getfield 31, 3) := dk_180 0 31 (dk_at dksX0_flies_0 5 rfl rfl)
theorem dX0_flies_8 : decode cX0_flies 8 = .ok (.invokevirtual 242, 3) := dk_182 0 242 (dk_at dksX0_flies_0 8 rfl rfl)
theorem dX0_flies_11 : decode cX0_flies 11 = .ok (.iconst 0, 1) := dk_3 (dk_at dksX0_flies_0 11 rfl rfl)
theorem dX0_flies_12 : decode cX0_flies 12 = .ok (.istore_n 2, 1) := dk_61 (dk_at dksX0_flies_0 12 rfl rfl)
theorem dX0_flies_13 : decode cX0_flies 13 = .ok (.iload_n 2, 1) := dk_28 (dk_at dksX0_flies_0 13 rfl rfl)
theorem dX0_flies_14 : decode cX0_flies 14 = .ok (.aload_n 0, 1) := dk_42 (dk_at dksX0_flies_0 14 rfl rfl)
theorem dX0_flies_15 : decode cX0_flies 15 = .ok (.getfield 287, 3) := dk_180 1 31 (dk_at dksX0_flies_0 15 rfl rfl)
theorem dX0_flies_18 : decode cX0_flies 18 = .ok (.if_icmp .ge 56, 3) := dk_162 0 56 (dk_at dksX0_flies_0 18 rfl rfl)
theorem dX0_flies_21 : decode cX0_flies 21 = .ok (.aload_n 0, 1) := dk_42 (dk_at dksX0_flies_0 21 rfl rfl)
theorem dX0_flies_22 : decode cX0_flies 22 = .ok (.getfield 35, 3) := dk_180 0 35 (dk_at dksX0_flies_1 0 rfl rfl)
theorem dX0_flies_25 : decode cX0_flies 25 = .ok (.aload_n 0, 1) := dk_42 (dk_at dksX0_flies_1 3 rfl rfl)
theorem dX0_flies_26 : decode cX0_flies 26 = .ok (.getfield 17, 3) := dk_180 0 17 (dk_at dksX0_flies_1 4 rfl rfl)
theorem dX0_flies_29 : decode cX0_flies 29 = .ok (.aload_n 0, 1) := dk_42 (dk_at dksX0_flies_1 7 rfl rfl)
theorem dX0_flies_30 : decode cX0_flies 30 = .ok (.getfield 67, 3) := dk_180 0 67 (dk_at dksX0_flies_1 8 rfl rfl)
theorem dX0_flies_33 : decode cX0_flies 33 = .ok (.iload_n 2, 1) := dk_28 (dk_at dksX0_flies_1 11 rfl rfl)
theorem dX0_flies_34 : decode cX0_flies 34 = .ok (.iaload, 1) := dk_46 (dk_at dksX0_flies_1 12 rfl rfl)
theorem dX0_flies_35 : decode cX0_flies 35 = .ok (.aaload, 1) := dk_50 (dk_at dksX0_flies_1 13 rfl rfl)
theorem dX0_flies_36 : decode cX0_flies 36 = .ok (.getfield 177, 3) := dk_180 0 177 (dk_at dksX0_flies_1 14 rfl rfl)
theorem dX0_flies_39 : decode cX0_flies 39 = .ok (.iload_n 1, 1) := dk_27 (dk_at dksX0_flies_1 17 rfl rfl)
theorem dX0_flies_40 : decode cX0_flies 40 = .ok (.invokevirtual 246, 3) := dk_182 0 246 (dk_at dksX0_flies_1 18 rfl rfl)
theorem dX0_flies_43 : decode cX0_flies 43 = .ok (.ifCond .ne 5, 3) := dk_154 0 5 (dk_at dksX0_flies_1 21 rfl rfl)
theorem dX0_flies_46 : decode cX0_flies 46 = .ok (.iconst 0, 1) := dk_3 (dk_at dksX0_flies_2 0 rfl rfl)
theorem dX0_flies_47 : decode cX0_flies 47 = .ok (.ireturn, 1) := dk_172 (dk_at dksX0_flies_2 1 rfl rfl)
theorem dX0_flies_48 : decode cX0_flies 48 = .ok (.aload_n 0, 1) := dk_42 (dk_at dksX0_flies_2 2 rfl rfl)
theorem dX0_flies_49 : decode cX0_flies 49 = .ok (.aload_n 0, 1) := dk_42 (dk_at dksX0_flies_2 3 rfl rfl)
theorem dX0_flies_50 : decode cX0_flies 50 = .ok (.getfield 35, 3) := dk_180 0 35 (dk_at dksX0_flies_2 4 rfl rfl)
theorem dX0_flies_53 : decode cX0_flies 53 = .ok (.aload_n 0, 1) := dk_42 (dk_at dksX0_flies_2 7 rfl rfl)
theorem dX0_flies_54 : decode cX0_flies 54 = .ok (.getfield 67, 3) := dk_180 0 67 (dk_at dksX0_flies_2 8 rfl rfl)
theorem dX0_flies_57 : decode cX0_flies 57 = .ok (.iload_n 2, 1) := dk_28 (dk_at dksX0_flies_2 11 rfl rfl)
theorem dX0_flies_58 : decode cX0_flies 58 = .ok (.iaload, 1) := dk_46 (dk_at dksX0_flies_2 12 rfl rfl)
theorem dX0_flies_59 : decode cX0_flies 59 = .ok (.aload_n 0, 1) := dk_42 (dk_at dksX0_flies_2 13 rfl rfl)
theorem dX0_flies_60 : decode cX0_flies 60 = .ok (.getfield 70, 3) := dk_180 0 70 (dk_at dksX0_flies_2 14 rfl rfl)
theorem dX0_flies_63 : decode cX0_flies 63 = .ok (.iload_n 2, 1) := dk_28 (dk_at dksX0_flies_2 17 rfl rfl)
theorem dX0_flies_64 : decode cX0_flies 64 = .ok (.iaload, 1) := dk_46 (dk_at dksX0_flies_2 18 rfl rfl)
theorem dX0_flies_65 : decode cX0_flies 65 = .ok (.invokevirtual 231, 3) := dk_182 0 231 (dk_at dksX0_flies_2 19 rfl rfl)
theorem dX0_flies_68 : decode cX0_flies 68 = .ok (.iinc 2 1, 3) := dk_132 2 1 (dk_at dksX0_flies_3 0 rfl rfl)
theorem dX0_flies_71 : decode cX0_flies 71 = .ok (.goto (-58), 3) := dk_167 255 198 (dk_at dksX0_flies_3 3 rfl rfl)
theorem dX0_flies_74 : decode cX0_flies 74 = .ok (.aload_n 0, 1) := dk_42 (dk_at dksX0_flies_3 6 rfl rfl)
theorem dX0_flies_75 : decode cX0_flies 75 = .ok (.getfield 35, 3) := dk_180 0 35 (dk_at dksX0_flies_3 7 rfl rfl)
theorem dX0_flies_78 : decode cX0_flies 78 = .ok (.aload_n 0, 1) := dk_42 (dk_at dksX0_flies_3 10 rfl rfl)
theorem dX0_flies_79 : decode cX0_flies 79 = .ok (.getfield 38, 3) := dk_180 0 38 (dk_at dksX0_flies_3 11 rfl rfl)
theorem dX0_flies_82 : decode cX0_flies 82 = .ok (.iload_n 1, 1) := dk_27 (dk_at dksX0_flies_3 14 rfl rfl)
theorem dX0_flies_83 : decode cX0_flies 83 = .ok (.invokevirtual 246, 3) := dk_182 0 246 (dk_at dksX0_flies_3 15 rfl rfl)
theorem dX0_flies_86 : decode cX0_flies 86 = .ok (.ireturn, 1) := dk_172 (dk_at dksX0_flies_3 18 rfl rfl)
abbrev cX0_see : ByteArray := prog_1_method_44_code
def yX0_see : MethodName := ⟨RX0, "see", "(I)I"⟩
def dkwX0_see_2 : List UInt8 := [4, 96, 181, 1, 37, 27, 79, 42, 180, 1, 37, 172]
abbrev dktX0_see_2 : List UInt8 := dkwX0_see_2 ++ []
def dkwX0_see_1 : List UInt8 := [16, 254, 172, 42, 180, 1, 37, 8, 160, 0, 6, 16, 252, 172, 42, 180, 0, 73, 42, 89, 180, 1, 37, 90]
abbrev dktX0_see_1 : List UInt8 := dkwX0_see_1 ++ dktX0_see_2
def dkwX0_see_0 : List UInt8 := [27, 16, 156, 160, 0, 10, 42, 3, 181, 1, 37, 3, 172, 27, 16, 157, 16, 99, 184, 0, 5, 154, 0, 6]
abbrev dktX0_see_0 : List UInt8 := dkwX0_see_0 ++ dktX0_see_1
theorem dksX0_see_0 : cX0_see.data.toList.drop 0 = dktX0_see_0 := by decide +kernel
theorem dksX0_see_1 : cX0_see.data.toList.drop 24 = dktX0_see_1 := dk_seg dksX0_see_0 24 rfl rfl
theorem dksX0_see_2 : cX0_see.data.toList.drop 48 = dktX0_see_2 := dk_seg dksX0_see_1 24 rfl rfl
theorem dX0_see_0 : decode cX0_see 0 = .ok (.iload_n 1, 1) := dk_27 (dk_at dksX0_see_0 0 rfl rfl)
theorem dX0_see_1 : decode cX0_see 1 = .ok (.bipush (-100), 2) := dk_16 156 (dk_at dksX0_see_0 1 rfl rfl)
theorem dX0_see_3 : decode cX0_see 3 = .ok (.if_icmp .ne 10, 3) := dk_160 0 10 (dk_at dksX0_see_0 3 rfl rfl)
theorem dX0_see_6 : decode cX0_see 6 = .ok (.aload_n 0, 1) := dk_42 (dk_at dksX0_see_0 6 rfl rfl)
theorem dX0_see_7 : decode cX0_see 7 = .ok (.iconst 0, 1) := dk_3 (dk_at dksX0_see_0 7 rfl rfl)
theorem dX0_see_8 : decode cX0_see 8 = .ok (.putfield 293, 3) := dk_181 1 37 (dk_at dksX0_see_0 8 rfl rfl)
theorem dX0_see_11 : decode cX0_see 11 = .ok (.iconst 0, 1) := dk_3 (dk_at dksX0_see_0 11 rfl rfl)
theorem dX0_see_12 : decode cX0_see 12 = .ok (.ireturn, 1) := dk_172 (dk_at dksX0_see_0 12 rfl rfl)
theorem dX0_see_13 : decode cX0_see 13 = .ok (.iload_n 1, 1) := dk_27 (dk_at dksX0_see_0 13 rfl rfl)
theorem dX0_see_14 : decode cX0_see 14 = .ok (.bipush (-99), 2) := dk_16 157 (dk_at dksX0_see_0 14 rfl rfl)
theorem dX0_see_16 : decode cX0_see 16 = .ok (.bipush 99, 2) := dk_16 99 (dk_at dksX0_see_0 16 rfl rfl)
theorem dX0_see_18 : decode cX0_see 18 = .ok (.invokestatic 5, 3) := dk_184 0 5 (dk_at dksX0_see_0 18 rfl rfl)
theorem dX0_see_21 : decode cX0_see 21 = .ok (.ifCond .ne 6, 3) := dk_154 0 6 (dk_at dksX0_see_0 21 rfl rfl)
theorem dX0_see_24 : decode cX0_see 24 = .ok (.bipush (-2), 2) := dk_16 254 (dk_at dksX0_see_1 0 rfl rfl)
theorem dX0_see_26 : decode cX0_see 26 = .ok (.ireturn, 1) := dk_172 (dk_at dksX0_see_1 2 rfl rfl)
theorem dX0_see_27 : decode cX0_see 27 = .ok (.aload_n 0, 1) := dk_42 (dk_at dksX0_see_1 3 rfl rfl)
theorem dX0_see_28 : decode cX0_see 28 = .ok (.getfield 293, 3) := dk_180 1 37 (dk_at dksX0_see_1 4 rfl rfl)
theorem dX0_see_31 : decode cX0_see 31 = .ok (.iconst 5, 1) := dk_8 (dk_at dksX0_see_1 7 rfl rfl)
theorem dX0_see_32 : decode cX0_see 32 = .ok (.if_icmp .ne 6, 3) := dk_160 0 6 (dk_at dksX0_see_1 8 rfl rfl)
theorem dX0_see_35 : decode cX0_see 35 = .ok (.bipush (-4), 2) := dk_16 252 (dk_at dksX0_see_1 11 rfl rfl)
theorem dX0_see_37 : decode cX0_see 37 = .ok (.ireturn, 1) := dk_172 (dk_at dksX0_see_1 13 rfl rfl)
theorem dX0_see_38 : decode cX0_see 38 = .ok (.aload_n 0, 1) := dk_42 (dk_at dksX0_see_1 14 rfl rfl)
theorem dX0_see_39 : decode cX0_see 39 = .ok (.getfield 73, 3) := dk_180 0 73 (dk_at dksX0_see_1 15 rfl rfl)
theorem dX0_see_42 : decode cX0_see 42 = .ok (.aload_n 0, 1) := dk_42 (dk_at dksX0_see_1 18 rfl rfl)
theorem dX0_see_43 : decode cX0_see 43 = .ok (.dup, 1) := dk_89 (dk_at dksX0_see_1 19 rfl rfl)
theorem dX0_see_44 : decode cX0_see 44 = .ok (.getfield 293, 3) := dk_180 1 37 (dk_at dksX0_see_1 20 rfl rfl)
theorem dX0_see_47 : decode cX0_see 47 = .ok (.dup_x1, 1) := dk_90 (dk_at dksX0_see_1 23 rfl rfl)
theorem dX0_see_48 : decode cX0_see 48 = .ok (.iconst 1, 1) := dk_4 (dk_at dksX0_see_2 0 rfl rfl)
theorem dX0_see_49 : decode cX0_see 49 = .ok (.iadd, 1) := dk_96 (dk_at dksX0_see_2 1 rfl rfl)
theorem dX0_see_50 : decode cX0_see 50 = .ok (.putfield 293, 3) := dk_181 1 37 (dk_at dksX0_see_2 2 rfl rfl)
theorem dX0_see_53 : decode cX0_see 53 = .ok (.iload_n 1, 1) := dk_27 (dk_at dksX0_see_2 5 rfl rfl)
theorem dX0_see_54 : decode cX0_see 54 = .ok (.iastore, 1) := dk_79 (dk_at dksX0_see_2 6 rfl rfl)
theorem dX0_see_55 : decode cX0_see 55 = .ok (.aload_n 0, 1) := dk_42 (dk_at dksX0_see_2 7 rfl rfl)
theorem dX0_see_56 : decode cX0_see 56 = .ok (.getfield 293, 3) := dk_180 1 37 (dk_at dksX0_see_2 8 rfl rfl)
theorem dX0_see_59 : decode cX0_see 59 = .ok (.ireturn, 1) := dk_172 (dk_at dksX0_see_2 11 rfl rfl)
abbrev cX0_who : ByteArray := prog_1_method_46_code
def yX0_who : MethodName := ⟨RX0, "who", "()I"⟩
def dkwX0_who_1 : List UInt8 := [128, 60, 132, 2, 1, 167, 255, 231, 27, 172]
abbrev dktX0_who_1 : List UInt8 := dkwX0_who_1 ++ []
def dkwX0_who_0 : List UInt8 := [3, 60, 3, 61, 28, 42, 180, 0, 116, 162, 0, 23, 42, 28, 182, 1, 40, 153, 0, 9, 27, 4, 28, 120]
abbrev dktX0_who_0 : List UInt8 := dkwX0_who_0 ++ dktX0_who_1
theorem dksX0_who_0 : cX0_who.data.toList.drop 0 = dktX0_who_0 := by decide +kernel
theorem dksX0_who_1 : cX0_who.data.toList.drop 24 = dktX0_who_1 := dk_seg dksX0_who_0 24 rfl rfl
theorem dX0_who_0 : decode cX0_who 0 = .ok (.iconst 0, 1) := dk_3 (dk_at dksX0_who_0 0 rfl rfl)
theorem dX0_who_1 : decode cX0_who 1 = .ok (.istore_n 1, 1) := dk_60 (dk_at dksX0_who_0 1 rfl rfl)
theorem dX0_who_2 : decode cX0_who 2 = .ok (.iconst 0, 1) := dk_3 (dk_at dksX0_who_0 2 rfl rfl)
theorem dX0_who_3 : decode cX0_who 3 = .ok (.istore_n 2, 1) := dk_61 (dk_at dksX0_who_0 3 rfl rfl)
theorem dX0_who_4 : decode cX0_who 4 = .ok (.iload_n 2, 1) := dk_28 (dk_at dksX0_who_0 4 rfl rfl)
theorem dX0_who_5 : decode cX0_who 5 = .ok (.aload_n 0, 1) := dk_42 (dk_at dksX0_who_0 5 rfl rfl)
theorem dX0_who_6 : decode cX0_who 6 = .ok (.getfield 116, 3) := dk_180 0 116 (dk_at dksX0_who_0 6 rfl rfl)
theorem dX0_who_9 : decode cX0_who 9 = .ok (.if_icmp .ge 23, 3) := dk_162 0 23 (dk_at dksX0_who_0 9 rfl rfl)
theorem dX0_who_12 : decode cX0_who 12 = .ok (.aload_n 0, 1) := dk_42 (dk_at dksX0_who_0 12 rfl rfl)
theorem dX0_who_13 : decode cX0_who 13 = .ok (.iload_n 2, 1) := dk_28 (dk_at dksX0_who_0 13 rfl rfl)
theorem dX0_who_14 : decode cX0_who 14 = .ok (.invokevirtual 296, 3) := dk_182 1 40 (dk_at dksX0_who_0 14 rfl rfl)
theorem dX0_who_17 : decode cX0_who 17 = .ok (.ifCond .eq 9, 3) := dk_153 0 9 (dk_at dksX0_who_0 17 rfl rfl)
theorem dX0_who_20 : decode cX0_who 20 = .ok (.iload_n 1, 1) := dk_27 (dk_at dksX0_who_0 20 rfl rfl)
theorem dX0_who_21 : decode cX0_who 21 = .ok (.iconst 1, 1) := dk_4 (dk_at dksX0_who_0 21 rfl rfl)
theorem dX0_who_22 : decode cX0_who 22 = .ok (.iload_n 2, 1) := dk_28 (dk_at dksX0_who_0 22 rfl rfl)
theorem dX0_who_23 : decode cX0_who 23 = .ok (.ishl, 1) := dk_120 (dk_at dksX0_who_0 23 rfl rfl)
theorem dX0_who_24 : decode cX0_who 24 = .ok (.ior, 1) := dk_128 (dk_at dksX0_who_1 0 rfl rfl)
theorem dX0_who_25 : decode cX0_who 25 = .ok (.istore_n 1, 1) := dk_60 (dk_at dksX0_who_1 1 rfl rfl)
theorem dX0_who_26 : decode cX0_who 26 = .ok (.iinc 2 1, 3) := dk_132 2 1 (dk_at dksX0_who_1 2 rfl rfl)
theorem dX0_who_29 : decode cX0_who 29 = .ok (.goto (-25), 3) := dk_167 255 231 (dk_at dksX0_who_1 5 rfl rfl)
theorem dX0_who_32 : decode cX0_who 32 = .ok (.iload_n 1, 1) := dk_27 (dk_at dksX0_who_1 8 rfl rfl)
theorem dX0_who_33 : decode cX0_who 33 = .ok (.ireturn, 1) := dk_172 (dk_at dksX0_who_1 9 rfl rfl)
abbrev cX0_isAsSeen : ByteArray := prog_1_method_45_code
def yX0_isAsSeen : MethodName := ⟨RX0, "isAsSeen", "(I)Z"⟩
def dkwX0_isAsSeen_2 : List UInt8 := [29, 100, 42, 180, 0, 73, 28, 46, 159, 0, 5, 3, 172, 132, 2, 1, 167, 255, 207, 4, 172]
abbrev dktX0_isAsSeen_2 : List UInt8 := dkwX0_isAsSeen_2 ++ []
def dkwX0_isAsSeen_1 : List UInt8 := [180, 0, 35, 180, 0, 159, 62, 42, 42, 180, 0, 35, 27, 4, 182, 0, 231, 42, 180, 0, 35, 180, 0, 159]
abbrev dktX0_isAsSeen_1 : List UInt8 := dkwX0_isAsSeen_1 ++ dktX0_isAsSeen_2
def dkwX0_isAsSeen_0 : List UInt8 := [42, 180, 0, 35, 42, 180, 0, 31, 182, 0, 242, 3, 61, 28, 42, 180, 1, 37, 162, 0, 47, 42]
abbrev dktX0_isAsSeen_0 : List UInt8 := dkwX0_isAsSeen_0 ++ dktX0_isAsSeen_1
theorem dksX0_isAsSeen_0 : cX0_isAsSeen.data.toList.drop 0 = dktX0_isAsSeen_0 := by decide +kernel
theorem dksX0_isAsSeen_1 : cX0_isAsSeen.data.toList.drop 22 = dktX0_isAsSeen_1 := dk_seg dksX0_isAsSeen_0 22 rfl rfl
theorem dksX0_isAsSeen_2 : cX0_isAsSeen.data.toList.drop 46 = dktX0_isAsSeen_2 := dk_seg dksX0_isAsSeen_1 24 rfl rfl
theorem dX0_isAsSeen_0 : decode cX0_isAsSeen 0 = .ok (.aload_n 0, 1) := dk_42 (dk_at dksX0_isAsSeen_0 0 rfl rfl)
theorem dX0_isAsSeen_1 : decode cX0_isAsSeen 1 = .ok (.getfield 35, 3) := dk_180 0 35 (dk_at dksX0_isAsSeen_0 1 rfl rfl)
theorem dX0_isAsSeen_4 : decode cX0_isAsSeen 4 = .ok (.aload_n 0, 1) := dk_42 (dk_at dksX0_isAsSeen_0 4 rfl rfl)
theorem dX0_isAsSeen_5 : decode cX0_isAsSeen 5 = .ok (.getfield 31, 3) := dk_180 0 31 (dk_at dksX0_isAsSeen_0 5 rfl rfl)
theorem dX0_isAsSeen_8 : decode cX0_isAsSeen 8 = .ok (.invokevirtual 242, 3) := dk_182 0 242 (dk_at dksX0_isAsSeen_0 8 rfl rfl)
theorem dX0_isAsSeen_11 : decode cX0_isAsSeen 11 = .ok (.iconst 0, 1) := dk_3 (dk_at dksX0_isAsSeen_0 11 rfl rfl)
theorem dX0_isAsSeen_12 : decode cX0_isAsSeen 12 = .ok (.istore_n 2, 1) := dk_61 (dk_at dksX0_isAsSeen_0 12 rfl rfl)
theorem dX0_isAsSeen_13 : decode cX0_isAsSeen 13 = .ok (.iload_n 2, 1) := dk_28 (dk_at dksX0_isAsSeen_0 13 rfl rfl)
theorem dX0_isAsSeen_14 : decode cX0_isAsSeen 14 = .ok (.aload_n 0, 1) := dk_42 (dk_at dksX0_isAsSeen_0 14 rfl rfl)
theorem dX0_isAsSeen_15 : decode cX0_isAsSeen 15 = .ok (.getfield 293, 3) := dk_180 1 37 (dk_at dksX0_isAsSeen_0 15 rfl rfl)
theorem dX0_isAsSeen_18 : decode cX0_isAsSeen 18 = .ok (.if_icmp .ge 47, 3) := dk_162 0 47 (dk_at dksX0_isAsSeen_0 18 rfl rfl)
theorem dX0_isAsSeen_21 : decode cX0_isAsSeen 21 = .ok (.aload_n 0, 1) := dk_42 (dk_at dksX0_isAsSeen_0 21 rfl rfl)
theorem dX0_isAsSeen_22 : decode cX0_isAsSeen 22 = .ok (.getfield 35, 3) := dk_180 0 35 (dk_at dksX0_isAsSeen_1 0 rfl rfl)
theorem dX0_isAsSeen_25 : decode cX0_isAsSeen 25 = .ok (.getfield 159, 3) := dk_180 0 159 (dk_at dksX0_isAsSeen_1 3 rfl rfl)
theorem dX0_isAsSeen_28 : decode cX0_isAsSeen 28 = .ok (.istore_n 3, 1) := dk_62 (dk_at dksX0_isAsSeen_1 6 rfl rfl)
theorem dX0_isAsSeen_29 : decode cX0_isAsSeen 29 = .ok (.aload_n 0, 1) := dk_42 (dk_at dksX0_isAsSeen_1 7 rfl rfl)
theorem dX0_isAsSeen_30 : decode cX0_isAsSeen 30 = .ok (.aload_n 0, 1) := dk_42 (dk_at dksX0_isAsSeen_1 8 rfl rfl)
theorem dX0_isAsSeen_31 : decode cX0_isAsSeen 31 = .ok (.getfield 35, 3) := dk_180 0 35 (dk_at dksX0_isAsSeen_1 9 rfl rfl)
theorem dX0_isAsSeen_34 : decode cX0_isAsSeen 34 = .ok (.iload_n 1, 1) := dk_27 (dk_at dksX0_isAsSeen_1 12 rfl rfl)
theorem dX0_isAsSeen_35 : decode cX0_isAsSeen 35 = .ok (.iconst 1, 1) := dk_4 (dk_at dksX0_isAsSeen_1 13 rfl rfl)
theorem dX0_isAsSeen_36 : decode cX0_isAsSeen 36 = .ok (.invokevirtual 231, 3) := dk_182 0 231 (dk_at dksX0_isAsSeen_1 14 rfl rfl)
theorem dX0_isAsSeen_39 : decode cX0_isAsSeen 39 = .ok (.aload_n 0, 1) := dk_42 (dk_at dksX0_isAsSeen_1 17 rfl rfl)
theorem dX0_isAsSeen_40 : decode cX0_isAsSeen 40 = .ok (.getfield 35, 3) := dk_180 0 35 (dk_at dksX0_isAsSeen_1 18 rfl rfl)
theorem dX0_isAsSeen_43 : decode cX0_isAsSeen 43 = .ok (.getfield 159, 3) := dk_180 0 159 (dk_at dksX0_isAsSeen_1 21 rfl rfl)
theorem dX0_isAsSeen_46 : decode cX0_isAsSeen 46 = .ok (.iload_n 3, 1) := dk_29 (dk_at dksX0_isAsSeen_2 0 rfl rfl)
theorem dX0_isAsSeen_47 : decode cX0_isAsSeen 47 = .ok (.isub, 1) := dk_100 (dk_at dksX0_isAsSeen_2 1 rfl rfl)
theorem dX0_isAsSeen_48 : decode cX0_isAsSeen 48 = .ok (.aload_n 0, 1) := dk_42 (dk_at dksX0_isAsSeen_2 2 rfl rfl)
theorem dX0_isAsSeen_49 : decode cX0_isAsSeen 49 = .ok (.getfield 73, 3) := dk_180 0 73 (dk_at dksX0_isAsSeen_2 3 rfl rfl)
theorem dX0_isAsSeen_52 : decode cX0_isAsSeen 52 = .ok (.iload_n 2, 1) := dk_28 (dk_at dksX0_isAsSeen_2 6 rfl rfl)
theorem dX0_isAsSeen_53 : decode cX0_isAsSeen 53 = .ok (.iaload, 1) := dk_46 (dk_at dksX0_isAsSeen_2 7 rfl rfl)
theorem dX0_isAsSeen_54 : decode cX0_isAsSeen 54 = .ok (.if_icmp .eq 5, 3) := dk_159 0 5 (dk_at dksX0_isAsSeen_2 8 rfl rfl)
theorem dX0_isAsSeen_57 : decode cX0_isAsSeen 57 = .ok (.iconst 0, 1) := dk_3 (dk_at dksX0_isAsSeen_2 11 rfl rfl)
theorem dX0_isAsSeen_58 : decode cX0_isAsSeen 58 = .ok (.ireturn, 1) := dk_172 (dk_at dksX0_isAsSeen_2 12 rfl rfl)
theorem dX0_isAsSeen_59 : decode cX0_isAsSeen 59 = .ok (.iinc 2 1, 3) := dk_132 2 1 (dk_at dksX0_isAsSeen_2 13 rfl rfl)
theorem dX0_isAsSeen_62 : decode cX0_isAsSeen 62 = .ok (.goto (-49), 3) := dk_167 255 207 (dk_at dksX0_isAsSeen_2 16 rfl rfl)
theorem dX0_isAsSeen_65 : decode cX0_isAsSeen 65 = .ok (.iconst 1, 1) := dk_4 (dk_at dksX0_isAsSeen_2 19 rfl rfl)
theorem dX0_isAsSeen_66 : decode cX0_isAsSeen 66 = .ok (.ireturn, 1) := dk_172 (dk_at dksX0_isAsSeen_2 20 rfl rfl)
abbrev cX0_odds : ByteArray := prog_1_method_49_code
def yX0_odds : MethodName := ⟨RX0, "odds", "(III)J"⟩
def dkwX0_odds_3 : List UInt8 := [55, 4, 132, 6, 1, 167, 255, 227, 22, 4, 42, 180, 0, 116, 133, 29, 184, 1, 52, 173]
abbrev dktX0_odds_3 : List UInt8 := dkwX0_odds_3 ++ []
def dkwX0_odds_2 : List UInt8 := [21, 6, 42, 180, 0, 116, 162, 0, 26, 42, 21, 6, 28, 182, 1, 49, 27, 161, 0, 9, 22, 4, 10, 97]
abbrev dktX0_odds_2 : List UInt8 := dkwX0_odds_2 ++ dktX0_odds_3
def dkwX0_odds_1 : List UInt8 := [184, 0, 5, 153, 0, 10, 42, 180, 0, 116, 154, 0, 7, 20, 1, 47, 173, 9, 55, 4, 3, 54, 6]
abbrev dktX0_odds_1 : List UInt8 := dkwX0_odds_1 ++ dktX0_odds_2
def dkwX0_odds_0 : List UInt8 := [27, 3, 17, 1, 144, 184, 0, 5, 153, 0, 29, 28, 3, 16, 60, 184, 0, 5, 153, 0, 19, 29, 3, 4]
abbrev dktX0_odds_0 : List UInt8 := dkwX0_odds_0 ++ dktX0_odds_1
theorem dksX0_odds_0 : cX0_odds.data.toList.drop 0 = dktX0_odds_0 := by decide +kernel
theorem dksX0_odds_1 : cX0_odds.data.toList.drop 24 = dktX0_odds_1 := dk_seg dksX0_odds_0 24 rfl rfl
theorem dksX0_odds_2 : cX0_odds.data.toList.drop 47 = dktX0_odds_2 := dk_seg dksX0_odds_1 23 rfl rfl
theorem dksX0_odds_3 : cX0_odds.data.toList.drop 71 = dktX0_odds_3 := dk_seg dksX0_odds_2 24 rfl rfl
theorem dX0_odds_0 : decode cX0_odds 0 = .ok (.iload_n 1, 1) := dk_27 (dk_at dksX0_odds_0 0 rfl rfl)
theorem dX0_odds_1 : decode cX0_odds 1 = .ok (.iconst 0, 1) := dk_3 (dk_at dksX0_odds_0 1 rfl rfl)
theorem dX0_odds_2 : decode cX0_odds 2 = .ok (.sipush 400, 3) := dk_17 1 144 (dk_at dksX0_odds_0 2 rfl rfl)
theorem dX0_odds_5 : decode cX0_odds 5 = .ok (.invokestatic 5, 3) := dk_184 0 5 (dk_at dksX0_odds_0 5 rfl rfl)
theorem dX0_odds_8 : decode cX0_odds 8 = .ok (.ifCond .eq 29, 3) := dk_153 0 29 (dk_at dksX0_odds_0 8 rfl rfl)
theorem dX0_odds_11 : decode cX0_odds 11 = .ok (.iload_n 2, 1) := dk_28 (dk_at dksX0_odds_0 11 rfl rfl)
theorem dX0_odds_12 : decode cX0_odds 12 = .ok (.iconst 0, 1) := dk_3 (dk_at dksX0_odds_0 12 rfl rfl)
theorem dX0_odds_13 : decode cX0_odds 13 = .ok (.bipush 60, 2) := dk_16 60 (dk_at dksX0_odds_0 13 rfl rfl)
theorem dX0_odds_15 : decode cX0_odds 15 = .ok (.invokestatic 5, 3) := dk_184 0 5 (dk_at dksX0_odds_0 15 rfl rfl)
theorem dX0_odds_18 : decode cX0_odds 18 = .ok (.ifCond .eq 19, 3) := dk_153 0 19 (dk_at dksX0_odds_0 18 rfl rfl)
theorem dX0_odds_21 : decode cX0_odds 21 = .ok (.iload_n 3, 1) := dk_29 (dk_at dksX0_odds_0 21 rfl rfl)
theorem dX0_odds_22 : decode cX0_odds 22 = .ok (.iconst 0, 1) := dk_3 (dk_at dksX0_odds_0 22 rfl rfl)
theorem dX0_odds_23 : decode cX0_odds 23 = .ok (.iconst 1, 1) := dk_4 (dk_at dksX0_odds_0 23 rfl rfl)
theorem dX0_odds_24 : decode cX0_odds 24 = .ok (.invokestatic 5, 3) := dk_184 0 5 (dk_at dksX0_odds_1 0 rfl rfl)
theorem dX0_odds_27 : decode cX0_odds 27 = .ok (.ifCond .eq 10, 3) := dk_153 0 10 (dk_at dksX0_odds_1 3 rfl rfl)
theorem dX0_odds_30 : decode cX0_odds 30 = .ok (.aload_n 0, 1) := dk_42 (dk_at dksX0_odds_1 6 rfl rfl)
theorem dX0_odds_31 : decode cX0_odds 31 = .ok (.getfield 116, 3) := dk_180 0 116 (dk_at dksX0_odds_1 7 rfl rfl)
theorem dX0_odds_34 : decode cX0_odds 34 = .ok (.ifCond .ne 7, 3) := dk_154 0 7 (dk_at dksX0_odds_1 10 rfl rfl)
theorem dX0_odds_37 : decode cX0_odds 37 = .ok (.ldc2_w 303, 3) := dk_20 1 47 (dk_at dksX0_odds_1 13 rfl rfl)
theorem dX0_odds_40 : decode cX0_odds 40 = .ok (.lreturn, 1) := dk_173 (dk_at dksX0_odds_1 16 rfl rfl)
theorem dX0_odds_41 : decode cX0_odds 41 = .ok (.lconst 0, 1) := dk_9 (dk_at dksX0_odds_1 17 rfl rfl)
theorem dX0_odds_42 : decode cX0_odds 42 = .ok (.lstore 4, 2) := dk_55 4 (dk_at dksX0_odds_1 18 rfl rfl)
theorem dX0_odds_44 : decode cX0_odds 44 = .ok (.iconst 0, 1) := dk_3 (dk_at dksX0_odds_1 20 rfl rfl)
theorem dX0_odds_45 : decode cX0_odds 45 = .ok (.istore 6, 2) := dk_54 6 (dk_at dksX0_odds_1 21 rfl rfl)
theorem dX0_odds_47 : decode cX0_odds 47 = .ok (.iload 6, 2) := dk_21 6 (dk_at dksX0_odds_2 0 rfl rfl)
theorem dX0_odds_49 : decode cX0_odds 49 = .ok (.aload_n 0, 1) := dk_42 (dk_at dksX0_odds_2 2 rfl rfl)
theorem dX0_odds_50 : decode cX0_odds 50 = .ok (.getfield 116, 3) := dk_180 0 116 (dk_at dksX0_odds_2 3 rfl rfl)
theorem dX0_odds_53 : decode cX0_odds 53 = .ok (.if_icmp .ge 26, 3) := dk_162 0 26 (dk_at dksX0_odds_2 6 rfl rfl)
theorem dX0_odds_56 : decode cX0_odds 56 = .ok (.aload_n 0, 1) := dk_42 (dk_at dksX0_odds_2 9 rfl rfl)
theorem dX0_odds_57 : decode cX0_odds 57 = .ok (.iload 6, 2) := dk_21 6 (dk_at dksX0_odds_2 10 rfl rfl)
theorem dX0_odds_59 : decode cX0_odds 59 = .ok (.iload_n 2, 1) := dk_28 (dk_at dksX0_odds_2 12 rfl rfl)
theorem dX0_odds_60 : decode cX0_odds 60 = .ok (.invokevirtual 305, 3) := dk_182 1 49 (dk_at dksX0_odds_2 13 rfl rfl)
theorem dX0_odds_63 : decode cX0_odds 63 = .ok (.iload_n 1, 1) := dk_27 (dk_at dksX0_odds_2 16 rfl rfl)
theorem dX0_odds_64 : decode cX0_odds 64 = .ok (.if_icmp .lt 9, 3) := dk_161 0 9 (dk_at dksX0_odds_2 17 rfl rfl)
theorem dX0_odds_67 : decode cX0_odds 67 = .ok (.lload 4, 2) := dk_22 4 (dk_at dksX0_odds_2 20 rfl rfl)
theorem dX0_odds_69 : decode cX0_odds 69 = .ok (.lconst 1, 1) := dk_10 (dk_at dksX0_odds_2 22 rfl rfl)
theorem dX0_odds_70 : decode cX0_odds 70 = .ok (.ladd, 1) := dk_97 (dk_at dksX0_odds_2 23 rfl rfl)
theorem dX0_odds_71 : decode cX0_odds 71 = .ok (.lstore 4, 2) := dk_55 4 (dk_at dksX0_odds_3 0 rfl rfl)
theorem dX0_odds_73 : decode cX0_odds 73 = .ok (.iinc 6 1, 3) := dk_132 6 1 (dk_at dksX0_odds_3 2 rfl rfl)
theorem dX0_odds_76 : decode cX0_odds 76 = .ok (.goto (-29), 3) := dk_167 255 227 (dk_at dksX0_odds_3 5 rfl rfl)
theorem dX0_odds_79 : decode cX0_odds 79 = .ok (.lload 4, 2) := dk_22 4 (dk_at dksX0_odds_3 8 rfl rfl)
theorem dX0_odds_81 : decode cX0_odds 81 = .ok (.aload_n 0, 1) := dk_42 (dk_at dksX0_odds_3 10 rfl rfl)
theorem dX0_odds_82 : decode cX0_odds 82 = .ok (.getfield 116, 3) := dk_180 0 116 (dk_at dksX0_odds_3 11 rfl rfl)
theorem dX0_odds_85 : decode cX0_odds 85 = .ok (.i2l, 1) := dk_133 (dk_at dksX0_odds_3 14 rfl rfl)
theorem dX0_odds_86 : decode cX0_odds 86 = .ok (.iload_n 3, 1) := dk_29 (dk_at dksX0_odds_3 15 rfl rfl)
theorem dX0_odds_87 : decode cX0_odds 87 = .ok (.invokestatic 308, 3) := dk_184 1 52 (dk_at dksX0_odds_3 16 rfl rfl)
theorem dX0_odds_90 : decode cX0_odds 90 = .ok (.lreturn, 1) := dk_173 (dk_at dksX0_odds_3 19 rfl rfl)
abbrev cX0_lowestTerms : ByteArray := prog_1_method_48_code
def yX0_lowestTerms : MethodName := ⟨RX0, "lowestTerms", "(JJI)J"⟩
def dkwX0_lowestTerms_0 : List UInt8 := [21, 4, 154, 0, 7, 30, 167, 0, 4, 32, 30, 32, 184, 1, 43, 109, 173]
abbrev dktX0_lowestTerms_0 : List UInt8 := dkwX0_lowestTerms_0 ++ []
theorem dksX0_lowestTerms_0 : cX0_lowestTerms.data.toList.drop 0 = dktX0_lowestTerms_0 := by decide +kernel
theorem dX0_lowestTerms_0 : decode cX0_lowestTerms 0 = .ok (.iload 4, 2) := dk_21 4 (dk_at dksX0_lowestTerms_0 0 rfl rfl)
theorem dX0_lowestTerms_2 : decode cX0_lowestTerms 2 = .ok (.ifCond .ne 7, 3) := dk_154 0 7 (dk_at dksX0_lowestTerms_0 2 rfl rfl)
theorem dX0_lowestTerms_5 : decode cX0_lowestTerms 5 = .ok (.lload_n 0, 1) := dk_30 (dk_at dksX0_lowestTerms_0 5 rfl rfl)
theorem dX0_lowestTerms_6 : decode cX0_lowestTerms 6 = .ok (.goto 4, 3) := dk_167 0 4 (dk_at dksX0_lowestTerms_0 6 rfl rfl)
theorem dX0_lowestTerms_9 : decode cX0_lowestTerms 9 = .ok (.lload_n 2, 1) := dk_32 (dk_at dksX0_lowestTerms_0 9 rfl rfl)
theorem dX0_lowestTerms_10 : decode cX0_lowestTerms 10 = .ok (.lload_n 0, 1) := dk_30 (dk_at dksX0_lowestTerms_0 10 rfl rfl)
theorem dX0_lowestTerms_11 : decode cX0_lowestTerms 11 = .ok (.lload_n 2, 1) := dk_32 (dk_at dksX0_lowestTerms_0 11 rfl rfl)
theorem dX0_lowestTerms_12 : decode cX0_lowestTerms 12 = .ok (.invokestatic 299, 3) := dk_184 1 43 (dk_at dksX0_lowestTerms_0 12 rfl rfl)
theorem dX0_lowestTerms_15 : decode cX0_lowestTerms 15 = .ok (.ldiv, 1) := dk_109 (dk_at dksX0_lowestTerms_0 15 rfl rfl)
theorem dX0_lowestTerms_16 : decode cX0_lowestTerms 16 = .ok (.lreturn, 1) := dk_173 (dk_at dksX0_lowestTerms_0 16 rfl rfl)
abbrev cX0_divisor : ByteArray := prog_1_method_47_code
def yX0_divisor : MethodName := ⟨RX0, "divisor", "(JJ)J"⟩
def dkwX0_divisor_1 : List UInt8 := [22, 4, 173]
abbrev dktX0_divisor_1 : List UInt8 := dkwX0_divisor_1 ++ []
def dkwX0_divisor_0 : List UInt8 := [30, 55, 4, 32, 9, 148, 153, 0, 18, 22, 4, 32, 113, 55, 6, 32, 55, 4, 22, 6, 65, 167, 255, 238]
abbrev dktX0_divisor_0 : List UInt8 := dkwX0_divisor_0 ++ dktX0_divisor_1
theorem dksX0_divisor_0 : cX0_divisor.data.toList.drop 0 = dktX0_divisor_0 := by decide +kernel
theorem dksX0_divisor_1 : cX0_divisor.data.toList.drop 24 = dktX0_divisor_1 := dk_seg dksX0_divisor_0 24 rfl rfl
theorem dX0_divisor_0 : decode cX0_divisor 0 = .ok (.lload_n 0, 1) := dk_30 (dk_at dksX0_divisor_0 0 rfl rfl)
theorem dX0_divisor_1 : decode cX0_divisor 1 = .ok (.lstore 4, 2) := dk_55 4 (dk_at dksX0_divisor_0 1 rfl rfl)
theorem dX0_divisor_3 : decode cX0_divisor 3 = .ok (.lload_n 2, 1) := dk_32 (dk_at dksX0_divisor_0 3 rfl rfl)
theorem dX0_divisor_4 : decode cX0_divisor 4 = .ok (.lconst 0, 1) := dk_9 (dk_at dksX0_divisor_0 4 rfl rfl)
theorem dX0_divisor_5 : decode cX0_divisor 5 = .ok (.lcmp, 1) := dk_148 (dk_at dksX0_divisor_0 5 rfl rfl)
theorem dX0_divisor_6 : decode cX0_divisor 6 = .ok (.ifCond .eq 18, 3) := dk_153 0 18 (dk_at dksX0_divisor_0 6 rfl rfl)
theorem dX0_divisor_9 : decode cX0_divisor 9 = .ok (.lload 4, 2) := dk_22 4 (dk_at dksX0_divisor_0 9 rfl rfl)
theorem dX0_divisor_11 : decode cX0_divisor 11 = .ok (.lload_n 2, 1) := dk_32 (dk_at dksX0_divisor_0 11 rfl rfl)
theorem dX0_divisor_12 : decode cX0_divisor 12 = .ok (.lrem, 1) := dk_113 (dk_at dksX0_divisor_0 12 rfl rfl)
theorem dX0_divisor_13 : decode cX0_divisor 13 = .ok (.lstore 6, 2) := dk_55 6 (dk_at dksX0_divisor_0 13 rfl rfl)
theorem dX0_divisor_15 : decode cX0_divisor 15 = .ok (.lload_n 2, 1) := dk_32 (dk_at dksX0_divisor_0 15 rfl rfl)
theorem dX0_divisor_16 : decode cX0_divisor 16 = .ok (.lstore 4, 2) := dk_55 4 (dk_at dksX0_divisor_0 16 rfl rfl)
theorem dX0_divisor_18 : decode cX0_divisor 18 = .ok (.lload 6, 2) := dk_22 6 (dk_at dksX0_divisor_0 18 rfl rfl)
theorem dX0_divisor_20 : decode cX0_divisor 20 = .ok (.lstore_n 2, 1) := dk_65 (dk_at dksX0_divisor_0 20 rfl rfl)
theorem dX0_divisor_21 : decode cX0_divisor 21 = .ok (.goto (-18), 3) := dk_167 255 238 (dk_at dksX0_divisor_0 21 rfl rfl)
theorem dX0_divisor_24 : decode cX0_divisor 24 = .ok (.lload 4, 2) := dk_22 4 (dk_at dksX0_divisor_1 0 rfl rfl)
theorem dX0_divisor_26 : decode cX0_divisor 26 = .ok (.lreturn, 1) := dk_173 (dk_at dksX0_divisor_1 2 rfl rfl)
abbrev cX0_mean : ByteArray := prog_1_method_50_code
def yX0_mean : MethodName := ⟨RX0, "mean", "(II)J"⟩
def dkwX0_mean_3 : List UInt8 := [184, 1, 52, 173]
abbrev dktX0_mean_3 : List UInt8 := dkwX0_mean_3 ++ []
def dkwX0_mean_2 : List UInt8 := [21, 5, 27, 182, 1, 49, 133, 97, 66, 132, 5, 1, 167, 255, 233, 33, 42, 180, 0, 116, 133, 28]
abbrev dktX0_mean_2 : List UInt8 := dkwX0_mean_2 ++ dktX0_mean_3
def dkwX0_mean_1 : List UInt8 := [154, 0, 7, 20, 1, 47, 173, 9, 66, 3, 54, 5, 21, 5, 42, 180, 0, 116, 162, 0, 20, 33, 42]
abbrev dktX0_mean_1 : List UInt8 := dkwX0_mean_1 ++ dktX0_mean_2
def dkwX0_mean_0 : List UInt8 := [27, 3, 16, 60, 184, 0, 5, 153, 0, 19, 28, 3, 4, 184, 0, 5, 153, 0, 10, 42, 180, 0, 116]
abbrev dktX0_mean_0 : List UInt8 := dkwX0_mean_0 ++ dktX0_mean_1
theorem dksX0_mean_0 : cX0_mean.data.toList.drop 0 = dktX0_mean_0 := by decide +kernel
theorem dksX0_mean_1 : cX0_mean.data.toList.drop 23 = dktX0_mean_1 := dk_seg dksX0_mean_0 23 rfl rfl
theorem dksX0_mean_2 : cX0_mean.data.toList.drop 46 = dktX0_mean_2 := dk_seg dksX0_mean_1 23 rfl rfl
theorem dksX0_mean_3 : cX0_mean.data.toList.drop 68 = dktX0_mean_3 := dk_seg dksX0_mean_2 22 rfl rfl
theorem dX0_mean_0 : decode cX0_mean 0 = .ok (.iload_n 1, 1) := dk_27 (dk_at dksX0_mean_0 0 rfl rfl)
theorem dX0_mean_1 : decode cX0_mean 1 = .ok (.iconst 0, 1) := dk_3 (dk_at dksX0_mean_0 1 rfl rfl)
theorem dX0_mean_2 : decode cX0_mean 2 = .ok (.bipush 60, 2) := dk_16 60 (dk_at dksX0_mean_0 2 rfl rfl)
theorem dX0_mean_4 : decode cX0_mean 4 = .ok (.invokestatic 5, 3) := dk_184 0 5 (dk_at dksX0_mean_0 4 rfl rfl)
theorem dX0_mean_7 : decode cX0_mean 7 = .ok (.ifCond .eq 19, 3) := dk_153 0 19 (dk_at dksX0_mean_0 7 rfl rfl)
theorem dX0_mean_10 : decode cX0_mean 10 = .ok (.iload_n 2, 1) := dk_28 (dk_at dksX0_mean_0 10 rfl rfl)
theorem dX0_mean_11 : decode cX0_mean 11 = .ok (.iconst 0, 1) := dk_3 (dk_at dksX0_mean_0 11 rfl rfl)
theorem dX0_mean_12 : decode cX0_mean 12 = .ok (.iconst 1, 1) := dk_4 (dk_at dksX0_mean_0 12 rfl rfl)
theorem dX0_mean_13 : decode cX0_mean 13 = .ok (.invokestatic 5, 3) := dk_184 0 5 (dk_at dksX0_mean_0 13 rfl rfl)
theorem dX0_mean_16 : decode cX0_mean 16 = .ok (.ifCond .eq 10, 3) := dk_153 0 10 (dk_at dksX0_mean_0 16 rfl rfl)
theorem dX0_mean_19 : decode cX0_mean 19 = .ok (.aload_n 0, 1) := dk_42 (dk_at dksX0_mean_0 19 rfl rfl)
theorem dX0_mean_20 : decode cX0_mean 20 = .ok (.getfield 116, 3) := dk_180 0 116 (dk_at dksX0_mean_0 20 rfl rfl)
theorem dX0_mean_23 : decode cX0_mean 23 = .ok (.ifCond .ne 7, 3) := dk_154 0 7 (dk_at dksX0_mean_1 0 rfl rfl)
theorem dX0_mean_26 : decode cX0_mean 26 = .ok (.ldc2_w 303, 3) := dk_20 1 47 (dk_at dksX0_mean_1 3 rfl rfl)
theorem dX0_mean_29 : decode cX0_mean 29 = .ok (.lreturn, 1) := dk_173 (dk_at dksX0_mean_1 6 rfl rfl)
theorem dX0_mean_30 : decode cX0_mean 30 = .ok (.lconst 0, 1) := dk_9 (dk_at dksX0_mean_1 7 rfl rfl)
theorem dX0_mean_31 : decode cX0_mean 31 = .ok (.lstore_n 3, 1) := dk_66 (dk_at dksX0_mean_1 8 rfl rfl)
theorem dX0_mean_32 : decode cX0_mean 32 = .ok (.iconst 0, 1) := dk_3 (dk_at dksX0_mean_1 9 rfl rfl)
theorem dX0_mean_33 : decode cX0_mean 33 = .ok (.istore 5, 2) := dk_54 5 (dk_at dksX0_mean_1 10 rfl rfl)
theorem dX0_mean_35 : decode cX0_mean 35 = .ok (.iload 5, 2) := dk_21 5 (dk_at dksX0_mean_1 12 rfl rfl)
theorem dX0_mean_37 : decode cX0_mean 37 = .ok (.aload_n 0, 1) := dk_42 (dk_at dksX0_mean_1 14 rfl rfl)
theorem dX0_mean_38 : decode cX0_mean 38 = .ok (.getfield 116, 3) := dk_180 0 116 (dk_at dksX0_mean_1 15 rfl rfl)
theorem dX0_mean_41 : decode cX0_mean 41 = .ok (.if_icmp .ge 20, 3) := dk_162 0 20 (dk_at dksX0_mean_1 18 rfl rfl)
theorem dX0_mean_44 : decode cX0_mean 44 = .ok (.lload_n 3, 1) := dk_33 (dk_at dksX0_mean_1 21 rfl rfl)
theorem dX0_mean_45 : decode cX0_mean 45 = .ok (.aload_n 0, 1) := dk_42 (dk_at dksX0_mean_1 22 rfl rfl)
theorem dX0_mean_46 : decode cX0_mean 46 = .ok (.iload 5, 2) := dk_21 5 (dk_at dksX0_mean_2 0 rfl rfl)
theorem dX0_mean_48 : decode cX0_mean 48 = .ok (.iload_n 1, 1) := dk_27 (dk_at dksX0_mean_2 2 rfl rfl)
theorem dX0_mean_49 : decode cX0_mean 49 = .ok (.invokevirtual 305, 3) := dk_182 1 49 (dk_at dksX0_mean_2 3 rfl rfl)
theorem dX0_mean_52 : decode cX0_mean 52 = .ok (.i2l, 1) := dk_133 (dk_at dksX0_mean_2 6 rfl rfl)
theorem dX0_mean_53 : decode cX0_mean 53 = .ok (.ladd, 1) := dk_97 (dk_at dksX0_mean_2 7 rfl rfl)
theorem dX0_mean_54 : decode cX0_mean 54 = .ok (.lstore_n 3, 1) := dk_66 (dk_at dksX0_mean_2 8 rfl rfl)
theorem dX0_mean_55 : decode cX0_mean 55 = .ok (.iinc 5 1, 3) := dk_132 5 1 (dk_at dksX0_mean_2 9 rfl rfl)
theorem dX0_mean_58 : decode cX0_mean 58 = .ok (.goto (-23), 3) := dk_167 255 233 (dk_at dksX0_mean_2 12 rfl rfl)
theorem dX0_mean_61 : decode cX0_mean 61 = .ok (.lload_n 3, 1) := dk_33 (dk_at dksX0_mean_2 15 rfl rfl)
theorem dX0_mean_62 : decode cX0_mean 62 = .ok (.aload_n 0, 1) := dk_42 (dk_at dksX0_mean_2 16 rfl rfl)
theorem dX0_mean_63 : decode cX0_mean 63 = .ok (.getfield 116, 3) := dk_180 0 116 (dk_at dksX0_mean_2 17 rfl rfl)
theorem dX0_mean_66 : decode cX0_mean 66 = .ok (.i2l, 1) := dk_133 (dk_at dksX0_mean_2 20 rfl rfl)
theorem dX0_mean_67 : decode cX0_mean 67 = .ok (.iload_n 2, 1) := dk_28 (dk_at dksX0_mean_2 21 rfl rfl)
theorem dX0_mean_68 : decode cX0_mean 68 = .ok (.invokestatic 308, 3) := dk_184 1 52 (dk_at dksX0_mean_3 0 rfl rfl)
theorem dX0_mean_71 : decode cX0_mean 71 = .ok (.lreturn, 1) := dk_173 (dk_at dksX0_mean_3 3 rfl rfl)
abbrev cX0_book : ByteArray := prog_1_method_51_code
def yX0_book : MethodName := ⟨RX0, "book", "(II)I"⟩
def dkwX0_book_3 : List UInt8 := [181, 1, 56, 28, 79, 42, 180, 1, 56, 172]
abbrev dktX0_book_3 : List UInt8 := dkwX0_book_3 ++ []
def dkwX0_book_2 : List UInt8 := [172, 42, 180, 0, 76, 42, 180, 1, 56, 27, 79, 42, 180, 0, 79, 42, 89, 180, 1, 56, 90, 4, 96]
abbrev dktX0_book_2 : List UInt8 := dkwX0_book_2 ++ dktX0_book_3
def dkwX0_book_1 : List UInt8 := [16, 157, 16, 99, 184, 0, 5, 154, 0, 6, 16, 254, 172, 42, 180, 1, 56, 16, 8, 160, 0, 6, 16, 252]
abbrev dktX0_book_1 : List UInt8 := dkwX0_book_1 ++ dktX0_book_2
def dkwX0_book_0 : List UInt8 := [27, 2, 160, 0, 10, 42, 3, 181, 1, 56, 3, 172, 42, 27, 182, 0, 193, 154, 0, 5, 2, 172, 28]
abbrev dktX0_book_0 : List UInt8 := dkwX0_book_0 ++ dktX0_book_1
theorem dksX0_book_0 : cX0_book.data.toList.drop 0 = dktX0_book_0 := by decide +kernel
theorem dksX0_book_1 : cX0_book.data.toList.drop 23 = dktX0_book_1 := dk_seg dksX0_book_0 23 rfl rfl
theorem dksX0_book_2 : cX0_book.data.toList.drop 47 = dktX0_book_2 := dk_seg dksX0_book_1 24 rfl rfl
theorem dksX0_book_3 : cX0_book.data.toList.drop 70 = dktX0_book_3 := dk_seg dksX0_book_2 23 rfl rfl
theorem dX0_book_0 : decode cX0_book 0 = .ok (.iload_n 1, 1) := dk_27 (dk_at dksX0_book_0 0 rfl rfl)
theorem dX0_book_1 : decode cX0_book 1 = .ok (.iconst (-1), 1) := dk_2 (dk_at dksX0_book_0 1 rfl rfl)
theorem dX0_book_2 : decode cX0_book 2 = .ok (.if_icmp .ne 10, 3) := dk_160 0 10 (dk_at dksX0_book_0 2 rfl rfl)
theorem dX0_book_5 : decode cX0_book 5 = .ok (.aload_n 0, 1) := dk_42 (dk_at dksX0_book_0 5 rfl rfl)
theorem dX0_book_6 : decode cX0_book 6 = .ok (.iconst 0, 1) := dk_3 (dk_at dksX0_book_0 6 rfl rfl)
theorem dX0_book_7 : decode cX0_book 7 = .ok (.putfield 312, 3) := dk_181 1 56 (dk_at dksX0_book_0 7 rfl rfl)
theorem dX0_book_10 : decode cX0_book 10 = .ok (.iconst 0, 1) := dk_3 (dk_at dksX0_book_0 10 rfl rfl)
theorem dX0_book_11 : decode cX0_book 11 = .ok (.ireturn, 1) := dk_172 (dk_at dksX0_book_0 11 rfl rfl)
theorem dX0_book_12 : decode cX0_book 12 = .ok (.aload_n 0, 1) := dk_42 (dk_at dksX0_book_0 12 rfl rfl)
theorem dX0_book_13 : decode cX0_book 13 = .ok (.iload_n 1, 1) := dk_27 (dk_at dksX0_book_0 13 rfl rfl)
theorem dX0_book_14 : decode cX0_book 14 = .ok (.invokevirtual 193, 3) := dk_182 0 193 (dk_at dksX0_book_0 14 rfl rfl)
theorem dX0_book_17 : decode cX0_book 17 = .ok (.ifCond .ne 5, 3) := dk_154 0 5 (dk_at dksX0_book_0 17 rfl rfl)
theorem dX0_book_20 : decode cX0_book 20 = .ok (.iconst (-1), 1) := dk_2 (dk_at dksX0_book_0 20 rfl rfl)
theorem dX0_book_21 : decode cX0_book 21 = .ok (.ireturn, 1) := dk_172 (dk_at dksX0_book_0 21 rfl rfl)
theorem dX0_book_22 : decode cX0_book 22 = .ok (.iload_n 2, 1) := dk_28 (dk_at dksX0_book_0 22 rfl rfl)
theorem dX0_book_23 : decode cX0_book 23 = .ok (.bipush (-99), 2) := dk_16 157 (dk_at dksX0_book_1 0 rfl rfl)
theorem dX0_book_25 : decode cX0_book 25 = .ok (.bipush 99, 2) := dk_16 99 (dk_at dksX0_book_1 2 rfl rfl)
theorem dX0_book_27 : decode cX0_book 27 = .ok (.invokestatic 5, 3) := dk_184 0 5 (dk_at dksX0_book_1 4 rfl rfl)
theorem dX0_book_30 : decode cX0_book 30 = .ok (.ifCond .ne 6, 3) := dk_154 0 6 (dk_at dksX0_book_1 7 rfl rfl)
theorem dX0_book_33 : decode cX0_book 33 = .ok (.bipush (-2), 2) := dk_16 254 (dk_at dksX0_book_1 10 rfl rfl)
theorem dX0_book_35 : decode cX0_book 35 = .ok (.ireturn, 1) := dk_172 (dk_at dksX0_book_1 12 rfl rfl)
theorem dX0_book_36 : decode cX0_book 36 = .ok (.aload_n 0, 1) := dk_42 (dk_at dksX0_book_1 13 rfl rfl)
theorem dX0_book_37 : decode cX0_book 37 = .ok (.getfield 312, 3) := dk_180 1 56 (dk_at dksX0_book_1 14 rfl rfl)
theorem dX0_book_40 : decode cX0_book 40 = .ok (.bipush 8, 2) := dk_16 8 (dk_at dksX0_book_1 17 rfl rfl)
theorem dX0_book_42 : decode cX0_book 42 = .ok (.if_icmp .ne 6, 3) := dk_160 0 6 (dk_at dksX0_book_1 19 rfl rfl)
theorem dX0_book_45 : decode cX0_book 45 = .ok (.bipush (-4), 2) := dk_16 252 (dk_at dksX0_book_1 22 rfl rfl)
theorem dX0_book_47 : decode cX0_book 47 = .ok (.ireturn, 1) := dk_172 (dk_at dksX0_book_2 0 rfl rfl)
theorem dX0_book_48 : decode cX0_book 48 = .ok (.aload_n 0, 1) := dk_42 (dk_at dksX0_book_2 1 rfl rfl)
theorem dX0_book_49 : decode cX0_book 49 = .ok (.getfield 76, 3) := dk_180 0 76 (dk_at dksX0_book_2 2 rfl rfl)
theorem dX0_book_52 : decode cX0_book 52 = .ok (.aload_n 0, 1) := dk_42 (dk_at dksX0_book_2 5 rfl rfl)
theorem dX0_book_53 : decode cX0_book 53 = .ok (.getfield 312, 3) := dk_180 1 56 (dk_at dksX0_book_2 6 rfl rfl)
theorem dX0_book_56 : decode cX0_book 56 = .ok (.iload_n 1, 1) := dk_27 (dk_at dksX0_book_2 9 rfl rfl)
theorem dX0_book_57 : decode cX0_book 57 = .ok (.iastore, 1) := dk_79 (dk_at dksX0_book_2 10 rfl rfl)
theorem dX0_book_58 : decode cX0_book 58 = .ok (.aload_n 0, 1) := dk_42 (dk_at dksX0_book_2 11 rfl rfl)
theorem dX0_book_59 : decode cX0_book 59 = .ok (.getfield 79, 3) := dk_180 0 79 (dk_at dksX0_book_2 12 rfl rfl)
theorem dX0_book_62 : decode cX0_book 62 = .ok (.aload_n 0, 1) := dk_42 (dk_at dksX0_book_2 15 rfl rfl)
theorem dX0_book_63 : decode cX0_book 63 = .ok (.dup, 1) := dk_89 (dk_at dksX0_book_2 16 rfl rfl)
theorem dX0_book_64 : decode cX0_book 64 = .ok (.getfield 312, 3) := dk_180 1 56 (dk_at dksX0_book_2 17 rfl rfl)
theorem dX0_book_67 : decode cX0_book 67 = .ok (.dup_x1, 1) := dk_90 (dk_at dksX0_book_2 20 rfl rfl)
theorem dX0_book_68 : decode cX0_book 68 = .ok (.iconst 1, 1) := dk_4 (dk_at dksX0_book_2 21 rfl rfl)
theorem dX0_book_69 : decode cX0_book 69 = .ok (.iadd, 1) := dk_96 (dk_at dksX0_book_2 22 rfl rfl)
theorem dX0_book_70 : decode cX0_book 70 = .ok (.putfield 312, 3) := dk_181 1 56 (dk_at dksX0_book_3 0 rfl rfl)
theorem dX0_book_73 : decode cX0_book 73 = .ok (.iload_n 2, 1) := dk_28 (dk_at dksX0_book_3 3 rfl rfl)
theorem dX0_book_74 : decode cX0_book 74 = .ok (.iastore, 1) := dk_79 (dk_at dksX0_book_3 4 rfl rfl)
theorem dX0_book_75 : decode cX0_book 75 = .ok (.aload_n 0, 1) := dk_42 (dk_at dksX0_book_3 5 rfl rfl)
theorem dX0_book_76 : decode cX0_book 76 = .ok (.getfield 312, 3) := dk_180 1 56 (dk_at dksX0_book_3 6 rfl rfl)
theorem dX0_book_79 : decode cX0_book 79 = .ok (.ireturn, 1) := dk_172 (dk_at dksX0_book_3 9 rfl rfl)
abbrev cX0_looked : ByteArray := prog_1_method_52_code
def yX0_looked : MethodName := ⟨RX0, "looked", "()I"⟩
def dkwX0_looked_1 : List UInt8 := [42, 180, 0, 79, 27, 46, 159, 0, 5, 27, 172, 132, 1, 1, 167, 255, 220, 16, 251, 172]
abbrev dktX0_looked_1 : List UInt8 := dkwX0_looked_1 ++ []
def dkwX0_looked_0 : List UInt8 := [3, 60, 27, 42, 180, 1, 56, 162, 0, 34, 42, 42, 180, 0, 31, 42, 180, 0, 76, 27, 46, 182, 0, 196]
abbrev dktX0_looked_0 : List UInt8 := dkwX0_looked_0 ++ dktX0_looked_1
theorem dksX0_looked_0 : cX0_looked.data.toList.drop 0 = dktX0_looked_0 := by decide +kernel
theorem dksX0_looked_1 : cX0_looked.data.toList.drop 24 = dktX0_looked_1 := dk_seg dksX0_looked_0 24 rfl rfl
theorem dX0_looked_0 : decode cX0_looked 0 = .ok (.iconst 0, 1) := dk_3 (dk_at dksX0_looked_0 0 rfl rfl)
theorem dX0_looked_1 : decode cX0_looked 1 = .ok (.istore_n 1, 1) := dk_60 (dk_at dksX0_looked_0 1 rfl rfl)
theorem dX0_looked_2 : decode cX0_looked 2 = .ok (.iload_n 1, 1) := dk_27 (dk_at dksX0_looked_0 2 rfl rfl)
theorem dX0_looked_3 : decode cX0_looked 3 = .ok (.aload_n 0, 1) := dk_42 (dk_at dksX0_looked_0 3 rfl rfl)
theorem dX0_looked_4 : decode cX0_looked 4 = .ok (.getfield 312, 3) := dk_180 1 56 (dk_at dksX0_looked_0 4 rfl rfl)
theorem dX0_looked_7 : decode cX0_looked 7 = .ok (.if_icmp .ge 34, 3) := dk_162 0 34 (dk_at dksX0_looked_0 7 rfl rfl)
theorem dX0_looked_10 : decode cX0_looked 10 = .ok (.aload_n 0, 1) := dk_42 (dk_at dksX0_looked_0 10 rfl rfl)
theorem dX0_looked_11 : decode cX0_looked 11 = .ok (.aload_n 0, 1) := dk_42 (dk_at dksX0_looked_0 11 rfl rfl)
theorem dX0_looked_12 : decode cX0_looked 12 = .ok (.getfield 31, 3) := dk_180 0 31 (dk_at dksX0_looked_0 12 rfl rfl)
theorem dX0_looked_15 : decode cX0_looked 15 = .ok (.aload_n 0, 1) := dk_42 (dk_at dksX0_looked_0 15 rfl rfl)
theorem dX0_looked_16 : decode cX0_looked 16 = .ok (.getfield 76, 3) := dk_180 0 76 (dk_at dksX0_looked_0 16 rfl rfl)
theorem dX0_looked_19 : decode cX0_looked 19 = .ok (.iload_n 1, 1) := dk_27 (dk_at dksX0_looked_0 19 rfl rfl)
theorem dX0_looked_20 : decode cX0_looked 20 = .ok (.iaload, 1) := dk_46 (dk_at dksX0_looked_0 20 rfl rfl)
theorem dX0_looked_21 : decode cX0_looked 21 = .ok (.invokevirtual 196, 3) := dk_182 0 196 (dk_at dksX0_looked_0 21 rfl rfl)
theorem dX0_looked_24 : decode cX0_looked 24 = .ok (.aload_n 0, 1) := dk_42 (dk_at dksX0_looked_1 0 rfl rfl)
theorem dX0_looked_25 : decode cX0_looked 25 = .ok (.getfield 79, 3) := dk_180 0 79 (dk_at dksX0_looked_1 1 rfl rfl)
theorem dX0_looked_28 : decode cX0_looked 28 = .ok (.iload_n 1, 1) := dk_27 (dk_at dksX0_looked_1 4 rfl rfl)
theorem dX0_looked_29 : decode cX0_looked 29 = .ok (.iaload, 1) := dk_46 (dk_at dksX0_looked_1 5 rfl rfl)
theorem dX0_looked_30 : decode cX0_looked 30 = .ok (.if_icmp .eq 5, 3) := dk_159 0 5 (dk_at dksX0_looked_1 6 rfl rfl)
theorem dX0_looked_33 : decode cX0_looked 33 = .ok (.iload_n 1, 1) := dk_27 (dk_at dksX0_looked_1 9 rfl rfl)
theorem dX0_looked_34 : decode cX0_looked 34 = .ok (.ireturn, 1) := dk_172 (dk_at dksX0_looked_1 10 rfl rfl)
theorem dX0_looked_35 : decode cX0_looked 35 = .ok (.iinc 1 1, 3) := dk_132 1 1 (dk_at dksX0_looked_1 11 rfl rfl)
theorem dX0_looked_38 : decode cX0_looked 38 = .ok (.goto (-36), 3) := dk_167 255 220 (dk_at dksX0_looked_1 14 rfl rfl)
theorem dX0_looked_41 : decode cX0_looked 41 = .ok (.bipush (-5), 2) := dk_16 251 (dk_at dksX0_looked_1 17 rfl rfl)
theorem dX0_looked_43 : decode cX0_looked 43 = .ok (.ireturn, 1) := dk_172 (dk_at dksX0_looked_1 19 rfl rfl)
abbrev cX0_judge : ByteArray := prog_1_method_54_code
def yX0_judge : MethodName := ⟨RX0, "judge", "(II)I"⟩
def dkwX0_judge_1 : List UInt8 := [182, 1, 72, 172, 78, 16, 244, 172]
abbrev dktX0_judge_1 : List UInt8 := dkwX0_judge_1 ++ []
def dkwX0_judge_0 : List UInt8 := [27, 184, 1, 64, 154, 0, 5, 2, 172, 42, 42, 180, 0, 84, 27, 50, 180, 1, 67, 192, 1, 71, 28]
abbrev dktX0_judge_0 : List UInt8 := dkwX0_judge_0 ++ dktX0_judge_1
theorem dksX0_judge_0 : cX0_judge.data.toList.drop 0 = dktX0_judge_0 := by decide +kernel
theorem dksX0_judge_1 : cX0_judge.data.toList.drop 23 = dktX0_judge_1 := dk_seg dksX0_judge_0 23 rfl rfl
theorem dX0_judge_0 : decode cX0_judge 0 = .ok (.iload_n 1, 1) := dk_27 (dk_at dksX0_judge_0 0 rfl rfl)
theorem dX0_judge_1 : decode cX0_judge 1 = .ok (.invokestatic 320, 3) := dk_184 1 64 (dk_at dksX0_judge_0 1 rfl rfl)
theorem dX0_judge_4 : decode cX0_judge 4 = .ok (.ifCond .ne 5, 3) := dk_154 0 5 (dk_at dksX0_judge_0 4 rfl rfl)
theorem dX0_judge_7 : decode cX0_judge 7 = .ok (.iconst (-1), 1) := dk_2 (dk_at dksX0_judge_0 7 rfl rfl)
theorem dX0_judge_8 : decode cX0_judge 8 = .ok (.ireturn, 1) := dk_172 (dk_at dksX0_judge_0 8 rfl rfl)
theorem dX0_judge_9 : decode cX0_judge 9 = .ok (.aload_n 0, 1) := dk_42 (dk_at dksX0_judge_0 9 rfl rfl)
theorem dX0_judge_10 : decode cX0_judge 10 = .ok (.aload_n 0, 1) := dk_42 (dk_at dksX0_judge_0 10 rfl rfl)
theorem dX0_judge_11 : decode cX0_judge 11 = .ok (.getfield 84, 3) := dk_180 0 84 (dk_at dksX0_judge_0 11 rfl rfl)
theorem dX0_judge_14 : decode cX0_judge 14 = .ok (.iload_n 1, 1) := dk_27 (dk_at dksX0_judge_0 14 rfl rfl)
theorem dX0_judge_15 : decode cX0_judge 15 = .ok (.aaload, 1) := dk_50 (dk_at dksX0_judge_0 15 rfl rfl)
theorem dX0_judge_16 : decode cX0_judge 16 = .ok (.getfield 323, 3) := dk_180 1 67 (dk_at dksX0_judge_0 16 rfl rfl)
theorem dX0_judge_19 : decode cX0_judge 19 = .ok (.checkcast 327, 3) := dk_192 1 71 (dk_at dksX0_judge_0 19 rfl rfl)
theorem dX0_judge_22 : decode cX0_judge 22 = .ok (.iload_n 2, 1) := dk_28 (dk_at dksX0_judge_0 22 rfl rfl)
theorem dX0_judge_23 : decode cX0_judge 23 = .ok (.invokevirtual 328, 3) := dk_182 1 72 (dk_at dksX0_judge_1 0 rfl rfl)
theorem dX0_judge_26 : decode cX0_judge 26 = .ok (.ireturn, 1) := dk_172 (dk_at dksX0_judge_1 3 rfl rfl)
theorem dX0_judge_27 : decode cX0_judge 27 = .ok (.astore_n 3, 1) := dk_78 (dk_at dksX0_judge_1 4 rfl rfl)
theorem dX0_judge_28 : decode cX0_judge 28 = .ok (.bipush (-12), 2) := dk_16 244 (dk_at dksX0_judge_1 5 rfl rfl)
theorem dX0_judge_30 : decode cX0_judge 30 = .ok (.ireturn, 1) := dk_172 (dk_at dksX0_judge_1 7 rfl rfl)
abbrev cX0_isTape : ByteArray := prog_1_method_63_code
def yX0_isTape : MethodName := ⟨RX0, "isTape", "(I)Z"⟩
def dkwX0_isTape_0 : List UInt8 := [26, 3, 8, 184, 0, 5, 172]
abbrev dktX0_isTape_0 : List UInt8 := dkwX0_isTape_0 ++ []
theorem dksX0_isTape_0 : cX0_isTape.data.toList.drop 0 = dktX0_isTape_0 := by decide +kernel
theorem dX0_isTape_0 : decode cX0_isTape 0 = .ok (.iload_n 0, 1) := dk_26 (dk_at dksX0_isTape_0 0 rfl rfl)
theorem dX0_isTape_1 : decode cX0_isTape 1 = .ok (.iconst 0, 1) := dk_3 (dk_at dksX0_isTape_0 1 rfl rfl)
theorem dX0_isTape_2 : decode cX0_isTape 2 = .ok (.iconst 5, 1) := dk_8 (dk_at dksX0_isTape_0 2 rfl rfl)
theorem dX0_isTape_3 : decode cX0_isTape 3 = .ok (.invokestatic 5, 3) := dk_184 0 5 (dk_at dksX0_isTape_0 3 rfl rfl)
theorem dX0_isTape_6 : decode cX0_isTape 6 = .ok (.ireturn, 1) := dk_172 (dk_at dksX0_isTape_0 6 rfl rfl)
abbrev cX0_firstOther : ByteArray := prog_1_method_53_code
def yX0_firstOther : MethodName := ⟨RX0, "firstOther", "([BI)I"⟩
def dkwX0_firstOther_3 : List UInt8 := [58, 4, 29, 16, 100, 96, 172, 58, 4, 29, 16, 100, 96, 172]
abbrev dktX0_firstOther_3 : List UInt8 := dkwX0_firstOther_3 ++ []
def dkwX0_firstOther_2 : List UInt8 := [51, 42, 180, 0, 17, 29, 50, 180, 0, 177, 159, 0, 5, 29, 172, 132, 3, 1, 167, 255, 193, 16, 251, 172]
abbrev dktX0_firstOther_2 : List UInt8 := dkwX0_firstOther_2 ++ dktX0_firstOther_3
def dkwX0_firstOther_1 : List UInt8 := [156, 0, 10, 22, 4, 9, 148, 156, 0, 13, 187, 0, 213, 89, 16, 243, 183, 1, 59, 191, 43, 22, 4, 136]
abbrev dktX0_firstOther_1 : List UInt8 := dkwX0_firstOther_1 ++ dktX0_firstOther_2
def dkwX0_firstOther_0 : List UInt8 := [3, 62, 29, 42, 180, 0, 116, 162, 0, 61, 28, 133, 29, 133, 97, 55, 4, 22, 4, 43, 190, 133, 148]
abbrev dktX0_firstOther_0 : List UInt8 := dkwX0_firstOther_0 ++ dktX0_firstOther_1
theorem dksX0_firstOther_0 : cX0_firstOther.data.toList.drop 0 = dktX0_firstOther_0 := by decide +kernel
theorem dksX0_firstOther_1 : cX0_firstOther.data.toList.drop 23 = dktX0_firstOther_1 := dk_seg dksX0_firstOther_0 23 rfl rfl
theorem dksX0_firstOther_2 : cX0_firstOther.data.toList.drop 47 = dktX0_firstOther_2 := dk_seg dksX0_firstOther_1 24 rfl rfl
theorem dksX0_firstOther_3 : cX0_firstOther.data.toList.drop 71 = dktX0_firstOther_3 := dk_seg dksX0_firstOther_2 24 rfl rfl
theorem dX0_firstOther_0 : decode cX0_firstOther 0 = .ok (.iconst 0, 1) := dk_3 (dk_at dksX0_firstOther_0 0 rfl rfl)
theorem dX0_firstOther_1 : decode cX0_firstOther 1 = .ok (.istore_n 3, 1) := dk_62 (dk_at dksX0_firstOther_0 1 rfl rfl)
theorem dX0_firstOther_2 : decode cX0_firstOther 2 = .ok (.iload_n 3, 1) := dk_29 (dk_at dksX0_firstOther_0 2 rfl rfl)
theorem dX0_firstOther_3 : decode cX0_firstOther 3 = .ok (.aload_n 0, 1) := dk_42 (dk_at dksX0_firstOther_0 3 rfl rfl)
theorem dX0_firstOther_4 : decode cX0_firstOther 4 = .ok (.getfield 116, 3) := dk_180 0 116 (dk_at dksX0_firstOther_0 4 rfl rfl)
theorem dX0_firstOther_7 : decode cX0_firstOther 7 = .ok (.if_icmp .ge 61, 3) := dk_162 0 61 (dk_at dksX0_firstOther_0 7 rfl rfl)
theorem dX0_firstOther_10 : decode cX0_firstOther 10 = .ok (.iload_n 2, 1) := dk_28 (dk_at dksX0_firstOther_0 10 rfl rfl)
theorem dX0_firstOther_11 : decode cX0_firstOther 11 = .ok (.i2l, 1) := dk_133 (dk_at dksX0_firstOther_0 11 rfl rfl)
theorem dX0_firstOther_12 : decode cX0_firstOther 12 = .ok (.iload_n 3, 1) := dk_29 (dk_at dksX0_firstOther_0 12 rfl rfl)
theorem dX0_firstOther_13 : decode cX0_firstOther 13 = .ok (.i2l, 1) := dk_133 (dk_at dksX0_firstOther_0 13 rfl rfl)
theorem dX0_firstOther_14 : decode cX0_firstOther 14 = .ok (.ladd, 1) := dk_97 (dk_at dksX0_firstOther_0 14 rfl rfl)
theorem dX0_firstOther_15 : decode cX0_firstOther 15 = .ok (.lstore 4, 2) := dk_55 4 (dk_at dksX0_firstOther_0 15 rfl rfl)
theorem dX0_firstOther_17 : decode cX0_firstOther 17 = .ok (.lload 4, 2) := dk_22 4 (dk_at dksX0_firstOther_0 17 rfl rfl)
theorem dX0_firstOther_19 : decode cX0_firstOther 19 = .ok (.aload_n 1, 1) := dk_43 (dk_at dksX0_firstOther_0 19 rfl rfl)
theorem dX0_firstOther_20 : decode cX0_firstOther 20 = .ok (.arraylength, 1) := dk_190 (dk_at dksX0_firstOther_0 20 rfl rfl)
theorem dX0_firstOther_21 : decode cX0_firstOther 21 = .ok (.i2l, 1) := dk_133 (dk_at dksX0_firstOther_0 21 rfl rfl)
theorem dX0_firstOther_22 : decode cX0_firstOther 22 = .ok (.lcmp, 1) := dk_148 (dk_at dksX0_firstOther_0 22 rfl rfl)
theorem dX0_firstOther_23 : decode cX0_firstOther 23 = .ok (.ifCond .ge 10, 3) := dk_156 0 10 (dk_at dksX0_firstOther_1 0 rfl rfl)
theorem dX0_firstOther_26 : decode cX0_firstOther 26 = .ok (.lload 4, 2) := dk_22 4 (dk_at dksX0_firstOther_1 3 rfl rfl)
theorem dX0_firstOther_28 : decode cX0_firstOther 28 = .ok (.lconst 0, 1) := dk_9 (dk_at dksX0_firstOther_1 5 rfl rfl)
theorem dX0_firstOther_29 : decode cX0_firstOther 29 = .ok (.lcmp, 1) := dk_148 (dk_at dksX0_firstOther_1 6 rfl rfl)
theorem dX0_firstOther_30 : decode cX0_firstOther 30 = .ok (.ifCond .ge 13, 3) := dk_156 0 13 (dk_at dksX0_firstOther_1 7 rfl rfl)
theorem dX0_firstOther_33 : decode cX0_firstOther 33 = .ok (.new 213, 3) := dk_187 0 213 (dk_at dksX0_firstOther_1 10 rfl rfl)
theorem dX0_firstOther_36 : decode cX0_firstOther 36 = .ok (.dup, 1) := dk_89 (dk_at dksX0_firstOther_1 13 rfl rfl)
theorem dX0_firstOther_37 : decode cX0_firstOther 37 = .ok (.bipush (-13), 2) := dk_16 243 (dk_at dksX0_firstOther_1 14 rfl rfl)
theorem dX0_firstOther_39 : decode cX0_firstOther 39 = .ok (.invokespecial 315, 3) := dk_183 1 59 (dk_at dksX0_firstOther_1 16 rfl rfl)
theorem dX0_firstOther_42 : decode cX0_firstOther 42 = .ok (.athrow, 1) := dk_191 (dk_at dksX0_firstOther_1 19 rfl rfl)
theorem dX0_firstOther_43 : decode cX0_firstOther 43 = .ok (.aload_n 1, 1) := dk_43 (dk_at dksX0_firstOther_1 20 rfl rfl)
theorem dX0_firstOther_44 : decode cX0_firstOther 44 = .ok (.lload 4, 2) := dk_22 4 (dk_at dksX0_firstOther_1 21 rfl rfl)
theorem dX0_firstOther_46 : decode cX0_firstOther 46 = .ok (.l2i, 1) := dk_136 (dk_at dksX0_firstOther_1 23 rfl rfl)
theorem dX0_firstOther_47 : decode cX0_firstOther 47 = .ok (.baload, 1) := dk_51 (dk_at dksX0_firstOther_2 0 rfl rfl)
theorem dX0_firstOther_48 : decode cX0_firstOther 48 = .ok (.aload_n 0, 1) := dk_42 (dk_at dksX0_firstOther_2 1 rfl rfl)
theorem dX0_firstOther_49 : decode cX0_firstOther 49 = .ok (.getfield 17, 3) := dk_180 0 17 (dk_at dksX0_firstOther_2 2 rfl rfl)
theorem dX0_firstOther_52 : decode cX0_firstOther 52 = .ok (.iload_n 3, 1) := dk_29 (dk_at dksX0_firstOther_2 5 rfl rfl)
theorem dX0_firstOther_53 : decode cX0_firstOther 53 = .ok (.aaload, 1) := dk_50 (dk_at dksX0_firstOther_2 6 rfl rfl)
theorem dX0_firstOther_54 : decode cX0_firstOther 54 = .ok (.getfield 177, 3) := dk_180 0 177 (dk_at dksX0_firstOther_2 7 rfl rfl)
theorem dX0_firstOther_57 : decode cX0_firstOther 57 = .ok (.if_icmp .eq 5, 3) := dk_159 0 5 (dk_at dksX0_firstOther_2 10 rfl rfl)
theorem dX0_firstOther_60 : decode cX0_firstOther 60 = .ok (.iload_n 3, 1) := dk_29 (dk_at dksX0_firstOther_2 13 rfl rfl)
theorem dX0_firstOther_61 : decode cX0_firstOther 61 = .ok (.ireturn, 1) := dk_172 (dk_at dksX0_firstOther_2 14 rfl rfl)
theorem dX0_firstOther_62 : decode cX0_firstOther 62 = .ok (.iinc 3 1, 3) := dk_132 3 1 (dk_at dksX0_firstOther_2 15 rfl rfl)
theorem dX0_firstOther_65 : decode cX0_firstOther 65 = .ok (.goto (-63), 3) := dk_167 255 193 (dk_at dksX0_firstOther_2 18 rfl rfl)
theorem dX0_firstOther_68 : decode cX0_firstOther 68 = .ok (.bipush (-5), 2) := dk_16 251 (dk_at dksX0_firstOther_2 21 rfl rfl)
theorem dX0_firstOther_70 : decode cX0_firstOther 70 = .ok (.ireturn, 1) := dk_172 (dk_at dksX0_firstOther_2 23 rfl rfl)
theorem dX0_firstOther_71 : decode cX0_firstOther 71 = .ok (.astore 4, 2) := dk_58 4 (dk_at dksX0_firstOther_3 0 rfl rfl)
theorem dX0_firstOther_73 : decode cX0_firstOther 73 = .ok (.iload_n 3, 1) := dk_29 (dk_at dksX0_firstOther_3 2 rfl rfl)
theorem dX0_firstOther_74 : decode cX0_firstOther 74 = .ok (.bipush 100, 2) := dk_16 100 (dk_at dksX0_firstOther_3 3 rfl rfl)
theorem dX0_firstOther_76 : decode cX0_firstOther 76 = .ok (.iadd, 1) := dk_96 (dk_at dksX0_firstOther_3 5 rfl rfl)
theorem dX0_firstOther_77 : decode cX0_firstOther 77 = .ok (.ireturn, 1) := dk_172 (dk_at dksX0_firstOther_3 6 rfl rfl)
theorem dX0_firstOther_78 : decode cX0_firstOther 78 = .ok (.astore 4, 2) := dk_58 4 (dk_at dksX0_firstOther_3 7 rfl rfl)
theorem dX0_firstOther_80 : decode cX0_firstOther 80 = .ok (.iload_n 3, 1) := dk_29 (dk_at dksX0_firstOther_3 9 rfl rfl)
theorem dX0_firstOther_81 : decode cX0_firstOther 81 = .ok (.bipush 100, 2) := dk_16 100 (dk_at dksX0_firstOther_3 10 rfl rfl)
theorem dX0_firstOther_83 : decode cX0_firstOther 83 = .ok (.iadd, 1) := dk_96 (dk_at dksX0_firstOther_3 12 rfl rfl)
theorem dX0_firstOther_84 : decode cX0_firstOther 84 = .ok (.ireturn, 1) := dk_172 (dk_at dksX0_firstOther_3 13 rfl rfl)
abbrev cX0_image : ByteArray := prog_1_method_55_code
def yX0_image : MethodName := ⟨RX0, "image", "()I"⟩
def dkwX0_image_7 : List UInt8 := [181, 1, 96, 42, 42, 180, 0, 49, 181, 1, 99, 42, 180, 0, 116, 172]
abbrev dktX0_image_7 : List UInt8 := dkwX0_image_7 ++ []
def dkwX0_image_6 : List UInt8 := [181, 1, 87, 42, 42, 180, 1, 31, 181, 1, 90, 42, 42, 180, 1, 37, 181, 1, 93, 42, 42, 180, 1, 56]
abbrev dktX0_image_6 : List UInt8 := dkwX0_image_6 ++ dktX0_image_7
def dkwX0_image_5 : List UInt8 := [180, 0, 112, 3, 16, 8, 184, 1, 78, 42, 42, 180, 0, 116, 181, 1, 84, 42, 42, 180, 0, 38]
abbrev dktX0_image_5 : List UInt8 := dkwX0_image_5 ++ dktX0_image_6
def dkwX0_image_4 : List UInt8 := [184, 1, 78, 42, 180, 0, 76, 3, 42, 180, 0, 109, 3, 16, 8, 184, 1, 78, 42, 180, 0, 79, 3, 42]
abbrev dktX0_image_4 : List UInt8 := dkwX0_image_4 ++ dktX0_image_5
def dkwX0_image_3 : List UInt8 := [180, 0, 70, 3, 42, 180, 0, 103, 3, 7, 184, 1, 78, 42, 180, 0, 73, 3, 42, 180, 0, 106, 3, 8]
abbrev dktX0_image_3 : List UInt8 := dkwX0_image_3 ++ dktX0_image_4
def dkwX0_image_2 : List UInt8 := [180, 0, 97, 3, 16, 24, 184, 1, 78, 42, 180, 0, 67, 3, 42, 180, 0, 100, 3, 7, 184, 1, 78, 42]
abbrev dktX0_image_2 : List UInt8 := dkwX0_image_2 ++ dktX0_image_3
def dkwX0_image_1 : List UInt8 := [184, 1, 78, 42, 180, 0, 21, 3, 42, 180, 0, 94, 3, 16, 6, 184, 1, 78, 42, 180, 0, 25, 3, 42]
abbrev dktX0_image_1 : List UInt8 := dkwX0_image_1 ++ dktX0_image_2
def dkwX0_image_0 : List UInt8 := [42, 180, 0, 88, 42, 180, 0, 31, 182, 0, 242, 42, 180, 0, 17, 3, 42, 180, 0, 91, 3, 16, 6]
abbrev dktX0_image_0 : List UInt8 := dkwX0_image_0 ++ dktX0_image_1
theorem dksX0_image_0 : cX0_image.data.toList.drop 0 = dktX0_image_0 := by decide +kernel
theorem dksX0_image_1 : cX0_image.data.toList.drop 23 = dktX0_image_1 := dk_seg dksX0_image_0 23 rfl rfl
theorem dksX0_image_2 : cX0_image.data.toList.drop 47 = dktX0_image_2 := dk_seg dksX0_image_1 24 rfl rfl
theorem dksX0_image_3 : cX0_image.data.toList.drop 71 = dktX0_image_3 := dk_seg dksX0_image_2 24 rfl rfl
theorem dksX0_image_4 : cX0_image.data.toList.drop 95 = dktX0_image_4 := dk_seg dksX0_image_3 24 rfl rfl
theorem dksX0_image_5 : cX0_image.data.toList.drop 119 = dktX0_image_5 := dk_seg dksX0_image_4 24 rfl rfl
theorem dksX0_image_6 : cX0_image.data.toList.drop 141 = dktX0_image_6 := dk_seg dksX0_image_5 22 rfl rfl
theorem dksX0_image_7 : cX0_image.data.toList.drop 165 = dktX0_image_7 := dk_seg dksX0_image_6 24 rfl rfl
theorem dX0_image_0 : decode cX0_image 0 = .ok (.aload_n 0, 1) := dk_42 (dk_at dksX0_image_0 0 rfl rfl)
theorem dX0_image_1 : decode cX0_image 1 = .ok (.getfield 88, 3) := dk_180 0 88 (dk_at dksX0_image_0 1 rfl rfl)
theorem dX0_image_4 : decode cX0_image 4 = .ok (.aload_n 0, 1) := dk_42 (dk_at dksX0_image_0 4 rfl rfl)
theorem dX0_image_5 : decode cX0_image 5 = .ok (.getfield 31, 3) := dk_180 0 31 (dk_at dksX0_image_0 5 rfl rfl)
theorem dX0_image_8 : decode cX0_image 8 = .ok (.invokevirtual 242, 3) := dk_182 0 242 (dk_at dksX0_image_0 8 rfl rfl)
theorem dX0_image_11 : decode cX0_image 11 = .ok (.aload_n 0, 1) := dk_42 (dk_at dksX0_image_0 11 rfl rfl)
theorem dX0_image_12 : decode cX0_image 12 = .ok (.getfield 17, 3) := dk_180 0 17 (dk_at dksX0_image_0 12 rfl rfl)
theorem dX0_image_15 : decode cX0_image 15 = .ok (.iconst 0, 1) := dk_3 (dk_at dksX0_image_0 15 rfl rfl)
theorem dX0_image_16 : decode cX0_image 16 = .ok (.aload_n 0, 1) := dk_42 (dk_at dksX0_image_0 16 rfl rfl)
theorem dX0_image_17 : decode cX0_image 17 = .ok (.getfield 91, 3) := dk_180 0 91 (dk_at dksX0_image_0 17 rfl rfl)
theorem dX0_image_20 : decode cX0_image 20 = .ok (.iconst 0, 1) := dk_3 (dk_at dksX0_image_0 20 rfl rfl)
theorem dX0_image_21 : decode cX0_image 21 = .ok (.bipush 6, 2) := dk_16 6 (dk_at dksX0_image_0 21 rfl rfl)
theorem dX0_image_23 : decode cX0_image 23 = .ok (.invokestatic 334, 3) := dk_184 1 78 (dk_at dksX0_image_1 0 rfl rfl)
theorem dX0_image_26 : decode cX0_image 26 = .ok (.aload_n 0, 1) := dk_42 (dk_at dksX0_image_1 3 rfl rfl)
theorem dX0_image_27 : decode cX0_image 27 = .ok (.getfield 21, 3) := dk_180 0 21 (dk_at dksX0_image_1 4 rfl rfl)
theorem dX0_image_30 : decode cX0_image 30 = .ok (.iconst 0, 1) := dk_3 (dk_at dksX0_image_1 7 rfl rfl)
theorem dX0_image_31 : decode cX0_image 31 = .ok (.aload_n 0, 1) := dk_42 (dk_at dksX0_image_1 8 rfl rfl)
theorem dX0_image_32 : decode cX0_image 32 = .ok (.getfield 94, 3) := dk_180 0 94 (dk_at dksX0_image_1 9 rfl rfl)
theorem dX0_image_35 : decode cX0_image 35 = .ok (.iconst 0, 1) := dk_3 (dk_at dksX0_image_1 12 rfl rfl)
theorem dX0_image_36 : decode cX0_image 36 = .ok (.bipush 6, 2) := dk_16 6 (dk_at dksX0_image_1 13 rfl rfl)
theorem dX0_image_38 : decode cX0_image 38 = .ok (.invokestatic 334, 3) := dk_184 1 78 (dk_at dksX0_image_1 15 rfl rfl)
theorem dX0_image_41 : decode cX0_image 41 = .ok (.aload_n 0, 1) := dk_42 (dk_at dksX0_image_1 18 rfl rfl)
theorem dX0_image_42 : decode cX0_image 42 = .ok (.getfield 25, 3) := dk_180 0 25 (dk_at dksX0_image_1 19 rfl rfl)
theorem dX0_image_45 : decode cX0_image 45 = .ok (.iconst 0, 1) := dk_3 (dk_at dksX0_image_1 22 rfl rfl)
theorem dX0_image_46 : decode cX0_image 46 = .ok (.aload_n 0, 1) := dk_42 (dk_at dksX0_image_1 23 rfl rfl)
theorem dX0_image_47 : decode cX0_image 47 = .ok (.getfield 97, 3) := dk_180 0 97 (dk_at dksX0_image_2 0 rfl rfl)
theorem dX0_image_50 : decode cX0_image 50 = .ok (.iconst 0, 1) := dk_3 (dk_at dksX0_image_2 3 rfl rfl)
theorem dX0_image_51 : decode cX0_image 51 = .ok (.bipush 24, 2) := dk_16 24 (dk_at dksX0_image_2 4 rfl rfl)
theorem dX0_image_53 : decode cX0_image 53 = .ok (.invokestatic 334, 3) := dk_184 1 78 (dk_at dksX0_image_2 6 rfl rfl)
theorem dX0_image_56 : decode cX0_image 56 = .ok (.aload_n 0, 1) := dk_42 (dk_at dksX0_image_2 9 rfl rfl)
theorem dX0_image_57 : decode cX0_image 57 = .ok (.getfield 67, 3) := dk_180 0 67 (dk_at dksX0_image_2 10 rfl rfl)
theorem dX0_image_60 : decode cX0_image 60 = .ok (.iconst 0, 1) := dk_3 (dk_at dksX0_image_2 13 rfl rfl)
theorem dX0_image_61 : decode cX0_image 61 = .ok (.aload_n 0, 1) := dk_42 (dk_at dksX0_image_2 14 rfl rfl)
theorem dX0_image_62 : decode cX0_image 62 = .ok (.getfield 100, 3) := dk_180 0 100 (dk_at dksX0_image_2 15 rfl rfl)
theorem dX0_image_65 : decode cX0_image 65 = .ok (.iconst 0, 1) := dk_3 (dk_at dksX0_image_2 18 rfl rfl)
theorem dX0_image_66 : decode cX0_image 66 = .ok (.iconst 4, 1) := dk_7 (dk_at dksX0_image_2 19 rfl rfl)
theorem dX0_image_67 : decode cX0_image 67 = .ok (.invokestatic 334, 3) := dk_184 1 78 (dk_at dksX0_image_2 20 rfl rfl)
theorem dX0_image_70 : decode cX0_image 70 = .ok (.aload_n 0, 1) := dk_42 (dk_at dksX0_image_2 23 rfl rfl)
theorem dX0_image_71 : decode cX0_image 71 = .ok (.getfield 70, 3) := dk_180 0 70 (dk_at dksX0_image_3 0 rfl rfl)
theorem dX0_image_74 : decode cX0_image 74 = .ok (.iconst 0, 1) := dk_3 (dk_at dksX0_image_3 3 rfl rfl)
theorem dX0_image_75 : decode cX0_image 75 = .ok (.aload_n 0, 1) := dk_42 (dk_at dksX0_image_3 4 rfl rfl)
theorem dX0_image_76 : decode cX0_image 76 = .ok (.getfield 103, 3) := dk_180 0 103 (dk_at dksX0_image_3 5 rfl rfl)
theorem dX0_image_79 : decode cX0_image 79 = .ok (.iconst 0, 1) := dk_3 (dk_at dksX0_image_3 8 rfl rfl)
theorem dX0_image_80 : decode cX0_image 80 = .ok (.iconst 4, 1) := dk_7 (dk_at dksX0_image_3 9 rfl rfl)
theorem dX0_image_81 : decode cX0_image 81 = .ok (.invokestatic 334, 3) := dk_184 1 78 (dk_at dksX0_image_3 10 rfl rfl)
theorem dX0_image_84 : decode cX0_image 84 = .ok (.aload_n 0, 1) := dk_42 (dk_at dksX0_image_3 13 rfl rfl)
theorem dX0_image_85 : decode cX0_image 85 = .ok (.getfield 73, 3) := dk_180 0 73 (dk_at dksX0_image_3 14 rfl rfl)
theorem dX0_image_88 : decode cX0_image 88 = .ok (.iconst 0, 1) := dk_3 (dk_at dksX0_image_3 17 rfl rfl)
theorem dX0_image_89 : decode cX0_image 89 = .ok (.aload_n 0, 1) := dk_42 (dk_at dksX0_image_3 18 rfl rfl)
theorem dX0_image_90 : decode cX0_image 90 = .ok (.getfield 106, 3) := dk_180 0 106 (dk_at dksX0_image_3 19 rfl rfl)
theorem dX0_image_93 : decode cX0_image 93 = .ok (.iconst 0, 1) := dk_3 (dk_at dksX0_image_3 22 rfl rfl)
theorem dX0_image_94 : decode cX0_image 94 = .ok (.iconst 5, 1) := dk_8 (dk_at dksX0_image_3 23 rfl rfl)
theorem dX0_image_95 : decode cX0_image 95 = .ok (.invokestatic 334, 3) := dk_184 1 78 (dk_at dksX0_image_4 0 rfl rfl)
theorem dX0_image_98 : decode cX0_image 98 = .ok (.aload_n 0, 1) := dk_42 (dk_at dksX0_image_4 3 rfl rfl)
theorem dX0_image_99 : decode cX0_image 99 = .ok (.getfield 76, 3) := dk_180 0 76 (dk_at dksX0_image_4 4 rfl rfl)
theorem dX0_image_102 : decode cX0_image 102 = .ok (.iconst 0, 1) := dk_3 (dk_at dksX0_image_4 7 rfl rfl)
theorem dX0_image_103 : decode cX0_image 103 = .ok (.aload_n 0, 1) := dk_42 (dk_at dksX0_image_4 8 rfl rfl)
theorem dX0_image_104 : decode cX0_image 104 = .ok (.getfield 109, 3) := dk_180 0 109 (dk_at dksX0_image_4 9 rfl rfl)
theorem dX0_image_107 : decode cX0_image 107 = .ok (.iconst 0, 1) := dk_3 (dk_at dksX0_image_4 12 rfl rfl)
theorem dX0_image_108 : decode cX0_image 108 = .ok (.bipush 8, 2) := dk_16 8 (dk_at dksX0_image_4 13 rfl rfl)
theorem dX0_image_110 : decode cX0_image 110 = .ok (.invokestatic 334, 3) := dk_184 1 78 (dk_at dksX0_image_4 15 rfl rfl)
theorem dX0_image_113 : decode cX0_image 113 = .ok (.aload_n 0, 1) := dk_42 (dk_at dksX0_image_4 18 rfl rfl)
theorem dX0_image_114 : decode cX0_image 114 = .ok (.getfield 79, 3) := dk_180 0 79 (dk_at dksX0_image_4 19 rfl rfl)
theorem dX0_image_117 : decode cX0_image 117 = .ok (.iconst 0, 1) := dk_3 (dk_at dksX0_image_4 22 rfl rfl)
theorem dX0_image_118 : decode cX0_image 118 = .ok (.aload_n 0, 1) := dk_42 (dk_at dksX0_image_4 23 rfl rfl)
theorem dX0_image_119 : decode cX0_image 119 = .ok (.getfield 112, 3) := dk_180 0 112 (dk_at dksX0_image_5 0 rfl rfl)
theorem dX0_image_122 : decode cX0_image 122 = .ok (.iconst 0, 1) := dk_3 (dk_at dksX0_image_5 3 rfl rfl)
theorem dX0_image_123 : decode cX0_image 123 = .ok (.bipush 8, 2) := dk_16 8 (dk_at dksX0_image_5 4 rfl rfl)
theorem dX0_image_125 : decode cX0_image 125 = .ok (.invokestatic 334, 3) := dk_184 1 78 (dk_at dksX0_image_5 6 rfl rfl)
theorem dX0_image_128 : decode cX0_image 128 = .ok (.aload_n 0, 1) := dk_42 (dk_at dksX0_image_5 9 rfl rfl)
theorem dX0_image_129 : decode cX0_image 129 = .ok (.aload_n 0, 1) := dk_42 (dk_at dksX0_image_5 10 rfl rfl)
theorem dX0_image_130 : decode cX0_image 130 = .ok (.getfield 116, 3) := dk_180 0 116 (dk_at dksX0_image_5 11 rfl rfl)
theorem dX0_image_133 : decode cX0_image 133 = .ok (.putfield 340, 3) := dk_181 1 84 (dk_at dksX0_image_5 14 rfl rfl)
theorem dX0_image_136 : decode cX0_image 136 = .ok (.aload_n 0, 1) := dk_42 (dk_at dksX0_image_5 17 rfl rfl)
theorem dX0_image_137 : decode cX0_image 137 = .ok (.aload_n 0, 1) := dk_42 (dk_at dksX0_image_5 18 rfl rfl)
theorem dX0_image_138 : decode cX0_image 138 = .ok (.getfield 38, 3) := dk_180 0 38 (dk_at dksX0_image_5 19 rfl rfl)
theorem dX0_image_141 : decode cX0_image 141 = .ok (.putfield 343, 3) := dk_181 1 87 (dk_at dksX0_image_6 0 rfl rfl)
theorem dX0_image_144 : decode cX0_image 144 = .ok (.aload_n 0, 1) := dk_42 (dk_at dksX0_image_6 3 rfl rfl)
theorem dX0_image_145 : decode cX0_image 145 = .ok (.aload_n 0, 1) := dk_42 (dk_at dksX0_image_6 4 rfl rfl)
theorem dX0_image_146 : decode cX0_image 146 = .ok (.getfield 287, 3) := dk_180 1 31 (dk_at dksX0_image_6 5 rfl rfl)
theorem dX0_image_149 : decode cX0_image 149 = .ok (.putfield 346, 3) := dk_181 1 90 (dk_at dksX0_image_6 8 rfl rfl)
theorem dX0_image_152 : decode cX0_image 152 = .ok (.aload_n 0, 1) := dk_42 (dk_at dksX0_image_6 11 rfl rfl)
theorem dX0_image_153 : decode cX0_image 153 = .ok (.aload_n 0, 1) := dk_42 (dk_at dksX0_image_6 12 rfl rfl)
theorem dX0_image_154 : decode cX0_image 154 = .ok (.getfield 293, 3) := dk_180 1 37 (dk_at dksX0_image_6 13 rfl rfl)
theorem dX0_image_157 : decode cX0_image 157 = .ok (.putfield 349, 3) := dk_181 1 93 (dk_at dksX0_image_6 16 rfl rfl)
theorem dX0_image_160 : decode cX0_image 160 = .ok (.aload_n 0, 1) := dk_42 (dk_at dksX0_image_6 19 rfl rfl)
theorem dX0_image_161 : decode cX0_image 161 = .ok (.aload_n 0, 1) := dk_42 (dk_at dksX0_image_6 20 rfl rfl)
theorem dX0_image_162 : decode cX0_image 162 = .ok (.getfield 312, 3) := dk_180 1 56 (dk_at dksX0_image_6 21 rfl rfl)
theorem dX0_image_165 : decode cX0_image 165 = .ok (.putfield 352, 3) := dk_181 1 96 (dk_at dksX0_image_7 0 rfl rfl)
theorem dX0_image_168 : decode cX0_image 168 = .ok (.aload_n 0, 1) := dk_42 (dk_at dksX0_image_7 3 rfl rfl)
theorem dX0_image_169 : decode cX0_image 169 = .ok (.aload_n 0, 1) := dk_42 (dk_at dksX0_image_7 4 rfl rfl)
theorem dX0_image_170 : decode cX0_image 170 = .ok (.getfield 49, 3) := dk_180 0 49 (dk_at dksX0_image_7 5 rfl rfl)
theorem dX0_image_173 : decode cX0_image 173 = .ok (.putfield 355, 3) := dk_181 1 99 (dk_at dksX0_image_7 8 rfl rfl)
theorem dX0_image_176 : decode cX0_image 176 = .ok (.aload_n 0, 1) := dk_42 (dk_at dksX0_image_7 11 rfl rfl)
theorem dX0_image_177 : decode cX0_image 177 = .ok (.getfield 116, 3) := dk_180 0 116 (dk_at dksX0_image_7 12 rfl rfl)
theorem dX0_image_180 : decode cX0_image 180 = .ok (.ireturn, 1) := dk_172 (dk_at dksX0_image_7 15 rfl rfl)
abbrev cX0_undo : ByteArray := prog_1_method_56_code
def yX0_undo : MethodName := ⟨RX0, "undo", "()I"⟩
def dkwX0_undo_8 : List UInt8 := [180, 0, 116, 172]
abbrev dktX0_undo_8 : List UInt8 := dkwX0_undo_8 ++ []
def dkwX0_undo_7 : List UInt8 := [180, 1, 93, 181, 1, 37, 42, 42, 180, 1, 96, 181, 1, 56, 42, 42, 180, 1, 99, 181, 0, 49, 42]
abbrev dktX0_undo_7 : List UInt8 := dkwX0_undo_7 ++ dktX0_undo_8
def dkwX0_undo_6 : List UInt8 := [180, 1, 84, 181, 0, 116, 42, 42, 180, 1, 87, 181, 0, 38, 42, 42, 180, 1, 90, 181, 1, 31, 42, 42]
abbrev dktX0_undo_6 : List UInt8 := dkwX0_undo_6 ++ dktX0_undo_7
def dkwX0_undo_5 : List UInt8 := [16, 8, 184, 1, 78, 42, 180, 0, 112, 3, 42, 180, 0, 79, 3, 16, 8, 184, 1, 78, 42, 42]
abbrev dktX0_undo_5 : List UInt8 := dkwX0_undo_5 ++ dktX0_undo_6
def dkwX0_undo_4 : List UInt8 := [42, 180, 0, 106, 3, 42, 180, 0, 73, 3, 8, 184, 1, 78, 42, 180, 0, 109, 3, 42, 180, 0, 76, 3]
abbrev dktX0_undo_4 : List UInt8 := dkwX0_undo_4 ++ dktX0_undo_5
def dkwX0_undo_3 : List UInt8 := [3, 42, 180, 0, 67, 3, 7, 184, 1, 78, 42, 180, 0, 103, 3, 42, 180, 0, 70, 3, 7, 184, 1, 78]
abbrev dktX0_undo_3 : List UInt8 := dkwX0_undo_3 ++ dktX0_undo_4
def dkwX0_undo_2 : List UInt8 := [16, 6, 184, 1, 78, 42, 180, 0, 97, 3, 42, 180, 0, 25, 3, 16, 24, 184, 1, 78, 42, 180, 0, 100]
abbrev dktX0_undo_2 : List UInt8 := dkwX0_undo_2 ++ dktX0_undo_3
def dkwX0_undo_1 : List UInt8 := [180, 0, 91, 3, 42, 180, 0, 17, 3, 16, 6, 184, 1, 78, 42, 180, 0, 94, 3, 42, 180, 0, 21, 3]
abbrev dktX0_undo_1 : List UInt8 := dkwX0_undo_1 ++ dktX0_undo_2
def dkwX0_undo_0 : List UInt8 := [42, 180, 1, 99, 199, 0, 6, 16, 253, 172, 42, 180, 0, 31, 42, 180, 0, 88, 182, 0, 242, 42]
abbrev dktX0_undo_0 : List UInt8 := dkwX0_undo_0 ++ dktX0_undo_1
theorem dksX0_undo_0 : cX0_undo.data.toList.drop 0 = dktX0_undo_0 := by decide +kernel
theorem dksX0_undo_1 : cX0_undo.data.toList.drop 22 = dktX0_undo_1 := dk_seg dksX0_undo_0 22 rfl rfl
theorem dksX0_undo_2 : cX0_undo.data.toList.drop 46 = dktX0_undo_2 := dk_seg dksX0_undo_1 24 rfl rfl
theorem dksX0_undo_3 : cX0_undo.data.toList.drop 70 = dktX0_undo_3 := dk_seg dksX0_undo_2 24 rfl rfl
theorem dksX0_undo_4 : cX0_undo.data.toList.drop 94 = dktX0_undo_4 := dk_seg dksX0_undo_3 24 rfl rfl
theorem dksX0_undo_5 : cX0_undo.data.toList.drop 118 = dktX0_undo_5 := dk_seg dksX0_undo_4 24 rfl rfl
theorem dksX0_undo_6 : cX0_undo.data.toList.drop 140 = dktX0_undo_6 := dk_seg dksX0_undo_5 22 rfl rfl
theorem dksX0_undo_7 : cX0_undo.data.toList.drop 164 = dktX0_undo_7 := dk_seg dksX0_undo_6 24 rfl rfl
theorem dksX0_undo_8 : cX0_undo.data.toList.drop 187 = dktX0_undo_8 := dk_seg dksX0_undo_7 23 rfl rfl
theorem dX0_undo_0 : decode cX0_undo 0 = .ok (.aload_n 0, 1) := dk_42 (dk_at dksX0_undo_0 0 rfl rfl)
theorem dX0_undo_1 : decode cX0_undo 1 = .ok (.getfield 355, 3) := dk_180 1 99 (dk_at dksX0_undo_0 1 rfl rfl)
theorem dX0_undo_4 : decode cX0_undo 4 = .ok (.ifnonnull 6, 3) := dk_199 0 6 (dk_at dksX0_undo_0 4 rfl rfl)
theorem dX0_undo_7 : decode cX0_undo 7 = .ok (.bipush (-3), 2) := dk_16 253 (dk_at dksX0_undo_0 7 rfl rfl)
theorem dX0_undo_9 : decode cX0_undo 9 = .ok (.ireturn, 1) := dk_172 (dk_at dksX0_undo_0 9 rfl rfl)
theorem dX0_undo_10 : decode cX0_undo 10 = .ok (.aload_n 0, 1) := dk_42 (dk_at dksX0_undo_0 10 rfl rfl)
theorem dX0_undo_11 : decode cX0_undo 11 = .ok (.getfield 31, 3) := dk_180 0 31 (dk_at dksX0_undo_0 11 rfl rfl)
theorem dX0_undo_14 : decode cX0_undo 14 = .ok (.aload_n 0, 1) := dk_42 (dk_at dksX0_undo_0 14 rfl rfl)
theorem dX0_undo_15 : decode cX0_undo 15 = .ok (.getfield 88, 3) := dk_180 0 88 (dk_at dksX0_undo_0 15 rfl rfl)
theorem dX0_undo_18 : decode cX0_undo 18 = .ok (.invokevirtual 242, 3) := dk_182 0 242 (dk_at dksX0_undo_0 18 rfl rfl)
theorem dX0_undo_21 : decode cX0_undo 21 = .ok (.aload_n 0, 1) := dk_42 (dk_at dksX0_undo_0 21 rfl rfl)
theorem dX0_undo_22 : decode cX0_undo 22 = .ok (.getfield 91, 3) := dk_180 0 91 (dk_at dksX0_undo_1 0 rfl rfl)
theorem dX0_undo_25 : decode cX0_undo 25 = .ok (.iconst 0, 1) := dk_3 (dk_at dksX0_undo_1 3 rfl rfl)
theorem dX0_undo_26 : decode cX0_undo 26 = .ok (.aload_n 0, 1) := dk_42 (dk_at dksX0_undo_1 4 rfl rfl)
theorem dX0_undo_27 : decode cX0_undo 27 = .ok (.getfield 17, 3) := dk_180 0 17 (dk_at dksX0_undo_1 5 rfl rfl)
theorem dX0_undo_30 : decode cX0_undo 30 = .ok (.iconst 0, 1) := dk_3 (dk_at dksX0_undo_1 8 rfl rfl)
theorem dX0_undo_31 : decode cX0_undo 31 = .ok (.bipush 6, 2) := dk_16 6 (dk_at dksX0_undo_1 9 rfl rfl)
theorem dX0_undo_33 : decode cX0_undo 33 = .ok (.invokestatic 334, 3) := dk_184 1 78 (dk_at dksX0_undo_1 11 rfl rfl)
theorem dX0_undo_36 : decode cX0_undo 36 = .ok (.aload_n 0, 1) := dk_42 (dk_at dksX0_undo_1 14 rfl rfl)
theorem dX0_undo_37 : decode cX0_undo 37 = .ok (.getfield 94, 3) := dk_180 0 94 (dk_at dksX0_undo_1 15 rfl rfl)
theorem dX0_undo_40 : decode cX0_undo 40 = .ok (.iconst 0, 1) := dk_3 (dk_at dksX0_undo_1 18 rfl rfl)
theorem dX0_undo_41 : decode cX0_undo 41 = .ok (.aload_n 0, 1) := dk_42 (dk_at dksX0_undo_1 19 rfl rfl)
theorem dX0_undo_42 : decode cX0_undo 42 = .ok (.getfield 21, 3) := dk_180 0 21 (dk_at dksX0_undo_1 20 rfl rfl)
theorem dX0_undo_45 : decode cX0_undo 45 = .ok (.iconst 0, 1) := dk_3 (dk_at dksX0_undo_1 23 rfl rfl)
theorem dX0_undo_46 : decode cX0_undo 46 = .ok (.bipush 6, 2) := dk_16 6 (dk_at dksX0_undo_2 0 rfl rfl)
theorem dX0_undo_48 : decode cX0_undo 48 = .ok (.invokestatic 334, 3) := dk_184 1 78 (dk_at dksX0_undo_2 2 rfl rfl)
theorem dX0_undo_51 : decode cX0_undo 51 = .ok (.aload_n 0, 1) := dk_42 (dk_at dksX0_undo_2 5 rfl rfl)
theorem dX0_undo_52 : decode cX0_undo 52 = .ok (.getfield 97, 3) := dk_180 0 97 (dk_at dksX0_undo_2 6 rfl rfl)
theorem dX0_undo_55 : decode cX0_undo 55 = .ok (.iconst 0, 1) := dk_3 (dk_at dksX0_undo_2 9 rfl rfl)
theorem dX0_undo_56 : decode cX0_undo 56 = .ok (.aload_n 0, 1) := dk_42 (dk_at dksX0_undo_2 10 rfl rfl)
theorem dX0_undo_57 : decode cX0_undo 57 = .ok (.getfield 25, 3) := dk_180 0 25 (dk_at dksX0_undo_2 11 rfl rfl)
theorem dX0_undo_60 : decode cX0_undo 60 = .ok (.iconst 0, 1) := dk_3 (dk_at dksX0_undo_2 14 rfl rfl)
theorem dX0_undo_61 : decode cX0_undo 61 = .ok (.bipush 24, 2) := dk_16 24 (dk_at dksX0_undo_2 15 rfl rfl)
theorem dX0_undo_63 : decode cX0_undo 63 = .ok (.invokestatic 334, 3) := dk_184 1 78 (dk_at dksX0_undo_2 17 rfl rfl)
theorem dX0_undo_66 : decode cX0_undo 66 = .ok (.aload_n 0, 1) := dk_42 (dk_at dksX0_undo_2 20 rfl rfl)
theorem dX0_undo_67 : decode cX0_undo 67 = .ok (.getfield 100, 3) := dk_180 0 100 (dk_at dksX0_undo_2 21 rfl rfl)
theorem dX0_undo_70 : decode cX0_undo 70 = .ok (.iconst 0, 1) := dk_3 (dk_at dksX0_undo_3 0 rfl rfl)
theorem dX0_undo_71 : decode cX0_undo 71 = .ok (.aload_n 0, 1) := dk_42 (dk_at dksX0_undo_3 1 rfl rfl)
theorem dX0_undo_72 : decode cX0_undo 72 = .ok (.getfield 67, 3) := dk_180 0 67 (dk_at dksX0_undo_3 2 rfl rfl)
theorem dX0_undo_75 : decode cX0_undo 75 = .ok (.iconst 0, 1) := dk_3 (dk_at dksX0_undo_3 5 rfl rfl)
theorem dX0_undo_76 : decode cX0_undo 76 = .ok (.iconst 4, 1) := dk_7 (dk_at dksX0_undo_3 6 rfl rfl)
theorem dX0_undo_77 : decode cX0_undo 77 = .ok (.invokestatic 334, 3) := dk_184 1 78 (dk_at dksX0_undo_3 7 rfl rfl)
theorem dX0_undo_80 : decode cX0_undo 80 = .ok (.aload_n 0, 1) := dk_42 (dk_at dksX0_undo_3 10 rfl rfl)
theorem dX0_undo_81 : decode cX0_undo 81 = .ok (.getfield 103, 3) := dk_180 0 103 (dk_at dksX0_undo_3 11 rfl rfl)
theorem dX0_undo_84 : decode cX0_undo 84 = .ok (.iconst 0, 1) := dk_3 (dk_at dksX0_undo_3 14 rfl rfl)
theorem dX0_undo_85 : decode cX0_undo 85 = .ok (.aload_n 0, 1) := dk_42 (dk_at dksX0_undo_3 15 rfl rfl)
theorem dX0_undo_86 : decode cX0_undo 86 = .ok (.getfield 70, 3) := dk_180 0 70 (dk_at dksX0_undo_3 16 rfl rfl)
theorem dX0_undo_89 : decode cX0_undo 89 = .ok (.iconst 0, 1) := dk_3 (dk_at dksX0_undo_3 19 rfl rfl)
theorem dX0_undo_90 : decode cX0_undo 90 = .ok (.iconst 4, 1) := dk_7 (dk_at dksX0_undo_3 20 rfl rfl)
theorem dX0_undo_91 : decode cX0_undo 91 = .ok (.invokestatic 334, 3) := dk_184 1 78 (dk_at dksX0_undo_3 21 rfl rfl)
theorem dX0_undo_94 : decode cX0_undo 94 = .ok (.aload_n 0, 1) := dk_42 (dk_at dksX0_undo_4 0 rfl rfl)
theorem dX0_undo_95 : decode cX0_undo 95 = .ok (.getfield 106, 3) := dk_180 0 106 (dk_at dksX0_undo_4 1 rfl rfl)
theorem dX0_undo_98 : decode cX0_undo 98 = .ok (.iconst 0, 1) := dk_3 (dk_at dksX0_undo_4 4 rfl rfl)
theorem dX0_undo_99 : decode cX0_undo 99 = .ok (.aload_n 0, 1) := dk_42 (dk_at dksX0_undo_4 5 rfl rfl)
theorem dX0_undo_100 : decode cX0_undo 100 = .ok (.getfield 73, 3) := dk_180 0 73 (dk_at dksX0_undo_4 6 rfl rfl)
theorem dX0_undo_103 : decode cX0_undo 103 = .ok (.iconst 0, 1) := dk_3 (dk_at dksX0_undo_4 9 rfl rfl)
theorem dX0_undo_104 : decode cX0_undo 104 = .ok (.iconst 5, 1) := dk_8 (dk_at dksX0_undo_4 10 rfl rfl)
theorem dX0_undo_105 : decode cX0_undo 105 = .ok (.invokestatic 334, 3) := dk_184 1 78 (dk_at dksX0_undo_4 11 rfl rfl)
theorem dX0_undo_108 : decode cX0_undo 108 = .ok (.aload_n 0, 1) := dk_42 (dk_at dksX0_undo_4 14 rfl rfl)
theorem dX0_undo_109 : decode cX0_undo 109 = .ok (.getfield 109, 3) := dk_180 0 109 (dk_at dksX0_undo_4 15 rfl rfl)
theorem dX0_undo_112 : decode cX0_undo 112 = .ok (.iconst 0, 1) := dk_3 (dk_at dksX0_undo_4 18 rfl rfl)
theorem dX0_undo_113 : decode cX0_undo 113 = .ok (.aload_n 0, 1) := dk_42 (dk_at dksX0_undo_4 19 rfl rfl)
theorem dX0_undo_114 : decode cX0_undo 114 = .ok (.getfield 76, 3) := dk_180 0 76 (dk_at dksX0_undo_4 20 rfl rfl)
theorem dX0_undo_117 : decode cX0_undo 117 = .ok (.iconst 0, 1) := dk_3 (dk_at dksX0_undo_4 23 rfl rfl)
theorem dX0_undo_118 : decode cX0_undo 118 = .ok (.bipush 8, 2) := dk_16 8 (dk_at dksX0_undo_5 0 rfl rfl)
theorem dX0_undo_120 : decode cX0_undo 120 = .ok (.invokestatic 334, 3) := dk_184 1 78 (dk_at dksX0_undo_5 2 rfl rfl)
theorem dX0_undo_123 : decode cX0_undo 123 = .ok (.aload_n 0, 1) := dk_42 (dk_at dksX0_undo_5 5 rfl rfl)
theorem dX0_undo_124 : decode cX0_undo 124 = .ok (.getfield 112, 3) := dk_180 0 112 (dk_at dksX0_undo_5 6 rfl rfl)
theorem dX0_undo_127 : decode cX0_undo 127 = .ok (.iconst 0, 1) := dk_3 (dk_at dksX0_undo_5 9 rfl rfl)
theorem dX0_undo_128 : decode cX0_undo 128 = .ok (.aload_n 0, 1) := dk_42 (dk_at dksX0_undo_5 10 rfl rfl)
theorem dX0_undo_129 : decode cX0_undo 129 = .ok (.getfield 79, 3) := dk_180 0 79 (dk_at dksX0_undo_5 11 rfl rfl)
theorem dX0_undo_132 : decode cX0_undo 132 = .ok (.iconst 0, 1) := dk_3 (dk_at dksX0_undo_5 14 rfl rfl)
theorem dX0_undo_133 : decode cX0_undo 133 = .ok (.bipush 8, 2) := dk_16 8 (dk_at dksX0_undo_5 15 rfl rfl)
theorem dX0_undo_135 : decode cX0_undo 135 = .ok (.invokestatic 334, 3) := dk_184 1 78 (dk_at dksX0_undo_5 17 rfl rfl)
theorem dX0_undo_138 : decode cX0_undo 138 = .ok (.aload_n 0, 1) := dk_42 (dk_at dksX0_undo_5 20 rfl rfl)
theorem dX0_undo_139 : decode cX0_undo 139 = .ok (.aload_n 0, 1) := dk_42 (dk_at dksX0_undo_5 21 rfl rfl)
theorem dX0_undo_140 : decode cX0_undo 140 = .ok (.getfield 340, 3) := dk_180 1 84 (dk_at dksX0_undo_6 0 rfl rfl)
theorem dX0_undo_143 : decode cX0_undo 143 = .ok (.putfield 116, 3) := dk_181 0 116 (dk_at dksX0_undo_6 3 rfl rfl)
theorem dX0_undo_146 : decode cX0_undo 146 = .ok (.aload_n 0, 1) := dk_42 (dk_at dksX0_undo_6 6 rfl rfl)
theorem dX0_undo_147 : decode cX0_undo 147 = .ok (.aload_n 0, 1) := dk_42 (dk_at dksX0_undo_6 7 rfl rfl)
theorem dX0_undo_148 : decode cX0_undo 148 = .ok (.getfield 343, 3) := dk_180 1 87 (dk_at dksX0_undo_6 8 rfl rfl)
theorem dX0_undo_151 : decode cX0_undo 151 = .ok (.putfield 38, 3) := dk_181 0 38 (dk_at dksX0_undo_6 11 rfl rfl)
theorem dX0_undo_154 : decode cX0_undo 154 = .ok (.aload_n 0, 1) := dk_42 (dk_at dksX0_undo_6 14 rfl rfl)
theorem dX0_undo_155 : decode cX0_undo 155 = .ok (.aload_n 0, 1) := dk_42 (dk_at dksX0_undo_6 15 rfl rfl)
theorem dX0_undo_156 : decode cX0_undo 156 = .ok (.getfield 346, 3) := dk_180 1 90 (dk_at dksX0_undo_6 16 rfl rfl)
theorem dX0_undo_159 : decode cX0_undo 159 = .ok (.putfield 287, 3) := dk_181 1 31 (dk_at dksX0_undo_6 19 rfl rfl)
theorem dX0_undo_162 : decode cX0_undo 162 = .ok (.aload_n 0, 1) := dk_42 (dk_at dksX0_undo_6 22 rfl rfl)
theorem dX0_undo_163 : decode cX0_undo 163 = .ok (.aload_n 0, 1) := dk_42 (dk_at dksX0_undo_6 23 rfl rfl)
theorem dX0_undo_164 : decode cX0_undo 164 = .ok (.getfield 349, 3) := dk_180 1 93 (dk_at dksX0_undo_7 0 rfl rfl)
theorem dX0_undo_167 : decode cX0_undo 167 = .ok (.putfield 293, 3) := dk_181 1 37 (dk_at dksX0_undo_7 3 rfl rfl)
theorem dX0_undo_170 : decode cX0_undo 170 = .ok (.aload_n 0, 1) := dk_42 (dk_at dksX0_undo_7 6 rfl rfl)
theorem dX0_undo_171 : decode cX0_undo 171 = .ok (.aload_n 0, 1) := dk_42 (dk_at dksX0_undo_7 7 rfl rfl)
theorem dX0_undo_172 : decode cX0_undo 172 = .ok (.getfield 352, 3) := dk_180 1 96 (dk_at dksX0_undo_7 8 rfl rfl)
theorem dX0_undo_175 : decode cX0_undo 175 = .ok (.putfield 312, 3) := dk_181 1 56 (dk_at dksX0_undo_7 11 rfl rfl)
theorem dX0_undo_178 : decode cX0_undo 178 = .ok (.aload_n 0, 1) := dk_42 (dk_at dksX0_undo_7 14 rfl rfl)
theorem dX0_undo_179 : decode cX0_undo 179 = .ok (.aload_n 0, 1) := dk_42 (dk_at dksX0_undo_7 15 rfl rfl)
theorem dX0_undo_180 : decode cX0_undo 180 = .ok (.getfield 355, 3) := dk_180 1 99 (dk_at dksX0_undo_7 16 rfl rfl)
theorem dX0_undo_183 : decode cX0_undo 183 = .ok (.putfield 49, 3) := dk_181 0 49 (dk_at dksX0_undo_7 19 rfl rfl)
theorem dX0_undo_186 : decode cX0_undo 186 = .ok (.aload_n 0, 1) := dk_42 (dk_at dksX0_undo_7 22 rfl rfl)
theorem dX0_undo_187 : decode cX0_undo 187 = .ok (.getfield 116, 3) := dk_180 0 116 (dk_at dksX0_undo_8 0 rfl rfl)
theorem dX0_undo_190 : decode cX0_undo 190 = .ok (.ireturn, 1) := dk_172 (dk_at dksX0_undo_8 3 rfl rfl)
abbrev cX0_act : ByteArray := prog_1_method_57_code
def yX0_act : MethodName := ⟨RX0, "act", "(III)I"⟩
def dkwX0_act_2 : List UInt8 := [167, 0, 23, 28, 4, 160, 0, 12, 25, 4, 29, 182, 1, 107, 167, 0, 9, 25, 4, 29, 182, 1, 109, 172]
abbrev dktX0_act_2 : List UInt8 := dkwX0_act_2 ++ []
def dkwX0_act_1 : List UInt8 := [154, 0, 5, 3, 172, 42, 180, 0, 17, 27, 50, 58, 4, 28, 154, 0, 12, 25, 4, 29, 182, 1, 105]
abbrev dktX0_act_1 : List UInt8 := dkwX0_act_1 ++ dktX0_act_2
def dkwX0_act_0 : List UInt8 := [42, 180, 0, 63, 3, 181, 1, 102, 42, 27, 182, 0, 193, 153, 0, 12, 28, 3, 5, 184, 0, 5]
abbrev dktX0_act_0 : List UInt8 := dkwX0_act_0 ++ dktX0_act_1
theorem dksX0_act_0 : cX0_act.data.toList.drop 0 = dktX0_act_0 := by decide +kernel
theorem dksX0_act_1 : cX0_act.data.toList.drop 22 = dktX0_act_1 := dk_seg dksX0_act_0 22 rfl rfl
theorem dksX0_act_2 : cX0_act.data.toList.drop 45 = dktX0_act_2 := dk_seg dksX0_act_1 23 rfl rfl
theorem dX0_act_0 : decode cX0_act 0 = .ok (.aload_n 0, 1) := dk_42 (dk_at dksX0_act_0 0 rfl rfl)
theorem dX0_act_1 : decode cX0_act 1 = .ok (.getfield 63, 3) := dk_180 0 63 (dk_at dksX0_act_0 1 rfl rfl)
theorem dX0_act_4 : decode cX0_act 4 = .ok (.iconst 0, 1) := dk_3 (dk_at dksX0_act_0 4 rfl rfl)
theorem dX0_act_5 : decode cX0_act 5 = .ok (.putfield 358, 3) := dk_181 1 102 (dk_at dksX0_act_0 5 rfl rfl)
theorem dX0_act_8 : decode cX0_act 8 = .ok (.aload_n 0, 1) := dk_42 (dk_at dksX0_act_0 8 rfl rfl)
theorem dX0_act_9 : decode cX0_act 9 = .ok (.iload_n 1, 1) := dk_27 (dk_at dksX0_act_0 9 rfl rfl)
theorem dX0_act_10 : decode cX0_act 10 = .ok (.invokevirtual 193, 3) := dk_182 0 193 (dk_at dksX0_act_0 10 rfl rfl)
theorem dX0_act_13 : decode cX0_act 13 = .ok (.ifCond .eq 12, 3) := dk_153 0 12 (dk_at dksX0_act_0 13 rfl rfl)
theorem dX0_act_16 : decode cX0_act 16 = .ok (.iload_n 2, 1) := dk_28 (dk_at dksX0_act_0 16 rfl rfl)
theorem dX0_act_17 : decode cX0_act 17 = .ok (.iconst 0, 1) := dk_3 (dk_at dksX0_act_0 17 rfl rfl)
theorem dX0_act_18 : decode cX0_act 18 = .ok (.iconst 2, 1) := dk_5 (dk_at dksX0_act_0 18 rfl rfl)
theorem dX0_act_19 : decode cX0_act 19 = .ok (.invokestatic 5, 3) := dk_184 0 5 (dk_at dksX0_act_0 19 rfl rfl)
theorem dX0_act_22 : decode cX0_act 22 = .ok (.ifCond .ne 5, 3) := dk_154 0 5 (dk_at dksX0_act_1 0 rfl rfl)
theorem dX0_act_25 : decode cX0_act 25 = .ok (.iconst 0, 1) := dk_3 (dk_at dksX0_act_1 3 rfl rfl)
theorem dX0_act_26 : decode cX0_act 26 = .ok (.ireturn, 1) := dk_172 (dk_at dksX0_act_1 4 rfl rfl)
theorem dX0_act_27 : decode cX0_act 27 = .ok (.aload_n 0, 1) := dk_42 (dk_at dksX0_act_1 5 rfl rfl)
theorem dX0_act_28 : decode cX0_act 28 = .ok (.getfield 17, 3) := dk_180 0 17 (dk_at dksX0_act_1 6 rfl rfl)
theorem dX0_act_31 : decode cX0_act 31 = .ok (.iload_n 1, 1) := dk_27 (dk_at dksX0_act_1 9 rfl rfl)
theorem dX0_act_32 : decode cX0_act 32 = .ok (.aaload, 1) := dk_50 (dk_at dksX0_act_1 10 rfl rfl)
theorem dX0_act_33 : decode cX0_act 33 = .ok (.astore 4, 2) := dk_58 4 (dk_at dksX0_act_1 11 rfl rfl)
theorem dX0_act_35 : decode cX0_act 35 = .ok (.iload_n 2, 1) := dk_28 (dk_at dksX0_act_1 13 rfl rfl)
theorem dX0_act_36 : decode cX0_act 36 = .ok (.ifCond .ne 12, 3) := dk_154 0 12 (dk_at dksX0_act_1 14 rfl rfl)
theorem dX0_act_39 : decode cX0_act 39 = .ok (.aload 4, 2) := dk_25 4 (dk_at dksX0_act_1 17 rfl rfl)
theorem dX0_act_41 : decode cX0_act 41 = .ok (.iload_n 3, 1) := dk_29 (dk_at dksX0_act_1 19 rfl rfl)
theorem dX0_act_42 : decode cX0_act 42 = .ok (.invokevirtual 361, 3) := dk_182 1 105 (dk_at dksX0_act_1 20 rfl rfl)
theorem dX0_act_45 : decode cX0_act 45 = .ok (.goto 23, 3) := dk_167 0 23 (dk_at dksX0_act_2 0 rfl rfl)
theorem dX0_act_48 : decode cX0_act 48 = .ok (.iload_n 2, 1) := dk_28 (dk_at dksX0_act_2 3 rfl rfl)
theorem dX0_act_49 : decode cX0_act 49 = .ok (.iconst 1, 1) := dk_4 (dk_at dksX0_act_2 4 rfl rfl)
theorem dX0_act_50 : decode cX0_act 50 = .ok (.if_icmp .ne 12, 3) := dk_160 0 12 (dk_at dksX0_act_2 5 rfl rfl)
theorem dX0_act_53 : decode cX0_act 53 = .ok (.aload 4, 2) := dk_25 4 (dk_at dksX0_act_2 8 rfl rfl)
theorem dX0_act_55 : decode cX0_act 55 = .ok (.iload_n 3, 1) := dk_29 (dk_at dksX0_act_2 10 rfl rfl)
theorem dX0_act_56 : decode cX0_act 56 = .ok (.invokevirtual 363, 3) := dk_182 1 107 (dk_at dksX0_act_2 11 rfl rfl)
theorem dX0_act_59 : decode cX0_act 59 = .ok (.goto 9, 3) := dk_167 0 9 (dk_at dksX0_act_2 14 rfl rfl)
theorem dX0_act_62 : decode cX0_act 62 = .ok (.aload 4, 2) := dk_25 4 (dk_at dksX0_act_2 17 rfl rfl)
theorem dX0_act_64 : decode cX0_act 64 = .ok (.iload_n 3, 1) := dk_29 (dk_at dksX0_act_2 19 rfl rfl)
theorem dX0_act_65 : decode cX0_act 65 = .ok (.invokevirtual 365, 3) := dk_182 1 109 (dk_at dksX0_act_2 20 rfl rfl)
theorem dX0_act_68 : decode cX0_act 68 = .ok (.ireturn, 1) := dk_172 (dk_at dksX0_act_2 23 rfl rfl)
abbrev cX0_trace : ByteArray := prog_1_method_58_code
def yX0_trace : MethodName := ⟨RX0, "trace", "(I)I"⟩
def dkwX0_trace_1 : List UInt8 := [180, 0, 63, 180, 1, 112, 27, 46, 167, 0, 4, 2, 172]
abbrev dktX0_trace_1 : List UInt8 := dkwX0_trace_1 ++ []
def dkwX0_trace_0 : List UInt8 := [27, 3, 42, 180, 0, 63, 180, 1, 102, 16, 20, 184, 0, 166, 4, 100, 184, 0, 5, 153, 0, 15, 42]
abbrev dktX0_trace_0 : List UInt8 := dkwX0_trace_0 ++ dktX0_trace_1
theorem dksX0_trace_0 : cX0_trace.data.toList.drop 0 = dktX0_trace_0 := by decide +kernel
theorem dksX0_trace_1 : cX0_trace.data.toList.drop 23 = dktX0_trace_1 := dk_seg dksX0_trace_0 23 rfl rfl
theorem dX0_trace_0 : decode cX0_trace 0 = .ok (.iload_n 1, 1) := dk_27 (dk_at dksX0_trace_0 0 rfl rfl)
theorem dX0_trace_1 : decode cX0_trace 1 = .ok (.iconst 0, 1) := dk_3 (dk_at dksX0_trace_0 1 rfl rfl)
theorem dX0_trace_2 : decode cX0_trace 2 = .ok (.aload_n 0, 1) := dk_42 (dk_at dksX0_trace_0 2 rfl rfl)
theorem dX0_trace_3 : decode cX0_trace 3 = .ok (.getfield 63, 3) := dk_180 0 63 (dk_at dksX0_trace_0 3 rfl rfl)
theorem dX0_trace_6 : decode cX0_trace 6 = .ok (.getfield 358, 3) := dk_180 1 102 (dk_at dksX0_trace_0 6 rfl rfl)
theorem dX0_trace_9 : decode cX0_trace 9 = .ok (.bipush 20, 2) := dk_16 20 (dk_at dksX0_trace_0 9 rfl rfl)
theorem dX0_trace_11 : decode cX0_trace 11 = .ok (.invokestatic 166, 3) := dk_184 0 166 (dk_at dksX0_trace_0 11 rfl rfl)
theorem dX0_trace_14 : decode cX0_trace 14 = .ok (.iconst 1, 1) := dk_4 (dk_at dksX0_trace_0 14 rfl rfl)
theorem dX0_trace_15 : decode cX0_trace 15 = .ok (.isub, 1) := dk_100 (dk_at dksX0_trace_0 15 rfl rfl)
theorem dX0_trace_16 : decode cX0_trace 16 = .ok (.invokestatic 5, 3) := dk_184 0 5 (dk_at dksX0_trace_0 16 rfl rfl)
theorem dX0_trace_19 : decode cX0_trace 19 = .ok (.ifCond .eq 15, 3) := dk_153 0 15 (dk_at dksX0_trace_0 19 rfl rfl)
theorem dX0_trace_22 : decode cX0_trace 22 = .ok (.aload_n 0, 1) := dk_42 (dk_at dksX0_trace_0 22 rfl rfl)
theorem dX0_trace_23 : decode cX0_trace 23 = .ok (.getfield 63, 3) := dk_180 0 63 (dk_at dksX0_trace_1 0 rfl rfl)
theorem dX0_trace_26 : decode cX0_trace 26 = .ok (.getfield 368, 3) := dk_180 1 112 (dk_at dksX0_trace_1 3 rfl rfl)
theorem dX0_trace_29 : decode cX0_trace 29 = .ok (.iload_n 1, 1) := dk_27 (dk_at dksX0_trace_1 6 rfl rfl)
theorem dX0_trace_30 : decode cX0_trace 30 = .ok (.iaload, 1) := dk_46 (dk_at dksX0_trace_1 7 rfl rfl)
theorem dX0_trace_31 : decode cX0_trace 31 = .ok (.goto 4, 3) := dk_167 0 4 (dk_at dksX0_trace_1 8 rfl rfl)
theorem dX0_trace_34 : decode cX0_trace 34 = .ok (.iconst (-1), 1) := dk_2 (dk_at dksX0_trace_1 11 rfl rfl)
theorem dX0_trace_35 : decode cX0_trace 35 = .ok (.ireturn, 1) := dk_172 (dk_at dksX0_trace_1 12 rfl rfl)
abbrev cX0_taken : ByteArray := prog_1_method_60_code
def yX0_taken : MethodName := ⟨RX0, "taken", "(II)I"⟩
def dkwX0_taken_2 : List UInt8 := [172]
abbrev dktX0_taken_2 : List UInt8 := dkwX0_taken_2 ++ []
def dkwX0_taken_1 : List UInt8 := [180, 0, 17, 27, 50, 167, 0, 4, 1, 28, 184, 1, 115, 182, 0, 153, 172, 78, 16, 245, 172, 78, 16, 244]
abbrev dktX0_taken_1 : List UInt8 := dkwX0_taken_1 ++ dktX0_taken_2
def dkwX0_taken_0 : List UInt8 := [28, 3, 16, 6, 184, 0, 5, 154, 0, 6, 16, 254, 172, 42, 27, 182, 0, 193, 153, 0, 12, 42]
abbrev dktX0_taken_0 : List UInt8 := dkwX0_taken_0 ++ dktX0_taken_1
theorem dksX0_taken_0 : cX0_taken.data.toList.drop 0 = dktX0_taken_0 := by decide +kernel
theorem dksX0_taken_1 : cX0_taken.data.toList.drop 22 = dktX0_taken_1 := dk_seg dksX0_taken_0 22 rfl rfl
theorem dksX0_taken_2 : cX0_taken.data.toList.drop 46 = dktX0_taken_2 := dk_seg dksX0_taken_1 24 rfl rfl
theorem dX0_taken_0 : decode cX0_taken 0 = .ok (.iload_n 2, 1) := dk_28 (dk_at dksX0_taken_0 0 rfl rfl)
theorem dX0_taken_1 : decode cX0_taken 1 = .ok (.iconst 0, 1) := dk_3 (dk_at dksX0_taken_0 1 rfl rfl)
theorem dX0_taken_2 : decode cX0_taken 2 = .ok (.bipush 6, 2) := dk_16 6 (dk_at dksX0_taken_0 2 rfl rfl)
theorem dX0_taken_4 : decode cX0_taken 4 = .ok (.invokestatic 5, 3) := dk_184 0 5 (dk_at dksX0_taken_0 4 rfl rfl)
theorem dX0_taken_7 : decode cX0_taken 7 = .ok (.ifCond .ne 6, 3) := dk_154 0 6 (dk_at dksX0_taken_0 7 rfl rfl)
theorem dX0_taken_10 : decode cX0_taken 10 = .ok (.bipush (-2), 2) := dk_16 254 (dk_at dksX0_taken_0 10 rfl rfl)
theorem dX0_taken_12 : decode cX0_taken 12 = .ok (.ireturn, 1) := dk_172 (dk_at dksX0_taken_0 12 rfl rfl)
theorem dX0_taken_13 : decode cX0_taken 13 = .ok (.aload_n 0, 1) := dk_42 (dk_at dksX0_taken_0 13 rfl rfl)
theorem dX0_taken_14 : decode cX0_taken 14 = .ok (.iload_n 1, 1) := dk_27 (dk_at dksX0_taken_0 14 rfl rfl)
theorem dX0_taken_15 : decode cX0_taken 15 = .ok (.invokevirtual 193, 3) := dk_182 0 193 (dk_at dksX0_taken_0 15 rfl rfl)
theorem dX0_taken_18 : decode cX0_taken 18 = .ok (.ifCond .eq 12, 3) := dk_153 0 12 (dk_at dksX0_taken_0 18 rfl rfl)
theorem dX0_taken_21 : decode cX0_taken 21 = .ok (.aload_n 0, 1) := dk_42 (dk_at dksX0_taken_0 21 rfl rfl)
theorem dX0_taken_22 : decode cX0_taken 22 = .ok (.getfield 17, 3) := dk_180 0 17 (dk_at dksX0_taken_1 0 rfl rfl)
theorem dX0_taken_25 : decode cX0_taken 25 = .ok (.iload_n 1, 1) := dk_27 (dk_at dksX0_taken_1 3 rfl rfl)
theorem dX0_taken_26 : decode cX0_taken 26 = .ok (.aaload, 1) := dk_50 (dk_at dksX0_taken_1 4 rfl rfl)
theorem dX0_taken_27 : decode cX0_taken 27 = .ok (.goto 4, 3) := dk_167 0 4 (dk_at dksX0_taken_1 5 rfl rfl)
theorem dX0_taken_30 : decode cX0_taken 30 = .ok (.aconst_null, 1) := dk_1 (dk_at dksX0_taken_1 8 rfl rfl)
theorem dX0_taken_31 : decode cX0_taken 31 = .ok (.iload_n 2, 1) := dk_28 (dk_at dksX0_taken_1 9 rfl rfl)
theorem dX0_taken_32 : decode cX0_taken 32 = .ok (.invokestatic 371, 3) := dk_184 1 115 (dk_at dksX0_taken_1 10 rfl rfl)
theorem dX0_taken_35 : decode cX0_taken 35 = .ok (.invokevirtual 153, 3) := dk_182 0 153 (dk_at dksX0_taken_1 13 rfl rfl)
theorem dX0_taken_38 : decode cX0_taken 38 = .ok (.ireturn, 1) := dk_172 (dk_at dksX0_taken_1 16 rfl rfl)
theorem dX0_taken_39 : decode cX0_taken 39 = .ok (.astore_n 3, 1) := dk_78 (dk_at dksX0_taken_1 17 rfl rfl)
theorem dX0_taken_40 : decode cX0_taken 40 = .ok (.bipush (-11), 2) := dk_16 245 (dk_at dksX0_taken_1 18 rfl rfl)
theorem dX0_taken_42 : decode cX0_taken 42 = .ok (.ireturn, 1) := dk_172 (dk_at dksX0_taken_1 20 rfl rfl)
theorem dX0_taken_43 : decode cX0_taken 43 = .ok (.astore_n 3, 1) := dk_78 (dk_at dksX0_taken_1 21 rfl rfl)
theorem dX0_taken_44 : decode cX0_taken 44 = .ok (.bipush (-12), 2) := dk_16 244 (dk_at dksX0_taken_1 22 rfl rfl)
theorem dX0_taken_46 : decode cX0_taken 46 = .ok (.ireturn, 1) := dk_172 (dk_at dksX0_taken_2 0 rfl rfl)
abbrev cX0_takenFor : ByteArray := prog_1_method_59_code
def yX0_takenFor : MethodName := ⟨RX0, "takenFor", "(LSomebodysLift$Tells;I)LSomebodysLift$Lift;"⟩
def dkwX0_takenFor_3 : List UInt8 := [176, 42, 192, 0, 133, 176, 42, 192, 0, 136, 176]
abbrev dktX0_takenFor_3 : List UInt8 := dkwX0_takenFor_3 ++ []
def dkwX0_takenFor_2 : List UInt8 := [42, 192, 0, 15, 176, 42, 192, 0, 119, 176, 42, 192, 0, 124, 176, 42, 192, 0, 127, 176, 42, 192, 0, 130]
abbrev dktX0_takenFor_2 : List UInt8 := dkwX0_takenFor_2 ++ dktX0_takenFor_3
def dkwX0_takenFor_1 : List UInt8 := [170, 0, 0, 0, 0, 0, 69, 0, 0, 0, 0, 0, 0, 0, 5, 0, 0, 0, 39, 0, 0, 0, 44, 0, 0, 0, 49, 0, 0, 0, 54, 0, 0, 0, 59, 0, 0, 0, 64]
abbrev dktX0_takenFor_1 : List UInt8 := dkwX0_takenFor_1 ++ dktX0_takenFor_2
def dkwX0_takenFor_0 : List UInt8 := [27]
abbrev dktX0_takenFor_0 : List UInt8 := dkwX0_takenFor_0 ++ dktX0_takenFor_1
theorem dksX0_takenFor_0 : cX0_takenFor.data.toList.drop 0 = dktX0_takenFor_0 := by decide +kernel
theorem dksX0_takenFor_1 : cX0_takenFor.data.toList.drop 1 = dktX0_takenFor_1 := dk_seg dksX0_takenFor_0 1 rfl rfl
theorem dksX0_takenFor_2 : cX0_takenFor.data.toList.drop 40 = dktX0_takenFor_2 := dk_seg dksX0_takenFor_1 39 rfl rfl
theorem dksX0_takenFor_3 : cX0_takenFor.data.toList.drop 64 = dktX0_takenFor_3 := dk_seg dksX0_takenFor_2 24 rfl rfl
theorem dX0_takenFor_0 : decode cX0_takenFor 0 = .ok (.iload_n 1, 1) := dk_27 (dk_at dksX0_takenFor_0 0 rfl rfl)
theorem dX0_takenFor_1 : decode cX0_takenFor 1 = .ok (.tableswitch 69 0 5 #[39, 44, 49, 54, 59, 64], 39) := by decide +kernel
theorem dX0_takenFor_40 : decode cX0_takenFor 40 = .ok (.aload_n 0, 1) := dk_42 (dk_at dksX0_takenFor_2 0 rfl rfl)
theorem dX0_takenFor_41 : decode cX0_takenFor 41 = .ok (.checkcast 15, 3) := dk_192 0 15 (dk_at dksX0_takenFor_2 1 rfl rfl)
theorem dX0_takenFor_44 : decode cX0_takenFor 44 = .ok (.areturn, 1) := dk_176 (dk_at dksX0_takenFor_2 4 rfl rfl)
theorem dX0_takenFor_45 : decode cX0_takenFor 45 = .ok (.aload_n 0, 1) := dk_42 (dk_at dksX0_takenFor_2 5 rfl rfl)
theorem dX0_takenFor_46 : decode cX0_takenFor 46 = .ok (.checkcast 119, 3) := dk_192 0 119 (dk_at dksX0_takenFor_2 6 rfl rfl)
theorem dX0_takenFor_49 : decode cX0_takenFor 49 = .ok (.areturn, 1) := dk_176 (dk_at dksX0_takenFor_2 9 rfl rfl)
theorem dX0_takenFor_50 : decode cX0_takenFor 50 = .ok (.aload_n 0, 1) := dk_42 (dk_at dksX0_takenFor_2 10 rfl rfl)
theorem dX0_takenFor_51 : decode cX0_takenFor 51 = .ok (.checkcast 124, 3) := dk_192 0 124 (dk_at dksX0_takenFor_2 11 rfl rfl)
theorem dX0_takenFor_54 : decode cX0_takenFor 54 = .ok (.areturn, 1) := dk_176 (dk_at dksX0_takenFor_2 14 rfl rfl)
theorem dX0_takenFor_55 : decode cX0_takenFor 55 = .ok (.aload_n 0, 1) := dk_42 (dk_at dksX0_takenFor_2 15 rfl rfl)
theorem dX0_takenFor_56 : decode cX0_takenFor 56 = .ok (.checkcast 127, 3) := dk_192 0 127 (dk_at dksX0_takenFor_2 16 rfl rfl)
theorem dX0_takenFor_59 : decode cX0_takenFor 59 = .ok (.areturn, 1) := dk_176 (dk_at dksX0_takenFor_2 19 rfl rfl)
theorem dX0_takenFor_60 : decode cX0_takenFor 60 = .ok (.aload_n 0, 1) := dk_42 (dk_at dksX0_takenFor_2 20 rfl rfl)
theorem dX0_takenFor_61 : decode cX0_takenFor 61 = .ok (.checkcast 130, 3) := dk_192 0 130 (dk_at dksX0_takenFor_2 21 rfl rfl)
theorem dX0_takenFor_64 : decode cX0_takenFor 64 = .ok (.areturn, 1) := dk_176 (dk_at dksX0_takenFor_3 0 rfl rfl)
theorem dX0_takenFor_65 : decode cX0_takenFor 65 = .ok (.aload_n 0, 1) := dk_42 (dk_at dksX0_takenFor_3 1 rfl rfl)
theorem dX0_takenFor_66 : decode cX0_takenFor 66 = .ok (.checkcast 133, 3) := dk_192 0 133 (dk_at dksX0_takenFor_3 2 rfl rfl)
theorem dX0_takenFor_69 : decode cX0_takenFor 69 = .ok (.areturn, 1) := dk_176 (dk_at dksX0_takenFor_3 5 rfl rfl)
theorem dX0_takenFor_70 : decode cX0_takenFor 70 = .ok (.aload_n 0, 1) := dk_42 (dk_at dksX0_takenFor_3 6 rfl rfl)
theorem dX0_takenFor_71 : decode cX0_takenFor 71 = .ok (.checkcast 136, 3) := dk_192 0 136 (dk_at dksX0_takenFor_3 7 rfl rfl)
theorem dX0_takenFor_74 : decode cX0_takenFor 74 = .ok (.areturn, 1) := dk_176 (dk_at dksX0_takenFor_3 10 rfl rfl)
abbrev cX0_count : ByteArray := prog_1_method_61_code
def yX0_count : MethodName := ⟨RX0, "count", "(I)I"⟩
def dkwX0_count_3 : List UInt8 := [172, 42, 180, 0, 199, 172, 42, 180, 0, 63, 180, 1, 102, 172, 16, 254, 172]
abbrev dktX0_count_3 : List UInt8 := dkwX0_count_3 ++ []
def dkwX0_count_2 : List UInt8 := [42, 180, 0, 116, 172, 42, 180, 0, 202, 172, 42, 180, 1, 31, 172, 42, 180, 1, 37, 172, 42, 180, 1, 56]
abbrev dktX0_count_2 : List UInt8 := dkwX0_count_2 ++ dktX0_count_3
def dkwX0_count_1 : List UInt8 := [170, 0, 0, 0, 0, 0, 81, 0, 0, 0, 0, 0, 0, 0, 6, 0, 0, 0, 43, 0, 0, 0, 48, 0, 0, 0, 53, 0, 0, 0, 58, 0, 0, 0, 63, 0, 0, 0, 68, 0, 0, 0, 73]
abbrev dktX0_count_1 : List UInt8 := dkwX0_count_1 ++ dktX0_count_2
def dkwX0_count_0 : List UInt8 := [27]
abbrev dktX0_count_0 : List UInt8 := dkwX0_count_0 ++ dktX0_count_1
theorem dksX0_count_0 : cX0_count.data.toList.drop 0 = dktX0_count_0 := by decide +kernel
theorem dksX0_count_1 : cX0_count.data.toList.drop 1 = dktX0_count_1 := dk_seg dksX0_count_0 1 rfl rfl
theorem dksX0_count_2 : cX0_count.data.toList.drop 44 = dktX0_count_2 := dk_seg dksX0_count_1 43 rfl rfl
theorem dksX0_count_3 : cX0_count.data.toList.drop 68 = dktX0_count_3 := dk_seg dksX0_count_2 24 rfl rfl
theorem dX0_count_0 : decode cX0_count 0 = .ok (.iload_n 1, 1) := dk_27 (dk_at dksX0_count_0 0 rfl rfl)
theorem dX0_count_1 : decode cX0_count 1 = .ok (.tableswitch 81 0 6 #[43, 48, 53, 58, 63, 68, 73], 43) := by decide +kernel
theorem dX0_count_44 : decode cX0_count 44 = .ok (.aload_n 0, 1) := dk_42 (dk_at dksX0_count_2 0 rfl rfl)
theorem dX0_count_45 : decode cX0_count 45 = .ok (.getfield 116, 3) := dk_180 0 116 (dk_at dksX0_count_2 1 rfl rfl)
theorem dX0_count_48 : decode cX0_count 48 = .ok (.ireturn, 1) := dk_172 (dk_at dksX0_count_2 4 rfl rfl)
theorem dX0_count_49 : decode cX0_count 49 = .ok (.aload_n 0, 1) := dk_42 (dk_at dksX0_count_2 5 rfl rfl)
theorem dX0_count_50 : decode cX0_count 50 = .ok (.getfield 202, 3) := dk_180 0 202 (dk_at dksX0_count_2 6 rfl rfl)
theorem dX0_count_53 : decode cX0_count 53 = .ok (.ireturn, 1) := dk_172 (dk_at dksX0_count_2 9 rfl rfl)
theorem dX0_count_54 : decode cX0_count 54 = .ok (.aload_n 0, 1) := dk_42 (dk_at dksX0_count_2 10 rfl rfl)
theorem dX0_count_55 : decode cX0_count 55 = .ok (.getfield 287, 3) := dk_180 1 31 (dk_at dksX0_count_2 11 rfl rfl)
theorem dX0_count_58 : decode cX0_count 58 = .ok (.ireturn, 1) := dk_172 (dk_at dksX0_count_2 14 rfl rfl)
theorem dX0_count_59 : decode cX0_count 59 = .ok (.aload_n 0, 1) := dk_42 (dk_at dksX0_count_2 15 rfl rfl)
theorem dX0_count_60 : decode cX0_count 60 = .ok (.getfield 293, 3) := dk_180 1 37 (dk_at dksX0_count_2 16 rfl rfl)
theorem dX0_count_63 : decode cX0_count 63 = .ok (.ireturn, 1) := dk_172 (dk_at dksX0_count_2 19 rfl rfl)
theorem dX0_count_64 : decode cX0_count 64 = .ok (.aload_n 0, 1) := dk_42 (dk_at dksX0_count_2 20 rfl rfl)
theorem dX0_count_65 : decode cX0_count 65 = .ok (.getfield 312, 3) := dk_180 1 56 (dk_at dksX0_count_2 21 rfl rfl)
theorem dX0_count_68 : decode cX0_count 68 = .ok (.ireturn, 1) := dk_172 (dk_at dksX0_count_3 0 rfl rfl)
theorem dX0_count_69 : decode cX0_count 69 = .ok (.aload_n 0, 1) := dk_42 (dk_at dksX0_count_3 1 rfl rfl)
theorem dX0_count_70 : decode cX0_count 70 = .ok (.getfield 199, 3) := dk_180 0 199 (dk_at dksX0_count_3 2 rfl rfl)
theorem dX0_count_73 : decode cX0_count 73 = .ok (.ireturn, 1) := dk_172 (dk_at dksX0_count_3 5 rfl rfl)
theorem dX0_count_74 : decode cX0_count 74 = .ok (.aload_n 0, 1) := dk_42 (dk_at dksX0_count_3 6 rfl rfl)
theorem dX0_count_75 : decode cX0_count 75 = .ok (.getfield 63, 3) := dk_180 0 63 (dk_at dksX0_count_3 7 rfl rfl)
theorem dX0_count_78 : decode cX0_count 78 = .ok (.getfield 358, 3) := dk_180 1 102 (dk_at dksX0_count_3 10 rfl rfl)
theorem dX0_count_81 : decode cX0_count 81 = .ok (.ireturn, 1) := dk_172 (dk_at dksX0_count_3 13 rfl rfl)
theorem dX0_count_82 : decode cX0_count 82 = .ok (.bipush (-2), 2) := dk_16 254 (dk_at dksX0_count_3 14 rfl rfl)
theorem dX0_count_84 : decode cX0_count 84 = .ok (.ireturn, 1) := dk_172 (dk_at dksX0_count_3 16 rfl rfl)
abbrev cX0_tape : ByteArray := prog_1_method_64_code
def yX0_tape : MethodName := ⟨RX0, "tape", "(III)I"⟩
def dkwX0_tape_2 : List UInt8 := [29, 184, 1, 119, 181, 1, 67, 4, 172, 58, 4, 16, 242, 172]
abbrev dktX0_tape_2 : List UInt8 := dkwX0_tape_2 ++ []
def dkwX0_tape_1 : List UInt8 := [16, 60, 164, 0, 6, 16, 254, 172, 42, 180, 0, 84, 27, 50, 28, 2, 160, 0, 7, 1, 167, 0, 8, 28]
abbrev dktX0_tape_1 : List UInt8 := dkwX0_tape_1 ++ dktX0_tape_2
def dkwX0_tape_0 : List UInt8 := [27, 184, 1, 64, 154, 0, 5, 2, 172, 28, 2, 7, 184, 0, 5, 153, 0, 14, 28, 2, 159, 0, 12, 29]
abbrev dktX0_tape_0 : List UInt8 := dkwX0_tape_0 ++ dktX0_tape_1
theorem dksX0_tape_0 : cX0_tape.data.toList.drop 0 = dktX0_tape_0 := by decide +kernel
theorem dksX0_tape_1 : cX0_tape.data.toList.drop 24 = dktX0_tape_1 := dk_seg dksX0_tape_0 24 rfl rfl
theorem dksX0_tape_2 : cX0_tape.data.toList.drop 48 = dktX0_tape_2 := dk_seg dksX0_tape_1 24 rfl rfl
theorem dX0_tape_0 : decode cX0_tape 0 = .ok (.iload_n 1, 1) := dk_27 (dk_at dksX0_tape_0 0 rfl rfl)
theorem dX0_tape_1 : decode cX0_tape 1 = .ok (.invokestatic 320, 3) := dk_184 1 64 (dk_at dksX0_tape_0 1 rfl rfl)
theorem dX0_tape_4 : decode cX0_tape 4 = .ok (.ifCond .ne 5, 3) := dk_154 0 5 (dk_at dksX0_tape_0 4 rfl rfl)
theorem dX0_tape_7 : decode cX0_tape 7 = .ok (.iconst (-1), 1) := dk_2 (dk_at dksX0_tape_0 7 rfl rfl)
theorem dX0_tape_8 : decode cX0_tape 8 = .ok (.ireturn, 1) := dk_172 (dk_at dksX0_tape_0 8 rfl rfl)
theorem dX0_tape_9 : decode cX0_tape 9 = .ok (.iload_n 2, 1) := dk_28 (dk_at dksX0_tape_0 9 rfl rfl)
theorem dX0_tape_10 : decode cX0_tape 10 = .ok (.iconst (-1), 1) := dk_2 (dk_at dksX0_tape_0 10 rfl rfl)
theorem dX0_tape_11 : decode cX0_tape 11 = .ok (.iconst 4, 1) := dk_7 (dk_at dksX0_tape_0 11 rfl rfl)
theorem dX0_tape_12 : decode cX0_tape 12 = .ok (.invokestatic 5, 3) := dk_184 0 5 (dk_at dksX0_tape_0 12 rfl rfl)
theorem dX0_tape_15 : decode cX0_tape 15 = .ok (.ifCond .eq 14, 3) := dk_153 0 14 (dk_at dksX0_tape_0 15 rfl rfl)
theorem dX0_tape_18 : decode cX0_tape 18 = .ok (.iload_n 2, 1) := dk_28 (dk_at dksX0_tape_0 18 rfl rfl)
theorem dX0_tape_19 : decode cX0_tape 19 = .ok (.iconst (-1), 1) := dk_2 (dk_at dksX0_tape_0 19 rfl rfl)
theorem dX0_tape_20 : decode cX0_tape 20 = .ok (.if_icmp .eq 12, 3) := dk_159 0 12 (dk_at dksX0_tape_0 20 rfl rfl)
theorem dX0_tape_23 : decode cX0_tape 23 = .ok (.iload_n 3, 1) := dk_29 (dk_at dksX0_tape_0 23 rfl rfl)
theorem dX0_tape_24 : decode cX0_tape 24 = .ok (.bipush 60, 2) := dk_16 60 (dk_at dksX0_tape_1 0 rfl rfl)
theorem dX0_tape_26 : decode cX0_tape 26 = .ok (.if_icmp .le 6, 3) := dk_164 0 6 (dk_at dksX0_tape_1 2 rfl rfl)
theorem dX0_tape_29 : decode cX0_tape 29 = .ok (.bipush (-2), 2) := dk_16 254 (dk_at dksX0_tape_1 5 rfl rfl)
theorem dX0_tape_31 : decode cX0_tape 31 = .ok (.ireturn, 1) := dk_172 (dk_at dksX0_tape_1 7 rfl rfl)
theorem dX0_tape_32 : decode cX0_tape 32 = .ok (.aload_n 0, 1) := dk_42 (dk_at dksX0_tape_1 8 rfl rfl)
theorem dX0_tape_33 : decode cX0_tape 33 = .ok (.getfield 84, 3) := dk_180 0 84 (dk_at dksX0_tape_1 9 rfl rfl)
theorem dX0_tape_36 : decode cX0_tape 36 = .ok (.iload_n 1, 1) := dk_27 (dk_at dksX0_tape_1 12 rfl rfl)
theorem dX0_tape_37 : decode cX0_tape 37 = .ok (.aaload, 1) := dk_50 (dk_at dksX0_tape_1 13 rfl rfl)
theorem dX0_tape_38 : decode cX0_tape 38 = .ok (.iload_n 2, 1) := dk_28 (dk_at dksX0_tape_1 14 rfl rfl)
theorem dX0_tape_39 : decode cX0_tape 39 = .ok (.iconst (-1), 1) := dk_2 (dk_at dksX0_tape_1 15 rfl rfl)
theorem dX0_tape_40 : decode cX0_tape 40 = .ok (.if_icmp .ne 7, 3) := dk_160 0 7 (dk_at dksX0_tape_1 16 rfl rfl)
theorem dX0_tape_43 : decode cX0_tape 43 = .ok (.aconst_null, 1) := dk_1 (dk_at dksX0_tape_1 19 rfl rfl)
theorem dX0_tape_44 : decode cX0_tape 44 = .ok (.goto 8, 3) := dk_167 0 8 (dk_at dksX0_tape_1 20 rfl rfl)
theorem dX0_tape_47 : decode cX0_tape 47 = .ok (.iload_n 2, 1) := dk_28 (dk_at dksX0_tape_1 23 rfl rfl)
theorem dX0_tape_48 : decode cX0_tape 48 = .ok (.iload_n 3, 1) := dk_29 (dk_at dksX0_tape_2 0 rfl rfl)
theorem dX0_tape_49 : decode cX0_tape 49 = .ok (.invokestatic 375, 3) := dk_184 1 119 (dk_at dksX0_tape_2 1 rfl rfl)
theorem dX0_tape_52 : decode cX0_tape 52 = .ok (.putfield 323, 3) := dk_181 1 67 (dk_at dksX0_tape_2 4 rfl rfl)
theorem dX0_tape_55 : decode cX0_tape 55 = .ok (.iconst 1, 1) := dk_4 (dk_at dksX0_tape_2 7 rfl rfl)
theorem dX0_tape_56 : decode cX0_tape 56 = .ok (.ireturn, 1) := dk_172 (dk_at dksX0_tape_2 8 rfl rfl)
theorem dX0_tape_57 : decode cX0_tape 57 = .ok (.astore 4, 2) := dk_58 4 (dk_at dksX0_tape_2 9 rfl rfl)
theorem dX0_tape_59 : decode cX0_tape 59 = .ok (.bipush (-14), 2) := dk_16 242 (dk_at dksX0_tape_2 11 rfl rfl)
theorem dX0_tape_61 : decode cX0_tape 61 = .ok (.ireturn, 1) := dk_172 (dk_at dksX0_tape_2 13 rfl rfl)
abbrev cX0_rowOf : ByteArray := prog_1_method_62_code
def yX0_rowOf : MethodName := ⟨RX0, "rowOf", "(II)Ljava/lang/Object;"⟩
def dkwX0_rowOf_2 : List UInt8 := [27, 188, 8, 176, 27, 188, 9, 176, 27, 188, 10, 176, 27, 188, 11, 176, 27, 188, 4, 176]
abbrev dktX0_rowOf_2 : List UInt8 := dkwX0_rowOf_2 ++ []
def dkwX0_rowOf_1 : List UInt8 := [170, 0, 0, 0, 0, 0, 47, 0, 0, 0, 0, 0, 0, 0, 3, 0, 0, 0, 31, 0, 0, 0, 35, 0, 0, 0, 39, 0, 0, 0, 43]
abbrev dktX0_rowOf_1 : List UInt8 := dkwX0_rowOf_1 ++ dktX0_rowOf_2
def dkwX0_rowOf_0 : List UInt8 := [26]
abbrev dktX0_rowOf_0 : List UInt8 := dkwX0_rowOf_0 ++ dktX0_rowOf_1
theorem dksX0_rowOf_0 : cX0_rowOf.data.toList.drop 0 = dktX0_rowOf_0 := by decide +kernel
theorem dksX0_rowOf_1 : cX0_rowOf.data.toList.drop 1 = dktX0_rowOf_1 := dk_seg dksX0_rowOf_0 1 rfl rfl
theorem dksX0_rowOf_2 : cX0_rowOf.data.toList.drop 32 = dktX0_rowOf_2 := dk_seg dksX0_rowOf_1 31 rfl rfl
theorem dX0_rowOf_0 : decode cX0_rowOf 0 = .ok (.iload_n 0, 1) := dk_26 (dk_at dksX0_rowOf_0 0 rfl rfl)
theorem dX0_rowOf_1 : decode cX0_rowOf 1 = .ok (.tableswitch 47 0 3 #[31, 35, 39, 43], 31) := by decide +kernel
theorem dX0_rowOf_32 : decode cX0_rowOf 32 = .ok (.iload_n 1, 1) := dk_27 (dk_at dksX0_rowOf_2 0 rfl rfl)
theorem dX0_rowOf_33 : decode cX0_rowOf 33 = .ok (.newarray .byte, 2) := dk_188_8 (dk_at dksX0_rowOf_2 1 rfl rfl)
theorem dX0_rowOf_35 : decode cX0_rowOf 35 = .ok (.areturn, 1) := dk_176 (dk_at dksX0_rowOf_2 3 rfl rfl)
theorem dX0_rowOf_36 : decode cX0_rowOf 36 = .ok (.iload_n 1, 1) := dk_27 (dk_at dksX0_rowOf_2 4 rfl rfl)
theorem dX0_rowOf_37 : decode cX0_rowOf 37 = .ok (.newarray .short, 2) := dk_188_9 (dk_at dksX0_rowOf_2 5 rfl rfl)
theorem dX0_rowOf_39 : decode cX0_rowOf 39 = .ok (.areturn, 1) := dk_176 (dk_at dksX0_rowOf_2 7 rfl rfl)
theorem dX0_rowOf_40 : decode cX0_rowOf 40 = .ok (.iload_n 1, 1) := dk_27 (dk_at dksX0_rowOf_2 8 rfl rfl)
theorem dX0_rowOf_41 : decode cX0_rowOf 41 = .ok (.newarray .int, 2) := dk_188_10 (dk_at dksX0_rowOf_2 9 rfl rfl)
theorem dX0_rowOf_43 : decode cX0_rowOf 43 = .ok (.areturn, 1) := dk_176 (dk_at dksX0_rowOf_2 11 rfl rfl)
theorem dX0_rowOf_44 : decode cX0_rowOf 44 = .ok (.iload_n 1, 1) := dk_27 (dk_at dksX0_rowOf_2 12 rfl rfl)
theorem dX0_rowOf_45 : decode cX0_rowOf 45 = .ok (.newarray .long, 2) := dk_188_11 (dk_at dksX0_rowOf_2 13 rfl rfl)
theorem dX0_rowOf_47 : decode cX0_rowOf 47 = .ok (.areturn, 1) := dk_176 (dk_at dksX0_rowOf_2 15 rfl rfl)
theorem dX0_rowOf_48 : decode cX0_rowOf 48 = .ok (.iload_n 1, 1) := dk_27 (dk_at dksX0_rowOf_2 16 rfl rfl)
theorem dX0_rowOf_49 : decode cX0_rowOf 49 = .ok (.newarray .boolean, 2) := dk_188_4 (dk_at dksX0_rowOf_2 17 rfl rfl)
theorem dX0_rowOf_51 : decode cX0_rowOf 51 = .ok (.areturn, 1) := dk_176 (dk_at dksX0_rowOf_2 19 rfl rfl)
abbrev cX0_item : ByteArray := prog_1_method_65_code
def yX0_item : MethodName := ⟨RX0, "item", "(IIJ)I"⟩
def dkwX0_item_7 : List UInt8 := [180, 1, 67, 192, 1, 133, 28, 33, 9, 148, 153, 0, 7, 4, 167, 0, 4, 3, 84, 4, 172]
abbrev dktX0_item_7 : List UInt8 := dkwX0_item_7 ++ []
def dkwX0_item_6 : List UInt8 := [193, 1, 131, 153, 0, 18, 25, 10, 192, 1, 131, 58, 9, 25, 9, 28, 33, 80, 167, 0, 24, 25, 5]
abbrev dktX0_item_6 : List UInt8 := dkwX0_item_6 ++ dktX0_item_7
def dkwX0_item_5 : List UInt8 := [192, 1, 130, 58, 8, 25, 8, 28, 33, 136, 79, 167, 0, 54, 25, 5, 180, 1, 67, 58, 10, 25, 10]
abbrev dktX0_item_5 : List UInt8 := dkwX0_item_5 ++ dktX0_item_6
def dkwX0_item_4 : List UInt8 := [136, 147, 86, 167, 0, 85, 25, 5, 180, 1, 67, 58, 10, 25, 10, 193, 1, 130, 153, 0, 19, 25, 10]
abbrev dktX0_item_4 : List UInt8 := dkwX0_item_4 ++ dktX0_item_5
def dkwX0_item_3 : List UInt8 := [180, 1, 67, 58, 10, 25, 10, 193, 1, 128, 153, 0, 20, 25, 10, 192, 1, 128, 58, 7, 25, 7, 28, 33]
abbrev dktX0_item_3 : List UInt8 := dkwX0_item_3 ++ dktX0_item_4
def dkwX0_item_2 : List UInt8 := [153, 0, 20, 25, 10, 192, 1, 71, 58, 6, 25, 6, 28, 33, 136, 145, 84, 167, 0, 117, 25, 5]
abbrev dktX0_item_2 : List UInt8 := dkwX0_item_2 ++ dktX0_item_3
def dkwX0_item_1 : List UInt8 := [167, 0, 11, 58, 6, 25, 6, 180, 0, 215, 172, 25, 5, 180, 1, 67, 58, 10, 25, 10, 193, 1, 71]
abbrev dktX0_item_1 : List UInt8 := dkwX0_item_1 ++ dktX0_item_2
def dkwX0_item_0 : List UInt8 := [27, 184, 1, 64, 154, 0, 5, 2, 172, 42, 180, 0, 84, 27, 50, 58, 5, 25, 5, 28, 182, 1, 125]
abbrev dktX0_item_0 : List UInt8 := dkwX0_item_0 ++ dktX0_item_1
theorem dksX0_item_0 : cX0_item.data.toList.drop 0 = dktX0_item_0 := by decide +kernel
theorem dksX0_item_1 : cX0_item.data.toList.drop 23 = dktX0_item_1 := dk_seg dksX0_item_0 23 rfl rfl
theorem dksX0_item_2 : cX0_item.data.toList.drop 46 = dktX0_item_2 := dk_seg dksX0_item_1 23 rfl rfl
theorem dksX0_item_3 : cX0_item.data.toList.drop 68 = dktX0_item_3 := dk_seg dksX0_item_2 22 rfl rfl
theorem dksX0_item_4 : cX0_item.data.toList.drop 92 = dktX0_item_4 := dk_seg dksX0_item_3 24 rfl rfl
theorem dksX0_item_5 : cX0_item.data.toList.drop 115 = dktX0_item_5 := dk_seg dksX0_item_4 23 rfl rfl
theorem dksX0_item_6 : cX0_item.data.toList.drop 138 = dktX0_item_6 := dk_seg dksX0_item_5 23 rfl rfl
theorem dksX0_item_7 : cX0_item.data.toList.drop 161 = dktX0_item_7 := dk_seg dksX0_item_6 23 rfl rfl
theorem dX0_item_0 : decode cX0_item 0 = .ok (.iload_n 1, 1) := dk_27 (dk_at dksX0_item_0 0 rfl rfl)
theorem dX0_item_1 : decode cX0_item 1 = .ok (.invokestatic 320, 3) := dk_184 1 64 (dk_at dksX0_item_0 1 rfl rfl)
theorem dX0_item_4 : decode cX0_item 4 = .ok (.ifCond .ne 5, 3) := dk_154 0 5 (dk_at dksX0_item_0 4 rfl rfl)
theorem dX0_item_7 : decode cX0_item 7 = .ok (.iconst (-1), 1) := dk_2 (dk_at dksX0_item_0 7 rfl rfl)
theorem dX0_item_8 : decode cX0_item 8 = .ok (.ireturn, 1) := dk_172 (dk_at dksX0_item_0 8 rfl rfl)
theorem dX0_item_9 : decode cX0_item 9 = .ok (.aload_n 0, 1) := dk_42 (dk_at dksX0_item_0 9 rfl rfl)
theorem dX0_item_10 : decode cX0_item 10 = .ok (.getfield 84, 3) := dk_180 0 84 (dk_at dksX0_item_0 10 rfl rfl)
theorem dX0_item_13 : decode cX0_item 13 = .ok (.iload_n 1, 1) := dk_27 (dk_at dksX0_item_0 13 rfl rfl)
theorem dX0_item_14 : decode cX0_item 14 = .ok (.aaload, 1) := dk_50 (dk_at dksX0_item_0 14 rfl rfl)
theorem dX0_item_15 : decode cX0_item 15 = .ok (.astore 5, 2) := dk_58 5 (dk_at dksX0_item_0 15 rfl rfl)
theorem dX0_item_17 : decode cX0_item 17 = .ok (.aload 5, 2) := dk_25 5 (dk_at dksX0_item_0 17 rfl rfl)
theorem dX0_item_19 : decode cX0_item 19 = .ok (.iload_n 2, 1) := dk_28 (dk_at dksX0_item_0 19 rfl rfl)
theorem dX0_item_20 : decode cX0_item 20 = .ok (.invokevirtual 381, 3) := dk_182 1 125 (dk_at dksX0_item_0 20 rfl rfl)
theorem dX0_item_23 : decode cX0_item 23 = .ok (.goto 11, 3) := dk_167 0 11 (dk_at dksX0_item_1 0 rfl rfl)
theorem dX0_item_26 : decode cX0_item 26 = .ok (.astore 6, 2) := dk_58 6 (dk_at dksX0_item_1 3 rfl rfl)
theorem dX0_item_28 : decode cX0_item 28 = .ok (.aload 6, 2) := dk_25 6 (dk_at dksX0_item_1 5 rfl rfl)
theorem dX0_item_30 : decode cX0_item 30 = .ok (.getfield 215, 3) := dk_180 0 215 (dk_at dksX0_item_1 7 rfl rfl)
theorem dX0_item_33 : decode cX0_item 33 = .ok (.ireturn, 1) := dk_172 (dk_at dksX0_item_1 10 rfl rfl)
theorem dX0_item_34 : decode cX0_item 34 = .ok (.aload 5, 2) := dk_25 5 (dk_at dksX0_item_1 11 rfl rfl)
theorem dX0_item_36 : decode cX0_item 36 = .ok (.getfield 323, 3) := dk_180 1 67 (dk_at dksX0_item_1 13 rfl rfl)
theorem dX0_item_39 : decode cX0_item 39 = .ok (.astore 10, 2) := dk_58 10 (dk_at dksX0_item_1 16 rfl rfl)
theorem dX0_item_41 : decode cX0_item 41 = .ok (.aload 10, 2) := dk_25 10 (dk_at dksX0_item_1 18 rfl rfl)
theorem dX0_item_43 : decode cX0_item 43 = .ok (.instanceof 327, 3) := dk_193 1 71 (dk_at dksX0_item_1 20 rfl rfl)
theorem dX0_item_46 : decode cX0_item 46 = .ok (.ifCond .eq 20, 3) := dk_153 0 20 (dk_at dksX0_item_2 0 rfl rfl)
theorem dX0_item_49 : decode cX0_item 49 = .ok (.aload 10, 2) := dk_25 10 (dk_at dksX0_item_2 3 rfl rfl)
theorem dX0_item_51 : decode cX0_item 51 = .ok (.checkcast 327, 3) := dk_192 1 71 (dk_at dksX0_item_2 5 rfl rfl)
theorem dX0_item_54 : decode cX0_item 54 = .ok (.astore 6, 2) := dk_58 6 (dk_at dksX0_item_2 8 rfl rfl)
theorem dX0_item_56 : decode cX0_item 56 = .ok (.aload 6, 2) := dk_25 6 (dk_at dksX0_item_2 10 rfl rfl)
theorem dX0_item_58 : decode cX0_item 58 = .ok (.iload_n 2, 1) := dk_28 (dk_at dksX0_item_2 12 rfl rfl)
theorem dX0_item_59 : decode cX0_item 59 = .ok (.lload_n 3, 1) := dk_33 (dk_at dksX0_item_2 13 rfl rfl)
theorem dX0_item_60 : decode cX0_item 60 = .ok (.l2i, 1) := dk_136 (dk_at dksX0_item_2 14 rfl rfl)
theorem dX0_item_61 : decode cX0_item 61 = .ok (.i2b, 1) := dk_145 (dk_at dksX0_item_2 15 rfl rfl)
theorem dX0_item_62 : decode cX0_item 62 = .ok (.bastore, 1) := dk_84 (dk_at dksX0_item_2 16 rfl rfl)
theorem dX0_item_63 : decode cX0_item 63 = .ok (.goto 117, 3) := dk_167 0 117 (dk_at dksX0_item_2 17 rfl rfl)
theorem dX0_item_66 : decode cX0_item 66 = .ok (.aload 5, 2) := dk_25 5 (dk_at dksX0_item_2 20 rfl rfl)
theorem dX0_item_68 : decode cX0_item 68 = .ok (.getfield 323, 3) := dk_180 1 67 (dk_at dksX0_item_3 0 rfl rfl)
theorem dX0_item_71 : decode cX0_item 71 = .ok (.astore 10, 2) := dk_58 10 (dk_at dksX0_item_3 3 rfl rfl)
theorem dX0_item_73 : decode cX0_item 73 = .ok (.aload 10, 2) := dk_25 10 (dk_at dksX0_item_3 5 rfl rfl)
theorem dX0_item_75 : decode cX0_item 75 = .ok (.instanceof 384, 3) := dk_193 1 128 (dk_at dksX0_item_3 7 rfl rfl)
theorem dX0_item_78 : decode cX0_item 78 = .ok (.ifCond .eq 20, 3) := dk_153 0 20 (dk_at dksX0_item_3 10 rfl rfl)
theorem dX0_item_81 : decode cX0_item 81 = .ok (.aload 10, 2) := dk_25 10 (dk_at dksX0_item_3 13 rfl rfl)
theorem dX0_item_83 : decode cX0_item 83 = .ok (.checkcast 384, 3) := dk_192 1 128 (dk_at dksX0_item_3 15 rfl rfl)
theorem dX0_item_86 : decode cX0_item 86 = .ok (.astore 7, 2) := dk_58 7 (dk_at dksX0_item_3 18 rfl rfl)
theorem dX0_item_88 : decode cX0_item 88 = .ok (.aload 7, 2) := dk_25 7 (dk_at dksX0_item_3 20 rfl rfl)
theorem dX0_item_90 : decode cX0_item 90 = .ok (.iload_n 2, 1) := dk_28 (dk_at dksX0_item_3 22 rfl rfl)
theorem dX0_item_91 : decode cX0_item 91 = .ok (.lload_n 3, 1) := dk_33 (dk_at dksX0_item_3 23 rfl rfl)
theorem dX0_item_92 : decode cX0_item 92 = .ok (.l2i, 1) := dk_136 (dk_at dksX0_item_4 0 rfl rfl)
theorem dX0_item_93 : decode cX0_item 93 = .ok (.i2s, 1) := dk_147 (dk_at dksX0_item_4 1 rfl rfl)
theorem dX0_item_94 : decode cX0_item 94 = .ok (.sastore, 1) := dk_86 (dk_at dksX0_item_4 2 rfl rfl)
theorem dX0_item_95 : decode cX0_item 95 = .ok (.goto 85, 3) := dk_167 0 85 (dk_at dksX0_item_4 3 rfl rfl)
theorem dX0_item_98 : decode cX0_item 98 = .ok (.aload 5, 2) := dk_25 5 (dk_at dksX0_item_4 6 rfl rfl)
theorem dX0_item_100 : decode cX0_item 100 = .ok (.getfield 323, 3) := dk_180 1 67 (dk_at dksX0_item_4 8 rfl rfl)
theorem dX0_item_103 : decode cX0_item 103 = .ok (.astore 10, 2) := dk_58 10 (dk_at dksX0_item_4 11 rfl rfl)
theorem dX0_item_105 : decode cX0_item 105 = .ok (.aload 10, 2) := dk_25 10 (dk_at dksX0_item_4 13 rfl rfl)
theorem dX0_item_107 : decode cX0_item 107 = .ok (.instanceof 386, 3) := dk_193 1 130 (dk_at dksX0_item_4 15 rfl rfl)
theorem dX0_item_110 : decode cX0_item 110 = .ok (.ifCond .eq 19, 3) := dk_153 0 19 (dk_at dksX0_item_4 18 rfl rfl)
theorem dX0_item_113 : decode cX0_item 113 = .ok (.aload 10, 2) := dk_25 10 (dk_at dksX0_item_4 21 rfl rfl)
theorem dX0_item_115 : decode cX0_item 115 = .ok (.checkcast 386, 3) := dk_192 1 130 (dk_at dksX0_item_5 0 rfl rfl)
theorem dX0_item_118 : decode cX0_item 118 = .ok (.astore 8, 2) := dk_58 8 (dk_at dksX0_item_5 3 rfl rfl)
theorem dX0_item_120 : decode cX0_item 120 = .ok (.aload 8, 2) := dk_25 8 (dk_at dksX0_item_5 5 rfl rfl)
theorem dX0_item_122 : decode cX0_item 122 = .ok (.iload_n 2, 1) := dk_28 (dk_at dksX0_item_5 7 rfl rfl)
theorem dX0_item_123 : decode cX0_item 123 = .ok (.lload_n 3, 1) := dk_33 (dk_at dksX0_item_5 8 rfl rfl)
theorem dX0_item_124 : decode cX0_item 124 = .ok (.l2i, 1) := dk_136 (dk_at dksX0_item_5 9 rfl rfl)
theorem dX0_item_125 : decode cX0_item 125 = .ok (.iastore, 1) := dk_79 (dk_at dksX0_item_5 10 rfl rfl)
theorem dX0_item_126 : decode cX0_item 126 = .ok (.goto 54, 3) := dk_167 0 54 (dk_at dksX0_item_5 11 rfl rfl)
theorem dX0_item_129 : decode cX0_item 129 = .ok (.aload 5, 2) := dk_25 5 (dk_at dksX0_item_5 14 rfl rfl)
theorem dX0_item_131 : decode cX0_item 131 = .ok (.getfield 323, 3) := dk_180 1 67 (dk_at dksX0_item_5 16 rfl rfl)
theorem dX0_item_134 : decode cX0_item 134 = .ok (.astore 10, 2) := dk_58 10 (dk_at dksX0_item_5 19 rfl rfl)
theorem dX0_item_136 : decode cX0_item 136 = .ok (.aload 10, 2) := dk_25 10 (dk_at dksX0_item_5 21 rfl rfl)
theorem dX0_item_138 : decode cX0_item 138 = .ok (.instanceof 387, 3) := dk_193 1 131 (dk_at dksX0_item_6 0 rfl rfl)
theorem dX0_item_141 : decode cX0_item 141 = .ok (.ifCond .eq 18, 3) := dk_153 0 18 (dk_at dksX0_item_6 3 rfl rfl)
theorem dX0_item_144 : decode cX0_item 144 = .ok (.aload 10, 2) := dk_25 10 (dk_at dksX0_item_6 6 rfl rfl)
theorem dX0_item_146 : decode cX0_item 146 = .ok (.checkcast 387, 3) := dk_192 1 131 (dk_at dksX0_item_6 8 rfl rfl)
theorem dX0_item_149 : decode cX0_item 149 = .ok (.astore 9, 2) := dk_58 9 (dk_at dksX0_item_6 11 rfl rfl)
theorem dX0_item_151 : decode cX0_item 151 = .ok (.aload 9, 2) := dk_25 9 (dk_at dksX0_item_6 13 rfl rfl)
theorem dX0_item_153 : decode cX0_item 153 = .ok (.iload_n 2, 1) := dk_28 (dk_at dksX0_item_6 15 rfl rfl)
theorem dX0_item_154 : decode cX0_item 154 = .ok (.lload_n 3, 1) := dk_33 (dk_at dksX0_item_6 16 rfl rfl)
theorem dX0_item_155 : decode cX0_item 155 = .ok (.lastore, 1) := dk_80 (dk_at dksX0_item_6 17 rfl rfl)
theorem dX0_item_156 : decode cX0_item 156 = .ok (.goto 24, 3) := dk_167 0 24 (dk_at dksX0_item_6 18 rfl rfl)
theorem dX0_item_159 : decode cX0_item 159 = .ok (.aload 5, 2) := dk_25 5 (dk_at dksX0_item_6 21 rfl rfl)
theorem dX0_item_161 : decode cX0_item 161 = .ok (.getfield 323, 3) := dk_180 1 67 (dk_at dksX0_item_7 0 rfl rfl)
theorem dX0_item_164 : decode cX0_item 164 = .ok (.checkcast 389, 3) := dk_192 1 133 (dk_at dksX0_item_7 3 rfl rfl)
theorem dX0_item_167 : decode cX0_item 167 = .ok (.iload_n 2, 1) := dk_28 (dk_at dksX0_item_7 6 rfl rfl)
theorem dX0_item_168 : decode cX0_item 168 = .ok (.lload_n 3, 1) := dk_33 (dk_at dksX0_item_7 7 rfl rfl)
theorem dX0_item_169 : decode cX0_item 169 = .ok (.lconst 0, 1) := dk_9 (dk_at dksX0_item_7 8 rfl rfl)
theorem dX0_item_170 : decode cX0_item 170 = .ok (.lcmp, 1) := dk_148 (dk_at dksX0_item_7 9 rfl rfl)
theorem dX0_item_171 : decode cX0_item 171 = .ok (.ifCond .eq 7, 3) := dk_153 0 7 (dk_at dksX0_item_7 10 rfl rfl)
theorem dX0_item_174 : decode cX0_item 174 = .ok (.iconst 1, 1) := dk_4 (dk_at dksX0_item_7 13 rfl rfl)
theorem dX0_item_175 : decode cX0_item 175 = .ok (.goto 4, 3) := dk_167 0 4 (dk_at dksX0_item_7 14 rfl rfl)
theorem dX0_item_178 : decode cX0_item 178 = .ok (.iconst 0, 1) := dk_3 (dk_at dksX0_item_7 17 rfl rfl)
theorem dX0_item_179 : decode cX0_item 179 = .ok (.bastore, 1) := dk_84 (dk_at dksX0_item_7 18 rfl rfl)
theorem dX0_item_180 : decode cX0_item 180 = .ok (.iconst 1, 1) := dk_4 (dk_at dksX0_item_7 19 rfl rfl)
theorem dX0_item_181 : decode cX0_item 181 = .ok (.ireturn, 1) := dk_172 (dk_at dksX0_item_7 20 rfl rfl)
abbrev cX0_read : ByteArray := prog_1_method_66_code
def yX0_read : MethodName := ⟨RX0, "read", "(II)J"⟩
def dkwX0_read_7 : List UInt8 := [192, 1, 133, 28, 51, 153, 0, 7, 10, 167, 0, 4, 9, 173]
abbrev dktX0_read_7 : List UInt8 := dkwX0_read_7 ++ []
def dkwX0_read_6 : List UInt8 := [193, 1, 131, 153, 0, 17, 25, 5, 192, 1, 131, 58, 4, 25, 4, 28, 47, 167, 0, 20, 45, 180, 1, 67]
abbrev dktX0_read_6 : List UInt8 := dkwX0_read_6 ++ dktX0_read_7
def dkwX0_read_5 : List UInt8 := [153, 0, 16, 25, 5, 192, 1, 130, 58, 4, 25, 4, 28, 46, 133, 173, 45, 180, 1, 67, 58, 5, 25, 5]
abbrev dktX0_read_5 : List UInt8 := dkwX0_read_5 ++ dktX0_read_6
def dkwX0_read_4 : List UInt8 := [192, 1, 128, 58, 4, 25, 4, 28, 53, 133, 173, 45, 180, 1, 67, 58, 5, 25, 5, 193, 1, 130]
abbrev dktX0_read_4 : List UInt8 := dkwX0_read_4 ++ dktX0_read_5
def dkwX0_read_3 : List UInt8 := [25, 4, 28, 51, 133, 173, 45, 180, 1, 67, 58, 5, 25, 5, 193, 1, 128, 153, 0, 16, 25, 5]
abbrev dktX0_read_3 : List UInt8 := dkwX0_read_3 ++ dktX0_read_4
def dkwX0_read_2 : List UInt8 := [27, 50, 78, 45, 180, 1, 67, 58, 5, 25, 5, 193, 1, 71, 153, 0, 16, 25, 5, 192, 1, 71, 58, 4]
abbrev dktX0_read_2 : List UInt8 := dkwX0_read_2 ++ dktX0_read_3
def dkwX0_read_1 : List UInt8 := [180, 0, 84, 27, 50, 182, 1, 135, 4, 100, 184, 0, 5, 154, 0, 7, 20, 1, 47, 173, 42, 180, 0, 84]
abbrev dktX0_read_1 : List UInt8 := dkwX0_read_1 ++ dktX0_read_2
def dkwX0_read_0 : List UInt8 := [27, 184, 1, 64, 153, 0, 34, 42, 180, 0, 84, 27, 50, 180, 1, 67, 198, 0, 22, 28, 3, 42]
abbrev dktX0_read_0 : List UInt8 := dkwX0_read_0 ++ dktX0_read_1
theorem dksX0_read_0 : cX0_read.data.toList.drop 0 = dktX0_read_0 := by decide +kernel
theorem dksX0_read_1 : cX0_read.data.toList.drop 22 = dktX0_read_1 := dk_seg dksX0_read_0 22 rfl rfl
theorem dksX0_read_2 : cX0_read.data.toList.drop 46 = dktX0_read_2 := dk_seg dksX0_read_1 24 rfl rfl
theorem dksX0_read_3 : cX0_read.data.toList.drop 70 = dktX0_read_3 := dk_seg dksX0_read_2 24 rfl rfl
theorem dksX0_read_4 : cX0_read.data.toList.drop 92 = dktX0_read_4 := dk_seg dksX0_read_3 22 rfl rfl
theorem dksX0_read_5 : cX0_read.data.toList.drop 114 = dktX0_read_5 := dk_seg dksX0_read_4 22 rfl rfl
theorem dksX0_read_6 : cX0_read.data.toList.drop 138 = dktX0_read_6 := dk_seg dksX0_read_5 24 rfl rfl
theorem dksX0_read_7 : cX0_read.data.toList.drop 162 = dktX0_read_7 := dk_seg dksX0_read_6 24 rfl rfl
theorem dX0_read_0 : decode cX0_read 0 = .ok (.iload_n 1, 1) := dk_27 (dk_at dksX0_read_0 0 rfl rfl)
theorem dX0_read_1 : decode cX0_read 1 = .ok (.invokestatic 320, 3) := dk_184 1 64 (dk_at dksX0_read_0 1 rfl rfl)
theorem dX0_read_4 : decode cX0_read 4 = .ok (.ifCond .eq 34, 3) := dk_153 0 34 (dk_at dksX0_read_0 4 rfl rfl)
theorem dX0_read_7 : decode cX0_read 7 = .ok (.aload_n 0, 1) := dk_42 (dk_at dksX0_read_0 7 rfl rfl)
theorem dX0_read_8 : decode cX0_read 8 = .ok (.getfield 84, 3) := dk_180 0 84 (dk_at dksX0_read_0 8 rfl rfl)
theorem dX0_read_11 : decode cX0_read 11 = .ok (.iload_n 1, 1) := dk_27 (dk_at dksX0_read_0 11 rfl rfl)
theorem dX0_read_12 : decode cX0_read 12 = .ok (.aaload, 1) := dk_50 (dk_at dksX0_read_0 12 rfl rfl)
theorem dX0_read_13 : decode cX0_read 13 = .ok (.getfield 323, 3) := dk_180 1 67 (dk_at dksX0_read_0 13 rfl rfl)
theorem dX0_read_16 : decode cX0_read 16 = .ok (.ifnull 22, 3) := dk_198 0 22 (dk_at dksX0_read_0 16 rfl rfl)
theorem dX0_read_19 : decode cX0_read 19 = .ok (.iload_n 2, 1) := dk_28 (dk_at dksX0_read_0 19 rfl rfl)
theorem dX0_read_20 : decode cX0_read 20 = .ok (.iconst 0, 1) := dk_3 (dk_at dksX0_read_0 20 rfl rfl)
theorem dX0_read_21 : decode cX0_read 21 = .ok (.aload_n 0, 1) := dk_42 (dk_at dksX0_read_0 21 rfl rfl)
theorem dX0_read_22 : decode cX0_read 22 = .ok (.getfield 84, 3) := dk_180 0 84 (dk_at dksX0_read_1 0 rfl rfl)
theorem dX0_read_25 : decode cX0_read 25 = .ok (.iload_n 1, 1) := dk_27 (dk_at dksX0_read_1 3 rfl rfl)
theorem dX0_read_26 : decode cX0_read 26 = .ok (.aaload, 1) := dk_50 (dk_at dksX0_read_1 4 rfl rfl)
theorem dX0_read_27 : decode cX0_read 27 = .ok (.invokevirtual 391, 3) := dk_182 1 135 (dk_at dksX0_read_1 5 rfl rfl)
theorem dX0_read_30 : decode cX0_read 30 = .ok (.iconst 1, 1) := dk_4 (dk_at dksX0_read_1 8 rfl rfl)
theorem dX0_read_31 : decode cX0_read 31 = .ok (.isub, 1) := dk_100 (dk_at dksX0_read_1 9 rfl rfl)
theorem dX0_read_32 : decode cX0_read 32 = .ok (.invokestatic 5, 3) := dk_184 0 5 (dk_at dksX0_read_1 10 rfl rfl)
theorem dX0_read_35 : decode cX0_read 35 = .ok (.ifCond .ne 7, 3) := dk_154 0 7 (dk_at dksX0_read_1 13 rfl rfl)
theorem dX0_read_38 : decode cX0_read 38 = .ok (.ldc2_w 303, 3) := dk_20 1 47 (dk_at dksX0_read_1 16 rfl rfl)
theorem dX0_read_41 : decode cX0_read 41 = .ok (.lreturn, 1) := dk_173 (dk_at dksX0_read_1 19 rfl rfl)
theorem dX0_read_42 : decode cX0_read 42 = .ok (.aload_n 0, 1) := dk_42 (dk_at dksX0_read_1 20 rfl rfl)
theorem dX0_read_43 : decode cX0_read 43 = .ok (.getfield 84, 3) := dk_180 0 84 (dk_at dksX0_read_1 21 rfl rfl)
theorem dX0_read_46 : decode cX0_read 46 = .ok (.iload_n 1, 1) := dk_27 (dk_at dksX0_read_2 0 rfl rfl)
theorem dX0_read_47 : decode cX0_read 47 = .ok (.aaload, 1) := dk_50 (dk_at dksX0_read_2 1 rfl rfl)
theorem dX0_read_48 : decode cX0_read 48 = .ok (.astore_n 3, 1) := dk_78 (dk_at dksX0_read_2 2 rfl rfl)
theorem dX0_read_49 : decode cX0_read 49 = .ok (.aload_n 3, 1) := dk_45 (dk_at dksX0_read_2 3 rfl rfl)
theorem dX0_read_50 : decode cX0_read 50 = .ok (.getfield 323, 3) := dk_180 1 67 (dk_at dksX0_read_2 4 rfl rfl)
theorem dX0_read_53 : decode cX0_read 53 = .ok (.astore 5, 2) := dk_58 5 (dk_at dksX0_read_2 7 rfl rfl)
theorem dX0_read_55 : decode cX0_read 55 = .ok (.aload 5, 2) := dk_25 5 (dk_at dksX0_read_2 9 rfl rfl)
theorem dX0_read_57 : decode cX0_read 57 = .ok (.instanceof 327, 3) := dk_193 1 71 (dk_at dksX0_read_2 11 rfl rfl)
theorem dX0_read_60 : decode cX0_read 60 = .ok (.ifCond .eq 16, 3) := dk_153 0 16 (dk_at dksX0_read_2 14 rfl rfl)
theorem dX0_read_63 : decode cX0_read 63 = .ok (.aload 5, 2) := dk_25 5 (dk_at dksX0_read_2 17 rfl rfl)
theorem dX0_read_65 : decode cX0_read 65 = .ok (.checkcast 327, 3) := dk_192 1 71 (dk_at dksX0_read_2 19 rfl rfl)
theorem dX0_read_68 : decode cX0_read 68 = .ok (.astore 4, 2) := dk_58 4 (dk_at dksX0_read_2 22 rfl rfl)
theorem dX0_read_70 : decode cX0_read 70 = .ok (.aload 4, 2) := dk_25 4 (dk_at dksX0_read_3 0 rfl rfl)
theorem dX0_read_72 : decode cX0_read 72 = .ok (.iload_n 2, 1) := dk_28 (dk_at dksX0_read_3 2 rfl rfl)
theorem dX0_read_73 : decode cX0_read 73 = .ok (.baload, 1) := dk_51 (dk_at dksX0_read_3 3 rfl rfl)
theorem dX0_read_74 : decode cX0_read 74 = .ok (.i2l, 1) := dk_133 (dk_at dksX0_read_3 4 rfl rfl)
theorem dX0_read_75 : decode cX0_read 75 = .ok (.lreturn, 1) := dk_173 (dk_at dksX0_read_3 5 rfl rfl)
theorem dX0_read_76 : decode cX0_read 76 = .ok (.aload_n 3, 1) := dk_45 (dk_at dksX0_read_3 6 rfl rfl)
theorem dX0_read_77 : decode cX0_read 77 = .ok (.getfield 323, 3) := dk_180 1 67 (dk_at dksX0_read_3 7 rfl rfl)
theorem dX0_read_80 : decode cX0_read 80 = .ok (.astore 5, 2) := dk_58 5 (dk_at dksX0_read_3 10 rfl rfl)
theorem dX0_read_82 : decode cX0_read 82 = .ok (.aload 5, 2) := dk_25 5 (dk_at dksX0_read_3 12 rfl rfl)
theorem dX0_read_84 : decode cX0_read 84 = .ok (.instanceof 384, 3) := dk_193 1 128 (dk_at dksX0_read_3 14 rfl rfl)
theorem dX0_read_87 : decode cX0_read 87 = .ok (.ifCond .eq 16, 3) := dk_153 0 16 (dk_at dksX0_read_3 17 rfl rfl)
theorem dX0_read_90 : decode cX0_read 90 = .ok (.aload 5, 2) := dk_25 5 (dk_at dksX0_read_3 20 rfl rfl)
theorem dX0_read_92 : decode cX0_read 92 = .ok (.checkcast 384, 3) := dk_192 1 128 (dk_at dksX0_read_4 0 rfl rfl)
theorem dX0_read_95 : decode cX0_read 95 = .ok (.astore 4, 2) := dk_58 4 (dk_at dksX0_read_4 3 rfl rfl)
theorem dX0_read_97 : decode cX0_read 97 = .ok (.aload 4, 2) := dk_25 4 (dk_at dksX0_read_4 5 rfl rfl)
theorem dX0_read_99 : decode cX0_read 99 = .ok (.iload_n 2, 1) := dk_28 (dk_at dksX0_read_4 7 rfl rfl)
theorem dX0_read_100 : decode cX0_read 100 = .ok (.saload, 1) := dk_53 (dk_at dksX0_read_4 8 rfl rfl)
theorem dX0_read_101 : decode cX0_read 101 = .ok (.i2l, 1) := dk_133 (dk_at dksX0_read_4 9 rfl rfl)
theorem dX0_read_102 : decode cX0_read 102 = .ok (.lreturn, 1) := dk_173 (dk_at dksX0_read_4 10 rfl rfl)
theorem dX0_read_103 : decode cX0_read 103 = .ok (.aload_n 3, 1) := dk_45 (dk_at dksX0_read_4 11 rfl rfl)
theorem dX0_read_104 : decode cX0_read 104 = .ok (.getfield 323, 3) := dk_180 1 67 (dk_at dksX0_read_4 12 rfl rfl)
theorem dX0_read_107 : decode cX0_read 107 = .ok (.astore 5, 2) := dk_58 5 (dk_at dksX0_read_4 15 rfl rfl)
theorem dX0_read_109 : decode cX0_read 109 = .ok (.aload 5, 2) := dk_25 5 (dk_at dksX0_read_4 17 rfl rfl)
theorem dX0_read_111 : decode cX0_read 111 = .ok (.instanceof 386, 3) := dk_193 1 130 (dk_at dksX0_read_4 19 rfl rfl)
theorem dX0_read_114 : decode cX0_read 114 = .ok (.ifCond .eq 16, 3) := dk_153 0 16 (dk_at dksX0_read_5 0 rfl rfl)
theorem dX0_read_117 : decode cX0_read 117 = .ok (.aload 5, 2) := dk_25 5 (dk_at dksX0_read_5 3 rfl rfl)
theorem dX0_read_119 : decode cX0_read 119 = .ok (.checkcast 386, 3) := dk_192 1 130 (dk_at dksX0_read_5 5 rfl rfl)
theorem dX0_read_122 : decode cX0_read 122 = .ok (.astore 4, 2) := dk_58 4 (dk_at dksX0_read_5 8 rfl rfl)
theorem dX0_read_124 : decode cX0_read 124 = .ok (.aload 4, 2) := dk_25 4 (dk_at dksX0_read_5 10 rfl rfl)
theorem dX0_read_126 : decode cX0_read 126 = .ok (.iload_n 2, 1) := dk_28 (dk_at dksX0_read_5 12 rfl rfl)
theorem dX0_read_127 : decode cX0_read 127 = .ok (.iaload, 1) := dk_46 (dk_at dksX0_read_5 13 rfl rfl)
theorem dX0_read_128 : decode cX0_read 128 = .ok (.i2l, 1) := dk_133 (dk_at dksX0_read_5 14 rfl rfl)
theorem dX0_read_129 : decode cX0_read 129 = .ok (.lreturn, 1) := dk_173 (dk_at dksX0_read_5 15 rfl rfl)
theorem dX0_read_130 : decode cX0_read 130 = .ok (.aload_n 3, 1) := dk_45 (dk_at dksX0_read_5 16 rfl rfl)
theorem dX0_read_131 : decode cX0_read 131 = .ok (.getfield 323, 3) := dk_180 1 67 (dk_at dksX0_read_5 17 rfl rfl)
theorem dX0_read_134 : decode cX0_read 134 = .ok (.astore 5, 2) := dk_58 5 (dk_at dksX0_read_5 20 rfl rfl)
theorem dX0_read_136 : decode cX0_read 136 = .ok (.aload 5, 2) := dk_25 5 (dk_at dksX0_read_5 22 rfl rfl)
theorem dX0_read_138 : decode cX0_read 138 = .ok (.instanceof 387, 3) := dk_193 1 131 (dk_at dksX0_read_6 0 rfl rfl)
theorem dX0_read_141 : decode cX0_read 141 = .ok (.ifCond .eq 17, 3) := dk_153 0 17 (dk_at dksX0_read_6 3 rfl rfl)
theorem dX0_read_144 : decode cX0_read 144 = .ok (.aload 5, 2) := dk_25 5 (dk_at dksX0_read_6 6 rfl rfl)
theorem dX0_read_146 : decode cX0_read 146 = .ok (.checkcast 387, 3) := dk_192 1 131 (dk_at dksX0_read_6 8 rfl rfl)
theorem dX0_read_149 : decode cX0_read 149 = .ok (.astore 4, 2) := dk_58 4 (dk_at dksX0_read_6 11 rfl rfl)
theorem dX0_read_151 : decode cX0_read 151 = .ok (.aload 4, 2) := dk_25 4 (dk_at dksX0_read_6 13 rfl rfl)
theorem dX0_read_153 : decode cX0_read 153 = .ok (.iload_n 2, 1) := dk_28 (dk_at dksX0_read_6 15 rfl rfl)
theorem dX0_read_154 : decode cX0_read 154 = .ok (.laload, 1) := dk_47 (dk_at dksX0_read_6 16 rfl rfl)
theorem dX0_read_155 : decode cX0_read 155 = .ok (.goto 20, 3) := dk_167 0 20 (dk_at dksX0_read_6 17 rfl rfl)
theorem dX0_read_158 : decode cX0_read 158 = .ok (.aload_n 3, 1) := dk_45 (dk_at dksX0_read_6 20 rfl rfl)
theorem dX0_read_159 : decode cX0_read 159 = .ok (.getfield 323, 3) := dk_180 1 67 (dk_at dksX0_read_6 21 rfl rfl)
theorem dX0_read_162 : decode cX0_read 162 = .ok (.checkcast 389, 3) := dk_192 1 133 (dk_at dksX0_read_7 0 rfl rfl)
theorem dX0_read_165 : decode cX0_read 165 = .ok (.iload_n 2, 1) := dk_28 (dk_at dksX0_read_7 3 rfl rfl)
theorem dX0_read_166 : decode cX0_read 166 = .ok (.baload, 1) := dk_51 (dk_at dksX0_read_7 4 rfl rfl)
theorem dX0_read_167 : decode cX0_read 167 = .ok (.ifCond .eq 7, 3) := dk_153 0 7 (dk_at dksX0_read_7 5 rfl rfl)
theorem dX0_read_170 : decode cX0_read 170 = .ok (.lconst 1, 1) := dk_10 (dk_at dksX0_read_7 8 rfl rfl)
theorem dX0_read_171 : decode cX0_read 171 = .ok (.goto 4, 3) := dk_167 0 4 (dk_at dksX0_read_7 9 rfl rfl)
theorem dX0_read_174 : decode cX0_read 174 = .ok (.lconst 0, 1) := dk_9 (dk_at dksX0_read_7 12 rfl rfl)
theorem dX0_read_175 : decode cX0_read 175 = .ok (.lreturn, 1) := dk_173 (dk_at dksX0_read_7 13 rfl rfl)
abbrev cX0_shift : ByteArray := prog_1_method_67_code
def yX0_shift : MethodName := ⟨RX0, "shift", "(IIIII)I"⟩
def dkwX0_shift_2 : List UInt8 := [58, 6, 16, 245, 172, 58, 6, 16, 244, 172, 58, 6, 16, 243, 172]
abbrev dktX0_shift_2 : List UInt8 := dkwX0_shift_2 ++ []
def dkwX0_shift_1 : List UInt8 := [180, 1, 67, 28, 42, 180, 0, 84, 29, 50, 180, 1, 67, 21, 4, 21, 5, 184, 1, 78, 21, 5, 172]
abbrev dktX0_shift_1 : List UInt8 := dkwX0_shift_1 ++ dktX0_shift_2
def dkwX0_shift_0 : List UInt8 := [27, 184, 1, 64, 153, 0, 10, 29, 184, 1, 64, 154, 0, 5, 2, 172, 42, 180, 0, 84, 27, 50]
abbrev dktX0_shift_0 : List UInt8 := dkwX0_shift_0 ++ dktX0_shift_1
theorem dksX0_shift_0 : cX0_shift.data.toList.drop 0 = dktX0_shift_0 := by decide +kernel
theorem dksX0_shift_1 : cX0_shift.data.toList.drop 22 = dktX0_shift_1 := dk_seg dksX0_shift_0 22 rfl rfl
theorem dksX0_shift_2 : cX0_shift.data.toList.drop 45 = dktX0_shift_2 := dk_seg dksX0_shift_1 23 rfl rfl
theorem dX0_shift_0 : decode cX0_shift 0 = .ok (.iload_n 1, 1) := dk_27 (dk_at dksX0_shift_0 0 rfl rfl)
theorem dX0_shift_1 : decode cX0_shift 1 = .ok (.invokestatic 320, 3) := dk_184 1 64 (dk_at dksX0_shift_0 1 rfl rfl)
theorem dX0_shift_4 : decode cX0_shift 4 = .ok (.ifCond .eq 10, 3) := dk_153 0 10 (dk_at dksX0_shift_0 4 rfl rfl)
theorem dX0_shift_7 : decode cX0_shift 7 = .ok (.iload_n 3, 1) := dk_29 (dk_at dksX0_shift_0 7 rfl rfl)
theorem dX0_shift_8 : decode cX0_shift 8 = .ok (.invokestatic 320, 3) := dk_184 1 64 (dk_at dksX0_shift_0 8 rfl rfl)
theorem dX0_shift_11 : decode cX0_shift 11 = .ok (.ifCond .ne 5, 3) := dk_154 0 5 (dk_at dksX0_shift_0 11 rfl rfl)
theorem dX0_shift_14 : decode cX0_shift 14 = .ok (.iconst (-1), 1) := dk_2 (dk_at dksX0_shift_0 14 rfl rfl)
theorem dX0_shift_15 : decode cX0_shift 15 = .ok (.ireturn, 1) := dk_172 (dk_at dksX0_shift_0 15 rfl rfl)
theorem dX0_shift_16 : decode cX0_shift 16 = .ok (.aload_n 0, 1) := dk_42 (dk_at dksX0_shift_0 16 rfl rfl)
theorem dX0_shift_17 : decode cX0_shift 17 = .ok (.getfield 84, 3) := dk_180 0 84 (dk_at dksX0_shift_0 17 rfl rfl)
theorem dX0_shift_20 : decode cX0_shift 20 = .ok (.iload_n 1, 1) := dk_27 (dk_at dksX0_shift_0 20 rfl rfl)
theorem dX0_shift_21 : decode cX0_shift 21 = .ok (.aaload, 1) := dk_50 (dk_at dksX0_shift_0 21 rfl rfl)
theorem dX0_shift_22 : decode cX0_shift 22 = .ok (.getfield 323, 3) := dk_180 1 67 (dk_at dksX0_shift_1 0 rfl rfl)
theorem dX0_shift_25 : decode cX0_shift 25 = .ok (.iload_n 2, 1) := dk_28 (dk_at dksX0_shift_1 3 rfl rfl)
theorem dX0_shift_26 : decode cX0_shift 26 = .ok (.aload_n 0, 1) := dk_42 (dk_at dksX0_shift_1 4 rfl rfl)
theorem dX0_shift_27 : decode cX0_shift 27 = .ok (.getfield 84, 3) := dk_180 0 84 (dk_at dksX0_shift_1 5 rfl rfl)
theorem dX0_shift_30 : decode cX0_shift 30 = .ok (.iload_n 3, 1) := dk_29 (dk_at dksX0_shift_1 8 rfl rfl)
theorem dX0_shift_31 : decode cX0_shift 31 = .ok (.aaload, 1) := dk_50 (dk_at dksX0_shift_1 9 rfl rfl)
theorem dX0_shift_32 : decode cX0_shift 32 = .ok (.getfield 323, 3) := dk_180 1 67 (dk_at dksX0_shift_1 10 rfl rfl)
theorem dX0_shift_35 : decode cX0_shift 35 = .ok (.iload 4, 2) := dk_21 4 (dk_at dksX0_shift_1 13 rfl rfl)
theorem dX0_shift_37 : decode cX0_shift 37 = .ok (.iload 5, 2) := dk_21 5 (dk_at dksX0_shift_1 15 rfl rfl)
theorem dX0_shift_39 : decode cX0_shift 39 = .ok (.invokestatic 334, 3) := dk_184 1 78 (dk_at dksX0_shift_1 17 rfl rfl)
theorem dX0_shift_42 : decode cX0_shift 42 = .ok (.iload 5, 2) := dk_21 5 (dk_at dksX0_shift_1 20 rfl rfl)
theorem dX0_shift_44 : decode cX0_shift 44 = .ok (.ireturn, 1) := dk_172 (dk_at dksX0_shift_1 22 rfl rfl)
theorem dX0_shift_45 : decode cX0_shift 45 = .ok (.astore 6, 2) := dk_58 6 (dk_at dksX0_shift_2 0 rfl rfl)
theorem dX0_shift_47 : decode cX0_shift 47 = .ok (.bipush (-11), 2) := dk_16 245 (dk_at dksX0_shift_2 2 rfl rfl)
theorem dX0_shift_49 : decode cX0_shift 49 = .ok (.ireturn, 1) := dk_172 (dk_at dksX0_shift_2 4 rfl rfl)
theorem dX0_shift_50 : decode cX0_shift 50 = .ok (.astore 6, 2) := dk_58 6 (dk_at dksX0_shift_2 5 rfl rfl)
theorem dX0_shift_52 : decode cX0_shift 52 = .ok (.bipush (-12), 2) := dk_16 244 (dk_at dksX0_shift_2 7 rfl rfl)
theorem dX0_shift_54 : decode cX0_shift 54 = .ok (.ireturn, 1) := dk_172 (dk_at dksX0_shift_2 9 rfl rfl)
theorem dX0_shift_55 : decode cX0_shift 55 = .ok (.astore 6, 2) := dk_58 6 (dk_at dksX0_shift_2 10 rfl rfl)
theorem dX0_shift_57 : decode cX0_shift 57 = .ok (.bipush (-13), 2) := dk_16 243 (dk_at dksX0_shift_2 12 rfl rfl)
theorem dX0_shift_59 : decode cX0_shift 59 = .ok (.ireturn, 1) := dk_172 (dk_at dksX0_shift_2 14 rfl rfl)
theorem q87 : (Jvm.Cond.initialized "SomebodysLift") ∈ lw_all := lw_g (lw_at lw_m1 1 rfl) rfl
theorem q130 : (Jvm.Cond.instantiable "SomebodysLift" (40 : Nat)) ∈ lw_all := lw_g (lw_at lw_m1 44 rfl) rfl
theorem q132 : (Jvm.Cond.instanceMethod ({ cls := "SomebodysLift", name := "<init>", desc := "()V" } : Jvm.MethodName)) ∈ lw_all := lw_g (lw_at lw_m1 46 rfl) rfl
theorem q133 : (Jvm.Cond.code ({ cls := "SomebodysLift", name := "<init>", desc := "()V" } : Jvm.MethodName) prog_1_method_4_code (2 : Nat) (Option.none : Option Jvm.ClassFile.FieldType)) ∈ lw_all := lw_g (lw_at lw_m1 47 rfl) rfl
theorem q134 : (Jvm.Cond.methodLink "SomebodysLift" (9 : Nat) ({ cls := "java/lang/Object", name := "<init>", desc := "()V" } : Jvm.MethodName)) ∈ lw_all := lw_g (lw_at lw_m1 48 rfl) rfl
theorem q137 : (Jvm.Cond.classLink "SomebodysLift" (15 : Nat) "SomebodysLift$Lift") ∈ lw_all := lw_g (lw_at lw_m1 51 rfl) rfl
theorem q139 : (Jvm.Cond.classLink "SomebodysLift" (28 : Nat) "SomebodysLift$Time") ∈ lw_all := lw_g (lw_at lw_m1 53 rfl) rfl
theorem q141 : (Jvm.Cond.methodLinkNest "SomebodysLift" (30 : Nat) ({ cls := "SomebodysLift$Time", name := "<init>", desc := "()V" } : Jvm.MethodName) "SomebodysLift") ∈ lw_tbl := lw_at lw_m1 55 rfl
theorem q146 : (Jvm.Cond.fieldLinkNest "SomebodysLift" (218 : Nat) "SomebodysLift$Time" "mile" "I" "SomebodysLift") ∈ lw_tbl := lw_at lw_m1 60 rfl
theorem q148 : (Jvm.Cond.fieldLinkNest "SomebodysLift" (159 : Nat) "SomebodysLift$Time" "height" "I" "SomebodysLift") ∈ lw_tbl := lw_at lw_m1 62 rfl
theorem q150 : (Jvm.Cond.fieldLinkNest "SomebodysLift" (163 : Nat) "SomebodysLift$Time" "minute" "I" "SomebodysLift") ∈ lw_tbl := lw_at lw_m1 64 rfl
theorem q152 : (Jvm.Cond.fieldLinkNest "SomebodysLift" (219 : Nat) "SomebodysLift$Time" "in" "I" "SomebodysLift") ∈ lw_tbl := lw_at lw_m1 66 rfl
theorem q163 : (Jvm.Cond.classLink "SomebodysLift" (46 : Nat) "SomebodysLift$Air") ∈ lw_all := lw_g (lw_at lw_m1 77 rfl) rfl
theorem q165 : (Jvm.Cond.methodLinkNest "SomebodysLift" (48 : Nat) ({ cls := "SomebodysLift$Air", name := "<init>", desc := "()V" } : Jvm.MethodName) "SomebodysLift") ∈ lw_tbl := lw_at lw_m1 79 rfl
theorem q212 : (Jvm.Cond.classLink "SomebodysLift" (53 : Nat) "SomebodysLift$Look") ∈ lw_all := lw_g (lw_at lw_m1 126 rfl) rfl
theorem q214 : (Jvm.Cond.methodLinkNest "SomebodysLift" (55 : Nat) ({ cls := "SomebodysLift$Look", name := "<init>", desc := "()V" } : Jvm.MethodName) "SomebodysLift") ∈ lw_tbl := lw_at lw_m1 128 rfl
theorem q219 : (Jvm.Cond.fieldLinkNest "SomebodysLift" (150 : Nat) "SomebodysLift$Look" "lift" "I" "SomebodysLift") ∈ lw_tbl := lw_at lw_m1 133 rfl
theorem q221 : (Jvm.Cond.fieldLinkNest "SomebodysLift" (157 : Nat) "SomebodysLift$Look" "kind" "I" "SomebodysLift") ∈ lw_tbl := lw_at lw_m1 135 rfl
theorem q223 : (Jvm.Cond.fieldLinkNest "SomebodysLift" (162 : Nat) "SomebodysLift$Look" "height" "I" "SomebodysLift") ∈ lw_tbl := lw_at lw_m1 137 rfl
theorem q225 : (Jvm.Cond.fieldLinkNest "SomebodysLift" (172 : Nat) "SomebodysLift$Look" "minute" "I" "SomebodysLift") ∈ lw_tbl := lw_at lw_m1 139 rfl
theorem q227 : (Jvm.Cond.fieldLinkNest "SomebodysLift" (176 : Nat) "SomebodysLift$Look" "v" "I" "SomebodysLift") ∈ lw_tbl := lw_at lw_m1 141 rfl
theorem q229 : (Jvm.Cond.fieldLinkNest "SomebodysLift" (180 : Nat) "SomebodysLift$Look" "mile" "I" "SomebodysLift") ∈ lw_tbl := lw_at lw_m1 143 rfl
theorem q243 : (Jvm.Cond.classLink "SomebodysLift" (60 : Nat) "SomebodysLift$Trace") ∈ lw_all := lw_g (lw_at lw_m1 157 rfl) rfl
theorem q245 : (Jvm.Cond.methodLinkNest "SomebodysLift" (62 : Nat) ({ cls := "SomebodysLift$Trace", name := "<init>", desc := "()V" } : Jvm.MethodName) "SomebodysLift") ∈ lw_tbl := lw_at lw_m1 159 rfl
theorem q250 : (Jvm.Cond.fieldLinkNest "SomebodysLift" (368 : Nat) "SomebodysLift$Trace" "bodies" "[I" "SomebodysLift") ∈ lw_tbl := lw_at lw_m1 164 rfl
theorem q252 : (Jvm.Cond.fieldLinkNest "SomebodysLift" (358 : Nat) "SomebodysLift$Trace" "count" "I" "SomebodysLift") ∈ lw_tbl := lw_at lw_m1 166 rfl
theorem q258 : (Jvm.Cond.classLink "SomebodysLift" (82 : Nat) "SomebodysLift$Tape") ∈ lw_all := lw_g (lw_at lw_m1 172 rfl) rfl
theorem q261 : (Jvm.Cond.methodLinkNest "SomebodysLift" (115 : Nat) ({ cls := "SomebodysLift$Tape", name := "<init>", desc := "()V" } : Jvm.MethodName) "SomebodysLift") ∈ lw_tbl := lw_at lw_m1 175 rfl
theorem q266 : (Jvm.Cond.fieldLinkNest "SomebodysLift" (323 : Nat) "SomebodysLift$Tape" "row" "Ljava/lang/Object;" "SomebodysLift") ∈ lw_tbl := lw_at lw_m1 180 rfl
theorem q270 : (Jvm.Cond.fieldLink "SomebodysLift" (17 : Nat) "SomebodysLift" "lifts" "[LSomebodysLift$Lift;") ∈ lw_all := lw_g (lw_at lw_m1 184 rfl) rfl
theorem q271 : (Jvm.Cond.fieldLink "SomebodysLift" (21 : Nat) "SomebodysLift" "pulls" "[I") ∈ lw_all := lw_g (lw_at lw_m1 185 rfl) rfl
theorem q272 : (Jvm.Cond.fieldLink "SomebodysLift" (25 : Nat) "SomebodysLift" "rows" "[I") ∈ lw_all := lw_g (lw_at lw_m1 186 rfl) rfl
theorem q273 : (Jvm.Cond.fieldLink "SomebodysLift" (116 : Nat) "SomebodysLift" "many" "I") ∈ lw_all := lw_g (lw_at lw_m1 187 rfl) rfl
theorem q274 : (Jvm.Cond.fieldLink "SomebodysLift" (31 : Nat) "SomebodysLift" "now" "LSomebodysLift$Time;") ∈ lw_all := lw_g (lw_at lw_m1 188 rfl) rfl
theorem q275 : (Jvm.Cond.fieldLink "SomebodysLift" (35 : Nat) "SomebodysLift" "tried" "LSomebodysLift$Time;") ∈ lw_all := lw_g (lw_at lw_m1 189 rfl) rfl
theorem q276 : (Jvm.Cond.fieldLink "SomebodysLift" (38 : Nat) "SomebodysLift" "home" "I") ∈ lw_all := lw_g (lw_at lw_m1 190 rfl) rfl
theorem q277 : (Jvm.Cond.fieldLink "SomebodysLift" (42 : Nat) "SomebodysLift" "text" "[B") ∈ lw_all := lw_g (lw_at lw_m1 191 rfl) rfl
theorem q278 : (Jvm.Cond.fieldLink "SomebodysLift" (199 : Nat) "SomebodysLift" "texted" "I") ∈ lw_all := lw_g (lw_at lw_m1 192 rfl) rfl
theorem q279 : (Jvm.Cond.fieldLink "SomebodysLift" (202 : Nat) "SomebodysLift" "airMany" "I") ∈ lw_all := lw_g (lw_at lw_m1 193 rfl) rfl
theorem q280 : (Jvm.Cond.fieldLink "SomebodysLift" (49 : Nat) "SomebodysLift" "air" "LSomebodysLift$Air;") ∈ lw_all := lw_g (lw_at lw_m1 194 rfl) rfl
theorem q281 : (Jvm.Cond.fieldLink "SomebodysLift" (56 : Nat) "SomebodysLift" "look" "LSomebodysLift$Look;") ∈ lw_all := lw_g (lw_at lw_m1 195 rfl) rfl
theorem q282 : (Jvm.Cond.fieldLink "SomebodysLift" (63 : Nat) "SomebodysLift" "trace" "LSomebodysLift$Trace;") ∈ lw_all := lw_g (lw_at lw_m1 196 rfl) rfl
theorem q283 : (Jvm.Cond.fieldLink "SomebodysLift" (67 : Nat) "SomebodysLift" "flightLifts" "[I") ∈ lw_all := lw_g (lw_at lw_m1 197 rfl) rfl
theorem q284 : (Jvm.Cond.fieldLink "SomebodysLift" (70 : Nat) "SomebodysLift" "flightMinutes" "[I") ∈ lw_all := lw_g (lw_at lw_m1 198 rfl) rfl
theorem q285 : (Jvm.Cond.fieldLink "SomebodysLift" (73 : Nat) "SomebodysLift" "seen" "[I") ∈ lw_all := lw_g (lw_at lw_m1 199 rfl) rfl
theorem q286 : (Jvm.Cond.fieldLink "SomebodysLift" (76 : Nat) "SomebodysLift" "bookLifts" "[I") ∈ lw_all := lw_g (lw_at lw_m1 200 rfl) rfl
theorem q287 : (Jvm.Cond.fieldLink "SomebodysLift" (79 : Nat) "SomebodysLift" "bookClimbs" "[I") ∈ lw_all := lw_g (lw_at lw_m1 201 rfl) rfl
theorem q288 : (Jvm.Cond.fieldLink "SomebodysLift" (287 : Nat) "SomebodysLift" "flightMany" "I") ∈ lw_all := lw_g (lw_at lw_m1 202 rfl) rfl
theorem q289 : (Jvm.Cond.fieldLink "SomebodysLift" (293 : Nat) "SomebodysLift" "seenMany" "I") ∈ lw_all := lw_g (lw_at lw_m1 203 rfl) rfl
theorem q290 : (Jvm.Cond.fieldLink "SomebodysLift" (312 : Nat) "SomebodysLift" "bookMany" "I") ∈ lw_all := lw_g (lw_at lw_m1 204 rfl) rfl
theorem q291 : (Jvm.Cond.fieldLink "SomebodysLift" (84 : Nat) "SomebodysLift" "tapes" "[LSomebodysLift$Tape;") ∈ lw_all := lw_g (lw_at lw_m1 205 rfl) rfl
theorem q292 : (Jvm.Cond.fieldLink "SomebodysLift" (263 : Nat) "SomebodysLift" "leftAt" "I") ∈ lw_all := lw_g (lw_at lw_m1 206 rfl) rfl
theorem q293 : (Jvm.Cond.fieldLink "SomebodysLift" (272 : Nat) "SomebodysLift" "bestLift" "I") ∈ lw_all := lw_g (lw_at lw_m1 207 rfl) rfl
theorem q294 : (Jvm.Cond.fieldLink "SomebodysLift" (275 : Nat) "SomebodysLift" "bestPace" "I") ∈ lw_all := lw_g (lw_at lw_m1 208 rfl) rfl
theorem q295 : (Jvm.Cond.fieldLink "SomebodysLift" (88 : Nat) "SomebodysLift" "imageNow" "LSomebodysLift$Time;") ∈ lw_all := lw_g (lw_at lw_m1 209 rfl) rfl
theorem q296 : (Jvm.Cond.fieldLink "SomebodysLift" (91 : Nat) "SomebodysLift" "imageLifts" "[LSomebodysLift$Lift;") ∈ lw_all := lw_g (lw_at lw_m1 210 rfl) rfl
theorem q297 : (Jvm.Cond.fieldLink "SomebodysLift" (94 : Nat) "SomebodysLift" "imagePulls" "[I") ∈ lw_all := lw_g (lw_at lw_m1 211 rfl) rfl
theorem q298 : (Jvm.Cond.fieldLink "SomebodysLift" (97 : Nat) "SomebodysLift" "imageRows" "[I") ∈ lw_all := lw_g (lw_at lw_m1 212 rfl) rfl
theorem q299 : (Jvm.Cond.fieldLink "SomebodysLift" (100 : Nat) "SomebodysLift" "imageFlightLifts" "[I") ∈ lw_all := lw_g (lw_at lw_m1 213 rfl) rfl
theorem q300 : (Jvm.Cond.fieldLink "SomebodysLift" (103 : Nat) "SomebodysLift" "imageFlightMinutes" "[I") ∈ lw_all := lw_g (lw_at lw_m1 214 rfl) rfl
theorem q301 : (Jvm.Cond.fieldLink "SomebodysLift" (106 : Nat) "SomebodysLift" "imageSeen" "[I") ∈ lw_all := lw_g (lw_at lw_m1 215 rfl) rfl
theorem q302 : (Jvm.Cond.fieldLink "SomebodysLift" (109 : Nat) "SomebodysLift" "imageBookLifts" "[I") ∈ lw_all := lw_g (lw_at lw_m1 216 rfl) rfl
theorem q303 : (Jvm.Cond.fieldLink "SomebodysLift" (112 : Nat) "SomebodysLift" "imageBookClimbs" "[I") ∈ lw_all := lw_g (lw_at lw_m1 217 rfl) rfl
theorem q304 : (Jvm.Cond.fieldLink "SomebodysLift" (340 : Nat) "SomebodysLift" "imageMany" "I") ∈ lw_all := lw_g (lw_at lw_m1 218 rfl) rfl
theorem q305 : (Jvm.Cond.fieldLink "SomebodysLift" (343 : Nat) "SomebodysLift" "imageHome" "I") ∈ lw_all := lw_g (lw_at lw_m1 219 rfl) rfl
theorem q306 : (Jvm.Cond.fieldLink "SomebodysLift" (346 : Nat) "SomebodysLift" "imageFlight" "I") ∈ lw_all := lw_g (lw_at lw_m1 220 rfl) rfl
theorem q307 : (Jvm.Cond.fieldLink "SomebodysLift" (349 : Nat) "SomebodysLift" "imageSeenMany" "I") ∈ lw_all := lw_g (lw_at lw_m1 221 rfl) rfl
theorem q308 : (Jvm.Cond.fieldLink "SomebodysLift" (352 : Nat) "SomebodysLift" "imageBooked" "I") ∈ lw_all := lw_g (lw_at lw_m1 222 rfl) rfl
theorem q309 : (Jvm.Cond.fieldLink "SomebodysLift" (355 : Nat) "SomebodysLift" "imageAir" "LSomebodysLift$Air;") ∈ lw_all := lw_g (lw_at lw_m1 223 rfl) rfl
theorem q310 : (Jvm.Cond.laysFinal "SomebodysLift" "SomebodysLift" "lifts" "[LSomebodysLift$Lift;") ∈ lw_all := lw_g (lw_at lw_m1 224 rfl) rfl
theorem q311 : (Jvm.Cond.soleField "SomebodysLift" "lifts") ∈ lw_all := lw_g (lw_at lw_m1 225 rfl) rfl
theorem q312 : (Jvm.Cond.laysFinal "SomebodysLift" "SomebodysLift" "pulls" "[I") ∈ lw_all := lw_g (lw_at lw_m1 226 rfl) rfl
theorem q313 : (Jvm.Cond.soleField "SomebodysLift" "pulls") ∈ lw_all := lw_g (lw_at lw_m1 227 rfl) rfl
theorem q314 : (Jvm.Cond.laysFinal "SomebodysLift" "SomebodysLift" "rows" "[I") ∈ lw_all := lw_g (lw_at lw_m1 228 rfl) rfl
theorem q315 : (Jvm.Cond.soleField "SomebodysLift" "rows") ∈ lw_all := lw_g (lw_at lw_m1 229 rfl) rfl
theorem q316 : (Jvm.Cond.lays "SomebodysLift" "SomebodysLift" "many" "I") ∈ lw_all := lw_g (lw_at lw_m1 230 rfl) rfl
theorem q317 : (Jvm.Cond.soleField "SomebodysLift" "many") ∈ lw_all := lw_g (lw_at lw_m1 231 rfl) rfl
theorem q318 : (Jvm.Cond.laysFinal "SomebodysLift" "SomebodysLift" "now" "LSomebodysLift$Time;") ∈ lw_all := lw_g (lw_at lw_m1 232 rfl) rfl
theorem q319 : (Jvm.Cond.soleField "SomebodysLift" "now") ∈ lw_all := lw_g (lw_at lw_m1 233 rfl) rfl
theorem q320 : (Jvm.Cond.laysFinal "SomebodysLift" "SomebodysLift" "tried" "LSomebodysLift$Time;") ∈ lw_all := lw_g (lw_at lw_m1 234 rfl) rfl
theorem q321 : (Jvm.Cond.soleField "SomebodysLift" "tried") ∈ lw_all := lw_g (lw_at lw_m1 235 rfl) rfl
theorem q322 : (Jvm.Cond.lays "SomebodysLift" "SomebodysLift" "home" "I") ∈ lw_all := lw_g (lw_at lw_m1 236 rfl) rfl
theorem q323 : (Jvm.Cond.soleField "SomebodysLift" "home") ∈ lw_all := lw_g (lw_at lw_m1 237 rfl) rfl
theorem q324 : (Jvm.Cond.laysFinal "SomebodysLift" "SomebodysLift" "text" "[B") ∈ lw_all := lw_g (lw_at lw_m1 238 rfl) rfl
theorem q325 : (Jvm.Cond.soleField "SomebodysLift" "text") ∈ lw_all := lw_g (lw_at lw_m1 239 rfl) rfl
theorem q326 : (Jvm.Cond.lays "SomebodysLift" "SomebodysLift" "texted" "I") ∈ lw_all := lw_g (lw_at lw_m2 0 rfl) rfl
theorem q327 : (Jvm.Cond.soleField "SomebodysLift" "texted") ∈ lw_all := lw_g (lw_at lw_m2 1 rfl) rfl
theorem q328 : (Jvm.Cond.lays "SomebodysLift" "SomebodysLift" "airMany" "I") ∈ lw_all := lw_g (lw_at lw_m2 2 rfl) rfl
theorem q329 : (Jvm.Cond.soleField "SomebodysLift" "airMany") ∈ lw_all := lw_g (lw_at lw_m2 3 rfl) rfl
theorem q330 : (Jvm.Cond.lays "SomebodysLift" "SomebodysLift" "air" "LSomebodysLift$Air;") ∈ lw_all := lw_g (lw_at lw_m2 4 rfl) rfl
theorem q331 : (Jvm.Cond.soleField "SomebodysLift" "air") ∈ lw_all := lw_g (lw_at lw_m2 5 rfl) rfl
theorem q332 : (Jvm.Cond.laysFinal "SomebodysLift" "SomebodysLift" "look" "LSomebodysLift$Look;") ∈ lw_all := lw_g (lw_at lw_m2 6 rfl) rfl
theorem q333 : (Jvm.Cond.soleField "SomebodysLift" "look") ∈ lw_all := lw_g (lw_at lw_m2 7 rfl) rfl
theorem q334 : (Jvm.Cond.laysFinal "SomebodysLift" "SomebodysLift" "trace" "LSomebodysLift$Trace;") ∈ lw_all := lw_g (lw_at lw_m2 8 rfl) rfl
theorem q335 : (Jvm.Cond.soleField "SomebodysLift" "trace") ∈ lw_all := lw_g (lw_at lw_m2 9 rfl) rfl
theorem q336 : (Jvm.Cond.laysFinal "SomebodysLift" "SomebodysLift" "flightLifts" "[I") ∈ lw_all := lw_g (lw_at lw_m2 10 rfl) rfl
theorem q337 : (Jvm.Cond.soleField "SomebodysLift" "flightLifts") ∈ lw_all := lw_g (lw_at lw_m2 11 rfl) rfl
theorem q338 : (Jvm.Cond.laysFinal "SomebodysLift" "SomebodysLift" "flightMinutes" "[I") ∈ lw_all := lw_g (lw_at lw_m2 12 rfl) rfl
theorem q339 : (Jvm.Cond.soleField "SomebodysLift" "flightMinutes") ∈ lw_all := lw_g (lw_at lw_m2 13 rfl) rfl
theorem q340 : (Jvm.Cond.laysFinal "SomebodysLift" "SomebodysLift" "seen" "[I") ∈ lw_all := lw_g (lw_at lw_m2 14 rfl) rfl
theorem q341 : (Jvm.Cond.soleField "SomebodysLift" "seen") ∈ lw_all := lw_g (lw_at lw_m2 15 rfl) rfl
theorem q342 : (Jvm.Cond.laysFinal "SomebodysLift" "SomebodysLift" "bookLifts" "[I") ∈ lw_all := lw_g (lw_at lw_m2 16 rfl) rfl
theorem q343 : (Jvm.Cond.soleField "SomebodysLift" "bookLifts") ∈ lw_all := lw_g (lw_at lw_m2 17 rfl) rfl
theorem q344 : (Jvm.Cond.laysFinal "SomebodysLift" "SomebodysLift" "bookClimbs" "[I") ∈ lw_all := lw_g (lw_at lw_m2 18 rfl) rfl
theorem q345 : (Jvm.Cond.soleField "SomebodysLift" "bookClimbs") ∈ lw_all := lw_g (lw_at lw_m2 19 rfl) rfl
theorem q346 : (Jvm.Cond.lays "SomebodysLift" "SomebodysLift" "flightMany" "I") ∈ lw_all := lw_g (lw_at lw_m2 20 rfl) rfl
theorem q347 : (Jvm.Cond.soleField "SomebodysLift" "flightMany") ∈ lw_all := lw_g (lw_at lw_m2 21 rfl) rfl
theorem q348 : (Jvm.Cond.lays "SomebodysLift" "SomebodysLift" "seenMany" "I") ∈ lw_all := lw_g (lw_at lw_m2 22 rfl) rfl
theorem q349 : (Jvm.Cond.soleField "SomebodysLift" "seenMany") ∈ lw_all := lw_g (lw_at lw_m2 23 rfl) rfl
theorem q350 : (Jvm.Cond.lays "SomebodysLift" "SomebodysLift" "bookMany" "I") ∈ lw_all := lw_g (lw_at lw_m2 24 rfl) rfl
theorem q351 : (Jvm.Cond.soleField "SomebodysLift" "bookMany") ∈ lw_all := lw_g (lw_at lw_m2 25 rfl) rfl
theorem q352 : (Jvm.Cond.laysFinal "SomebodysLift" "SomebodysLift" "tapes" "[LSomebodysLift$Tape;") ∈ lw_all := lw_g (lw_at lw_m2 26 rfl) rfl
theorem q353 : (Jvm.Cond.soleField "SomebodysLift" "tapes") ∈ lw_all := lw_g (lw_at lw_m2 27 rfl) rfl
theorem q354 : (Jvm.Cond.lays "SomebodysLift" "SomebodysLift" "leftAt" "I") ∈ lw_all := lw_g (lw_at lw_m2 28 rfl) rfl
theorem q355 : (Jvm.Cond.soleField "SomebodysLift" "leftAt") ∈ lw_all := lw_g (lw_at lw_m2 29 rfl) rfl
theorem q356 : (Jvm.Cond.lays "SomebodysLift" "SomebodysLift" "bestLift" "I") ∈ lw_all := lw_g (lw_at lw_m2 30 rfl) rfl
theorem q357 : (Jvm.Cond.soleField "SomebodysLift" "bestLift") ∈ lw_all := lw_g (lw_at lw_m2 31 rfl) rfl
theorem q358 : (Jvm.Cond.lays "SomebodysLift" "SomebodysLift" "bestPace" "I") ∈ lw_all := lw_g (lw_at lw_m2 32 rfl) rfl
theorem q359 : (Jvm.Cond.soleField "SomebodysLift" "bestPace") ∈ lw_all := lw_g (lw_at lw_m2 33 rfl) rfl
theorem q360 : (Jvm.Cond.laysFinal "SomebodysLift" "SomebodysLift" "imageNow" "LSomebodysLift$Time;") ∈ lw_all := lw_g (lw_at lw_m2 34 rfl) rfl
theorem q361 : (Jvm.Cond.soleField "SomebodysLift" "imageNow") ∈ lw_all := lw_g (lw_at lw_m2 35 rfl) rfl
theorem q362 : (Jvm.Cond.laysFinal "SomebodysLift" "SomebodysLift" "imageLifts" "[LSomebodysLift$Lift;") ∈ lw_all := lw_g (lw_at lw_m2 36 rfl) rfl
theorem q363 : (Jvm.Cond.soleField "SomebodysLift" "imageLifts") ∈ lw_all := lw_g (lw_at lw_m2 37 rfl) rfl
theorem q364 : (Jvm.Cond.laysFinal "SomebodysLift" "SomebodysLift" "imagePulls" "[I") ∈ lw_all := lw_g (lw_at lw_m2 38 rfl) rfl
theorem q365 : (Jvm.Cond.soleField "SomebodysLift" "imagePulls") ∈ lw_all := lw_g (lw_at lw_m2 39 rfl) rfl
theorem q366 : (Jvm.Cond.laysFinal "SomebodysLift" "SomebodysLift" "imageRows" "[I") ∈ lw_all := lw_g (lw_at lw_m2 40 rfl) rfl
theorem q367 : (Jvm.Cond.soleField "SomebodysLift" "imageRows") ∈ lw_all := lw_g (lw_at lw_m2 41 rfl) rfl
theorem q368 : (Jvm.Cond.laysFinal "SomebodysLift" "SomebodysLift" "imageFlightLifts" "[I") ∈ lw_all := lw_g (lw_at lw_m2 42 rfl) rfl
theorem q369 : (Jvm.Cond.soleField "SomebodysLift" "imageFlightLifts") ∈ lw_all := lw_g (lw_at lw_m2 43 rfl) rfl
theorem q370 : (Jvm.Cond.laysFinal "SomebodysLift" "SomebodysLift" "imageFlightMinutes" "[I") ∈ lw_all := lw_g (lw_at lw_m2 44 rfl) rfl
theorem q371 : (Jvm.Cond.soleField "SomebodysLift" "imageFlightMinutes") ∈ lw_all := lw_g (lw_at lw_m2 45 rfl) rfl
theorem q372 : (Jvm.Cond.laysFinal "SomebodysLift" "SomebodysLift" "imageSeen" "[I") ∈ lw_all := lw_g (lw_at lw_m2 46 rfl) rfl
theorem q373 : (Jvm.Cond.soleField "SomebodysLift" "imageSeen") ∈ lw_all := lw_g (lw_at lw_m2 47 rfl) rfl
theorem q374 : (Jvm.Cond.laysFinal "SomebodysLift" "SomebodysLift" "imageBookLifts" "[I") ∈ lw_all := lw_g (lw_at lw_m2 48 rfl) rfl
theorem q375 : (Jvm.Cond.soleField "SomebodysLift" "imageBookLifts") ∈ lw_all := lw_g (lw_at lw_m2 49 rfl) rfl
theorem q376 : (Jvm.Cond.laysFinal "SomebodysLift" "SomebodysLift" "imageBookClimbs" "[I") ∈ lw_all := lw_g (lw_at lw_m2 50 rfl) rfl
theorem q377 : (Jvm.Cond.soleField "SomebodysLift" "imageBookClimbs") ∈ lw_all := lw_g (lw_at lw_m2 51 rfl) rfl
theorem q378 : (Jvm.Cond.lays "SomebodysLift" "SomebodysLift" "imageMany" "I") ∈ lw_all := lw_g (lw_at lw_m2 52 rfl) rfl
theorem q379 : (Jvm.Cond.soleField "SomebodysLift" "imageMany") ∈ lw_all := lw_g (lw_at lw_m2 53 rfl) rfl
theorem q380 : (Jvm.Cond.lays "SomebodysLift" "SomebodysLift" "imageHome" "I") ∈ lw_all := lw_g (lw_at lw_m2 54 rfl) rfl
theorem q381 : (Jvm.Cond.soleField "SomebodysLift" "imageHome") ∈ lw_all := lw_g (lw_at lw_m2 55 rfl) rfl
theorem q382 : (Jvm.Cond.lays "SomebodysLift" "SomebodysLift" "imageFlight" "I") ∈ lw_all := lw_g (lw_at lw_m2 56 rfl) rfl
theorem q383 : (Jvm.Cond.soleField "SomebodysLift" "imageFlight") ∈ lw_all := lw_g (lw_at lw_m2 57 rfl) rfl
theorem q384 : (Jvm.Cond.lays "SomebodysLift" "SomebodysLift" "imageSeenMany" "I") ∈ lw_all := lw_g (lw_at lw_m2 58 rfl) rfl
theorem q385 : (Jvm.Cond.soleField "SomebodysLift" "imageSeenMany") ∈ lw_all := lw_g (lw_at lw_m2 59 rfl) rfl
theorem q386 : (Jvm.Cond.lays "SomebodysLift" "SomebodysLift" "imageBooked" "I") ∈ lw_all := lw_g (lw_at lw_m2 60 rfl) rfl
theorem q387 : (Jvm.Cond.soleField "SomebodysLift" "imageBooked") ∈ lw_all := lw_g (lw_at lw_m2 61 rfl) rfl
theorem q388 : (Jvm.Cond.lays "SomebodysLift" "SomebodysLift" "imageAir" "LSomebodysLift$Air;") ∈ lw_all := lw_g (lw_at lw_m2 62 rfl) rfl
theorem q389 : (Jvm.Cond.soleField "SomebodysLift" "imageAir") ∈ lw_all := lw_g (lw_at lw_m2 63 rfl) rfl
theorem q390 : (Jvm.Cond.superclass "SomebodysLift" "java/lang/Object") ∈ lw_all := lw_g (lw_at lw_m2 64 rfl) rfl
theorem q392 : (Jvm.Cond.instanceMethod ({ cls := "SomebodysLift", name := "lift", desc := "(IIII)I" } : Jvm.MethodName)) ∈ lw_all := lw_g (lw_at lw_m2 66 rfl) rfl
theorem q393 : (Jvm.Cond.selects "SomebodysLift" ({ cls := "SomebodysLift", name := "lift", desc := "(IIII)I" } : Jvm.MethodName) ({ cls := "SomebodysLift", name := "lift", desc := "(IIII)I" } : Jvm.MethodName)) ∈ lw_all := lw_g (lw_at lw_m2 67 rfl) rfl
theorem q394 : (Jvm.Cond.code ({ cls := "SomebodysLift", name := "lift", desc := "(IIII)I" } : Jvm.MethodName) prog_1_method_7_code (6 : Nat) (Option.some Jvm.ClassFile.FieldType.int)) ∈ lw_all := lw_g (lw_at lw_m2 68 rfl) rfl
theorem q395 : (Jvm.Cond.methodLink "SomebodysLift" (5 : Nat) ({ cls := "SomebodysLift", name := "in", desc := "(III)Z" } : Jvm.MethodName)) ∈ lw_all := lw_g (lw_at lw_m2 69 rfl) rfl
theorem q396 : (Jvm.Cond.static ({ cls := "SomebodysLift", name := "in", desc := "(III)Z" } : Jvm.MethodName)) ∈ lw_all := lw_g (lw_at lw_m2 70 rfl) rfl
theorem q397 : (Jvm.Cond.code ({ cls := "SomebodysLift", name := "in", desc := "(III)Z" } : Jvm.MethodName) prog_1_method_1_code (3 : Nat) (Option.some Jvm.ClassFile.FieldType.boolean)) ∈ lw_all := lw_g (lw_at lw_m2 71 rfl) rfl
theorem q398 : (Jvm.Cond.methodLink "SomebodysLift" (142 : Nat) ({ cls := "SomebodysLift", name := "isMile", desc := "(I)Z" } : Jvm.MethodName)) ∈ lw_all := lw_g (lw_at lw_m2 72 rfl) rfl
theorem q399 : (Jvm.Cond.static ({ cls := "SomebodysLift", name := "isMile", desc := "(I)Z" } : Jvm.MethodName)) ∈ lw_all := lw_g (lw_at lw_m2 73 rfl) rfl
theorem q400 : (Jvm.Cond.code ({ cls := "SomebodysLift", name := "isMile", desc := "(I)Z" } : Jvm.MethodName) prog_1_method_2_code (1 : Nat) (Option.some Jvm.ClassFile.FieldType.boolean)) ∈ lw_all := lw_g (lw_at lw_m2 74 rfl) rfl
theorem q401 : (Jvm.Cond.methodLink "SomebodysLift" (146 : Nat) ({ cls := "SomebodysLift", name := "liftOf", desc := "(III)LSomebodysLift$Lift;" } : Jvm.MethodName)) ∈ lw_all := lw_g (lw_at lw_m2 75 rfl) rfl
theorem q402 : (Jvm.Cond.privateMethod ({ cls := "SomebodysLift", name := "liftOf", desc := "(III)LSomebodysLift$Lift;" } : Jvm.MethodName)) ∈ lw_tbl := lw_at lw_m2 76 rfl
theorem q403 : (Jvm.Cond.instanceMethod ({ cls := "SomebodysLift", name := "liftOf", desc := "(III)LSomebodysLift$Lift;" } : Jvm.MethodName)) ∈ lw_all := lw_g (lw_at lw_m2 77 rfl) rfl
theorem q404 : (Jvm.Cond.code ({ cls := "SomebodysLift", name := "liftOf", desc := "(III)LSomebodysLift$Lift;" } : Jvm.MethodName) prog_1_method_6_code (4 : Nat) (Option.some (Jvm.ClassFile.FieldType.object "SomebodysLift$Lift"))) ∈ lw_all := lw_g (lw_at lw_m2 78 rfl) rfl
theorem q405 : (Jvm.Cond.classLink "SomebodysLift" (119 : Nat) "SomebodysLift$Strong") ∈ lw_all := lw_g (lw_at lw_m2 79 rfl) rfl
theorem q407 : (Jvm.Cond.methodLink "SomebodysLift" (121 : Nat) ({ cls := "SomebodysLift$Strong", name := "<init>", desc := "(LSomebodysLift$Trace;III)V" } : Jvm.MethodName)) ∈ lw_all := lw_g (lw_at lw_m2 81 rfl) rfl
theorem q441 : (Jvm.Cond.fieldLink "SomebodysLift" (173 : Nat) "SomebodysLift$Lift" "v" "I") ∈ lw_all := lw_g (lw_at lw_m2 115 rfl) rfl
theorem q443 : (Jvm.Cond.fieldLink "SomebodysLift" (177 : Nat) "SomebodysLift$Lift" "mile" "I") ∈ lw_all := lw_g (lw_at lw_m2 117 rfl) rfl
theorem q453 : (Jvm.Cond.classLink "SomebodysLift" (124 : Nat) "SomebodysLift$Weak") ∈ lw_all := lw_g (lw_at lw_m2 127 rfl) rfl
theorem q455 : (Jvm.Cond.methodLink "SomebodysLift" (126 : Nat) ({ cls := "SomebodysLift$Weak", name := "<init>", desc := "(LSomebodysLift$Trace;III)V" } : Jvm.MethodName)) ∈ lw_all := lw_g (lw_at lw_m2 129 rfl) rfl
theorem q464 : (Jvm.Cond.classLink "SomebodysLift" (127 : Nat) "SomebodysLift$Late") ∈ lw_all := lw_g (lw_at lw_m2 138 rfl) rfl
theorem q466 : (Jvm.Cond.methodLink "SomebodysLift" (129 : Nat) ({ cls := "SomebodysLift$Late", name := "<init>", desc := "(LSomebodysLift$Trace;III)V" } : Jvm.MethodName)) ∈ lw_all := lw_g (lw_at lw_m2 140 rfl) rfl
theorem q475 : (Jvm.Cond.classLink "SomebodysLift" (130 : Nat) "SomebodysLift$Capped") ∈ lw_all := lw_g (lw_at lw_m2 149 rfl) rfl
theorem q477 : (Jvm.Cond.methodLink "SomebodysLift" (132 : Nat) ({ cls := "SomebodysLift$Capped", name := "<init>", desc := "(LSomebodysLift$Trace;III)V" } : Jvm.MethodName)) ∈ lw_all := lw_g (lw_at lw_m2 151 rfl) rfl
theorem q486 : (Jvm.Cond.classLink "SomebodysLift" (133 : Nat) "SomebodysLift$Wandering") ∈ lw_all := lw_g (lw_at lw_m2 160 rfl) rfl
theorem q488 : (Jvm.Cond.methodLink "SomebodysLift" (135 : Nat) ({ cls := "SomebodysLift$Wandering", name := "<init>", desc := "(LSomebodysLift$Trace;III)V" } : Jvm.MethodName)) ∈ lw_all := lw_g (lw_at lw_m2 162 rfl) rfl
theorem q497 : (Jvm.Cond.classLink "SomebodysLift" (136 : Nat) "SomebodysLift$Told") ∈ lw_all := lw_g (lw_at lw_m2 171 rfl) rfl
theorem q499 : (Jvm.Cond.methodLink "SomebodysLift" (138 : Nat) ({ cls := "SomebodysLift$Told", name := "<init>", desc := "(LSomebodysLift$Trace;III[I)V" } : Jvm.MethodName)) ∈ lw_all := lw_g (lw_at lw_m2 173 rfl) rfl
theorem q512 : (Jvm.Cond.methodLink "SomebodysLift" (141 : Nat) ({ cls := "SomebodysLift$Lift", name := "<init>", desc := "(LSomebodysLift$Trace;III)V" } : Jvm.MethodName)) ∈ lw_all := lw_g (lw_at lw_m2 186 rfl) rfl
theorem q519 : (Jvm.Cond.instanceMethod ({ cls := "SomebodysLift", name := "of", desc := "(II)I" } : Jvm.MethodName)) ∈ lw_all := lw_g (lw_at lw_m2 193 rfl) rfl
theorem q520 : (Jvm.Cond.selects "SomebodysLift" ({ cls := "SomebodysLift", name := "of", desc := "(II)I" } : Jvm.MethodName) ({ cls := "SomebodysLift", name := "of", desc := "(II)I" } : Jvm.MethodName)) ∈ lw_all := lw_g (lw_at lw_m2 194 rfl) rfl
theorem q521 : (Jvm.Cond.code ({ cls := "SomebodysLift", name := "of", desc := "(II)I" } : Jvm.MethodName) prog_1_method_10_code (3 : Nat) (Option.some Jvm.ClassFile.FieldType.int)) ∈ lw_all := lw_g (lw_at lw_m2 195 rfl) rfl
theorem q522 : (Jvm.Cond.methodLink "SomebodysLift" (193 : Nat) ({ cls := "SomebodysLift", name := "isLift", desc := "(I)Z" } : Jvm.MethodName)) ∈ lw_all := lw_g (lw_at lw_m2 196 rfl) rfl
theorem q523 : (Jvm.Cond.privateMethod ({ cls := "SomebodysLift", name := "isLift", desc := "(I)Z" } : Jvm.MethodName)) ∈ lw_tbl := lw_at lw_m2 197 rfl
theorem q524 : (Jvm.Cond.instanceMethod ({ cls := "SomebodysLift", name := "isLift", desc := "(I)Z" } : Jvm.MethodName)) ∈ lw_all := lw_g (lw_at lw_m2 198 rfl) rfl
theorem q525 : (Jvm.Cond.code ({ cls := "SomebodysLift", name := "isLift", desc := "(I)Z" } : Jvm.MethodName) prog_1_method_5_code (2 : Nat) (Option.some Jvm.ClassFile.FieldType.boolean)) ∈ lw_all := lw_g (lw_at lw_m2 199 rfl) rfl
theorem q526 : (Jvm.Cond.methodLink "SomebodysLift" (153 : Nat) ({ cls := "SomebodysLift$Lift", name := "kind", desc := "()I" } : Jvm.MethodName)) ∈ lw_all := lw_g (lw_at lw_m2 200 rfl) rfl
theorem q549 : (Jvm.Cond.methodLink "SomebodysLift" (185 : Nat) ({ cls := "SomebodysLift", name := "gainOf", desc := "(LSomebodysLift$Time;I)I" } : Jvm.MethodName)) ∈ lw_all := lw_g (lw_at lw_m2 223 rfl) rfl
theorem q550 : (Jvm.Cond.privateMethod ({ cls := "SomebodysLift", name := "gainOf", desc := "(LSomebodysLift$Time;I)I" } : Jvm.MethodName)) ∈ lw_tbl := lw_at lw_m2 224 rfl
theorem q551 : (Jvm.Cond.instanceMethod ({ cls := "SomebodysLift", name := "gainOf", desc := "(LSomebodysLift$Time;I)I" } : Jvm.MethodName)) ∈ lw_all := lw_g (lw_at lw_m2 225 rfl) rfl
theorem q552 : (Jvm.Cond.code ({ cls := "SomebodysLift", name := "gainOf", desc := "(LSomebodysLift$Time;I)I" } : Jvm.MethodName) prog_1_method_8_code (3 : Nat) (Option.some Jvm.ClassFile.FieldType.int)) ∈ lw_all := lw_g (lw_at lw_m2 226 rfl) rfl
theorem q553 : (Jvm.Cond.methodLink "SomebodysLift" (166 : Nat) ({ cls := "java/lang/Math", name := "min", desc := "(II)I" } : Jvm.MethodName)) ∈ lw_all := lw_g (lw_at lw_m2 227 rfl) rfl
theorem q556 : (Jvm.Cond.methodLink "SomebodysLift" (181 : Nat) ({ cls := "SomebodysLift$Air", name := "more", desc := "(LSomebodysLift$Look;)I" } : Jvm.MethodName)) ∈ lw_all := lw_g (lw_at lw_m2 230 rfl) rfl
theorem q600 : (Jvm.Cond.methodLink "SomebodysLift" (196 : Nat) ({ cls := "SomebodysLift", name := "climbOf", desc := "(LSomebodysLift$Time;I)I" } : Jvm.MethodName)) ∈ lw_all := lw_g (lw_at lw_m3 34 rfl) rfl
theorem q601 : (Jvm.Cond.privateMethod ({ cls := "SomebodysLift", name := "climbOf", desc := "(LSomebodysLift$Time;I)I" } : Jvm.MethodName)) ∈ lw_tbl := lw_at lw_m3 35 rfl
theorem q602 : (Jvm.Cond.instanceMethod ({ cls := "SomebodysLift", name := "climbOf", desc := "(LSomebodysLift$Time;I)I" } : Jvm.MethodName)) ∈ lw_all := lw_g (lw_at lw_m3 36 rfl) rfl
theorem q603 : (Jvm.Cond.code ({ cls := "SomebodysLift", name := "climbOf", desc := "(LSomebodysLift$Time;I)I" } : Jvm.MethodName) prog_1_method_9_code (3 : Nat) (Option.some Jvm.ClassFile.FieldType.int)) ∈ lw_all := lw_g (lw_at lw_m3 37 rfl) rfl
theorem q604 : (Jvm.Cond.methodLink "SomebodysLift" (189 : Nat) ({ cls := "SomebodysLift$Lift", name := "climb", desc := "(III)I" } : Jvm.MethodName)) ∈ lw_all := lw_g (lw_at lw_m3 38 rfl) rfl
theorem q634 : (Jvm.Cond.instanceMethod ({ cls := "SomebodysLift", name := "pull", desc := "(II)I" } : Jvm.MethodName)) ∈ lw_all := lw_g (lw_at lw_m3 68 rfl) rfl
theorem q635 : (Jvm.Cond.selects "SomebodysLift" ({ cls := "SomebodysLift", name := "pull", desc := "(II)I" } : Jvm.MethodName) ({ cls := "SomebodysLift", name := "pull", desc := "(II)I" } : Jvm.MethodName)) ∈ lw_all := lw_g (lw_at lw_m3 69 rfl) rfl
theorem q636 : (Jvm.Cond.code ({ cls := "SomebodysLift", name := "pull", desc := "(II)I" } : Jvm.MethodName) prog_1_method_11_code (4 : Nat) (Option.some Jvm.ClassFile.FieldType.int)) ∈ lw_all := lw_g (lw_at lw_m3 70 rfl) rfl
theorem q638 : (Jvm.Cond.instanceMethod ({ cls := "SomebodysLift", name := "row", desc := "(III)I" } : Jvm.MethodName)) ∈ lw_all := lw_g (lw_at lw_m3 72 rfl) rfl
theorem q639 : (Jvm.Cond.selects "SomebodysLift" ({ cls := "SomebodysLift", name := "row", desc := "(III)I" } : Jvm.MethodName) ({ cls := "SomebodysLift", name := "row", desc := "(III)I" } : Jvm.MethodName)) ∈ lw_all := lw_g (lw_at lw_m3 73 rfl) rfl
theorem q640 : (Jvm.Cond.code ({ cls := "SomebodysLift", name := "row", desc := "(III)I" } : Jvm.MethodName) prog_1_method_12_code (5 : Nat) (Option.some Jvm.ClassFile.FieldType.int)) ∈ lw_all := lw_g (lw_at lw_m3 74 rfl) rfl
theorem q642 : (Jvm.Cond.instanceMethod ({ cls := "SomebodysLift", name := "feed", desc := "(I)I" } : Jvm.MethodName)) ∈ lw_all := lw_g (lw_at lw_m3 76 rfl) rfl
theorem q643 : (Jvm.Cond.selects "SomebodysLift" ({ cls := "SomebodysLift", name := "feed", desc := "(I)I" } : Jvm.MethodName) ({ cls := "SomebodysLift", name := "feed", desc := "(I)I" } : Jvm.MethodName)) ∈ lw_all := lw_g (lw_at lw_m3 77 rfl) rfl
theorem q644 : (Jvm.Cond.code ({ cls := "SomebodysLift", name := "feed", desc := "(I)I" } : Jvm.MethodName) prog_1_method_13_code (2 : Nat) (Option.some Jvm.ClassFile.FieldType.int)) ∈ lw_all := lw_g (lw_at lw_m3 78 rfl) rfl
theorem q646 : (Jvm.Cond.instanceMethod ({ cls := "SomebodysLift", name := "air", desc := "()I" } : Jvm.MethodName)) ∈ lw_all := lw_g (lw_at lw_m3 80 rfl) rfl
theorem q647 : (Jvm.Cond.selects "SomebodysLift" ({ cls := "SomebodysLift", name := "air", desc := "()I" } : Jvm.MethodName) ({ cls := "SomebodysLift", name := "air", desc := "()I" } : Jvm.MethodName)) ∈ lw_all := lw_g (lw_at lw_m3 81 rfl) rfl
theorem q648 : (Jvm.Cond.codeWith ({ cls := "SomebodysLift", name := "air", desc := "()I" } : Jvm.MethodName) prog_1_method_14_code (3 : Nat) (Option.some Jvm.ClassFile.FieldType.int) [((22 : Nat), (52 : Nat), (53 : Nat), (213 : Nat))]) ∈ lw_all := lw_g (lw_at lw_m3 82 rfl) rfl
theorem q649 : (Jvm.Cond.classLink "SomebodysLift" (213 : Nat) "SomebodysLift$Off") ∈ lw_all := lw_g (lw_at lw_m3 83 rfl) rfl
theorem q650 : (Jvm.Cond.classLink "SomebodysLift" (205 : Nat) "SomebodysLift$Reader") ∈ lw_all := lw_g (lw_at lw_m3 84 rfl) rfl
theorem q652 : (Jvm.Cond.methodLink "SomebodysLift" (207 : Nat) ({ cls := "SomebodysLift$Reader", name := "<init>", desc := "([BI)V" } : Jvm.MethodName)) ∈ lw_all := lw_g (lw_at lw_m3 86 rfl) rfl
theorem q674 : (Jvm.Cond.methodLink "SomebodysLift" (210 : Nat) ({ cls := "SomebodysLift$Reader", name := "air", desc := "()LSomebodysLift$Air;" } : Jvm.MethodName)) ∈ lw_all := lw_g (lw_at lw_m3 108 rfl) rfl
theorem q817 : (Jvm.Cond.fieldLinkNest "SomebodysLift" (215 : Nat) "SomebodysLift$Off" "place" "I" "SomebodysLift") ∈ lw_tbl := lw_at lw_m4 11 rfl
theorem q933 : (Jvm.Cond.selects "SomebodysLift" ({ cls := "java/lang/Object", name := "getClass", desc := "()Ljava/lang/Class;" } : Jvm.MethodName) ({ cls := "java/lang/Object", name := "getClass", desc := "()Ljava/lang/Class;" } : Jvm.MethodName)) ∈ lw_all := lw_g (lw_at lw_m4 127 rfl) rfl
theorem q993 : (Jvm.Cond.instanceMethod ({ cls := "SomebodysLift", name := "home", desc := "(I)I" } : Jvm.MethodName)) ∈ lw_all := lw_g (lw_at lw_m4 187 rfl) rfl
theorem q994 : (Jvm.Cond.selects "SomebodysLift" ({ cls := "SomebodysLift", name := "home", desc := "(I)I" } : Jvm.MethodName) ({ cls := "SomebodysLift", name := "home", desc := "(I)I" } : Jvm.MethodName)) ∈ lw_all := lw_g (lw_at lw_m4 188 rfl) rfl
theorem q995 : (Jvm.Cond.code ({ cls := "SomebodysLift", name := "home", desc := "(I)I" } : Jvm.MethodName) prog_1_method_15_code (3 : Nat) (Option.some Jvm.ClassFile.FieldType.int)) ∈ lw_all := lw_g (lw_at lw_m4 189 rfl) rfl
theorem q997 : (Jvm.Cond.instanceMethod ({ cls := "SomebodysLift", name := "height", desc := "(I)I" } : Jvm.MethodName)) ∈ lw_all := lw_g (lw_at lw_m4 191 rfl) rfl
theorem q998 : (Jvm.Cond.selects "SomebodysLift" ({ cls := "SomebodysLift", name := "height", desc := "(I)I" } : Jvm.MethodName) ({ cls := "SomebodysLift", name := "height", desc := "(I)I" } : Jvm.MethodName)) ∈ lw_all := lw_g (lw_at lw_m4 192 rfl) rfl
theorem q999 : (Jvm.Cond.code ({ cls := "SomebodysLift", name := "height", desc := "(I)I" } : Jvm.MethodName) prog_1_method_16_code (3 : Nat) (Option.some Jvm.ClassFile.FieldType.int)) ∈ lw_all := lw_g (lw_at lw_m4 193 rfl) rfl
theorem q1001 : (Jvm.Cond.instanceMethod ({ cls := "SomebodysLift", name := "told", desc := "(I)I" } : Jvm.MethodName)) ∈ lw_all := lw_g (lw_at lw_m4 195 rfl) rfl
theorem q1002 : (Jvm.Cond.selects "SomebodysLift" ({ cls := "SomebodysLift", name := "told", desc := "(I)I" } : Jvm.MethodName) ({ cls := "SomebodysLift", name := "told", desc := "(I)I" } : Jvm.MethodName)) ∈ lw_all := lw_g (lw_at lw_m4 196 rfl) rfl
theorem q1003 : (Jvm.Cond.code ({ cls := "SomebodysLift", name := "told", desc := "(I)I" } : Jvm.MethodName) prog_1_method_17_code (2 : Nat) (Option.some Jvm.ClassFile.FieldType.int)) ∈ lw_all := lw_g (lw_at lw_m4 197 rfl) rfl
theorem q1004 : (Jvm.Cond.methodLink "SomebodysLift" (221 : Nat) ({ cls := "SomebodysLift$Air", name := "top", desc := "()I" } : Jvm.MethodName)) ∈ lw_all := lw_g (lw_at lw_m4 198 rfl) rfl
theorem q1009 : (Jvm.Cond.methodLink "SomebodysLift" (224 : Nat) ({ cls := "SomebodysLift$Air", name := "safely", desc := "()I" } : Jvm.MethodName)) ∈ lw_all := lw_g (lw_at lw_m4 203 rfl) rfl
theorem q1014 : (Jvm.Cond.instanceMethod ({ cls := "SomebodysLift", name := "enter", desc := "(I)I" } : Jvm.MethodName)) ∈ lw_all := lw_g (lw_at lw_m4 208 rfl) rfl
theorem q1015 : (Jvm.Cond.selects "SomebodysLift" ({ cls := "SomebodysLift", name := "enter", desc := "(I)I" } : Jvm.MethodName) ({ cls := "SomebodysLift", name := "enter", desc := "(I)I" } : Jvm.MethodName)) ∈ lw_all := lw_g (lw_at lw_m4 209 rfl) rfl
theorem q1016 : (Jvm.Cond.code ({ cls := "SomebodysLift", name := "enter", desc := "(I)I" } : Jvm.MethodName) prog_1_method_18_code (2 : Nat) (Option.some Jvm.ClassFile.FieldType.int)) ∈ lw_all := lw_g (lw_at lw_m4 210 rfl) rfl
theorem q1018 : (Jvm.Cond.instanceMethod ({ cls := "SomebodysLift", name := "turn", desc := "(I)I" } : Jvm.MethodName)) ∈ lw_all := lw_g (lw_at lw_m4 212 rfl) rfl
theorem q1019 : (Jvm.Cond.selects "SomebodysLift" ({ cls := "SomebodysLift", name := "turn", desc := "(I)I" } : Jvm.MethodName) ({ cls := "SomebodysLift", name := "turn", desc := "(I)I" } : Jvm.MethodName)) ∈ lw_all := lw_g (lw_at lw_m4 213 rfl) rfl
theorem q1020 : (Jvm.Cond.code ({ cls := "SomebodysLift", name := "turn", desc := "(I)I" } : Jvm.MethodName) prog_1_method_20_code (2 : Nat) (Option.some Jvm.ClassFile.FieldType.int)) ∈ lw_all := lw_g (lw_at lw_m4 214 rfl) rfl
theorem q1021 : (Jvm.Cond.methodLink "SomebodysLift" (231 : Nat) ({ cls := "SomebodysLift", name := "turns", desc := "(LSomebodysLift$Time;II)V" } : Jvm.MethodName)) ∈ lw_all := lw_g (lw_at lw_m4 215 rfl) rfl
theorem q1022 : (Jvm.Cond.privateMethod ({ cls := "SomebodysLift", name := "turns", desc := "(LSomebodysLift$Time;II)V" } : Jvm.MethodName)) ∈ lw_tbl := lw_at lw_m4 216 rfl
theorem q1023 : (Jvm.Cond.instanceMethod ({ cls := "SomebodysLift", name := "turns", desc := "(LSomebodysLift$Time;II)V" } : Jvm.MethodName)) ∈ lw_all := lw_g (lw_at lw_m4 217 rfl) rfl
theorem q1024 : (Jvm.Cond.code ({ cls := "SomebodysLift", name := "turns", desc := "(LSomebodysLift$Time;II)V" } : Jvm.MethodName) prog_1_method_19_code (5 : Nat) (Option.none : Option Jvm.ClassFile.FieldType)) ∈ lw_all := lw_g (lw_at lw_m4 218 rfl) rfl
theorem q1025 : (Jvm.Cond.methodLink "SomebodysLift" (227 : Nat) ({ cls := "SomebodysLift$Time", name := "climbs", desc := "(II)V" } : Jvm.MethodName)) ∈ lw_all := lw_g (lw_at lw_m4 219 rfl) rfl
theorem q1032 : (Jvm.Cond.instanceMethod ({ cls := "SomebodysLift", name := "glide", desc := "(II)I" } : Jvm.MethodName)) ∈ lw_all := lw_g (lw_at lw_m4 226 rfl) rfl
theorem q1033 : (Jvm.Cond.selects "SomebodysLift" ({ cls := "SomebodysLift", name := "glide", desc := "(II)I" } : Jvm.MethodName) ({ cls := "SomebodysLift", name := "glide", desc := "(II)I" } : Jvm.MethodName)) ∈ lw_all := lw_g (lw_at lw_m4 227 rfl) rfl
theorem q1034 : (Jvm.Cond.code ({ cls := "SomebodysLift", name := "glide", desc := "(II)I" } : Jvm.MethodName) prog_1_method_22_code (3 : Nat) (Option.some Jvm.ClassFile.FieldType.int)) ∈ lw_all := lw_g (lw_at lw_m4 228 rfl) rfl
theorem q1035 : (Jvm.Cond.methodLink "SomebodysLift" (238 : Nat) ({ cls := "SomebodysLift", name := "isGlide", desc := "(II)Z" } : Jvm.MethodName)) ∈ lw_all := lw_g (lw_at lw_m4 229 rfl) rfl
theorem q1036 : (Jvm.Cond.static ({ cls := "SomebodysLift", name := "isGlide", desc := "(II)Z" } : Jvm.MethodName)) ∈ lw_all := lw_g (lw_at lw_m4 230 rfl) rfl
theorem q1037 : (Jvm.Cond.code ({ cls := "SomebodysLift", name := "isGlide", desc := "(II)Z" } : Jvm.MethodName) prog_1_method_21_code (2 : Nat) (Option.some Jvm.ClassFile.FieldType.boolean)) ∈ lw_all := lw_g (lw_at lw_m4 231 rfl) rfl
theorem q1038 : (Jvm.Cond.methodLink "SomebodysLift" (235 : Nat) ({ cls := "SomebodysLift", name := "isPace", desc := "(I)Z" } : Jvm.MethodName)) ∈ lw_all := lw_g (lw_at lw_m4 232 rfl) rfl
theorem q1039 : (Jvm.Cond.static ({ cls := "SomebodysLift", name := "isPace", desc := "(I)Z" } : Jvm.MethodName)) ∈ lw_all := lw_g (lw_at lw_m4 233 rfl) rfl
theorem q1040 : (Jvm.Cond.code ({ cls := "SomebodysLift", name := "isPace", desc := "(I)Z" } : Jvm.MethodName) prog_1_method_3_code (1 : Nat) (Option.some Jvm.ClassFile.FieldType.boolean)) ∈ lw_all := lw_g (lw_at lw_m4 234 rfl) rfl
theorem q1041 : (Jvm.Cond.methodLink "SomebodysLift" (242 : Nat) ({ cls := "SomebodysLift$Time", name := "takes", desc := "(LSomebodysLift$Time;)V" } : Jvm.MethodName)) ∈ lw_all := lw_g (lw_at lw_m4 235 rfl) rfl
theorem q1045 : (Jvm.Cond.methodLink "SomebodysLift" (246 : Nat) ({ cls := "SomebodysLift$Time", name := "glides", desc := "(II)Z" } : Jvm.MethodName)) ∈ lw_all := lw_g (lw_at lw_m4 239 rfl) rfl
theorem q1061 : (Jvm.Cond.instanceMethod ({ cls := "SomebodysLift", name := "up", desc := "(II)I" } : Jvm.MethodName)) ∈ lw_all := lw_g (lw_at lw_m5 15 rfl) rfl
theorem q1062 : (Jvm.Cond.selects "SomebodysLift" ({ cls := "SomebodysLift", name := "up", desc := "(II)I" } : Jvm.MethodName) ({ cls := "SomebodysLift", name := "up", desc := "(II)I" } : Jvm.MethodName)) ∈ lw_all := lw_g (lw_at lw_m5 16 rfl) rfl
theorem q1063 : (Jvm.Cond.code ({ cls := "SomebodysLift", name := "up", desc := "(II)I" } : Jvm.MethodName) prog_1_method_23_code (3 : Nat) (Option.some Jvm.ClassFile.FieldType.int)) ∈ lw_all := lw_g (lw_at lw_m5 17 rfl) rfl
theorem q1065 : (Jvm.Cond.instanceMethod ({ cls := "SomebodysLift", name := "top", desc := "(II)I" } : Jvm.MethodName)) ∈ lw_all := lw_g (lw_at lw_m5 19 rfl) rfl
theorem q1066 : (Jvm.Cond.selects "SomebodysLift" ({ cls := "SomebodysLift", name := "top", desc := "(II)I" } : Jvm.MethodName) ({ cls := "SomebodysLift", name := "top", desc := "(II)I" } : Jvm.MethodName)) ∈ lw_all := lw_g (lw_at lw_m5 20 rfl) rfl
theorem q1067 : (Jvm.Cond.code ({ cls := "SomebodysLift", name := "top", desc := "(II)I" } : Jvm.MethodName) prog_1_method_24_code (6 : Nat) (Option.some Jvm.ClassFile.FieldType.int)) ∈ lw_all := lw_g (lw_at lw_m5 21 rfl) rfl
theorem q1069 : (Jvm.Cond.instanceMethod ({ cls := "SomebodysLift", name := "arrives", desc := "(II)I" } : Jvm.MethodName)) ∈ lw_all := lw_g (lw_at lw_m5 23 rfl) rfl
theorem q1070 : (Jvm.Cond.selects "SomebodysLift" ({ cls := "SomebodysLift", name := "arrives", desc := "(II)I" } : Jvm.MethodName) ({ cls := "SomebodysLift", name := "arrives", desc := "(II)I" } : Jvm.MethodName)) ∈ lw_all := lw_g (lw_at lw_m5 24 rfl) rfl
theorem q1071 : (Jvm.Cond.code ({ cls := "SomebodysLift", name := "arrives", desc := "(II)I" } : Jvm.MethodName) prog_1_method_25_code (3 : Nat) (Option.some Jvm.ClassFile.FieldType.int)) ∈ lw_all := lw_g (lw_at lw_m5 25 rfl) rfl
theorem q1073 : (Jvm.Cond.instanceMethod ({ cls := "SomebodysLift", name := "outed", desc := "(II)I" } : Jvm.MethodName)) ∈ lw_all := lw_g (lw_at lw_m5 27 rfl) rfl
theorem q1074 : (Jvm.Cond.selects "SomebodysLift" ({ cls := "SomebodysLift", name := "outed", desc := "(II)I" } : Jvm.MethodName) ({ cls := "SomebodysLift", name := "outed", desc := "(II)I" } : Jvm.MethodName)) ∈ lw_all := lw_g (lw_at lw_m5 28 rfl) rfl
theorem q1075 : (Jvm.Cond.code ({ cls := "SomebodysLift", name := "outed", desc := "(II)I" } : Jvm.MethodName) prog_1_method_26_code (3 : Nat) (Option.some Jvm.ClassFile.FieldType.int)) ∈ lw_all := lw_g (lw_at lw_m5 29 rfl) rfl
theorem q1076 : (Jvm.Cond.methodLink "SomebodysLift" (249 : Nat) ({ cls := "java/lang/Math", name := "abs", desc := "(I)I" } : Jvm.MethodName)) ∈ lw_all := lw_g (lw_at lw_m5 30 rfl) rfl
theorem q1078 : (Jvm.Cond.instanceMethod ({ cls := "SomebodysLift", name := "reach", desc := "(I)I" } : Jvm.MethodName)) ∈ lw_all := lw_g (lw_at lw_m5 32 rfl) rfl
theorem q1079 : (Jvm.Cond.selects "SomebodysLift" ({ cls := "SomebodysLift", name := "reach", desc := "(I)I" } : Jvm.MethodName) ({ cls := "SomebodysLift", name := "reach", desc := "(I)I" } : Jvm.MethodName)) ∈ lw_all := lw_g (lw_at lw_m5 33 rfl) rfl
theorem q1080 : (Jvm.Cond.code ({ cls := "SomebodysLift", name := "reach", desc := "(I)I" } : Jvm.MethodName) prog_1_method_27_code (4 : Nat) (Option.some Jvm.ClassFile.FieldType.int)) ∈ lw_all := lw_g (lw_at lw_m5 34 rfl) rfl
theorem q1081 : (Jvm.Cond.methodLink "SomebodysLift" (253 : Nat) ({ cls := "SomebodysLift$Time", name := "reaches", desc := "(III)Z" } : Jvm.MethodName)) ∈ lw_all := lw_g (lw_at lw_m5 35 rfl) rfl
theorem q1083 : (Jvm.Cond.instanceMethod ({ cls := "SomebodysLift", name := "next", desc := "(I)I" } : Jvm.MethodName)) ∈ lw_all := lw_g (lw_at lw_m5 37 rfl) rfl
theorem q1084 : (Jvm.Cond.selects "SomebodysLift" ({ cls := "SomebodysLift", name := "next", desc := "(I)I" } : Jvm.MethodName) ({ cls := "SomebodysLift", name := "next", desc := "(I)I" } : Jvm.MethodName)) ∈ lw_all := lw_g (lw_at lw_m5 38 rfl) rfl
theorem q1085 : (Jvm.Cond.code ({ cls := "SomebodysLift", name := "next", desc := "(I)I" } : Jvm.MethodName) prog_1_method_28_code (6 : Nat) (Option.some Jvm.ClassFile.FieldType.int)) ∈ lw_all := lw_g (lw_at lw_m5 39 rfl) rfl
theorem q1087 : (Jvm.Cond.instanceMethod ({ cls := "SomebodysLift", name := "lowest", desc := "(II)I" } : Jvm.MethodName)) ∈ lw_all := lw_g (lw_at lw_m5 41 rfl) rfl
theorem q1088 : (Jvm.Cond.selects "SomebodysLift" ({ cls := "SomebodysLift", name := "lowest", desc := "(II)I" } : Jvm.MethodName) ({ cls := "SomebodysLift", name := "lowest", desc := "(II)I" } : Jvm.MethodName)) ∈ lw_all := lw_g (lw_at lw_m5 42 rfl) rfl
theorem q1089 : (Jvm.Cond.code ({ cls := "SomebodysLift", name := "lowest", desc := "(II)I" } : Jvm.MethodName) prog_1_method_29_code (4 : Nat) (Option.some Jvm.ClassFile.FieldType.int)) ∈ lw_all := lw_g (lw_at lw_m5 43 rfl) rfl
theorem q1090 : (Jvm.Cond.methodLink "SomebodysLift" (256 : Nat) ({ cls := "SomebodysLift$Time", name := "needs", desc := "(II)I" } : Jvm.MethodName)) ∈ lw_all := lw_g (lw_at lw_m5 44 rfl) rfl
theorem q1092 : (Jvm.Cond.instanceMethod ({ cls := "SomebodysLift", name := "by", desc := "(III)I" } : Jvm.MethodName)) ∈ lw_all := lw_g (lw_at lw_m5 46 rfl) rfl
theorem q1093 : (Jvm.Cond.selects "SomebodysLift" ({ cls := "SomebodysLift", name := "by", desc := "(III)I" } : Jvm.MethodName) ({ cls := "SomebodysLift", name := "by", desc := "(III)I" } : Jvm.MethodName)) ∈ lw_all := lw_g (lw_at lw_m5 47 rfl) rfl
theorem q1094 : (Jvm.Cond.code ({ cls := "SomebodysLift", name := "by", desc := "(III)I" } : Jvm.MethodName) prog_1_method_32_code (5 : Nat) (Option.some Jvm.ClassFile.FieldType.int)) ∈ lw_all := lw_g (lw_at lw_m5 48 rfl) rfl
theorem q1095 : (Jvm.Cond.methodLink "SomebodysLift" (266 : Nat) ({ cls := "SomebodysLift", name := "minutesBy", desc := "(II)I" } : Jvm.MethodName)) ∈ lw_all := lw_g (lw_at lw_m5 49 rfl) rfl
theorem q1096 : (Jvm.Cond.privateMethod ({ cls := "SomebodysLift", name := "minutesBy", desc := "(II)I" } : Jvm.MethodName)) ∈ lw_tbl := lw_at lw_m5 50 rfl
theorem q1097 : (Jvm.Cond.instanceMethod ({ cls := "SomebodysLift", name := "minutesBy", desc := "(II)I" } : Jvm.MethodName)) ∈ lw_all := lw_g (lw_at lw_m5 51 rfl) rfl
theorem q1098 : (Jvm.Cond.code ({ cls := "SomebodysLift", name := "minutesBy", desc := "(II)I" } : Jvm.MethodName) prog_1_method_31_code (3 : Nat) (Option.some Jvm.ClassFile.FieldType.int)) ∈ lw_all := lw_g (lw_at lw_m5 52 rfl) rfl
theorem q1099 : (Jvm.Cond.methodLink "SomebodysLift" (259 : Nat) ({ cls := "SomebodysLift", name := "climbsTill", desc := "(IIII)Z" } : Jvm.MethodName)) ∈ lw_all := lw_g (lw_at lw_m5 53 rfl) rfl
theorem q1100 : (Jvm.Cond.privateMethod ({ cls := "SomebodysLift", name := "climbsTill", desc := "(IIII)Z" } : Jvm.MethodName)) ∈ lw_tbl := lw_at lw_m5 54 rfl
theorem q1101 : (Jvm.Cond.instanceMethod ({ cls := "SomebodysLift", name := "climbsTill", desc := "(IIII)Z" } : Jvm.MethodName)) ∈ lw_all := lw_g (lw_at lw_m5 55 rfl) rfl
theorem q1102 : (Jvm.Cond.code ({ cls := "SomebodysLift", name := "climbsTill", desc := "(IIII)Z" } : Jvm.MethodName) prog_1_method_30_code (6 : Nat) (Option.some Jvm.ClassFile.FieldType.boolean)) ∈ lw_all := lw_g (lw_at lw_m5 56 rfl) rfl
theorem q1104 : (Jvm.Cond.instanceMethod ({ cls := "SomebodysLift", name := "straight", desc := "(I)I" } : Jvm.MethodName)) ∈ lw_all := lw_g (lw_at lw_m5 58 rfl) rfl
theorem q1105 : (Jvm.Cond.selects "SomebodysLift" ({ cls := "SomebodysLift", name := "straight", desc := "(I)I" } : Jvm.MethodName) ({ cls := "SomebodysLift", name := "straight", desc := "(I)I" } : Jvm.MethodName)) ∈ lw_all := lw_g (lw_at lw_m5 59 rfl) rfl
theorem q1106 : (Jvm.Cond.code ({ cls := "SomebodysLift", name := "straight", desc := "(I)I" } : Jvm.MethodName) prog_1_method_34_code (2 : Nat) (Option.some Jvm.ClassFile.FieldType.int)) ∈ lw_all := lw_g (lw_at lw_m5 60 rfl) rfl
theorem q1107 : (Jvm.Cond.methodLink "SomebodysLift" (269 : Nat) ({ cls := "SomebodysLift", name := "minutesStraight", desc := "(I)I" } : Jvm.MethodName)) ∈ lw_all := lw_g (lw_at lw_m5 61 rfl) rfl
theorem q1108 : (Jvm.Cond.privateMethod ({ cls := "SomebodysLift", name := "minutesStraight", desc := "(I)I" } : Jvm.MethodName)) ∈ lw_tbl := lw_at lw_m5 62 rfl
theorem q1109 : (Jvm.Cond.instanceMethod ({ cls := "SomebodysLift", name := "minutesStraight", desc := "(I)I" } : Jvm.MethodName)) ∈ lw_all := lw_g (lw_at lw_m5 63 rfl) rfl
theorem q1110 : (Jvm.Cond.code ({ cls := "SomebodysLift", name := "minutesStraight", desc := "(I)I" } : Jvm.MethodName) prog_1_method_33_code (2 : Nat) (Option.some Jvm.ClassFile.FieldType.int)) ∈ lw_all := lw_g (lw_at lw_m5 64 rfl) rfl
theorem q1112 : (Jvm.Cond.instanceMethod ({ cls := "SomebodysLift", name := "best", desc := "(I)I" } : Jvm.MethodName)) ∈ lw_all := lw_g (lw_at lw_m5 66 rfl) rfl
theorem q1113 : (Jvm.Cond.selects "SomebodysLift" ({ cls := "SomebodysLift", name := "best", desc := "(I)I" } : Jvm.MethodName) ({ cls := "SomebodysLift", name := "best", desc := "(I)I" } : Jvm.MethodName)) ∈ lw_all := lw_g (lw_at lw_m5 67 rfl) rfl
theorem q1114 : (Jvm.Cond.code ({ cls := "SomebodysLift", name := "best", desc := "(I)I" } : Jvm.MethodName) prog_1_method_36_code (3 : Nat) (Option.some Jvm.ClassFile.FieldType.int)) ∈ lw_all := lw_g (lw_at lw_m5 68 rfl) rfl
theorem q1115 : (Jvm.Cond.methodLink "SomebodysLift" (278 : Nat) ({ cls := "SomebodysLift", name := "fewestBut", desc := "(I)I" } : Jvm.MethodName)) ∈ lw_all := lw_g (lw_at lw_m5 69 rfl) rfl
theorem q1116 : (Jvm.Cond.privateMethod ({ cls := "SomebodysLift", name := "fewestBut", desc := "(I)I" } : Jvm.MethodName)) ∈ lw_tbl := lw_at lw_m5 70 rfl
theorem q1117 : (Jvm.Cond.instanceMethod ({ cls := "SomebodysLift", name := "fewestBut", desc := "(I)I" } : Jvm.MethodName)) ∈ lw_all := lw_g (lw_at lw_m5 71 rfl) rfl
theorem q1118 : (Jvm.Cond.code ({ cls := "SomebodysLift", name := "fewestBut", desc := "(I)I" } : Jvm.MethodName) prog_1_method_35_code (6 : Nat) (Option.some Jvm.ClassFile.FieldType.int)) ∈ lw_all := lw_g (lw_at lw_m5 72 rfl) rfl
theorem q1120 : (Jvm.Cond.instanceMethod ({ cls := "SomebodysLift", name := "two", desc := "(II)I" } : Jvm.MethodName)) ∈ lw_all := lw_g (lw_at lw_m5 74 rfl) rfl
theorem q1121 : (Jvm.Cond.selects "SomebodysLift" ({ cls := "SomebodysLift", name := "two", desc := "(II)I" } : Jvm.MethodName) ({ cls := "SomebodysLift", name := "two", desc := "(II)I" } : Jvm.MethodName)) ∈ lw_all := lw_g (lw_at lw_m5 75 rfl) rfl
theorem q1122 : (Jvm.Cond.code ({ cls := "SomebodysLift", name := "two", desc := "(II)I" } : Jvm.MethodName) prog_1_method_38_code (8 : Nat) (Option.some Jvm.ClassFile.FieldType.int)) ∈ lw_all := lw_g (lw_at lw_m5 76 rfl) rfl
theorem q1123 : (Jvm.Cond.methodLink "SomebodysLift" (281 : Nat) ({ cls := "SomebodysLift", name := "minutesByTwo", desc := "(III)I" } : Jvm.MethodName)) ∈ lw_all := lw_g (lw_at lw_m5 77 rfl) rfl
theorem q1124 : (Jvm.Cond.privateMethod ({ cls := "SomebodysLift", name := "minutesByTwo", desc := "(III)I" } : Jvm.MethodName)) ∈ lw_tbl := lw_at lw_m5 78 rfl
theorem q1125 : (Jvm.Cond.instanceMethod ({ cls := "SomebodysLift", name := "minutesByTwo", desc := "(III)I" } : Jvm.MethodName)) ∈ lw_all := lw_g (lw_at lw_m5 79 rfl) rfl
theorem q1126 : (Jvm.Cond.code ({ cls := "SomebodysLift", name := "minutesByTwo", desc := "(III)I" } : Jvm.MethodName) prog_1_method_37_code (4 : Nat) (Option.some Jvm.ClassFile.FieldType.int)) ∈ lw_all := lw_g (lw_at lw_m5 80 rfl) rfl
theorem q1128 : (Jvm.Cond.instanceMethod ({ cls := "SomebodysLift", name := "worth", desc := "(I)I" } : Jvm.MethodName)) ∈ lw_all := lw_g (lw_at lw_m5 82 rfl) rfl
theorem q1129 : (Jvm.Cond.selects "SomebodysLift" ({ cls := "SomebodysLift", name := "worth", desc := "(I)I" } : Jvm.MethodName) ({ cls := "SomebodysLift", name := "worth", desc := "(I)I" } : Jvm.MethodName)) ∈ lw_all := lw_g (lw_at lw_m5 83 rfl) rfl
theorem q1130 : (Jvm.Cond.code ({ cls := "SomebodysLift", name := "worth", desc := "(I)I" } : Jvm.MethodName) prog_1_method_40_code (3 : Nat) (Option.some Jvm.ClassFile.FieldType.int)) ∈ lw_all := lw_g (lw_at lw_m5 84 rfl) rfl
theorem q1131 : (Jvm.Cond.methodLink "SomebodysLift" (284 : Nat) ({ cls := "SomebodysLift", name := "orNever", desc := "(I)I" } : Jvm.MethodName)) ∈ lw_all := lw_g (lw_at lw_m5 85 rfl) rfl
theorem q1132 : (Jvm.Cond.static ({ cls := "SomebodysLift", name := "orNever", desc := "(I)I" } : Jvm.MethodName)) ∈ lw_all := lw_g (lw_at lw_m5 86 rfl) rfl
theorem q1133 : (Jvm.Cond.code ({ cls := "SomebodysLift", name := "orNever", desc := "(I)I" } : Jvm.MethodName) prog_1_method_39_code (1 : Nat) (Option.some Jvm.ClassFile.FieldType.int)) ∈ lw_all := lw_g (lw_at lw_m5 87 rfl) rfl
theorem q1135 : (Jvm.Cond.instanceMethod ({ cls := "SomebodysLift", name := "leg", desc := "(II)I" } : Jvm.MethodName)) ∈ lw_all := lw_g (lw_at lw_m5 89 rfl) rfl
theorem q1136 : (Jvm.Cond.selects "SomebodysLift" ({ cls := "SomebodysLift", name := "leg", desc := "(II)I" } : Jvm.MethodName) ({ cls := "SomebodysLift", name := "leg", desc := "(II)I" } : Jvm.MethodName)) ∈ lw_all := lw_g (lw_at lw_m5 90 rfl) rfl
theorem q1137 : (Jvm.Cond.code ({ cls := "SomebodysLift", name := "leg", desc := "(II)I" } : Jvm.MethodName) prog_1_method_41_code (3 : Nat) (Option.some Jvm.ClassFile.FieldType.int)) ∈ lw_all := lw_g (lw_at lw_m5 91 rfl) rfl
theorem q1139 : (Jvm.Cond.instanceMethod ({ cls := "SomebodysLift", name := "flown", desc := "(II)I" } : Jvm.MethodName)) ∈ lw_all := lw_g (lw_at lw_m5 93 rfl) rfl
theorem q1140 : (Jvm.Cond.selects "SomebodysLift" ({ cls := "SomebodysLift", name := "flown", desc := "(II)I" } : Jvm.MethodName) ({ cls := "SomebodysLift", name := "flown", desc := "(II)I" } : Jvm.MethodName)) ∈ lw_all := lw_g (lw_at lw_m5 94 rfl) rfl
theorem q1141 : (Jvm.Cond.code ({ cls := "SomebodysLift", name := "flown", desc := "(II)I" } : Jvm.MethodName) prog_1_method_43_code (3 : Nat) (Option.some Jvm.ClassFile.FieldType.int)) ∈ lw_all := lw_g (lw_at lw_m5 95 rfl) rfl
theorem q1142 : (Jvm.Cond.methodLink "SomebodysLift" (290 : Nat) ({ cls := "SomebodysLift", name := "flies", desc := "(I)Z" } : Jvm.MethodName)) ∈ lw_all := lw_g (lw_at lw_m5 96 rfl) rfl
theorem q1143 : (Jvm.Cond.privateMethod ({ cls := "SomebodysLift", name := "flies", desc := "(I)Z" } : Jvm.MethodName)) ∈ lw_tbl := lw_at lw_m5 97 rfl
theorem q1144 : (Jvm.Cond.instanceMethod ({ cls := "SomebodysLift", name := "flies", desc := "(I)Z" } : Jvm.MethodName)) ∈ lw_all := lw_g (lw_at lw_m5 98 rfl) rfl
theorem q1145 : (Jvm.Cond.code ({ cls := "SomebodysLift", name := "flies", desc := "(I)Z" } : Jvm.MethodName) prog_1_method_42_code (3 : Nat) (Option.some Jvm.ClassFile.FieldType.boolean)) ∈ lw_all := lw_g (lw_at lw_m5 99 rfl) rfl
theorem q1147 : (Jvm.Cond.instanceMethod ({ cls := "SomebodysLift", name := "see", desc := "(I)I" } : Jvm.MethodName)) ∈ lw_all := lw_g (lw_at lw_m5 101 rfl) rfl
theorem q1148 : (Jvm.Cond.selects "SomebodysLift" ({ cls := "SomebodysLift", name := "see", desc := "(I)I" } : Jvm.MethodName) ({ cls := "SomebodysLift", name := "see", desc := "(I)I" } : Jvm.MethodName)) ∈ lw_all := lw_g (lw_at lw_m5 102 rfl) rfl
theorem q1149 : (Jvm.Cond.code ({ cls := "SomebodysLift", name := "see", desc := "(I)I" } : Jvm.MethodName) prog_1_method_44_code (2 : Nat) (Option.some Jvm.ClassFile.FieldType.int)) ∈ lw_all := lw_g (lw_at lw_m5 103 rfl) rfl
theorem q1151 : (Jvm.Cond.instanceMethod ({ cls := "SomebodysLift", name := "who", desc := "()I" } : Jvm.MethodName)) ∈ lw_all := lw_g (lw_at lw_m5 105 rfl) rfl
theorem q1152 : (Jvm.Cond.selects "SomebodysLift" ({ cls := "SomebodysLift", name := "who", desc := "()I" } : Jvm.MethodName) ({ cls := "SomebodysLift", name := "who", desc := "()I" } : Jvm.MethodName)) ∈ lw_all := lw_g (lw_at lw_m5 106 rfl) rfl
theorem q1153 : (Jvm.Cond.code ({ cls := "SomebodysLift", name := "who", desc := "()I" } : Jvm.MethodName) prog_1_method_46_code (3 : Nat) (Option.some Jvm.ClassFile.FieldType.int)) ∈ lw_all := lw_g (lw_at lw_m5 107 rfl) rfl
theorem q1154 : (Jvm.Cond.methodLink "SomebodysLift" (296 : Nat) ({ cls := "SomebodysLift", name := "isAsSeen", desc := "(I)Z" } : Jvm.MethodName)) ∈ lw_all := lw_g (lw_at lw_m5 108 rfl) rfl
theorem q1155 : (Jvm.Cond.privateMethod ({ cls := "SomebodysLift", name := "isAsSeen", desc := "(I)Z" } : Jvm.MethodName)) ∈ lw_tbl := lw_at lw_m5 109 rfl
theorem q1156 : (Jvm.Cond.instanceMethod ({ cls := "SomebodysLift", name := "isAsSeen", desc := "(I)Z" } : Jvm.MethodName)) ∈ lw_all := lw_g (lw_at lw_m5 110 rfl) rfl
theorem q1157 : (Jvm.Cond.code ({ cls := "SomebodysLift", name := "isAsSeen", desc := "(I)Z" } : Jvm.MethodName) prog_1_method_45_code (4 : Nat) (Option.some Jvm.ClassFile.FieldType.boolean)) ∈ lw_all := lw_g (lw_at lw_m5 111 rfl) rfl
theorem q1159 : (Jvm.Cond.instanceMethod ({ cls := "SomebodysLift", name := "odds", desc := "(III)J" } : Jvm.MethodName)) ∈ lw_all := lw_g (lw_at lw_m5 113 rfl) rfl
theorem q1160 : (Jvm.Cond.selects "SomebodysLift" ({ cls := "SomebodysLift", name := "odds", desc := "(III)J" } : Jvm.MethodName) ({ cls := "SomebodysLift", name := "odds", desc := "(III)J" } : Jvm.MethodName)) ∈ lw_all := lw_g (lw_at lw_m5 114 rfl) rfl
theorem q1161 : (Jvm.Cond.code ({ cls := "SomebodysLift", name := "odds", desc := "(III)J" } : Jvm.MethodName) prog_1_method_49_code (7 : Nat) (Option.some Jvm.ClassFile.FieldType.long)) ∈ lw_all := lw_g (lw_at lw_m5 115 rfl) rfl
theorem q1162 : (Jvm.Cond.constantLong "SomebodysLift" (303 : Nat) (-9223372036854775808 : Int64)) ∈ lw_all := lw_g (lw_at lw_m5 116 rfl) rfl
theorem q1163 : (Jvm.Cond.methodLink "SomebodysLift" (305 : Nat) ({ cls := "SomebodysLift", name := "up", desc := "(II)I" } : Jvm.MethodName)) ∈ lw_all := lw_g (lw_at lw_m5 117 rfl) rfl
theorem q1164 : (Jvm.Cond.methodLink "SomebodysLift" (308 : Nat) ({ cls := "SomebodysLift", name := "lowestTerms", desc := "(JJI)J" } : Jvm.MethodName)) ∈ lw_all := lw_g (lw_at lw_m5 118 rfl) rfl
theorem q1165 : (Jvm.Cond.static ({ cls := "SomebodysLift", name := "lowestTerms", desc := "(JJI)J" } : Jvm.MethodName)) ∈ lw_all := lw_g (lw_at lw_m5 119 rfl) rfl
theorem q1166 : (Jvm.Cond.code ({ cls := "SomebodysLift", name := "lowestTerms", desc := "(JJI)J" } : Jvm.MethodName) prog_1_method_48_code (5 : Nat) (Option.some Jvm.ClassFile.FieldType.long)) ∈ lw_all := lw_g (lw_at lw_m5 120 rfl) rfl
theorem q1167 : (Jvm.Cond.methodLink "SomebodysLift" (299 : Nat) ({ cls := "SomebodysLift", name := "divisor", desc := "(JJ)J" } : Jvm.MethodName)) ∈ lw_all := lw_g (lw_at lw_m5 121 rfl) rfl
theorem q1168 : (Jvm.Cond.static ({ cls := "SomebodysLift", name := "divisor", desc := "(JJ)J" } : Jvm.MethodName)) ∈ lw_all := lw_g (lw_at lw_m5 122 rfl) rfl
theorem q1169 : (Jvm.Cond.code ({ cls := "SomebodysLift", name := "divisor", desc := "(JJ)J" } : Jvm.MethodName) prog_1_method_47_code (8 : Nat) (Option.some Jvm.ClassFile.FieldType.long)) ∈ lw_all := lw_g (lw_at lw_m5 123 rfl) rfl
theorem q1171 : (Jvm.Cond.instanceMethod ({ cls := "SomebodysLift", name := "mean", desc := "(II)J" } : Jvm.MethodName)) ∈ lw_all := lw_g (lw_at lw_m5 125 rfl) rfl
theorem q1172 : (Jvm.Cond.selects "SomebodysLift" ({ cls := "SomebodysLift", name := "mean", desc := "(II)J" } : Jvm.MethodName) ({ cls := "SomebodysLift", name := "mean", desc := "(II)J" } : Jvm.MethodName)) ∈ lw_all := lw_g (lw_at lw_m5 126 rfl) rfl
theorem q1173 : (Jvm.Cond.code ({ cls := "SomebodysLift", name := "mean", desc := "(II)J" } : Jvm.MethodName) prog_1_method_50_code (6 : Nat) (Option.some Jvm.ClassFile.FieldType.long)) ∈ lw_all := lw_g (lw_at lw_m5 127 rfl) rfl
theorem q1175 : (Jvm.Cond.instanceMethod ({ cls := "SomebodysLift", name := "book", desc := "(II)I" } : Jvm.MethodName)) ∈ lw_all := lw_g (lw_at lw_m5 129 rfl) rfl
theorem q1176 : (Jvm.Cond.selects "SomebodysLift" ({ cls := "SomebodysLift", name := "book", desc := "(II)I" } : Jvm.MethodName) ({ cls := "SomebodysLift", name := "book", desc := "(II)I" } : Jvm.MethodName)) ∈ lw_all := lw_g (lw_at lw_m5 130 rfl) rfl
theorem q1177 : (Jvm.Cond.code ({ cls := "SomebodysLift", name := "book", desc := "(II)I" } : Jvm.MethodName) prog_1_method_51_code (3 : Nat) (Option.some Jvm.ClassFile.FieldType.int)) ∈ lw_all := lw_g (lw_at lw_m5 131 rfl) rfl
theorem q1179 : (Jvm.Cond.instanceMethod ({ cls := "SomebodysLift", name := "looked", desc := "()I" } : Jvm.MethodName)) ∈ lw_all := lw_g (lw_at lw_m5 133 rfl) rfl
theorem q1180 : (Jvm.Cond.selects "SomebodysLift" ({ cls := "SomebodysLift", name := "looked", desc := "()I" } : Jvm.MethodName) ({ cls := "SomebodysLift", name := "looked", desc := "()I" } : Jvm.MethodName)) ∈ lw_all := lw_g (lw_at lw_m5 134 rfl) rfl
theorem q1181 : (Jvm.Cond.code ({ cls := "SomebodysLift", name := "looked", desc := "()I" } : Jvm.MethodName) prog_1_method_52_code (2 : Nat) (Option.some Jvm.ClassFile.FieldType.int)) ∈ lw_all := lw_g (lw_at lw_m5 135 rfl) rfl
theorem q1183 : (Jvm.Cond.instanceMethod ({ cls := "SomebodysLift", name := "judge", desc := "(II)I" } : Jvm.MethodName)) ∈ lw_all := lw_g (lw_at lw_m5 137 rfl) rfl
theorem q1184 : (Jvm.Cond.selects "SomebodysLift" ({ cls := "SomebodysLift", name := "judge", desc := "(II)I" } : Jvm.MethodName) ({ cls := "SomebodysLift", name := "judge", desc := "(II)I" } : Jvm.MethodName)) ∈ lw_all := lw_g (lw_at lw_m5 138 rfl) rfl
theorem q1185 : (Jvm.Cond.codeWith ({ cls := "SomebodysLift", name := "judge", desc := "(II)I" } : Jvm.MethodName) prog_1_method_54_code (4 : Nat) (Option.some Jvm.ClassFile.FieldType.int) [((9 : Nat), (26 : Nat), (27 : Nat), (332 : Nat))]) ∈ lw_all := lw_g (lw_at lw_m5 139 rfl) rfl
theorem q1186 : (Jvm.Cond.classLink "SomebodysLift" (332 : Nat) "java/lang/ClassCastException") ∈ lw_all := lw_g (lw_at lw_m5 140 rfl) rfl
theorem q1213 : (Jvm.Cond.methodLink "SomebodysLift" (320 : Nat) ({ cls := "SomebodysLift", name := "isTape", desc := "(I)Z" } : Jvm.MethodName)) ∈ lw_all := lw_g (lw_at lw_m5 167 rfl) rfl
theorem q1214 : (Jvm.Cond.static ({ cls := "SomebodysLift", name := "isTape", desc := "(I)Z" } : Jvm.MethodName)) ∈ lw_all := lw_g (lw_at lw_m5 168 rfl) rfl
theorem q1215 : (Jvm.Cond.code ({ cls := "SomebodysLift", name := "isTape", desc := "(I)Z" } : Jvm.MethodName) prog_1_method_63_code (1 : Nat) (Option.some Jvm.ClassFile.FieldType.boolean)) ∈ lw_all := lw_g (lw_at lw_m5 169 rfl) rfl
theorem q1216 : (Jvm.Cond.classLink "SomebodysLift" (327 : Nat) "[B") ∈ lw_all := lw_g (lw_at lw_m5 170 rfl) rfl
theorem q1217 : (Jvm.Cond.methodLink "SomebodysLift" (328 : Nat) ({ cls := "SomebodysLift", name := "firstOther", desc := "([BI)I" } : Jvm.MethodName)) ∈ lw_all := lw_g (lw_at lw_m5 171 rfl) rfl
theorem q1218 : (Jvm.Cond.privateMethod ({ cls := "SomebodysLift", name := "firstOther", desc := "([BI)I" } : Jvm.MethodName)) ∈ lw_tbl := lw_at lw_m5 172 rfl
theorem q1219 : (Jvm.Cond.instanceMethod ({ cls := "SomebodysLift", name := "firstOther", desc := "([BI)I" } : Jvm.MethodName)) ∈ lw_all := lw_g (lw_at lw_m5 173 rfl) rfl
theorem q1220 : (Jvm.Cond.codeWith ({ cls := "SomebodysLift", name := "firstOther", desc := "([BI)I" } : Jvm.MethodName) prog_1_method_53_code (6 : Nat) (Option.some Jvm.ClassFile.FieldType.int) [((2 : Nat), (61 : Nat), (71 : Nat), (318 : Nat)), ((62 : Nat), (70 : Nat), (71 : Nat), (318 : Nat)), ((2 : Nat), (61 : Nat), (78 : Nat), (213 : Nat)), ((62 : Nat), (70 : Nat), (78 : Nat), (213 : Nat))]) ∈ lw_all := lw_g (lw_at lw_m5 174 rfl) rfl
theorem q1221 : (Jvm.Cond.classLink "SomebodysLift" (318 : Nat) "java/lang/NullPointerException") ∈ lw_all := lw_g (lw_at lw_m5 175 rfl) rfl
theorem q1240 : (Jvm.Cond.methodLink "SomebodysLift" (315 : Nat) ({ cls := "SomebodysLift$Off", name := "<init>", desc := "(I)V" } : Jvm.MethodName)) ∈ lw_all := lw_g (lw_at lw_m5 194 rfl) rfl
theorem q1242 : (Jvm.Cond.instanceMethod ({ cls := "SomebodysLift", name := "image", desc := "()I" } : Jvm.MethodName)) ∈ lw_all := lw_g (lw_at lw_m5 196 rfl) rfl
theorem q1243 : (Jvm.Cond.selects "SomebodysLift" ({ cls := "SomebodysLift", name := "image", desc := "()I" } : Jvm.MethodName) ({ cls := "SomebodysLift", name := "image", desc := "()I" } : Jvm.MethodName)) ∈ lw_all := lw_g (lw_at lw_m5 197 rfl) rfl
theorem q1244 : (Jvm.Cond.code ({ cls := "SomebodysLift", name := "image", desc := "()I" } : Jvm.MethodName) prog_1_method_55_code (1 : Nat) (Option.some Jvm.ClassFile.FieldType.int)) ∈ lw_all := lw_g (lw_at lw_m5 198 rfl) rfl
theorem q1245 : (Jvm.Cond.methodLink "SomebodysLift" (334 : Nat) ({ cls := "java/lang/System", name := "arraycopy", desc := "(Ljava/lang/Object;ILjava/lang/Object;II)V" } : Jvm.MethodName)) ∈ lw_all := lw_g (lw_at lw_m5 199 rfl) rfl
theorem q1247 : (Jvm.Cond.instanceMethod ({ cls := "SomebodysLift", name := "undo", desc := "()I" } : Jvm.MethodName)) ∈ lw_all := lw_g (lw_at lw_m5 201 rfl) rfl
theorem q1248 : (Jvm.Cond.selects "SomebodysLift" ({ cls := "SomebodysLift", name := "undo", desc := "()I" } : Jvm.MethodName) ({ cls := "SomebodysLift", name := "undo", desc := "()I" } : Jvm.MethodName)) ∈ lw_all := lw_g (lw_at lw_m5 202 rfl) rfl
theorem q1249 : (Jvm.Cond.code ({ cls := "SomebodysLift", name := "undo", desc := "()I" } : Jvm.MethodName) prog_1_method_56_code (1 : Nat) (Option.some Jvm.ClassFile.FieldType.int)) ∈ lw_all := lw_g (lw_at lw_m5 203 rfl) rfl
theorem q1251 : (Jvm.Cond.instanceMethod ({ cls := "SomebodysLift", name := "act", desc := "(III)I" } : Jvm.MethodName)) ∈ lw_all := lw_g (lw_at lw_m5 205 rfl) rfl
theorem q1252 : (Jvm.Cond.selects "SomebodysLift" ({ cls := "SomebodysLift", name := "act", desc := "(III)I" } : Jvm.MethodName) ({ cls := "SomebodysLift", name := "act", desc := "(III)I" } : Jvm.MethodName)) ∈ lw_all := lw_g (lw_at lw_m5 206 rfl) rfl
theorem q1253 : (Jvm.Cond.code ({ cls := "SomebodysLift", name := "act", desc := "(III)I" } : Jvm.MethodName) prog_1_method_57_code (5 : Nat) (Option.some Jvm.ClassFile.FieldType.int)) ∈ lw_all := lw_g (lw_at lw_m5 207 rfl) rfl
theorem q1254 : (Jvm.Cond.methodLink "SomebodysLift" (361 : Nat) ({ cls := "SomebodysLift$Lift", name := "turns", desc := "(I)I" } : Jvm.MethodName)) ∈ lw_all := lw_g (lw_at lw_m5 208 rfl) rfl
theorem q1284 : (Jvm.Cond.methodLink "SomebodysLift" (363 : Nat) ({ cls := "SomebodysLift$Lift", name := "climbs", desc := "(I)I" } : Jvm.MethodName)) ∈ lw_all := lw_g (lw_at lw_m5 238 rfl) rfl
theorem q1308 : (Jvm.Cond.methodLink "SomebodysLift" (365 : Nat) ({ cls := "SomebodysLift$Lift", name := "tells", desc := "(I)I" } : Jvm.MethodName)) ∈ lw_all := lw_g (lw_at lw_m6 22 rfl) rfl
theorem q1334 : (Jvm.Cond.instanceMethod ({ cls := "SomebodysLift", name := "trace", desc := "(I)I" } : Jvm.MethodName)) ∈ lw_all := lw_g (lw_at lw_m6 48 rfl) rfl
theorem q1335 : (Jvm.Cond.selects "SomebodysLift" ({ cls := "SomebodysLift", name := "trace", desc := "(I)I" } : Jvm.MethodName) ({ cls := "SomebodysLift", name := "trace", desc := "(I)I" } : Jvm.MethodName)) ∈ lw_all := lw_g (lw_at lw_m6 49 rfl) rfl
theorem q1336 : (Jvm.Cond.code ({ cls := "SomebodysLift", name := "trace", desc := "(I)I" } : Jvm.MethodName) prog_1_method_58_code (2 : Nat) (Option.some Jvm.ClassFile.FieldType.int)) ∈ lw_all := lw_g (lw_at lw_m6 50 rfl) rfl
theorem q1338 : (Jvm.Cond.instanceMethod ({ cls := "SomebodysLift", name := "taken", desc := "(II)I" } : Jvm.MethodName)) ∈ lw_all := lw_g (lw_at lw_m6 52 rfl) rfl
theorem q1339 : (Jvm.Cond.selects "SomebodysLift" ({ cls := "SomebodysLift", name := "taken", desc := "(II)I" } : Jvm.MethodName) ({ cls := "SomebodysLift", name := "taken", desc := "(II)I" } : Jvm.MethodName)) ∈ lw_all := lw_g (lw_at lw_m6 53 rfl) rfl
theorem q1340 : (Jvm.Cond.codeWith ({ cls := "SomebodysLift", name := "taken", desc := "(II)I" } : Jvm.MethodName) prog_1_method_60_code (4 : Nat) (Option.some Jvm.ClassFile.FieldType.int) [((13 : Nat), (38 : Nat), (39 : Nat), (318 : Nat)), ((13 : Nat), (38 : Nat), (43 : Nat), (332 : Nat))]) ∈ lw_all := lw_g (lw_at lw_m6 54 rfl) rfl
theorem q1341 : (Jvm.Cond.methodLink "SomebodysLift" (371 : Nat) ({ cls := "SomebodysLift", name := "takenFor", desc := "(LSomebodysLift$Tells;I)LSomebodysLift$Lift;" } : Jvm.MethodName)) ∈ lw_all := lw_g (lw_at lw_m6 55 rfl) rfl
theorem q1342 : (Jvm.Cond.static ({ cls := "SomebodysLift", name := "takenFor", desc := "(LSomebodysLift$Tells;I)LSomebodysLift$Lift;" } : Jvm.MethodName)) ∈ lw_all := lw_g (lw_at lw_m6 56 rfl) rfl
theorem q1343 : (Jvm.Cond.code ({ cls := "SomebodysLift", name := "takenFor", desc := "(LSomebodysLift$Tells;I)LSomebodysLift$Lift;" } : Jvm.MethodName) prog_1_method_59_code (2 : Nat) (Option.some (Jvm.ClassFile.FieldType.object "SomebodysLift$Lift"))) ∈ lw_all := lw_g (lw_at lw_m6 57 rfl) rfl
theorem q1345 : (Jvm.Cond.instanceMethod ({ cls := "SomebodysLift", name := "count", desc := "(I)I" } : Jvm.MethodName)) ∈ lw_all := lw_g (lw_at lw_m6 59 rfl) rfl
theorem q1346 : (Jvm.Cond.selects "SomebodysLift" ({ cls := "SomebodysLift", name := "count", desc := "(I)I" } : Jvm.MethodName) ({ cls := "SomebodysLift", name := "count", desc := "(I)I" } : Jvm.MethodName)) ∈ lw_all := lw_g (lw_at lw_m6 60 rfl) rfl
theorem q1347 : (Jvm.Cond.code ({ cls := "SomebodysLift", name := "count", desc := "(I)I" } : Jvm.MethodName) prog_1_method_61_code (2 : Nat) (Option.some Jvm.ClassFile.FieldType.int)) ∈ lw_all := lw_g (lw_at lw_m6 61 rfl) rfl
theorem q1349 : (Jvm.Cond.instanceMethod ({ cls := "SomebodysLift", name := "tape", desc := "(III)I" } : Jvm.MethodName)) ∈ lw_all := lw_g (lw_at lw_m6 63 rfl) rfl
theorem q1350 : (Jvm.Cond.selects "SomebodysLift" ({ cls := "SomebodysLift", name := "tape", desc := "(III)I" } : Jvm.MethodName) ({ cls := "SomebodysLift", name := "tape", desc := "(III)I" } : Jvm.MethodName)) ∈ lw_all := lw_g (lw_at lw_m6 64 rfl) rfl
theorem q1351 : (Jvm.Cond.codeWith ({ cls := "SomebodysLift", name := "tape", desc := "(III)I" } : Jvm.MethodName) prog_1_method_64_code (5 : Nat) (Option.some Jvm.ClassFile.FieldType.int) [((32 : Nat), (56 : Nat), (57 : Nat), (379 : Nat))]) ∈ lw_all := lw_g (lw_at lw_m6 65 rfl) rfl
theorem q1352 : (Jvm.Cond.classLink "SomebodysLift" (379 : Nat) "java/lang/NegativeArraySizeException") ∈ lw_all := lw_g (lw_at lw_m6 66 rfl) rfl
theorem q1366 : (Jvm.Cond.methodLink "SomebodysLift" (375 : Nat) ({ cls := "SomebodysLift", name := "rowOf", desc := "(II)Ljava/lang/Object;" } : Jvm.MethodName)) ∈ lw_all := lw_g (lw_at lw_m6 80 rfl) rfl
theorem q1367 : (Jvm.Cond.static ({ cls := "SomebodysLift", name := "rowOf", desc := "(II)Ljava/lang/Object;" } : Jvm.MethodName)) ∈ lw_all := lw_g (lw_at lw_m6 81 rfl) rfl
theorem q1368 : (Jvm.Cond.code ({ cls := "SomebodysLift", name := "rowOf", desc := "(II)Ljava/lang/Object;" } : Jvm.MethodName) prog_1_method_62_code (2 : Nat) (Option.some (Jvm.ClassFile.FieldType.object "java/lang/Object"))) ∈ lw_all := lw_g (lw_at lw_m6 82 rfl) rfl
theorem q1373 : (Jvm.Cond.instanceMethod ({ cls := "SomebodysLift", name := "item", desc := "(IIJ)I" } : Jvm.MethodName)) ∈ lw_all := lw_g (lw_at lw_m6 87 rfl) rfl
theorem q1374 : (Jvm.Cond.selects "SomebodysLift" ({ cls := "SomebodysLift", name := "item", desc := "(IIJ)I" } : Jvm.MethodName) ({ cls := "SomebodysLift", name := "item", desc := "(IIJ)I" } : Jvm.MethodName)) ∈ lw_all := lw_g (lw_at lw_m6 88 rfl) rfl
theorem q1375 : (Jvm.Cond.codeWith ({ cls := "SomebodysLift", name := "item", desc := "(IIJ)I" } : Jvm.MethodName) prog_1_method_65_code (11 : Nat) (Option.some Jvm.ClassFile.FieldType.int) [((17 : Nat), (23 : Nat), (26 : Nat), (213 : Nat))]) ∈ lw_all := lw_g (lw_at lw_m6 89 rfl) rfl
theorem q1376 : (Jvm.Cond.methodLinkNest "SomebodysLift" (381 : Nat) ({ cls := "SomebodysLift$Tape", name := "has", desc := "(I)V" } : Jvm.MethodName) "SomebodysLift") ∈ lw_tbl := lw_at lw_m6 90 rfl
theorem q1392 : (Jvm.Cond.classLink "SomebodysLift" (384 : Nat) "[S") ∈ lw_all := lw_g (lw_at lw_m6 106 rfl) rfl
theorem q1393 : (Jvm.Cond.classLink "SomebodysLift" (386 : Nat) "[I") ∈ lw_all := lw_g (lw_at lw_m6 107 rfl) rfl
theorem q1394 : (Jvm.Cond.classLink "SomebodysLift" (387 : Nat) "[J") ∈ lw_all := lw_g (lw_at lw_m6 108 rfl) rfl
theorem q1395 : (Jvm.Cond.classLink "SomebodysLift" (389 : Nat) "[Z") ∈ lw_all := lw_g (lw_at lw_m6 109 rfl) rfl
theorem q1397 : (Jvm.Cond.instanceMethod ({ cls := "SomebodysLift", name := "read", desc := "(II)J" } : Jvm.MethodName)) ∈ lw_all := lw_g (lw_at lw_m6 111 rfl) rfl
theorem q1398 : (Jvm.Cond.selects "SomebodysLift" ({ cls := "SomebodysLift", name := "read", desc := "(II)J" } : Jvm.MethodName) ({ cls := "SomebodysLift", name := "read", desc := "(II)J" } : Jvm.MethodName)) ∈ lw_all := lw_g (lw_at lw_m6 112 rfl) rfl
theorem q1399 : (Jvm.Cond.code ({ cls := "SomebodysLift", name := "read", desc := "(II)J" } : Jvm.MethodName) prog_1_method_66_code (6 : Nat) (Option.some Jvm.ClassFile.FieldType.long)) ∈ lw_all := lw_g (lw_at lw_m6 113 rfl) rfl
theorem q1400 : (Jvm.Cond.methodLinkNest "SomebodysLift" (391 : Nat) ({ cls := "SomebodysLift$Tape", name := "size", desc := "()I" } : Jvm.MethodName) "SomebodysLift") ∈ lw_tbl := lw_at lw_m6 114 rfl
theorem q1402 : (Jvm.Cond.instanceMethod ({ cls := "SomebodysLift", name := "shift", desc := "(IIIII)I" } : Jvm.MethodName)) ∈ lw_all := lw_g (lw_at lw_m6 116 rfl) rfl
theorem q1403 : (Jvm.Cond.selects "SomebodysLift" ({ cls := "SomebodysLift", name := "shift", desc := "(IIIII)I" } : Jvm.MethodName) ({ cls := "SomebodysLift", name := "shift", desc := "(IIIII)I" } : Jvm.MethodName)) ∈ lw_all := lw_g (lw_at lw_m6 117 rfl) rfl
theorem q1404 : (Jvm.Cond.codeWith ({ cls := "SomebodysLift", name := "shift", desc := "(IIIII)I" } : Jvm.MethodName) prog_1_method_67_code (7 : Nat) (Option.some Jvm.ClassFile.FieldType.int) [((16 : Nat), (44 : Nat), (45 : Nat), (318 : Nat)), ((16 : Nat), (44 : Nat), (50 : Nat), (394 : Nat)), ((16 : Nat), (44 : Nat), (55 : Nat), (396 : Nat))]) ∈ lw_all := lw_g (lw_at lw_m6 118 rfl) rfl
theorem q1405 : (Jvm.Cond.classLink "SomebodysLift" (394 : Nat) "java/lang/ArrayStoreException") ∈ lw_all := lw_g (lw_at lw_m6 119 rfl) rfl
theorem q1419 : (Jvm.Cond.classLink "SomebodysLift" (396 : Nat) "java/lang/IndexOutOfBoundsException") ∈ lw_all := lw_g (lw_at lw_m6 133 rfl) rfl
theorem q2068 : (Jvm.Cond.castable "SomebodysLift" "java/lang/Object") ∈ lw_tbl := lw_at lw_m9 62 rfl
theorem in_X0 : ∀ w ∈ wsX00, w ∈ lw_all := lw_in wsX00 [310, 312, 314, 316, 318, 320, 322, 324, 326, 328, 330, 332, 334, 336, 338, 340, 342, 344, 346, 348, 350, 352, 354, 356, 358, 360, 362, 364, 366, 368, 370, 372, 374, 376, 378, 380, 382, 384, 386, 388] (by decide +kernel) (by decide +kernel)
