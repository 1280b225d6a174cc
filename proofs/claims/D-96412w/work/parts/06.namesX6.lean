/-! SomebodysLiftModel -/
set_option maxRecDepth 100000
def RX6 : String := "SomebodysLiftModel"
def TX6 : u_T := fun k => match k with
  | 0 => ("SomebodysLiftModel", "lifts", "I", false)
  | 1 => ("SomebodysLiftModel", "minutes", "I", false)
  | 2 => ("SomebodysLiftModel", "mile", "I", false)
  | 3 => ("SomebodysLiftModel", "high", "I", false)
  | 4 => ("SomebodysLiftModel", "inside", "I", false)
  | 5 => ("SomebodysLiftModel", "homeAt", "I", false)
  | 6 => ("SomebodysLiftModel", "kind", "[I", true)
  | 7 => ("SomebodysLiftModel", "v", "[I", true)
  | 8 => ("SomebodysLiftModel", "where", "[I", true)
  | 9 => ("SomebodysLiftModel", "pulls", "[I", true)
  | 10 => ("SomebodysLiftModel", "rows", "[I", true)
  | 11 => ("SomebodysLiftModel", "airs", "I", false)
  | 12 => ("SomebodysLiftModel", "the", "I", false)
  | 13 => ("SomebodysLiftModel", "fed", "I", false)
  | 14 => ("SomebodysLiftModel", "at", "I", false)
  | 15 => ("SomebodysLiftModel", "digits", "I", false)
  | 16 => ("SomebodysLiftModel", "text", "[I", true)
  | 17 => ("SomebodysLiftModel", "clauses", "[I", true)
  | 18 => ("SomebodysLiftModel", "word", "[I", true)
  | 19 => ("SomebodysLiftModel", "number", "[I", true)
  | 20 => ("SomebodysLiftModel", "from", "[I", true)
  | 21 => ("SomebodysLiftModel", "to", "[I", true)
  | 22 => ("SomebodysLiftModel", "sign", "[I", true)
  | 23 => ("SomebodysLiftModel", "waits", "[I", true)
  | 24 => ("SomebodysLiftModel", "signs", "I", false)
  | 25 => ("SomebodysLiftModel", "waiting", "I", false)
  | 26 => ("SomebodysLiftModel", "open", "I", false)
  | 27 => ("SomebodysLiftModel", "letters", "[I", true)
  | 28 => ("SomebodysLiftModel", "pile", "[Z", true)
  | 29 => ("SomebodysLiftModel", "keptMinutes", "I", false)
  | 30 => ("SomebodysLiftModel", "keptMile", "I", false)
  | 31 => ("SomebodysLiftModel", "keptHigh", "I", false)
  | 32 => ("SomebodysLiftModel", "leftHigh", "I", false)
  | 33 => ("SomebodysLiftModel", "bestWhich", "I", false)
  | 34 => ("SomebodysLiftModel", "bestPace", "I", false)
  | 35 => ("SomebodysLiftModel", "bestMany", "I", false)
  | 36 => ("SomebodysLiftModel", "legs", "I", false)
  | 37 => ("SomebodysLiftModel", "legWhat", "[I", true)
  | 38 => ("SomebodysLiftModel", "legLong", "[I", true)
  | 39 => ("SomebodysLiftModel", "seen", "I", false)
  | 40 => ("SomebodysLiftModel", "seenMore", "[I", true)
  | 41 => ("SomebodysLiftModel", "books", "I", false)
  | 42 => ("SomebodysLiftModel", "bookWhat", "[I", true)
  | 43 => ("SomebodysLiftModel", "bookClimb", "[I", true)
  | 44 => ("SomebodysLiftModel", "hasImage", "Z", false)
  | 45 => ("SomebodysLiftModel", "imageThe", "I", false)
  | 46 => ("SomebodysLiftModel", "imageLifts", "I", false)
  | 47 => ("SomebodysLiftModel", "imageMinutes", "I", false)
  | 48 => ("SomebodysLiftModel", "imageMile", "I", false)
  | 49 => ("SomebodysLiftModel", "imageHigh", "I", false)
  | 50 => ("SomebodysLiftModel", "imageInside", "I", false)
  | 51 => ("SomebodysLiftModel", "imageHome", "I", false)
  | 52 => ("SomebodysLiftModel", "imageLegs", "I", false)
  | 53 => ("SomebodysLiftModel", "imageSeen", "I", false)
  | 54 => ("SomebodysLiftModel", "imageBooks", "I", false)
  | 55 => ("SomebodysLiftModel", "imageKind", "[I", true)
  | 56 => ("SomebodysLiftModel", "imageV", "[I", true)
  | 57 => ("SomebodysLiftModel", "imageWhere", "[I", true)
  | 58 => ("SomebodysLiftModel", "imagePulls", "[I", true)
  | 59 => ("SomebodysLiftModel", "imageRows", "[I", true)
  | 60 => ("SomebodysLiftModel", "imageWhat", "[I", true)
  | 61 => ("SomebodysLiftModel", "imageLong", "[I", true)
  | 62 => ("SomebodysLiftModel", "imageMore", "[I", true)
  | 63 => ("SomebodysLiftModel", "imageBookWhat", "[I", true)
  | 64 => ("SomebodysLiftModel", "imageClimb", "[I", true)
  | 65 => ("SomebodysLiftModel", "ran", "I", false)
  | 66 => ("SomebodysLiftModel", "bodies", "[I", true)
  | 67 => ("SomebodysLiftModel", "sort", "[I", true)
  | 68 => ("SomebodysLiftModel", "length", "[I", true)
  | 69 => ("SomebodysLiftModel", "item", "[J", true)
  | _ => ("SomebodysLiftModel", "aside", "[J", true)
def tyX6 : Nat → FieldType := fun k => match k with
  | 0 => .int
  | 1 => .int
  | 2 => .int
  | 3 => .int
  | 4 => .int
  | 5 => .int
  | 6 => .array .int
  | 7 => .array .int
  | 8 => .array .int
  | 9 => .array .int
  | 10 => .array .int
  | 11 => .int
  | 12 => .int
  | 13 => .int
  | 14 => .int
  | 15 => .int
  | 16 => .array .int
  | 17 => .array .int
  | 18 => .array .int
  | 19 => .array .int
  | 20 => .array .int
  | 21 => .array .int
  | 22 => .array .int
  | 23 => .array .int
  | 24 => .int
  | 25 => .int
  | 26 => .int
  | 27 => .array .int
  | 28 => .array .boolean
  | 29 => .int
  | 30 => .int
  | 31 => .int
  | 32 => .int
  | 33 => .int
  | 34 => .int
  | 35 => .int
  | 36 => .int
  | 37 => .array .int
  | 38 => .array .int
  | 39 => .int
  | 40 => .array .int
  | 41 => .int
  | 42 => .array .int
  | 43 => .array .int
  | 44 => .boolean
  | 45 => .int
  | 46 => .int
  | 47 => .int
  | 48 => .int
  | 49 => .int
  | 50 => .int
  | 51 => .int
  | 52 => .int
  | 53 => .int
  | 54 => .int
  | 55 => .array .int
  | 56 => .array .int
  | 57 => .array .int
  | 58 => .array .int
  | 59 => .array .int
  | 60 => .array .int
  | 61 => .array .int
  | 62 => .array .int
  | 63 => .array .int
  | 64 => .array .int
  | 65 => .int
  | 66 => .array .int
  | 67 => .array .int
  | 68 => .array .int
  | 69 => .array .long
  | _ => .array .long
abbrev wsX60 : List Cond := u_ws RX6 TX6 71
set_option maxRecDepth 100000 in
theorem nmX6 : ∀ a, a < 71 → ∀ b, b < 71 → a ≠ b → (TX6 a).2.1 ≠ (TX6 b).2.1 := by decide +kernel
set_option maxRecDepth 100000 in
theorem tyX6_ok : ∀ k, k < 71 → parseFieldDescriptor (TX6 k).2.2.1 = some (tyX6 k) := by decide +kernel
abbrev cX6_init : ByteArray := prog_23_method_1_code
def yX6_init : MethodName := ⟨RX6, "<init>", "()V"⟩
def dkwX6_init_24 : List UInt8 := [181, 0, 220, 42, 16, 60, 188, 11, 181, 0, 224, 177]
abbrev dktX6_init_24 : List UInt8 := dkwX6_init_24 ++ []
def dkwX6_init_23 : List UInt8 := [79, 89, 8, 2, 79, 181, 0, 214, 42, 16, 6, 188, 10, 181, 0, 217, 42, 17, 1, 104, 188, 11]
abbrev dktX6_init_23 : List UInt8 := dkwX6_init_23 ++ dktX6_init_24
def dkwX6_init_22 : List UInt8 := [42, 16, 6, 188, 10, 89, 3, 2, 79, 89, 4, 2, 79, 89, 5, 2, 79, 89, 6, 2, 79, 89, 7, 2]
abbrev dktX6_init_22 : List UInt8 := dkwX6_init_22 ++ dktX6_init_23
def dkwX6_init_21 : List UInt8 := [181, 0, 202, 42, 16, 8, 188, 10, 181, 0, 205, 42, 3, 181, 0, 208, 42, 16, 20, 188, 10, 181, 0, 211]
abbrev dktX6_init_21 : List UInt8 := dkwX6_init_21 ++ dktX6_init_22
def dkwX6_init_20 : List UInt8 := [181, 0, 193, 42, 7, 188, 10, 181, 0, 196, 42, 8, 188, 10, 181, 0, 199, 42, 16, 8, 188, 10]
abbrev dktX6_init_20 : List UInt8 := dkwX6_init_20 ++ dktX6_init_21
def dkwX6_init_19 : List UInt8 := [181, 0, 184, 42, 16, 6, 188, 10, 181, 0, 187, 42, 16, 24, 188, 10, 181, 0, 190, 42, 7, 188, 10]
abbrev dktX6_init_19 : List UInt8 := dkwX6_init_19 ++ dktX6_init_20
def dkwX6_init_18 : List UInt8 := [181, 0, 175, 42, 16, 6, 188, 10, 181, 0, 178, 42, 16, 6, 188, 10, 181, 0, 181, 42, 16, 6, 188, 10]
abbrev dktX6_init_18 : List UInt8 := dkwX6_init_18 ++ dktX6_init_19
def dkwX6_init_17 : List UInt8 := [42, 2, 181, 0, 163, 42, 16, 60, 181, 0, 166, 42, 3, 181, 0, 169, 42, 3, 181, 0, 172, 42, 3]
abbrev dktX6_init_17 : List UInt8 := dkwX6_init_17 ++ dktX6_init_18
def dkwX6_init_16 : List UInt8 := [181, 0, 148, 42, 3, 181, 0, 151, 42, 3, 181, 0, 154, 42, 3, 181, 0, 157, 42, 16, 100, 181, 0, 160]
abbrev dktX6_init_16 : List UInt8 := dkwX6_init_16 ++ dktX6_init_17
def dkwX6_init_15 : List UInt8 := [16, 8, 188, 10, 181, 0, 138, 42, 16, 8, 188, 10, 181, 0, 141, 42, 3, 181, 0, 144, 42, 2]
abbrev dktX6_init_15 : List UInt8 := dkwX6_init_15 ++ dktX6_init_16
def dkwX6_init_14 : List UInt8 := [188, 10, 181, 0, 126, 42, 3, 181, 0, 129, 42, 8, 188, 10, 181, 0, 132, 42, 3, 181, 0, 135, 42]
abbrev dktX6_init_14 : List UInt8 := dkwX6_init_14 ++ dktX6_init_15
def dkwX6_init_13 : List UInt8 := [181, 0, 114, 42, 16, 251, 181, 0, 117, 42, 3, 181, 0, 120, 42, 7, 188, 10, 181, 0, 123, 42, 7]
abbrev dktX6_init_13 : List UInt8 := dkwX6_init_13 ++ dktX6_init_14
def dkwX6_init_12 : List UInt8 := [181, 0, 102, 42, 3, 181, 0, 105, 42, 3, 181, 0, 108, 42, 16, 251, 181, 0, 111, 42, 16, 251]
abbrev dktX6_init_12 : List UInt8 := dkwX6_init_12 ++ dktX6_init_13
def dkwX6_init_11 : List UInt8 := [16, 13, 16, 101, 79, 181, 0, 92, 42, 16, 100, 188, 4, 181, 0, 95, 42, 3, 181, 0, 99, 42, 3]
abbrev dktX6_init_11 : List UInt8 := dkwX6_init_11 ++ dktX6_init_12
def dkwX6_init_10 : List UInt8 := [16, 9, 16, 101, 79, 89, 16, 10, 16, 115, 79, 89, 16, 11, 16, 97, 79, 89, 16, 12, 16, 102, 79, 89]
abbrev dktX6_init_10 : List UInt8 := dkwX6_init_10 ++ dktX6_init_11
def dkwX6_init_9 : List UInt8 := [89, 8, 16, 110, 79, 89, 16, 6, 16, 98, 79, 89, 16, 7, 16, 97, 79, 89, 16, 8, 16, 115, 79, 89]
abbrev dktX6_init_9 : List UInt8 := dkwX6_init_9 ++ dktX6_init_10
def dkwX6_init_8 : List UInt8 := [3, 16, 117, 79, 89, 4, 16, 112, 79, 89, 5, 16, 100, 79, 89, 6, 16, 111, 79, 89, 7, 16, 119, 79]
abbrev dktX6_init_8 : List UInt8 := dkwX6_init_8 ++ dktX6_init_9
def dkwX6_init_7 : List UInt8 := [181, 0, 80, 42, 3, 181, 0, 83, 42, 3, 181, 0, 86, 42, 3, 181, 0, 89, 42, 16, 14, 188, 10, 89]
abbrev dktX6_init_7 : List UInt8 := dkwX6_init_7 ++ dktX6_init_8
def dkwX6_init_6 : List UInt8 := [42, 16, 60, 188, 10, 181, 0, 74, 42, 17, 2, 88, 188, 10, 181, 0, 77, 42, 16, 101, 188, 10]
abbrev dktX6_init_6 : List UInt8 := dkwX6_init_6 ++ dktX6_init_7
def dkwX6_init_5 : List UInt8 := [42, 16, 60, 188, 10, 181, 0, 65, 42, 16, 60, 188, 10, 181, 0, 68, 42, 16, 60, 188, 10, 181, 0, 71]
abbrev dktX6_init_5 : List UInt8 := dkwX6_init_5 ++ dktX6_init_6
def dkwX6_init_4 : List UInt8 := [181, 0, 53, 42, 3, 181, 0, 56, 42, 16, 100, 188, 10, 181, 0, 59, 42, 16, 6, 188, 10, 181, 0, 62]
abbrev dktX6_init_4 : List UInt8 := dkwX6_init_4 ++ dktX6_init_5
def dkwX6_init_3 : List UInt8 := [16, 24, 188, 10, 181, 0, 41, 42, 3, 181, 0, 44, 42, 2, 181, 0, 47, 42, 3, 181, 0, 50, 42, 3]
abbrev dktX6_init_3 : List UInt8 := dkwX6_init_3 ++ dktX6_init_4
def dkwX6_init_2 : List UInt8 := [16, 6, 188, 10, 181, 0, 32, 42, 16, 6, 188, 10, 181, 0, 35, 42, 16, 6, 188, 10, 181, 0, 38, 42]
abbrev dktX6_init_2 : List UInt8 := dkwX6_init_2 ++ dktX6_init_3
def dkwX6_init_1 : List UInt8 := [181, 0, 19, 42, 2, 181, 0, 22, 42, 16, 60, 181, 0, 25, 42, 16, 6, 188, 10, 181, 0, 28, 42]
abbrev dktX6_init_1 : List UInt8 := dkwX6_init_1 ++ dktX6_init_2
def dkwX6_init_0 : List UInt8 := [42, 183, 0, 1, 42, 3, 181, 0, 7, 42, 3, 181, 0, 13, 42, 3, 181, 0, 16, 42, 16, 100]
abbrev dktX6_init_0 : List UInt8 := dkwX6_init_0 ++ dktX6_init_1
theorem dksX6_init_0 : cX6_init.data.toList.drop 0 = dktX6_init_0 := by decide +kernel
theorem dksX6_init_1 : cX6_init.data.toList.drop 22 = dktX6_init_1 := dk_seg dksX6_init_0 22 rfl rfl
theorem dksX6_init_2 : cX6_init.data.toList.drop 45 = dktX6_init_2 := dk_seg dksX6_init_1 23 rfl rfl
theorem dksX6_init_3 : cX6_init.data.toList.drop 69 = dktX6_init_3 := dk_seg dksX6_init_2 24 rfl rfl
theorem dksX6_init_4 : cX6_init.data.toList.drop 93 = dktX6_init_4 := dk_seg dksX6_init_3 24 rfl rfl
theorem dksX6_init_5 : cX6_init.data.toList.drop 117 = dktX6_init_5 := dk_seg dksX6_init_4 24 rfl rfl
theorem dksX6_init_6 : cX6_init.data.toList.drop 141 = dktX6_init_6 := dk_seg dksX6_init_5 24 rfl rfl
theorem dksX6_init_7 : cX6_init.data.toList.drop 163 = dktX6_init_7 := dk_seg dksX6_init_6 22 rfl rfl
theorem dksX6_init_8 : cX6_init.data.toList.drop 187 = dktX6_init_8 := dk_seg dksX6_init_7 24 rfl rfl
theorem dksX6_init_9 : cX6_init.data.toList.drop 211 = dktX6_init_9 := dk_seg dksX6_init_8 24 rfl rfl
theorem dksX6_init_10 : cX6_init.data.toList.drop 235 = dktX6_init_10 := dk_seg dksX6_init_9 24 rfl rfl
theorem dksX6_init_11 : cX6_init.data.toList.drop 259 = dktX6_init_11 := dk_seg dksX6_init_10 24 rfl rfl
theorem dksX6_init_12 : cX6_init.data.toList.drop 282 = dktX6_init_12 := dk_seg dksX6_init_11 23 rfl rfl
theorem dksX6_init_13 : cX6_init.data.toList.drop 304 = dktX6_init_13 := dk_seg dksX6_init_12 22 rfl rfl
theorem dksX6_init_14 : cX6_init.data.toList.drop 327 = dktX6_init_14 := dk_seg dksX6_init_13 23 rfl rfl
theorem dksX6_init_15 : cX6_init.data.toList.drop 350 = dktX6_init_15 := dk_seg dksX6_init_14 23 rfl rfl
theorem dksX6_init_16 : cX6_init.data.toList.drop 372 = dktX6_init_16 := dk_seg dksX6_init_15 22 rfl rfl
theorem dksX6_init_17 : cX6_init.data.toList.drop 396 = dktX6_init_17 := dk_seg dksX6_init_16 24 rfl rfl
theorem dksX6_init_18 : cX6_init.data.toList.drop 419 = dktX6_init_18 := dk_seg dksX6_init_17 23 rfl rfl
theorem dksX6_init_19 : cX6_init.data.toList.drop 443 = dktX6_init_19 := dk_seg dksX6_init_18 24 rfl rfl
theorem dksX6_init_20 : cX6_init.data.toList.drop 466 = dktX6_init_20 := dk_seg dksX6_init_19 23 rfl rfl
theorem dksX6_init_21 : cX6_init.data.toList.drop 488 = dktX6_init_21 := dk_seg dksX6_init_20 22 rfl rfl
theorem dksX6_init_22 : cX6_init.data.toList.drop 512 = dktX6_init_22 := dk_seg dksX6_init_21 24 rfl rfl
theorem dksX6_init_23 : cX6_init.data.toList.drop 536 = dktX6_init_23 := dk_seg dksX6_init_22 24 rfl rfl
theorem dksX6_init_24 : cX6_init.data.toList.drop 558 = dktX6_init_24 := dk_seg dksX6_init_23 22 rfl rfl
theorem dX6_init_0 : decode cX6_init 0 = .ok (.aload_n 0, 1) := dk_42 (dk_at dksX6_init_0 0 rfl rfl)
theorem dX6_init_1 : decode cX6_init 1 = .ok (.invokespecial 1, 3) := dk_183 0 1 (dk_at dksX6_init_0 1 rfl rfl)
theorem dX6_init_4 : decode cX6_init 4 = .ok (.aload_n 0, 1) := dk_42 (dk_at dksX6_init_0 4 rfl rfl)
theorem dX6_init_5 : decode cX6_init 5 = .ok (.iconst 0, 1) := dk_3 (dk_at dksX6_init_0 5 rfl rfl)
theorem dX6_init_6 : decode cX6_init 6 = .ok (.putfield 7, 3) := dk_181 0 7 (dk_at dksX6_init_0 6 rfl rfl)
theorem dX6_init_9 : decode cX6_init 9 = .ok (.aload_n 0, 1) := dk_42 (dk_at dksX6_init_0 9 rfl rfl)
theorem dX6_init_10 : decode cX6_init 10 = .ok (.iconst 0, 1) := dk_3 (dk_at dksX6_init_0 10 rfl rfl)
theorem dX6_init_11 : decode cX6_init 11 = .ok (.putfield 13, 3) := dk_181 0 13 (dk_at dksX6_init_0 11 rfl rfl)
theorem dX6_init_14 : decode cX6_init 14 = .ok (.aload_n 0, 1) := dk_42 (dk_at dksX6_init_0 14 rfl rfl)
theorem dX6_init_15 : decode cX6_init 15 = .ok (.iconst 0, 1) := dk_3 (dk_at dksX6_init_0 15 rfl rfl)
theorem dX6_init_16 : decode cX6_init 16 = .ok (.putfield 16, 3) := dk_181 0 16 (dk_at dksX6_init_0 16 rfl rfl)
theorem dX6_init_19 : decode cX6_init 19 = .ok (.aload_n 0, 1) := dk_42 (dk_at dksX6_init_0 19 rfl rfl)
theorem dX6_init_20 : decode cX6_init 20 = .ok (.bipush 100, 2) := dk_16 100 (dk_at dksX6_init_0 20 rfl rfl)
theorem dX6_init_22 : decode cX6_init 22 = .ok (.putfield 19, 3) := dk_181 0 19 (dk_at dksX6_init_1 0 rfl rfl)
theorem dX6_init_25 : decode cX6_init 25 = .ok (.aload_n 0, 1) := dk_42 (dk_at dksX6_init_1 3 rfl rfl)
theorem dX6_init_26 : decode cX6_init 26 = .ok (.iconst (-1), 1) := dk_2 (dk_at dksX6_init_1 4 rfl rfl)
theorem dX6_init_27 : decode cX6_init 27 = .ok (.putfield 22, 3) := dk_181 0 22 (dk_at dksX6_init_1 5 rfl rfl)
theorem dX6_init_30 : decode cX6_init 30 = .ok (.aload_n 0, 1) := dk_42 (dk_at dksX6_init_1 8 rfl rfl)
theorem dX6_init_31 : decode cX6_init 31 = .ok (.bipush 60, 2) := dk_16 60 (dk_at dksX6_init_1 9 rfl rfl)
theorem dX6_init_33 : decode cX6_init 33 = .ok (.putfield 25, 3) := dk_181 0 25 (dk_at dksX6_init_1 11 rfl rfl)
theorem dX6_init_36 : decode cX6_init 36 = .ok (.aload_n 0, 1) := dk_42 (dk_at dksX6_init_1 14 rfl rfl)
theorem dX6_init_37 : decode cX6_init 37 = .ok (.bipush 6, 2) := dk_16 6 (dk_at dksX6_init_1 15 rfl rfl)
theorem dX6_init_39 : decode cX6_init 39 = .ok (.newarray .int, 2) := dk_188_10 (dk_at dksX6_init_1 17 rfl rfl)
theorem dX6_init_41 : decode cX6_init 41 = .ok (.putfield 28, 3) := dk_181 0 28 (dk_at dksX6_init_1 19 rfl rfl)
theorem dX6_init_44 : decode cX6_init 44 = .ok (.aload_n 0, 1) := dk_42 (dk_at dksX6_init_1 22 rfl rfl)
theorem dX6_init_45 : decode cX6_init 45 = .ok (.bipush 6, 2) := dk_16 6 (dk_at dksX6_init_2 0 rfl rfl)
theorem dX6_init_47 : decode cX6_init 47 = .ok (.newarray .int, 2) := dk_188_10 (dk_at dksX6_init_2 2 rfl rfl)
theorem dX6_init_49 : decode cX6_init 49 = .ok (.putfield 32, 3) := dk_181 0 32 (dk_at dksX6_init_2 4 rfl rfl)
theorem dX6_init_52 : decode cX6_init 52 = .ok (.aload_n 0, 1) := dk_42 (dk_at dksX6_init_2 7 rfl rfl)
theorem dX6_init_53 : decode cX6_init 53 = .ok (.bipush 6, 2) := dk_16 6 (dk_at dksX6_init_2 8 rfl rfl)
theorem dX6_init_55 : decode cX6_init 55 = .ok (.newarray .int, 2) := dk_188_10 (dk_at dksX6_init_2 10 rfl rfl)
theorem dX6_init_57 : decode cX6_init 57 = .ok (.putfield 35, 3) := dk_181 0 35 (dk_at dksX6_init_2 12 rfl rfl)
theorem dX6_init_60 : decode cX6_init 60 = .ok (.aload_n 0, 1) := dk_42 (dk_at dksX6_init_2 15 rfl rfl)
theorem dX6_init_61 : decode cX6_init 61 = .ok (.bipush 6, 2) := dk_16 6 (dk_at dksX6_init_2 16 rfl rfl)
theorem dX6_init_63 : decode cX6_init 63 = .ok (.newarray .int, 2) := dk_188_10 (dk_at dksX6_init_2 18 rfl rfl)
theorem dX6_init_65 : decode cX6_init 65 = .ok (.putfield 38, 3) := dk_181 0 38 (dk_at dksX6_init_2 20 rfl rfl)
theorem dX6_init_68 : decode cX6_init 68 = .ok (.aload_n 0, 1) := dk_42 (dk_at dksX6_init_2 23 rfl rfl)
theorem dX6_init_69 : decode cX6_init 69 = .ok (.bipush 24, 2) := dk_16 24 (dk_at dksX6_init_3 0 rfl rfl)
theorem dX6_init_71 : decode cX6_init 71 = .ok (.newarray .int, 2) := dk_188_10 (dk_at dksX6_init_3 2 rfl rfl)
theorem dX6_init_73 : decode cX6_init 73 = .ok (.putfield 41, 3) := dk_181 0 41 (dk_at dksX6_init_3 4 rfl rfl)
theorem dX6_init_76 : decode cX6_init 76 = .ok (.aload_n 0, 1) := dk_42 (dk_at dksX6_init_3 7 rfl rfl)
theorem dX6_init_77 : decode cX6_init 77 = .ok (.iconst 0, 1) := dk_3 (dk_at dksX6_init_3 8 rfl rfl)
theorem dX6_init_78 : decode cX6_init 78 = .ok (.putfield 44, 3) := dk_181 0 44 (dk_at dksX6_init_3 9 rfl rfl)
theorem dX6_init_81 : decode cX6_init 81 = .ok (.aload_n 0, 1) := dk_42 (dk_at dksX6_init_3 12 rfl rfl)
theorem dX6_init_82 : decode cX6_init 82 = .ok (.iconst (-1), 1) := dk_2 (dk_at dksX6_init_3 13 rfl rfl)
theorem dX6_init_83 : decode cX6_init 83 = .ok (.putfield 47, 3) := dk_181 0 47 (dk_at dksX6_init_3 14 rfl rfl)
theorem dX6_init_86 : decode cX6_init 86 = .ok (.aload_n 0, 1) := dk_42 (dk_at dksX6_init_3 17 rfl rfl)
theorem dX6_init_87 : decode cX6_init 87 = .ok (.iconst 0, 1) := dk_3 (dk_at dksX6_init_3 18 rfl rfl)
theorem dX6_init_88 : decode cX6_init 88 = .ok (.putfield 50, 3) := dk_181 0 50 (dk_at dksX6_init_3 19 rfl rfl)
theorem dX6_init_91 : decode cX6_init 91 = .ok (.aload_n 0, 1) := dk_42 (dk_at dksX6_init_3 22 rfl rfl)
theorem dX6_init_92 : decode cX6_init 92 = .ok (.iconst 0, 1) := dk_3 (dk_at dksX6_init_3 23 rfl rfl)
theorem dX6_init_93 : decode cX6_init 93 = .ok (.putfield 53, 3) := dk_181 0 53 (dk_at dksX6_init_4 0 rfl rfl)
theorem dX6_init_96 : decode cX6_init 96 = .ok (.aload_n 0, 1) := dk_42 (dk_at dksX6_init_4 3 rfl rfl)
theorem dX6_init_97 : decode cX6_init 97 = .ok (.iconst 0, 1) := dk_3 (dk_at dksX6_init_4 4 rfl rfl)
theorem dX6_init_98 : decode cX6_init 98 = .ok (.putfield 56, 3) := dk_181 0 56 (dk_at dksX6_init_4 5 rfl rfl)
theorem dX6_init_101 : decode cX6_init 101 = .ok (.aload_n 0, 1) := dk_42 (dk_at dksX6_init_4 8 rfl rfl)
theorem dX6_init_102 : decode cX6_init 102 = .ok (.bipush 100, 2) := dk_16 100 (dk_at dksX6_init_4 9 rfl rfl)
theorem dX6_init_104 : decode cX6_init 104 = .ok (.newarray .int, 2) := dk_188_10 (dk_at dksX6_init_4 11 rfl rfl)
theorem dX6_init_106 : decode cX6_init 106 = .ok (.putfield 59, 3) := dk_181 0 59 (dk_at dksX6_init_4 13 rfl rfl)
theorem dX6_init_109 : decode cX6_init 109 = .ok (.aload_n 0, 1) := dk_42 (dk_at dksX6_init_4 16 rfl rfl)
theorem dX6_init_110 : decode cX6_init 110 = .ok (.bipush 6, 2) := dk_16 6 (dk_at dksX6_init_4 17 rfl rfl)
theorem dX6_init_112 : decode cX6_init 112 = .ok (.newarray .int, 2) := dk_188_10 (dk_at dksX6_init_4 19 rfl rfl)
theorem dX6_init_114 : decode cX6_init 114 = .ok (.putfield 62, 3) := dk_181 0 62 (dk_at dksX6_init_4 21 rfl rfl)
theorem dX6_init_117 : decode cX6_init 117 = .ok (.aload_n 0, 1) := dk_42 (dk_at dksX6_init_5 0 rfl rfl)
theorem dX6_init_118 : decode cX6_init 118 = .ok (.bipush 60, 2) := dk_16 60 (dk_at dksX6_init_5 1 rfl rfl)
theorem dX6_init_120 : decode cX6_init 120 = .ok (.newarray .int, 2) := dk_188_10 (dk_at dksX6_init_5 3 rfl rfl)
theorem dX6_init_122 : decode cX6_init 122 = .ok (.putfield 65, 3) := dk_181 0 65 (dk_at dksX6_init_5 5 rfl rfl)
theorem dX6_init_125 : decode cX6_init 125 = .ok (.aload_n 0, 1) := dk_42 (dk_at dksX6_init_5 8 rfl rfl)
theorem dX6_init_126 : decode cX6_init 126 = .ok (.bipush 60, 2) := dk_16 60 (dk_at dksX6_init_5 9 rfl rfl)
theorem dX6_init_128 : decode cX6_init 128 = .ok (.newarray .int, 2) := dk_188_10 (dk_at dksX6_init_5 11 rfl rfl)
theorem dX6_init_130 : decode cX6_init 130 = .ok (.putfield 68, 3) := dk_181 0 68 (dk_at dksX6_init_5 13 rfl rfl)
theorem dX6_init_133 : decode cX6_init 133 = .ok (.aload_n 0, 1) := dk_42 (dk_at dksX6_init_5 16 rfl rfl)
theorem dX6_init_134 : decode cX6_init 134 = .ok (.bipush 60, 2) := dk_16 60 (dk_at dksX6_init_5 17 rfl rfl)
theorem dX6_init_136 : decode cX6_init 136 = .ok (.newarray .int, 2) := dk_188_10 (dk_at dksX6_init_5 19 rfl rfl)
theorem dX6_init_138 : decode cX6_init 138 = .ok (.putfield 71, 3) := dk_181 0 71 (dk_at dksX6_init_5 21 rfl rfl)
theorem dX6_init_141 : decode cX6_init 141 = .ok (.aload_n 0, 1) := dk_42 (dk_at dksX6_init_6 0 rfl rfl)
theorem dX6_init_142 : decode cX6_init 142 = .ok (.bipush 60, 2) := dk_16 60 (dk_at dksX6_init_6 1 rfl rfl)
theorem dX6_init_144 : decode cX6_init 144 = .ok (.newarray .int, 2) := dk_188_10 (dk_at dksX6_init_6 3 rfl rfl)
theorem dX6_init_146 : decode cX6_init 146 = .ok (.putfield 74, 3) := dk_181 0 74 (dk_at dksX6_init_6 5 rfl rfl)
theorem dX6_init_149 : decode cX6_init 149 = .ok (.aload_n 0, 1) := dk_42 (dk_at dksX6_init_6 8 rfl rfl)
theorem dX6_init_150 : decode cX6_init 150 = .ok (.sipush 600, 3) := dk_17 2 88 (dk_at dksX6_init_6 9 rfl rfl)
theorem dX6_init_153 : decode cX6_init 153 = .ok (.newarray .int, 2) := dk_188_10 (dk_at dksX6_init_6 12 rfl rfl)
theorem dX6_init_155 : decode cX6_init 155 = .ok (.putfield 77, 3) := dk_181 0 77 (dk_at dksX6_init_6 14 rfl rfl)
theorem dX6_init_158 : decode cX6_init 158 = .ok (.aload_n 0, 1) := dk_42 (dk_at dksX6_init_6 17 rfl rfl)
theorem dX6_init_159 : decode cX6_init 159 = .ok (.bipush 101, 2) := dk_16 101 (dk_at dksX6_init_6 18 rfl rfl)
theorem dX6_init_161 : decode cX6_init 161 = .ok (.newarray .int, 2) := dk_188_10 (dk_at dksX6_init_6 20 rfl rfl)
theorem dX6_init_163 : decode cX6_init 163 = .ok (.putfield 80, 3) := dk_181 0 80 (dk_at dksX6_init_7 0 rfl rfl)
theorem dX6_init_166 : decode cX6_init 166 = .ok (.aload_n 0, 1) := dk_42 (dk_at dksX6_init_7 3 rfl rfl)
theorem dX6_init_167 : decode cX6_init 167 = .ok (.iconst 0, 1) := dk_3 (dk_at dksX6_init_7 4 rfl rfl)
theorem dX6_init_168 : decode cX6_init 168 = .ok (.putfield 83, 3) := dk_181 0 83 (dk_at dksX6_init_7 5 rfl rfl)
theorem dX6_init_171 : decode cX6_init 171 = .ok (.aload_n 0, 1) := dk_42 (dk_at dksX6_init_7 8 rfl rfl)
theorem dX6_init_172 : decode cX6_init 172 = .ok (.iconst 0, 1) := dk_3 (dk_at dksX6_init_7 9 rfl rfl)
theorem dX6_init_173 : decode cX6_init 173 = .ok (.putfield 86, 3) := dk_181 0 86 (dk_at dksX6_init_7 10 rfl rfl)
theorem dX6_init_176 : decode cX6_init 176 = .ok (.aload_n 0, 1) := dk_42 (dk_at dksX6_init_7 13 rfl rfl)
theorem dX6_init_177 : decode cX6_init 177 = .ok (.iconst 0, 1) := dk_3 (dk_at dksX6_init_7 14 rfl rfl)
theorem dX6_init_178 : decode cX6_init 178 = .ok (.putfield 89, 3) := dk_181 0 89 (dk_at dksX6_init_7 15 rfl rfl)
theorem dX6_init_181 : decode cX6_init 181 = .ok (.aload_n 0, 1) := dk_42 (dk_at dksX6_init_7 18 rfl rfl)
theorem dX6_init_182 : decode cX6_init 182 = .ok (.bipush 14, 2) := dk_16 14 (dk_at dksX6_init_7 19 rfl rfl)
theorem dX6_init_184 : decode cX6_init 184 = .ok (.newarray .int, 2) := dk_188_10 (dk_at dksX6_init_7 21 rfl rfl)
theorem dX6_init_186 : decode cX6_init 186 = .ok (.dup, 1) := dk_89 (dk_at dksX6_init_7 23 rfl rfl)
theorem dX6_init_187 : decode cX6_init 187 = .ok (.iconst 0, 1) := dk_3 (dk_at dksX6_init_8 0 rfl rfl)
theorem dX6_init_188 : decode cX6_init 188 = .ok (.bipush 117, 2) := dk_16 117 (dk_at dksX6_init_8 1 rfl rfl)
theorem dX6_init_190 : decode cX6_init 190 = .ok (.iastore, 1) := dk_79 (dk_at dksX6_init_8 3 rfl rfl)
theorem dX6_init_191 : decode cX6_init 191 = .ok (.dup, 1) := dk_89 (dk_at dksX6_init_8 4 rfl rfl)
theorem dX6_init_192 : decode cX6_init 192 = .ok (.iconst 1, 1) := dk_4 (dk_at dksX6_init_8 5 rfl rfl)
theorem dX6_init_193 : decode cX6_init 193 = .ok (.bipush 112, 2) := dk_16 112 (dk_at dksX6_init_8 6 rfl rfl)
theorem dX6_init_195 : decode cX6_init 195 = .ok (.iastore, 1) := dk_79 (dk_at dksX6_init_8 8 rfl rfl)
theorem dX6_init_196 : decode cX6_init 196 = .ok (.dup, 1) := dk_89 (dk_at dksX6_init_8 9 rfl rfl)
theorem dX6_init_197 : decode cX6_init 197 = .ok (.iconst 2, 1) := dk_5 (dk_at dksX6_init_8 10 rfl rfl)
theorem dX6_init_198 : decode cX6_init 198 = .ok (.bipush 100, 2) := dk_16 100 (dk_at dksX6_init_8 11 rfl rfl)
theorem dX6_init_200 : decode cX6_init 200 = .ok (.iastore, 1) := dk_79 (dk_at dksX6_init_8 13 rfl rfl)
theorem dX6_init_201 : decode cX6_init 201 = .ok (.dup, 1) := dk_89 (dk_at dksX6_init_8 14 rfl rfl)
theorem dX6_init_202 : decode cX6_init 202 = .ok (.iconst 3, 1) := dk_6 (dk_at dksX6_init_8 15 rfl rfl)
theorem dX6_init_203 : decode cX6_init 203 = .ok (.bipush 111, 2) := dk_16 111 (dk_at dksX6_init_8 16 rfl rfl)
theorem dX6_init_205 : decode cX6_init 205 = .ok (.iastore, 1) := dk_79 (dk_at dksX6_init_8 18 rfl rfl)
theorem dX6_init_206 : decode cX6_init 206 = .ok (.dup, 1) := dk_89 (dk_at dksX6_init_8 19 rfl rfl)
theorem dX6_init_207 : decode cX6_init 207 = .ok (.iconst 4, 1) := dk_7 (dk_at dksX6_init_8 20 rfl rfl)
theorem dX6_init_208 : decode cX6_init 208 = .ok (.bipush 119, 2) := dk_16 119 (dk_at dksX6_init_8 21 rfl rfl)
theorem dX6_init_210 : decode cX6_init 210 = .ok (.iastore, 1) := dk_79 (dk_at dksX6_init_8 23 rfl rfl)
theorem dX6_init_211 : decode cX6_init 211 = .ok (.dup, 1) := dk_89 (dk_at dksX6_init_9 0 rfl rfl)
theorem dX6_init_212 : decode cX6_init 212 = .ok (.iconst 5, 1) := dk_8 (dk_at dksX6_init_9 1 rfl rfl)
theorem dX6_init_213 : decode cX6_init 213 = .ok (.bipush 110, 2) := dk_16 110 (dk_at dksX6_init_9 2 rfl rfl)
theorem dX6_init_215 : decode cX6_init 215 = .ok (.iastore, 1) := dk_79 (dk_at dksX6_init_9 4 rfl rfl)
theorem dX6_init_216 : decode cX6_init 216 = .ok (.dup, 1) := dk_89 (dk_at dksX6_init_9 5 rfl rfl)
theorem dX6_init_217 : decode cX6_init 217 = .ok (.bipush 6, 2) := dk_16 6 (dk_at dksX6_init_9 6 rfl rfl)
theorem dX6_init_219 : decode cX6_init 219 = .ok (.bipush 98, 2) := dk_16 98 (dk_at dksX6_init_9 8 rfl rfl)
theorem dX6_init_221 : decode cX6_init 221 = .ok (.iastore, 1) := dk_79 (dk_at dksX6_init_9 10 rfl rfl)
theorem dX6_init_222 : decode cX6_init 222 = .ok (.dup, 1) := dk_89 (dk_at dksX6_init_9 11 rfl rfl)
theorem dX6_init_223 : decode cX6_init 223 = .ok (.bipush 7, 2) := dk_16 7 (dk_at dksX6_init_9 12 rfl rfl)
theorem dX6_init_225 : decode cX6_init 225 = .ok (.bipush 97, 2) := dk_16 97 (dk_at dksX6_init_9 14 rfl rfl)
theorem dX6_init_227 : decode cX6_init 227 = .ok (.iastore, 1) := dk_79 (dk_at dksX6_init_9 16 rfl rfl)
theorem dX6_init_228 : decode cX6_init 228 = .ok (.dup, 1) := dk_89 (dk_at dksX6_init_9 17 rfl rfl)
theorem dX6_init_229 : decode cX6_init 229 = .ok (.bipush 8, 2) := dk_16 8 (dk_at dksX6_init_9 18 rfl rfl)
theorem dX6_init_231 : decode cX6_init 231 = .ok (.bipush 115, 2) := dk_16 115 (dk_at dksX6_init_9 20 rfl rfl)
theorem dX6_init_233 : decode cX6_init 233 = .ok (.iastore, 1) := dk_79 (dk_at dksX6_init_9 22 rfl rfl)
theorem dX6_init_234 : decode cX6_init 234 = .ok (.dup, 1) := dk_89 (dk_at dksX6_init_9 23 rfl rfl)
theorem dX6_init_235 : decode cX6_init 235 = .ok (.bipush 9, 2) := dk_16 9 (dk_at dksX6_init_10 0 rfl rfl)
theorem dX6_init_237 : decode cX6_init 237 = .ok (.bipush 101, 2) := dk_16 101 (dk_at dksX6_init_10 2 rfl rfl)
theorem dX6_init_239 : decode cX6_init 239 = .ok (.iastore, 1) := dk_79 (dk_at dksX6_init_10 4 rfl rfl)
theorem dX6_init_240 : decode cX6_init 240 = .ok (.dup, 1) := dk_89 (dk_at dksX6_init_10 5 rfl rfl)
theorem dX6_init_241 : decode cX6_init 241 = .ok (.bipush 10, 2) := dk_16 10 (dk_at dksX6_init_10 6 rfl rfl)
theorem dX6_init_243 : decode cX6_init 243 = .ok (.bipush 115, 2) := dk_16 115 (dk_at dksX6_init_10 8 rfl rfl)
theorem dX6_init_245 : decode cX6_init 245 = .ok (.iastore, 1) := dk_79 (dk_at dksX6_init_10 10 rfl rfl)
theorem dX6_init_246 : decode cX6_init 246 = .ok (.dup, 1) := dk_89 (dk_at dksX6_init_10 11 rfl rfl)
theorem dX6_init_247 : decode cX6_init 247 = .ok (.bipush 11, 2) := dk_16 11 (dk_at dksX6_init_10 12 rfl rfl)
theorem dX6_init_249 : decode cX6_init 249 = .ok (.bipush 97, 2) := dk_16 97 (dk_at dksX6_init_10 14 rfl rfl)
theorem dX6_init_251 : decode cX6_init 251 = .ok (.iastore, 1) := dk_79 (dk_at dksX6_init_10 16 rfl rfl)
theorem dX6_init_252 : decode cX6_init 252 = .ok (.dup, 1) := dk_89 (dk_at dksX6_init_10 17 rfl rfl)
theorem dX6_init_253 : decode cX6_init 253 = .ok (.bipush 12, 2) := dk_16 12 (dk_at dksX6_init_10 18 rfl rfl)
theorem dX6_init_255 : decode cX6_init 255 = .ok (.bipush 102, 2) := dk_16 102 (dk_at dksX6_init_10 20 rfl rfl)
theorem dX6_init_257 : decode cX6_init 257 = .ok (.iastore, 1) := dk_79 (dk_at dksX6_init_10 22 rfl rfl)
theorem dX6_init_258 : decode cX6_init 258 = .ok (.dup, 1) := dk_89 (dk_at dksX6_init_10 23 rfl rfl)
theorem dX6_init_259 : decode cX6_init 259 = .ok (.bipush 13, 2) := dk_16 13 (dk_at dksX6_init_11 0 rfl rfl)
theorem dX6_init_261 : decode cX6_init 261 = .ok (.bipush 101, 2) := dk_16 101 (dk_at dksX6_init_11 2 rfl rfl)
theorem dX6_init_263 : decode cX6_init 263 = .ok (.iastore, 1) := dk_79 (dk_at dksX6_init_11 4 rfl rfl)
theorem dX6_init_264 : decode cX6_init 264 = .ok (.putfield 92, 3) := dk_181 0 92 (dk_at dksX6_init_11 5 rfl rfl)
theorem dX6_init_267 : decode cX6_init 267 = .ok (.aload_n 0, 1) := dk_42 (dk_at dksX6_init_11 8 rfl rfl)
theorem dX6_init_268 : decode cX6_init 268 = .ok (.bipush 100, 2) := dk_16 100 (dk_at dksX6_init_11 9 rfl rfl)
theorem dX6_init_270 : decode cX6_init 270 = .ok (.newarray .boolean, 2) := dk_188_4 (dk_at dksX6_init_11 11 rfl rfl)
theorem dX6_init_272 : decode cX6_init 272 = .ok (.putfield 95, 3) := dk_181 0 95 (dk_at dksX6_init_11 13 rfl rfl)
theorem dX6_init_275 : decode cX6_init 275 = .ok (.aload_n 0, 1) := dk_42 (dk_at dksX6_init_11 16 rfl rfl)
theorem dX6_init_276 : decode cX6_init 276 = .ok (.iconst 0, 1) := dk_3 (dk_at dksX6_init_11 17 rfl rfl)
theorem dX6_init_277 : decode cX6_init 277 = .ok (.putfield 99, 3) := dk_181 0 99 (dk_at dksX6_init_11 18 rfl rfl)
theorem dX6_init_280 : decode cX6_init 280 = .ok (.aload_n 0, 1) := dk_42 (dk_at dksX6_init_11 21 rfl rfl)
theorem dX6_init_281 : decode cX6_init 281 = .ok (.iconst 0, 1) := dk_3 (dk_at dksX6_init_11 22 rfl rfl)
theorem dX6_init_282 : decode cX6_init 282 = .ok (.putfield 102, 3) := dk_181 0 102 (dk_at dksX6_init_12 0 rfl rfl)
theorem dX6_init_285 : decode cX6_init 285 = .ok (.aload_n 0, 1) := dk_42 (dk_at dksX6_init_12 3 rfl rfl)
theorem dX6_init_286 : decode cX6_init 286 = .ok (.iconst 0, 1) := dk_3 (dk_at dksX6_init_12 4 rfl rfl)
theorem dX6_init_287 : decode cX6_init 287 = .ok (.putfield 105, 3) := dk_181 0 105 (dk_at dksX6_init_12 5 rfl rfl)
theorem dX6_init_290 : decode cX6_init 290 = .ok (.aload_n 0, 1) := dk_42 (dk_at dksX6_init_12 8 rfl rfl)
theorem dX6_init_291 : decode cX6_init 291 = .ok (.iconst 0, 1) := dk_3 (dk_at dksX6_init_12 9 rfl rfl)
theorem dX6_init_292 : decode cX6_init 292 = .ok (.putfield 108, 3) := dk_181 0 108 (dk_at dksX6_init_12 10 rfl rfl)
theorem dX6_init_295 : decode cX6_init 295 = .ok (.aload_n 0, 1) := dk_42 (dk_at dksX6_init_12 13 rfl rfl)
theorem dX6_init_296 : decode cX6_init 296 = .ok (.bipush (-5), 2) := dk_16 251 (dk_at dksX6_init_12 14 rfl rfl)
theorem dX6_init_298 : decode cX6_init 298 = .ok (.putfield 111, 3) := dk_181 0 111 (dk_at dksX6_init_12 16 rfl rfl)
theorem dX6_init_301 : decode cX6_init 301 = .ok (.aload_n 0, 1) := dk_42 (dk_at dksX6_init_12 19 rfl rfl)
theorem dX6_init_302 : decode cX6_init 302 = .ok (.bipush (-5), 2) := dk_16 251 (dk_at dksX6_init_12 20 rfl rfl)
theorem dX6_init_304 : decode cX6_init 304 = .ok (.putfield 114, 3) := dk_181 0 114 (dk_at dksX6_init_13 0 rfl rfl)
theorem dX6_init_307 : decode cX6_init 307 = .ok (.aload_n 0, 1) := dk_42 (dk_at dksX6_init_13 3 rfl rfl)
theorem dX6_init_308 : decode cX6_init 308 = .ok (.bipush (-5), 2) := dk_16 251 (dk_at dksX6_init_13 4 rfl rfl)
theorem dX6_init_310 : decode cX6_init 310 = .ok (.putfield 117, 3) := dk_181 0 117 (dk_at dksX6_init_13 6 rfl rfl)
theorem dX6_init_313 : decode cX6_init 313 = .ok (.aload_n 0, 1) := dk_42 (dk_at dksX6_init_13 9 rfl rfl)
theorem dX6_init_314 : decode cX6_init 314 = .ok (.iconst 0, 1) := dk_3 (dk_at dksX6_init_13 10 rfl rfl)
theorem dX6_init_315 : decode cX6_init 315 = .ok (.putfield 120, 3) := dk_181 0 120 (dk_at dksX6_init_13 11 rfl rfl)
theorem dX6_init_318 : decode cX6_init 318 = .ok (.aload_n 0, 1) := dk_42 (dk_at dksX6_init_13 14 rfl rfl)
theorem dX6_init_319 : decode cX6_init 319 = .ok (.iconst 4, 1) := dk_7 (dk_at dksX6_init_13 15 rfl rfl)
theorem dX6_init_320 : decode cX6_init 320 = .ok (.newarray .int, 2) := dk_188_10 (dk_at dksX6_init_13 16 rfl rfl)
theorem dX6_init_322 : decode cX6_init 322 = .ok (.putfield 123, 3) := dk_181 0 123 (dk_at dksX6_init_13 18 rfl rfl)
theorem dX6_init_325 : decode cX6_init 325 = .ok (.aload_n 0, 1) := dk_42 (dk_at dksX6_init_13 21 rfl rfl)
theorem dX6_init_326 : decode cX6_init 326 = .ok (.iconst 4, 1) := dk_7 (dk_at dksX6_init_13 22 rfl rfl)
theorem dX6_init_327 : decode cX6_init 327 = .ok (.newarray .int, 2) := dk_188_10 (dk_at dksX6_init_14 0 rfl rfl)
theorem dX6_init_329 : decode cX6_init 329 = .ok (.putfield 126, 3) := dk_181 0 126 (dk_at dksX6_init_14 2 rfl rfl)
theorem dX6_init_332 : decode cX6_init 332 = .ok (.aload_n 0, 1) := dk_42 (dk_at dksX6_init_14 5 rfl rfl)
theorem dX6_init_333 : decode cX6_init 333 = .ok (.iconst 0, 1) := dk_3 (dk_at dksX6_init_14 6 rfl rfl)
theorem dX6_init_334 : decode cX6_init 334 = .ok (.putfield 129, 3) := dk_181 0 129 (dk_at dksX6_init_14 7 rfl rfl)
theorem dX6_init_337 : decode cX6_init 337 = .ok (.aload_n 0, 1) := dk_42 (dk_at dksX6_init_14 10 rfl rfl)
theorem dX6_init_338 : decode cX6_init 338 = .ok (.iconst 5, 1) := dk_8 (dk_at dksX6_init_14 11 rfl rfl)
theorem dX6_init_339 : decode cX6_init 339 = .ok (.newarray .int, 2) := dk_188_10 (dk_at dksX6_init_14 12 rfl rfl)
theorem dX6_init_341 : decode cX6_init 341 = .ok (.putfield 132, 3) := dk_181 0 132 (dk_at dksX6_init_14 14 rfl rfl)
theorem dX6_init_344 : decode cX6_init 344 = .ok (.aload_n 0, 1) := dk_42 (dk_at dksX6_init_14 17 rfl rfl)
theorem dX6_init_345 : decode cX6_init 345 = .ok (.iconst 0, 1) := dk_3 (dk_at dksX6_init_14 18 rfl rfl)
theorem dX6_init_346 : decode cX6_init 346 = .ok (.putfield 135, 3) := dk_181 0 135 (dk_at dksX6_init_14 19 rfl rfl)
theorem dX6_init_349 : decode cX6_init 349 = .ok (.aload_n 0, 1) := dk_42 (dk_at dksX6_init_14 22 rfl rfl)
theorem dX6_init_350 : decode cX6_init 350 = .ok (.bipush 8, 2) := dk_16 8 (dk_at dksX6_init_15 0 rfl rfl)
theorem dX6_init_352 : decode cX6_init 352 = .ok (.newarray .int, 2) := dk_188_10 (dk_at dksX6_init_15 2 rfl rfl)
theorem dX6_init_354 : decode cX6_init 354 = .ok (.putfield 138, 3) := dk_181 0 138 (dk_at dksX6_init_15 4 rfl rfl)
theorem dX6_init_357 : decode cX6_init 357 = .ok (.aload_n 0, 1) := dk_42 (dk_at dksX6_init_15 7 rfl rfl)
theorem dX6_init_358 : decode cX6_init 358 = .ok (.bipush 8, 2) := dk_16 8 (dk_at dksX6_init_15 8 rfl rfl)
theorem dX6_init_360 : decode cX6_init 360 = .ok (.newarray .int, 2) := dk_188_10 (dk_at dksX6_init_15 10 rfl rfl)
theorem dX6_init_362 : decode cX6_init 362 = .ok (.putfield 141, 3) := dk_181 0 141 (dk_at dksX6_init_15 12 rfl rfl)
theorem dX6_init_365 : decode cX6_init 365 = .ok (.aload_n 0, 1) := dk_42 (dk_at dksX6_init_15 15 rfl rfl)
theorem dX6_init_366 : decode cX6_init 366 = .ok (.iconst 0, 1) := dk_3 (dk_at dksX6_init_15 16 rfl rfl)
theorem dX6_init_367 : decode cX6_init 367 = .ok (.putfield 144, 3) := dk_181 0 144 (dk_at dksX6_init_15 17 rfl rfl)
theorem dX6_init_370 : decode cX6_init 370 = .ok (.aload_n 0, 1) := dk_42 (dk_at dksX6_init_15 20 rfl rfl)
theorem dX6_init_371 : decode cX6_init 371 = .ok (.iconst (-1), 1) := dk_2 (dk_at dksX6_init_15 21 rfl rfl)
theorem dX6_init_372 : decode cX6_init 372 = .ok (.putfield 148, 3) := dk_181 0 148 (dk_at dksX6_init_16 0 rfl rfl)
theorem dX6_init_375 : decode cX6_init 375 = .ok (.aload_n 0, 1) := dk_42 (dk_at dksX6_init_16 3 rfl rfl)
theorem dX6_init_376 : decode cX6_init 376 = .ok (.iconst 0, 1) := dk_3 (dk_at dksX6_init_16 4 rfl rfl)
theorem dX6_init_377 : decode cX6_init 377 = .ok (.putfield 151, 3) := dk_181 0 151 (dk_at dksX6_init_16 5 rfl rfl)
theorem dX6_init_380 : decode cX6_init 380 = .ok (.aload_n 0, 1) := dk_42 (dk_at dksX6_init_16 8 rfl rfl)
theorem dX6_init_381 : decode cX6_init 381 = .ok (.iconst 0, 1) := dk_3 (dk_at dksX6_init_16 9 rfl rfl)
theorem dX6_init_382 : decode cX6_init 382 = .ok (.putfield 154, 3) := dk_181 0 154 (dk_at dksX6_init_16 10 rfl rfl)
theorem dX6_init_385 : decode cX6_init 385 = .ok (.aload_n 0, 1) := dk_42 (dk_at dksX6_init_16 13 rfl rfl)
theorem dX6_init_386 : decode cX6_init 386 = .ok (.iconst 0, 1) := dk_3 (dk_at dksX6_init_16 14 rfl rfl)
theorem dX6_init_387 : decode cX6_init 387 = .ok (.putfield 157, 3) := dk_181 0 157 (dk_at dksX6_init_16 15 rfl rfl)
theorem dX6_init_390 : decode cX6_init 390 = .ok (.aload_n 0, 1) := dk_42 (dk_at dksX6_init_16 18 rfl rfl)
theorem dX6_init_391 : decode cX6_init 391 = .ok (.bipush 100, 2) := dk_16 100 (dk_at dksX6_init_16 19 rfl rfl)
theorem dX6_init_393 : decode cX6_init 393 = .ok (.putfield 160, 3) := dk_181 0 160 (dk_at dksX6_init_16 21 rfl rfl)
theorem dX6_init_396 : decode cX6_init 396 = .ok (.aload_n 0, 1) := dk_42 (dk_at dksX6_init_17 0 rfl rfl)
theorem dX6_init_397 : decode cX6_init 397 = .ok (.iconst (-1), 1) := dk_2 (dk_at dksX6_init_17 1 rfl rfl)
theorem dX6_init_398 : decode cX6_init 398 = .ok (.putfield 163, 3) := dk_181 0 163 (dk_at dksX6_init_17 2 rfl rfl)
theorem dX6_init_401 : decode cX6_init 401 = .ok (.aload_n 0, 1) := dk_42 (dk_at dksX6_init_17 5 rfl rfl)
theorem dX6_init_402 : decode cX6_init 402 = .ok (.bipush 60, 2) := dk_16 60 (dk_at dksX6_init_17 6 rfl rfl)
theorem dX6_init_404 : decode cX6_init 404 = .ok (.putfield 166, 3) := dk_181 0 166 (dk_at dksX6_init_17 8 rfl rfl)
theorem dX6_init_407 : decode cX6_init 407 = .ok (.aload_n 0, 1) := dk_42 (dk_at dksX6_init_17 11 rfl rfl)
theorem dX6_init_408 : decode cX6_init 408 = .ok (.iconst 0, 1) := dk_3 (dk_at dksX6_init_17 12 rfl rfl)
theorem dX6_init_409 : decode cX6_init 409 = .ok (.putfield 169, 3) := dk_181 0 169 (dk_at dksX6_init_17 13 rfl rfl)
theorem dX6_init_412 : decode cX6_init 412 = .ok (.aload_n 0, 1) := dk_42 (dk_at dksX6_init_17 16 rfl rfl)
theorem dX6_init_413 : decode cX6_init 413 = .ok (.iconst 0, 1) := dk_3 (dk_at dksX6_init_17 17 rfl rfl)
theorem dX6_init_414 : decode cX6_init 414 = .ok (.putfield 172, 3) := dk_181 0 172 (dk_at dksX6_init_17 18 rfl rfl)
theorem dX6_init_417 : decode cX6_init 417 = .ok (.aload_n 0, 1) := dk_42 (dk_at dksX6_init_17 21 rfl rfl)
theorem dX6_init_418 : decode cX6_init 418 = .ok (.iconst 0, 1) := dk_3 (dk_at dksX6_init_17 22 rfl rfl)
theorem dX6_init_419 : decode cX6_init 419 = .ok (.putfield 175, 3) := dk_181 0 175 (dk_at dksX6_init_18 0 rfl rfl)
theorem dX6_init_422 : decode cX6_init 422 = .ok (.aload_n 0, 1) := dk_42 (dk_at dksX6_init_18 3 rfl rfl)
theorem dX6_init_423 : decode cX6_init 423 = .ok (.bipush 6, 2) := dk_16 6 (dk_at dksX6_init_18 4 rfl rfl)
theorem dX6_init_425 : decode cX6_init 425 = .ok (.newarray .int, 2) := dk_188_10 (dk_at dksX6_init_18 6 rfl rfl)
theorem dX6_init_427 : decode cX6_init 427 = .ok (.putfield 178, 3) := dk_181 0 178 (dk_at dksX6_init_18 8 rfl rfl)
theorem dX6_init_430 : decode cX6_init 430 = .ok (.aload_n 0, 1) := dk_42 (dk_at dksX6_init_18 11 rfl rfl)
theorem dX6_init_431 : decode cX6_init 431 = .ok (.bipush 6, 2) := dk_16 6 (dk_at dksX6_init_18 12 rfl rfl)
theorem dX6_init_433 : decode cX6_init 433 = .ok (.newarray .int, 2) := dk_188_10 (dk_at dksX6_init_18 14 rfl rfl)
theorem dX6_init_435 : decode cX6_init 435 = .ok (.putfield 181, 3) := dk_181 0 181 (dk_at dksX6_init_18 16 rfl rfl)
theorem dX6_init_438 : decode cX6_init 438 = .ok (.aload_n 0, 1) := dk_42 (dk_at dksX6_init_18 19 rfl rfl)
theorem dX6_init_439 : decode cX6_init 439 = .ok (.bipush 6, 2) := dk_16 6 (dk_at dksX6_init_18 20 rfl rfl)
theorem dX6_init_441 : decode cX6_init 441 = .ok (.newarray .int, 2) := dk_188_10 (dk_at dksX6_init_18 22 rfl rfl)
theorem dX6_init_443 : decode cX6_init 443 = .ok (.putfield 184, 3) := dk_181 0 184 (dk_at dksX6_init_19 0 rfl rfl)
theorem dX6_init_446 : decode cX6_init 446 = .ok (.aload_n 0, 1) := dk_42 (dk_at dksX6_init_19 3 rfl rfl)
theorem dX6_init_447 : decode cX6_init 447 = .ok (.bipush 6, 2) := dk_16 6 (dk_at dksX6_init_19 4 rfl rfl)
theorem dX6_init_449 : decode cX6_init 449 = .ok (.newarray .int, 2) := dk_188_10 (dk_at dksX6_init_19 6 rfl rfl)
theorem dX6_init_451 : decode cX6_init 451 = .ok (.putfield 187, 3) := dk_181 0 187 (dk_at dksX6_init_19 8 rfl rfl)
theorem dX6_init_454 : decode cX6_init 454 = .ok (.aload_n 0, 1) := dk_42 (dk_at dksX6_init_19 11 rfl rfl)
theorem dX6_init_455 : decode cX6_init 455 = .ok (.bipush 24, 2) := dk_16 24 (dk_at dksX6_init_19 12 rfl rfl)
theorem dX6_init_457 : decode cX6_init 457 = .ok (.newarray .int, 2) := dk_188_10 (dk_at dksX6_init_19 14 rfl rfl)
theorem dX6_init_459 : decode cX6_init 459 = .ok (.putfield 190, 3) := dk_181 0 190 (dk_at dksX6_init_19 16 rfl rfl)
theorem dX6_init_462 : decode cX6_init 462 = .ok (.aload_n 0, 1) := dk_42 (dk_at dksX6_init_19 19 rfl rfl)
theorem dX6_init_463 : decode cX6_init 463 = .ok (.iconst 4, 1) := dk_7 (dk_at dksX6_init_19 20 rfl rfl)
theorem dX6_init_464 : decode cX6_init 464 = .ok (.newarray .int, 2) := dk_188_10 (dk_at dksX6_init_19 21 rfl rfl)
theorem dX6_init_466 : decode cX6_init 466 = .ok (.putfield 193, 3) := dk_181 0 193 (dk_at dksX6_init_20 0 rfl rfl)
theorem dX6_init_469 : decode cX6_init 469 = .ok (.aload_n 0, 1) := dk_42 (dk_at dksX6_init_20 3 rfl rfl)
theorem dX6_init_470 : decode cX6_init 470 = .ok (.iconst 4, 1) := dk_7 (dk_at dksX6_init_20 4 rfl rfl)
theorem dX6_init_471 : decode cX6_init 471 = .ok (.newarray .int, 2) := dk_188_10 (dk_at dksX6_init_20 5 rfl rfl)
theorem dX6_init_473 : decode cX6_init 473 = .ok (.putfield 196, 3) := dk_181 0 196 (dk_at dksX6_init_20 7 rfl rfl)
theorem dX6_init_476 : decode cX6_init 476 = .ok (.aload_n 0, 1) := dk_42 (dk_at dksX6_init_20 10 rfl rfl)
theorem dX6_init_477 : decode cX6_init 477 = .ok (.iconst 5, 1) := dk_8 (dk_at dksX6_init_20 11 rfl rfl)
theorem dX6_init_478 : decode cX6_init 478 = .ok (.newarray .int, 2) := dk_188_10 (dk_at dksX6_init_20 12 rfl rfl)
theorem dX6_init_480 : decode cX6_init 480 = .ok (.putfield 199, 3) := dk_181 0 199 (dk_at dksX6_init_20 14 rfl rfl)
theorem dX6_init_483 : decode cX6_init 483 = .ok (.aload_n 0, 1) := dk_42 (dk_at dksX6_init_20 17 rfl rfl)
theorem dX6_init_484 : decode cX6_init 484 = .ok (.bipush 8, 2) := dk_16 8 (dk_at dksX6_init_20 18 rfl rfl)
theorem dX6_init_486 : decode cX6_init 486 = .ok (.newarray .int, 2) := dk_188_10 (dk_at dksX6_init_20 20 rfl rfl)
theorem dX6_init_488 : decode cX6_init 488 = .ok (.putfield 202, 3) := dk_181 0 202 (dk_at dksX6_init_21 0 rfl rfl)
theorem dX6_init_491 : decode cX6_init 491 = .ok (.aload_n 0, 1) := dk_42 (dk_at dksX6_init_21 3 rfl rfl)
theorem dX6_init_492 : decode cX6_init 492 = .ok (.bipush 8, 2) := dk_16 8 (dk_at dksX6_init_21 4 rfl rfl)
theorem dX6_init_494 : decode cX6_init 494 = .ok (.newarray .int, 2) := dk_188_10 (dk_at dksX6_init_21 6 rfl rfl)
theorem dX6_init_496 : decode cX6_init 496 = .ok (.putfield 205, 3) := dk_181 0 205 (dk_at dksX6_init_21 8 rfl rfl)
theorem dX6_init_499 : decode cX6_init 499 = .ok (.aload_n 0, 1) := dk_42 (dk_at dksX6_init_21 11 rfl rfl)
theorem dX6_init_500 : decode cX6_init 500 = .ok (.iconst 0, 1) := dk_3 (dk_at dksX6_init_21 12 rfl rfl)
theorem dX6_init_501 : decode cX6_init 501 = .ok (.putfield 208, 3) := dk_181 0 208 (dk_at dksX6_init_21 13 rfl rfl)
theorem dX6_init_504 : decode cX6_init 504 = .ok (.aload_n 0, 1) := dk_42 (dk_at dksX6_init_21 16 rfl rfl)
theorem dX6_init_505 : decode cX6_init 505 = .ok (.bipush 20, 2) := dk_16 20 (dk_at dksX6_init_21 17 rfl rfl)
theorem dX6_init_507 : decode cX6_init 507 = .ok (.newarray .int, 2) := dk_188_10 (dk_at dksX6_init_21 19 rfl rfl)
theorem dX6_init_509 : decode cX6_init 509 = .ok (.putfield 211, 3) := dk_181 0 211 (dk_at dksX6_init_21 21 rfl rfl)
theorem dX6_init_512 : decode cX6_init 512 = .ok (.aload_n 0, 1) := dk_42 (dk_at dksX6_init_22 0 rfl rfl)
theorem dX6_init_513 : decode cX6_init 513 = .ok (.bipush 6, 2) := dk_16 6 (dk_at dksX6_init_22 1 rfl rfl)
theorem dX6_init_515 : decode cX6_init 515 = .ok (.newarray .int, 2) := dk_188_10 (dk_at dksX6_init_22 3 rfl rfl)
theorem dX6_init_517 : decode cX6_init 517 = .ok (.dup, 1) := dk_89 (dk_at dksX6_init_22 5 rfl rfl)
theorem dX6_init_518 : decode cX6_init 518 = .ok (.iconst 0, 1) := dk_3 (dk_at dksX6_init_22 6 rfl rfl)
theorem dX6_init_519 : decode cX6_init 519 = .ok (.iconst (-1), 1) := dk_2 (dk_at dksX6_init_22 7 rfl rfl)
theorem dX6_init_520 : decode cX6_init 520 = .ok (.iastore, 1) := dk_79 (dk_at dksX6_init_22 8 rfl rfl)
theorem dX6_init_521 : decode cX6_init 521 = .ok (.dup, 1) := dk_89 (dk_at dksX6_init_22 9 rfl rfl)
theorem dX6_init_522 : decode cX6_init 522 = .ok (.iconst 1, 1) := dk_4 (dk_at dksX6_init_22 10 rfl rfl)
theorem dX6_init_523 : decode cX6_init 523 = .ok (.iconst (-1), 1) := dk_2 (dk_at dksX6_init_22 11 rfl rfl)
theorem dX6_init_524 : decode cX6_init 524 = .ok (.iastore, 1) := dk_79 (dk_at dksX6_init_22 12 rfl rfl)
theorem dX6_init_525 : decode cX6_init 525 = .ok (.dup, 1) := dk_89 (dk_at dksX6_init_22 13 rfl rfl)
theorem dX6_init_526 : decode cX6_init 526 = .ok (.iconst 2, 1) := dk_5 (dk_at dksX6_init_22 14 rfl rfl)
theorem dX6_init_527 : decode cX6_init 527 = .ok (.iconst (-1), 1) := dk_2 (dk_at dksX6_init_22 15 rfl rfl)
theorem dX6_init_528 : decode cX6_init 528 = .ok (.iastore, 1) := dk_79 (dk_at dksX6_init_22 16 rfl rfl)
theorem dX6_init_529 : decode cX6_init 529 = .ok (.dup, 1) := dk_89 (dk_at dksX6_init_22 17 rfl rfl)
theorem dX6_init_530 : decode cX6_init 530 = .ok (.iconst 3, 1) := dk_6 (dk_at dksX6_init_22 18 rfl rfl)
theorem dX6_init_531 : decode cX6_init 531 = .ok (.iconst (-1), 1) := dk_2 (dk_at dksX6_init_22 19 rfl rfl)
theorem dX6_init_532 : decode cX6_init 532 = .ok (.iastore, 1) := dk_79 (dk_at dksX6_init_22 20 rfl rfl)
theorem dX6_init_533 : decode cX6_init 533 = .ok (.dup, 1) := dk_89 (dk_at dksX6_init_22 21 rfl rfl)
theorem dX6_init_534 : decode cX6_init 534 = .ok (.iconst 4, 1) := dk_7 (dk_at dksX6_init_22 22 rfl rfl)
theorem dX6_init_535 : decode cX6_init 535 = .ok (.iconst (-1), 1) := dk_2 (dk_at dksX6_init_22 23 rfl rfl)
theorem dX6_init_536 : decode cX6_init 536 = .ok (.iastore, 1) := dk_79 (dk_at dksX6_init_23 0 rfl rfl)
theorem dX6_init_537 : decode cX6_init 537 = .ok (.dup, 1) := dk_89 (dk_at dksX6_init_23 1 rfl rfl)
theorem dX6_init_538 : decode cX6_init 538 = .ok (.iconst 5, 1) := dk_8 (dk_at dksX6_init_23 2 rfl rfl)
theorem dX6_init_539 : decode cX6_init 539 = .ok (.iconst (-1), 1) := dk_2 (dk_at dksX6_init_23 3 rfl rfl)
theorem dX6_init_540 : decode cX6_init 540 = .ok (.iastore, 1) := dk_79 (dk_at dksX6_init_23 4 rfl rfl)
theorem dX6_init_541 : decode cX6_init 541 = .ok (.putfield 214, 3) := dk_181 0 214 (dk_at dksX6_init_23 5 rfl rfl)
theorem dX6_init_544 : decode cX6_init 544 = .ok (.aload_n 0, 1) := dk_42 (dk_at dksX6_init_23 8 rfl rfl)
theorem dX6_init_545 : decode cX6_init 545 = .ok (.bipush 6, 2) := dk_16 6 (dk_at dksX6_init_23 9 rfl rfl)
theorem dX6_init_547 : decode cX6_init 547 = .ok (.newarray .int, 2) := dk_188_10 (dk_at dksX6_init_23 11 rfl rfl)
theorem dX6_init_549 : decode cX6_init 549 = .ok (.putfield 217, 3) := dk_181 0 217 (dk_at dksX6_init_23 13 rfl rfl)
theorem dX6_init_552 : decode cX6_init 552 = .ok (.aload_n 0, 1) := dk_42 (dk_at dksX6_init_23 16 rfl rfl)
theorem dX6_init_553 : decode cX6_init 553 = .ok (.sipush 360, 3) := dk_17 1 104 (dk_at dksX6_init_23 17 rfl rfl)
theorem dX6_init_556 : decode cX6_init 556 = .ok (.newarray .long, 2) := dk_188_11 (dk_at dksX6_init_23 20 rfl rfl)
theorem dX6_init_558 : decode cX6_init 558 = .ok (.putfield 220, 3) := dk_181 0 220 (dk_at dksX6_init_24 0 rfl rfl)
theorem dX6_init_561 : decode cX6_init 561 = .ok (.aload_n 0, 1) := dk_42 (dk_at dksX6_init_24 3 rfl rfl)
theorem dX6_init_562 : decode cX6_init 562 = .ok (.bipush 60, 2) := dk_16 60 (dk_at dksX6_init_24 4 rfl rfl)
theorem dX6_init_564 : decode cX6_init 564 = .ok (.newarray .long, 2) := dk_188_11 (dk_at dksX6_init_24 6 rfl rfl)
theorem dX6_init_566 : decode cX6_init 566 = .ok (.putfield 224, 3) := dk_181 0 224 (dk_at dksX6_init_24 8 rfl rfl)
theorem dX6_init_569 : decode cX6_init 569 = .ok (.return_, 1) := dk_177 (dk_at dksX6_init_24 11 rfl rfl)
abbrev cX6_lift : ByteArray := prog_23_method_8_code
def yX6_lift : MethodName := ⟨RX6, "lift", "(IIII)I"⟩
def dkwX6_lift_6 : List UInt8 := [180, 0, 7, 4, 100, 172]
abbrev dktX6_lift_6 : List UInt8 := dkwX6_lift_6 ++ []
def dkwX6_lift_5 : List UInt8 := [104, 21, 5, 96, 3, 79, 132, 5, 1, 167, 255, 232, 42, 89, 180, 0, 7, 4, 96, 181, 0, 7, 42]
abbrev dktX6_lift_5 : List UInt8 := dkwX6_lift_5 ++ dktX6_lift_6
def dkwX6_lift_4 : List UInt8 := [180, 0, 7, 21, 4, 79, 3, 54, 5, 21, 5, 7, 162, 0, 24, 42, 180, 0, 41, 7, 42, 180, 0, 7]
abbrev dktX6_lift_4 : List UInt8 := dkwX6_lift_4 ++ dktX6_lift_5
def dkwX6_lift_3 : List UInt8 := [180, 0, 32, 42, 180, 0, 7, 28, 79, 42, 180, 0, 35, 42, 180, 0, 7, 29, 79, 42, 180, 0, 38, 42]
abbrev dktX6_lift_3 : List UInt8 := dkwX6_lift_3 ++ dktX6_lift_4
def dkwX6_lift_2 : List UInt8 := [180, 0, 7, 16, 6, 160, 0, 6, 16, 252, 172, 42, 180, 0, 28, 42, 180, 0, 7, 27, 79, 42]
abbrev dktX6_lift_2 : List UInt8 := dkwX6_lift_2 ++ dktX6_lift_3
def dkwX6_lift_1 : List UInt8 := [42, 29, 182, 0, 231, 153, 0, 15, 42, 21, 4, 3, 16, 20, 182, 0, 227, 154, 0, 6, 16, 254, 172, 42]
abbrev dktX6_lift_1 : List UInt8 := dkwX6_lift_1 ++ dktX6_lift_2
def dkwX6_lift_0 : List UInt8 := [42, 27, 3, 16, 6, 182, 0, 227, 154, 0, 5, 2, 172, 42, 28, 3, 16, 9, 182, 0, 227, 153, 0, 23]
abbrev dktX6_lift_0 : List UInt8 := dkwX6_lift_0 ++ dktX6_lift_1
theorem dksX6_lift_0 : cX6_lift.data.toList.drop 0 = dktX6_lift_0 := by decide +kernel
theorem dksX6_lift_1 : cX6_lift.data.toList.drop 24 = dktX6_lift_1 := dk_seg dksX6_lift_0 24 rfl rfl
theorem dksX6_lift_2 : cX6_lift.data.toList.drop 48 = dktX6_lift_2 := dk_seg dksX6_lift_1 24 rfl rfl
theorem dksX6_lift_3 : cX6_lift.data.toList.drop 70 = dktX6_lift_3 := dk_seg dksX6_lift_2 22 rfl rfl
theorem dksX6_lift_4 : cX6_lift.data.toList.drop 94 = dktX6_lift_4 := dk_seg dksX6_lift_3 24 rfl rfl
theorem dksX6_lift_5 : cX6_lift.data.toList.drop 118 = dktX6_lift_5 := dk_seg dksX6_lift_4 24 rfl rfl
theorem dksX6_lift_6 : cX6_lift.data.toList.drop 141 = dktX6_lift_6 := dk_seg dksX6_lift_5 23 rfl rfl
theorem dX6_lift_0 : decode cX6_lift 0 = .ok (.aload_n 0, 1) := dk_42 (dk_at dksX6_lift_0 0 rfl rfl)
theorem dX6_lift_1 : decode cX6_lift 1 = .ok (.iload_n 1, 1) := dk_27 (dk_at dksX6_lift_0 1 rfl rfl)
theorem dX6_lift_2 : decode cX6_lift 2 = .ok (.iconst 0, 1) := dk_3 (dk_at dksX6_lift_0 2 rfl rfl)
theorem dX6_lift_3 : decode cX6_lift 3 = .ok (.bipush 6, 2) := dk_16 6 (dk_at dksX6_lift_0 3 rfl rfl)
theorem dX6_lift_5 : decode cX6_lift 5 = .ok (.invokevirtual 227, 3) := dk_182 0 227 (dk_at dksX6_lift_0 5 rfl rfl)
theorem dX6_lift_8 : decode cX6_lift 8 = .ok (.ifCond .ne 5, 3) := dk_154 0 5 (dk_at dksX6_lift_0 8 rfl rfl)
theorem dX6_lift_11 : decode cX6_lift 11 = .ok (.iconst (-1), 1) := dk_2 (dk_at dksX6_lift_0 11 rfl rfl)
theorem dX6_lift_12 : decode cX6_lift 12 = .ok (.ireturn, 1) := dk_172 (dk_at dksX6_lift_0 12 rfl rfl)
theorem dX6_lift_13 : decode cX6_lift 13 = .ok (.aload_n 0, 1) := dk_42 (dk_at dksX6_lift_0 13 rfl rfl)
theorem dX6_lift_14 : decode cX6_lift 14 = .ok (.iload_n 2, 1) := dk_28 (dk_at dksX6_lift_0 14 rfl rfl)
theorem dX6_lift_15 : decode cX6_lift 15 = .ok (.iconst 0, 1) := dk_3 (dk_at dksX6_lift_0 15 rfl rfl)
theorem dX6_lift_16 : decode cX6_lift 16 = .ok (.bipush 9, 2) := dk_16 9 (dk_at dksX6_lift_0 16 rfl rfl)
theorem dX6_lift_18 : decode cX6_lift 18 = .ok (.invokevirtual 227, 3) := dk_182 0 227 (dk_at dksX6_lift_0 18 rfl rfl)
theorem dX6_lift_21 : decode cX6_lift 21 = .ok (.ifCond .eq 23, 3) := dk_153 0 23 (dk_at dksX6_lift_0 21 rfl rfl)
theorem dX6_lift_24 : decode cX6_lift 24 = .ok (.aload_n 0, 1) := dk_42 (dk_at dksX6_lift_1 0 rfl rfl)
theorem dX6_lift_25 : decode cX6_lift 25 = .ok (.iload_n 3, 1) := dk_29 (dk_at dksX6_lift_1 1 rfl rfl)
theorem dX6_lift_26 : decode cX6_lift 26 = .ok (.invokevirtual 231, 3) := dk_182 0 231 (dk_at dksX6_lift_1 2 rfl rfl)
theorem dX6_lift_29 : decode cX6_lift 29 = .ok (.ifCond .eq 15, 3) := dk_153 0 15 (dk_at dksX6_lift_1 5 rfl rfl)
theorem dX6_lift_32 : decode cX6_lift 32 = .ok (.aload_n 0, 1) := dk_42 (dk_at dksX6_lift_1 8 rfl rfl)
theorem dX6_lift_33 : decode cX6_lift 33 = .ok (.iload 4, 2) := dk_21 4 (dk_at dksX6_lift_1 9 rfl rfl)
theorem dX6_lift_35 : decode cX6_lift 35 = .ok (.iconst 0, 1) := dk_3 (dk_at dksX6_lift_1 11 rfl rfl)
theorem dX6_lift_36 : decode cX6_lift 36 = .ok (.bipush 20, 2) := dk_16 20 (dk_at dksX6_lift_1 12 rfl rfl)
theorem dX6_lift_38 : decode cX6_lift 38 = .ok (.invokevirtual 227, 3) := dk_182 0 227 (dk_at dksX6_lift_1 14 rfl rfl)
theorem dX6_lift_41 : decode cX6_lift 41 = .ok (.ifCond .ne 6, 3) := dk_154 0 6 (dk_at dksX6_lift_1 17 rfl rfl)
theorem dX6_lift_44 : decode cX6_lift 44 = .ok (.bipush (-2), 2) := dk_16 254 (dk_at dksX6_lift_1 20 rfl rfl)
theorem dX6_lift_46 : decode cX6_lift 46 = .ok (.ireturn, 1) := dk_172 (dk_at dksX6_lift_1 22 rfl rfl)
theorem dX6_lift_47 : decode cX6_lift 47 = .ok (.aload_n 0, 1) := dk_42 (dk_at dksX6_lift_1 23 rfl rfl)
theorem dX6_lift_48 : decode cX6_lift 48 = .ok (.getfield 7, 3) := dk_180 0 7 (dk_at dksX6_lift_2 0 rfl rfl)
theorem dX6_lift_51 : decode cX6_lift 51 = .ok (.bipush 6, 2) := dk_16 6 (dk_at dksX6_lift_2 3 rfl rfl)
theorem dX6_lift_53 : decode cX6_lift 53 = .ok (.if_icmp .ne 6, 3) := dk_160 0 6 (dk_at dksX6_lift_2 5 rfl rfl)
theorem dX6_lift_56 : decode cX6_lift 56 = .ok (.bipush (-4), 2) := dk_16 252 (dk_at dksX6_lift_2 8 rfl rfl)
theorem dX6_lift_58 : decode cX6_lift 58 = .ok (.ireturn, 1) := dk_172 (dk_at dksX6_lift_2 10 rfl rfl)
theorem dX6_lift_59 : decode cX6_lift 59 = .ok (.aload_n 0, 1) := dk_42 (dk_at dksX6_lift_2 11 rfl rfl)
theorem dX6_lift_60 : decode cX6_lift 60 = .ok (.getfield 28, 3) := dk_180 0 28 (dk_at dksX6_lift_2 12 rfl rfl)
theorem dX6_lift_63 : decode cX6_lift 63 = .ok (.aload_n 0, 1) := dk_42 (dk_at dksX6_lift_2 15 rfl rfl)
theorem dX6_lift_64 : decode cX6_lift 64 = .ok (.getfield 7, 3) := dk_180 0 7 (dk_at dksX6_lift_2 16 rfl rfl)
theorem dX6_lift_67 : decode cX6_lift 67 = .ok (.iload_n 1, 1) := dk_27 (dk_at dksX6_lift_2 19 rfl rfl)
theorem dX6_lift_68 : decode cX6_lift 68 = .ok (.iastore, 1) := dk_79 (dk_at dksX6_lift_2 20 rfl rfl)
theorem dX6_lift_69 : decode cX6_lift 69 = .ok (.aload_n 0, 1) := dk_42 (dk_at dksX6_lift_2 21 rfl rfl)
theorem dX6_lift_70 : decode cX6_lift 70 = .ok (.getfield 32, 3) := dk_180 0 32 (dk_at dksX6_lift_3 0 rfl rfl)
theorem dX6_lift_73 : decode cX6_lift 73 = .ok (.aload_n 0, 1) := dk_42 (dk_at dksX6_lift_3 3 rfl rfl)
theorem dX6_lift_74 : decode cX6_lift 74 = .ok (.getfield 7, 3) := dk_180 0 7 (dk_at dksX6_lift_3 4 rfl rfl)
theorem dX6_lift_77 : decode cX6_lift 77 = .ok (.iload_n 2, 1) := dk_28 (dk_at dksX6_lift_3 7 rfl rfl)
theorem dX6_lift_78 : decode cX6_lift 78 = .ok (.iastore, 1) := dk_79 (dk_at dksX6_lift_3 8 rfl rfl)
theorem dX6_lift_79 : decode cX6_lift 79 = .ok (.aload_n 0, 1) := dk_42 (dk_at dksX6_lift_3 9 rfl rfl)
theorem dX6_lift_80 : decode cX6_lift 80 = .ok (.getfield 35, 3) := dk_180 0 35 (dk_at dksX6_lift_3 10 rfl rfl)
theorem dX6_lift_83 : decode cX6_lift 83 = .ok (.aload_n 0, 1) := dk_42 (dk_at dksX6_lift_3 13 rfl rfl)
theorem dX6_lift_84 : decode cX6_lift 84 = .ok (.getfield 7, 3) := dk_180 0 7 (dk_at dksX6_lift_3 14 rfl rfl)
theorem dX6_lift_87 : decode cX6_lift 87 = .ok (.iload_n 3, 1) := dk_29 (dk_at dksX6_lift_3 17 rfl rfl)
theorem dX6_lift_88 : decode cX6_lift 88 = .ok (.iastore, 1) := dk_79 (dk_at dksX6_lift_3 18 rfl rfl)
theorem dX6_lift_89 : decode cX6_lift 89 = .ok (.aload_n 0, 1) := dk_42 (dk_at dksX6_lift_3 19 rfl rfl)
theorem dX6_lift_90 : decode cX6_lift 90 = .ok (.getfield 38, 3) := dk_180 0 38 (dk_at dksX6_lift_3 20 rfl rfl)
theorem dX6_lift_93 : decode cX6_lift 93 = .ok (.aload_n 0, 1) := dk_42 (dk_at dksX6_lift_3 23 rfl rfl)
theorem dX6_lift_94 : decode cX6_lift 94 = .ok (.getfield 7, 3) := dk_180 0 7 (dk_at dksX6_lift_4 0 rfl rfl)
theorem dX6_lift_97 : decode cX6_lift 97 = .ok (.iload 4, 2) := dk_21 4 (dk_at dksX6_lift_4 3 rfl rfl)
theorem dX6_lift_99 : decode cX6_lift 99 = .ok (.iastore, 1) := dk_79 (dk_at dksX6_lift_4 5 rfl rfl)
theorem dX6_lift_100 : decode cX6_lift 100 = .ok (.iconst 0, 1) := dk_3 (dk_at dksX6_lift_4 6 rfl rfl)
theorem dX6_lift_101 : decode cX6_lift 101 = .ok (.istore 5, 2) := dk_54 5 (dk_at dksX6_lift_4 7 rfl rfl)
theorem dX6_lift_103 : decode cX6_lift 103 = .ok (.iload 5, 2) := dk_21 5 (dk_at dksX6_lift_4 9 rfl rfl)
theorem dX6_lift_105 : decode cX6_lift 105 = .ok (.iconst 4, 1) := dk_7 (dk_at dksX6_lift_4 11 rfl rfl)
theorem dX6_lift_106 : decode cX6_lift 106 = .ok (.if_icmp .ge 24, 3) := dk_162 0 24 (dk_at dksX6_lift_4 12 rfl rfl)
theorem dX6_lift_109 : decode cX6_lift 109 = .ok (.aload_n 0, 1) := dk_42 (dk_at dksX6_lift_4 15 rfl rfl)
theorem dX6_lift_110 : decode cX6_lift 110 = .ok (.getfield 41, 3) := dk_180 0 41 (dk_at dksX6_lift_4 16 rfl rfl)
theorem dX6_lift_113 : decode cX6_lift 113 = .ok (.iconst 4, 1) := dk_7 (dk_at dksX6_lift_4 19 rfl rfl)
theorem dX6_lift_114 : decode cX6_lift 114 = .ok (.aload_n 0, 1) := dk_42 (dk_at dksX6_lift_4 20 rfl rfl)
theorem dX6_lift_115 : decode cX6_lift 115 = .ok (.getfield 7, 3) := dk_180 0 7 (dk_at dksX6_lift_4 21 rfl rfl)
theorem dX6_lift_118 : decode cX6_lift 118 = .ok (.imul, 1) := dk_104 (dk_at dksX6_lift_5 0 rfl rfl)
theorem dX6_lift_119 : decode cX6_lift 119 = .ok (.iload 5, 2) := dk_21 5 (dk_at dksX6_lift_5 1 rfl rfl)
theorem dX6_lift_121 : decode cX6_lift 121 = .ok (.iadd, 1) := dk_96 (dk_at dksX6_lift_5 3 rfl rfl)
theorem dX6_lift_122 : decode cX6_lift 122 = .ok (.iconst 0, 1) := dk_3 (dk_at dksX6_lift_5 4 rfl rfl)
theorem dX6_lift_123 : decode cX6_lift 123 = .ok (.iastore, 1) := dk_79 (dk_at dksX6_lift_5 5 rfl rfl)
theorem dX6_lift_124 : decode cX6_lift 124 = .ok (.iinc 5 1, 3) := dk_132 5 1 (dk_at dksX6_lift_5 6 rfl rfl)
theorem dX6_lift_127 : decode cX6_lift 127 = .ok (.goto (-24), 3) := dk_167 255 232 (dk_at dksX6_lift_5 9 rfl rfl)
theorem dX6_lift_130 : decode cX6_lift 130 = .ok (.aload_n 0, 1) := dk_42 (dk_at dksX6_lift_5 12 rfl rfl)
theorem dX6_lift_131 : decode cX6_lift 131 = .ok (.dup, 1) := dk_89 (dk_at dksX6_lift_5 13 rfl rfl)
theorem dX6_lift_132 : decode cX6_lift 132 = .ok (.getfield 7, 3) := dk_180 0 7 (dk_at dksX6_lift_5 14 rfl rfl)
theorem dX6_lift_135 : decode cX6_lift 135 = .ok (.iconst 1, 1) := dk_4 (dk_at dksX6_lift_5 17 rfl rfl)
theorem dX6_lift_136 : decode cX6_lift 136 = .ok (.iadd, 1) := dk_96 (dk_at dksX6_lift_5 18 rfl rfl)
theorem dX6_lift_137 : decode cX6_lift 137 = .ok (.putfield 7, 3) := dk_181 0 7 (dk_at dksX6_lift_5 19 rfl rfl)
theorem dX6_lift_140 : decode cX6_lift 140 = .ok (.aload_n 0, 1) := dk_42 (dk_at dksX6_lift_5 22 rfl rfl)
theorem dX6_lift_141 : decode cX6_lift 141 = .ok (.getfield 7, 3) := dk_180 0 7 (dk_at dksX6_lift_6 0 rfl rfl)
theorem dX6_lift_144 : decode cX6_lift 144 = .ok (.iconst 1, 1) := dk_4 (dk_at dksX6_lift_6 3 rfl rfl)
theorem dX6_lift_145 : decode cX6_lift 145 = .ok (.isub, 1) := dk_100 (dk_at dksX6_lift_6 4 rfl rfl)
theorem dX6_lift_146 : decode cX6_lift 146 = .ok (.ireturn, 1) := dk_172 (dk_at dksX6_lift_6 5 rfl rfl)
abbrev cX6_in : ByteArray := prog_23_method_2_code
def yX6_in : MethodName := ⟨RX6, "in", "(III)Z"⟩
def dkwX6_in_0 : List UInt8 := [27, 28, 161, 0, 12, 27, 29, 163, 0, 7, 4, 167, 0, 4, 3, 172]
abbrev dktX6_in_0 : List UInt8 := dkwX6_in_0 ++ []
theorem dksX6_in_0 : cX6_in.data.toList.drop 0 = dktX6_in_0 := by decide +kernel
theorem dX6_in_0 : decode cX6_in 0 = .ok (.iload_n 1, 1) := dk_27 (dk_at dksX6_in_0 0 rfl rfl)
theorem dX6_in_1 : decode cX6_in 1 = .ok (.iload_n 2, 1) := dk_28 (dk_at dksX6_in_0 1 rfl rfl)
theorem dX6_in_2 : decode cX6_in 2 = .ok (.if_icmp .lt 12, 3) := dk_161 0 12 (dk_at dksX6_in_0 2 rfl rfl)
theorem dX6_in_5 : decode cX6_in 5 = .ok (.iload_n 1, 1) := dk_27 (dk_at dksX6_in_0 5 rfl rfl)
theorem dX6_in_6 : decode cX6_in 6 = .ok (.iload_n 3, 1) := dk_29 (dk_at dksX6_in_0 6 rfl rfl)
theorem dX6_in_7 : decode cX6_in 7 = .ok (.if_icmp .gt 7, 3) := dk_163 0 7 (dk_at dksX6_in_0 7 rfl rfl)
theorem dX6_in_10 : decode cX6_in 10 = .ok (.iconst 1, 1) := dk_4 (dk_at dksX6_in_0 10 rfl rfl)
theorem dX6_in_11 : decode cX6_in 11 = .ok (.goto 4, 3) := dk_167 0 4 (dk_at dksX6_in_0 11 rfl rfl)
theorem dX6_in_14 : decode cX6_in 14 = .ok (.iconst 0, 1) := dk_3 (dk_at dksX6_in_0 14 rfl rfl)
theorem dX6_in_15 : decode cX6_in 15 = .ok (.ireturn, 1) := dk_172 (dk_at dksX6_in_0 15 rfl rfl)
abbrev cX6_isMile : ByteArray := prog_23_method_5_code
def yX6_isMile : MethodName := ⟨RX6, "isMile", "(I)Z"⟩
def dkwX6_isMile_0 : List UInt8 := [42, 27, 3, 16, 99, 182, 0, 227, 172]
abbrev dktX6_isMile_0 : List UInt8 := dkwX6_isMile_0 ++ []
theorem dksX6_isMile_0 : cX6_isMile.data.toList.drop 0 = dktX6_isMile_0 := by decide +kernel
theorem dX6_isMile_0 : decode cX6_isMile 0 = .ok (.aload_n 0, 1) := dk_42 (dk_at dksX6_isMile_0 0 rfl rfl)
theorem dX6_isMile_1 : decode cX6_isMile 1 = .ok (.iload_n 1, 1) := dk_27 (dk_at dksX6_isMile_0 1 rfl rfl)
theorem dX6_isMile_2 : decode cX6_isMile 2 = .ok (.iconst 0, 1) := dk_3 (dk_at dksX6_isMile_0 2 rfl rfl)
theorem dX6_isMile_3 : decode cX6_isMile 3 = .ok (.bipush 99, 2) := dk_16 99 (dk_at dksX6_isMile_0 3 rfl rfl)
theorem dX6_isMile_5 : decode cX6_isMile 5 = .ok (.invokevirtual 227, 3) := dk_182 0 227 (dk_at dksX6_isMile_0 5 rfl rfl)
theorem dX6_isMile_8 : decode cX6_isMile 8 = .ok (.ireturn, 1) := dk_172 (dk_at dksX6_isMile_0 8 rfl rfl)
abbrev cX6_pull : ByteArray := prog_23_method_9_code
def yX6_pull : MethodName := ⟨RX6, "pull", "(II)I"⟩
def dkwX6_pull_1 : List UInt8 := [42, 180, 0, 38, 27, 46, 62, 42, 180, 0, 38, 27, 28, 79, 29, 172]
abbrev dktX6_pull_1 : List UInt8 := dkwX6_pull_1 ++ []
def dkwX6_pull_0 : List UInt8 := [42, 27, 182, 0, 235, 154, 0, 5, 2, 172, 42, 28, 3, 16, 20, 182, 0, 227, 154, 0, 6, 16, 254, 172]
abbrev dktX6_pull_0 : List UInt8 := dkwX6_pull_0 ++ dktX6_pull_1
theorem dksX6_pull_0 : cX6_pull.data.toList.drop 0 = dktX6_pull_0 := by decide +kernel
theorem dksX6_pull_1 : cX6_pull.data.toList.drop 24 = dktX6_pull_1 := dk_seg dksX6_pull_0 24 rfl rfl
theorem dX6_pull_0 : decode cX6_pull 0 = .ok (.aload_n 0, 1) := dk_42 (dk_at dksX6_pull_0 0 rfl rfl)
theorem dX6_pull_1 : decode cX6_pull 1 = .ok (.iload_n 1, 1) := dk_27 (dk_at dksX6_pull_0 1 rfl rfl)
theorem dX6_pull_2 : decode cX6_pull 2 = .ok (.invokevirtual 235, 3) := dk_182 0 235 (dk_at dksX6_pull_0 2 rfl rfl)
theorem dX6_pull_5 : decode cX6_pull 5 = .ok (.ifCond .ne 5, 3) := dk_154 0 5 (dk_at dksX6_pull_0 5 rfl rfl)
theorem dX6_pull_8 : decode cX6_pull 8 = .ok (.iconst (-1), 1) := dk_2 (dk_at dksX6_pull_0 8 rfl rfl)
theorem dX6_pull_9 : decode cX6_pull 9 = .ok (.ireturn, 1) := dk_172 (dk_at dksX6_pull_0 9 rfl rfl)
theorem dX6_pull_10 : decode cX6_pull 10 = .ok (.aload_n 0, 1) := dk_42 (dk_at dksX6_pull_0 10 rfl rfl)
theorem dX6_pull_11 : decode cX6_pull 11 = .ok (.iload_n 2, 1) := dk_28 (dk_at dksX6_pull_0 11 rfl rfl)
theorem dX6_pull_12 : decode cX6_pull 12 = .ok (.iconst 0, 1) := dk_3 (dk_at dksX6_pull_0 12 rfl rfl)
theorem dX6_pull_13 : decode cX6_pull 13 = .ok (.bipush 20, 2) := dk_16 20 (dk_at dksX6_pull_0 13 rfl rfl)
theorem dX6_pull_15 : decode cX6_pull 15 = .ok (.invokevirtual 227, 3) := dk_182 0 227 (dk_at dksX6_pull_0 15 rfl rfl)
theorem dX6_pull_18 : decode cX6_pull 18 = .ok (.ifCond .ne 6, 3) := dk_154 0 6 (dk_at dksX6_pull_0 18 rfl rfl)
theorem dX6_pull_21 : decode cX6_pull 21 = .ok (.bipush (-2), 2) := dk_16 254 (dk_at dksX6_pull_0 21 rfl rfl)
theorem dX6_pull_23 : decode cX6_pull 23 = .ok (.ireturn, 1) := dk_172 (dk_at dksX6_pull_0 23 rfl rfl)
theorem dX6_pull_24 : decode cX6_pull 24 = .ok (.aload_n 0, 1) := dk_42 (dk_at dksX6_pull_1 0 rfl rfl)
theorem dX6_pull_25 : decode cX6_pull 25 = .ok (.getfield 38, 3) := dk_180 0 38 (dk_at dksX6_pull_1 1 rfl rfl)
theorem dX6_pull_28 : decode cX6_pull 28 = .ok (.iload_n 1, 1) := dk_27 (dk_at dksX6_pull_1 4 rfl rfl)
theorem dX6_pull_29 : decode cX6_pull 29 = .ok (.iaload, 1) := dk_46 (dk_at dksX6_pull_1 5 rfl rfl)
theorem dX6_pull_30 : decode cX6_pull 30 = .ok (.istore_n 3, 1) := dk_62 (dk_at dksX6_pull_1 6 rfl rfl)
theorem dX6_pull_31 : decode cX6_pull 31 = .ok (.aload_n 0, 1) := dk_42 (dk_at dksX6_pull_1 7 rfl rfl)
theorem dX6_pull_32 : decode cX6_pull 32 = .ok (.getfield 38, 3) := dk_180 0 38 (dk_at dksX6_pull_1 8 rfl rfl)
theorem dX6_pull_35 : decode cX6_pull 35 = .ok (.iload_n 1, 1) := dk_27 (dk_at dksX6_pull_1 11 rfl rfl)
theorem dX6_pull_36 : decode cX6_pull 36 = .ok (.iload_n 2, 1) := dk_28 (dk_at dksX6_pull_1 12 rfl rfl)
theorem dX6_pull_37 : decode cX6_pull 37 = .ok (.iastore, 1) := dk_79 (dk_at dksX6_pull_1 13 rfl rfl)
theorem dX6_pull_38 : decode cX6_pull 38 = .ok (.iload_n 3, 1) := dk_29 (dk_at dksX6_pull_1 14 rfl rfl)
theorem dX6_pull_39 : decode cX6_pull 39 = .ok (.ireturn, 1) := dk_172 (dk_at dksX6_pull_1 15 rfl rfl)
abbrev cX6_isLift : ByteArray := prog_23_method_4_code
def yX6_isLift : MethodName := ⟨RX6, "isLift", "(I)Z"⟩
def dkwX6_isLift_0 : List UInt8 := [42, 27, 3, 42, 180, 0, 7, 4, 100, 182, 0, 227, 172]
abbrev dktX6_isLift_0 : List UInt8 := dkwX6_isLift_0 ++ []
theorem dksX6_isLift_0 : cX6_isLift.data.toList.drop 0 = dktX6_isLift_0 := by decide +kernel
theorem dX6_isLift_0 : decode cX6_isLift 0 = .ok (.aload_n 0, 1) := dk_42 (dk_at dksX6_isLift_0 0 rfl rfl)
theorem dX6_isLift_1 : decode cX6_isLift 1 = .ok (.iload_n 1, 1) := dk_27 (dk_at dksX6_isLift_0 1 rfl rfl)
theorem dX6_isLift_2 : decode cX6_isLift 2 = .ok (.iconst 0, 1) := dk_3 (dk_at dksX6_isLift_0 2 rfl rfl)
theorem dX6_isLift_3 : decode cX6_isLift 3 = .ok (.aload_n 0, 1) := dk_42 (dk_at dksX6_isLift_0 3 rfl rfl)
theorem dX6_isLift_4 : decode cX6_isLift 4 = .ok (.getfield 7, 3) := dk_180 0 7 (dk_at dksX6_isLift_0 4 rfl rfl)
theorem dX6_isLift_7 : decode cX6_isLift 7 = .ok (.iconst 1, 1) := dk_4 (dk_at dksX6_isLift_0 7 rfl rfl)
theorem dX6_isLift_8 : decode cX6_isLift 8 = .ok (.isub, 1) := dk_100 (dk_at dksX6_isLift_0 8 rfl rfl)
theorem dX6_isLift_9 : decode cX6_isLift 9 = .ok (.invokevirtual 227, 3) := dk_182 0 227 (dk_at dksX6_isLift_0 9 rfl rfl)
theorem dX6_isLift_12 : decode cX6_isLift 12 = .ok (.ireturn, 1) := dk_172 (dk_at dksX6_isLift_0 12 rfl rfl)
abbrev cX6_row : ByteArray := prog_23_method_10_code
def yX6_row : MethodName := ⟨RX6, "row", "(III)I"⟩
def dkwX6_row_3 : List UInt8 := [21, 4, 172]
abbrev dktX6_row_3 : List UInt8 := dkwX6_row_3 ++ []
def dkwX6_row_2 : List UInt8 := [172, 42, 180, 0, 41, 7, 27, 104, 28, 96, 46, 54, 4, 42, 180, 0, 41, 7, 27, 104, 28, 96, 29, 79]
abbrev dktX6_row_2 : List UInt8 := dkwX6_row_2 ++ dktX6_row_3
def dkwX6_row_1 : List UInt8 := [16, 9, 182, 0, 227, 154, 0, 6, 16, 254, 172, 42, 180, 0, 28, 27, 46, 16, 6, 159, 0, 6, 16, 253]
abbrev dktX6_row_1 : List UInt8 := dkwX6_row_1 ++ dktX6_row_2
def dkwX6_row_0 : List UInt8 := [42, 27, 182, 0, 235, 153, 0, 13, 42, 28, 3, 6, 182, 0, 227, 154, 0, 5, 2, 172, 42, 29, 3]
abbrev dktX6_row_0 : List UInt8 := dkwX6_row_0 ++ dktX6_row_1
theorem dksX6_row_0 : cX6_row.data.toList.drop 0 = dktX6_row_0 := by decide +kernel
theorem dksX6_row_1 : cX6_row.data.toList.drop 23 = dktX6_row_1 := dk_seg dksX6_row_0 23 rfl rfl
theorem dksX6_row_2 : cX6_row.data.toList.drop 47 = dktX6_row_2 := dk_seg dksX6_row_1 24 rfl rfl
theorem dksX6_row_3 : cX6_row.data.toList.drop 71 = dktX6_row_3 := dk_seg dksX6_row_2 24 rfl rfl
theorem dX6_row_0 : decode cX6_row 0 = .ok (.aload_n 0, 1) := dk_42 (dk_at dksX6_row_0 0 rfl rfl)
theorem dX6_row_1 : decode cX6_row 1 = .ok (.iload_n 1, 1) := dk_27 (dk_at dksX6_row_0 1 rfl rfl)
theorem dX6_row_2 : decode cX6_row 2 = .ok (.invokevirtual 235, 3) := dk_182 0 235 (dk_at dksX6_row_0 2 rfl rfl)
theorem dX6_row_5 : decode cX6_row 5 = .ok (.ifCond .eq 13, 3) := dk_153 0 13 (dk_at dksX6_row_0 5 rfl rfl)
theorem dX6_row_8 : decode cX6_row 8 = .ok (.aload_n 0, 1) := dk_42 (dk_at dksX6_row_0 8 rfl rfl)
theorem dX6_row_9 : decode cX6_row 9 = .ok (.iload_n 2, 1) := dk_28 (dk_at dksX6_row_0 9 rfl rfl)
theorem dX6_row_10 : decode cX6_row 10 = .ok (.iconst 0, 1) := dk_3 (dk_at dksX6_row_0 10 rfl rfl)
theorem dX6_row_11 : decode cX6_row 11 = .ok (.iconst 3, 1) := dk_6 (dk_at dksX6_row_0 11 rfl rfl)
theorem dX6_row_12 : decode cX6_row 12 = .ok (.invokevirtual 227, 3) := dk_182 0 227 (dk_at dksX6_row_0 12 rfl rfl)
theorem dX6_row_15 : decode cX6_row 15 = .ok (.ifCond .ne 5, 3) := dk_154 0 5 (dk_at dksX6_row_0 15 rfl rfl)
theorem dX6_row_18 : decode cX6_row 18 = .ok (.iconst (-1), 1) := dk_2 (dk_at dksX6_row_0 18 rfl rfl)
theorem dX6_row_19 : decode cX6_row 19 = .ok (.ireturn, 1) := dk_172 (dk_at dksX6_row_0 19 rfl rfl)
theorem dX6_row_20 : decode cX6_row 20 = .ok (.aload_n 0, 1) := dk_42 (dk_at dksX6_row_0 20 rfl rfl)
theorem dX6_row_21 : decode cX6_row 21 = .ok (.iload_n 3, 1) := dk_29 (dk_at dksX6_row_0 21 rfl rfl)
theorem dX6_row_22 : decode cX6_row 22 = .ok (.iconst 0, 1) := dk_3 (dk_at dksX6_row_0 22 rfl rfl)
theorem dX6_row_23 : decode cX6_row 23 = .ok (.bipush 9, 2) := dk_16 9 (dk_at dksX6_row_1 0 rfl rfl)
theorem dX6_row_25 : decode cX6_row 25 = .ok (.invokevirtual 227, 3) := dk_182 0 227 (dk_at dksX6_row_1 2 rfl rfl)
theorem dX6_row_28 : decode cX6_row 28 = .ok (.ifCond .ne 6, 3) := dk_154 0 6 (dk_at dksX6_row_1 5 rfl rfl)
theorem dX6_row_31 : decode cX6_row 31 = .ok (.bipush (-2), 2) := dk_16 254 (dk_at dksX6_row_1 8 rfl rfl)
theorem dX6_row_33 : decode cX6_row 33 = .ok (.ireturn, 1) := dk_172 (dk_at dksX6_row_1 10 rfl rfl)
theorem dX6_row_34 : decode cX6_row 34 = .ok (.aload_n 0, 1) := dk_42 (dk_at dksX6_row_1 11 rfl rfl)
theorem dX6_row_35 : decode cX6_row 35 = .ok (.getfield 28, 3) := dk_180 0 28 (dk_at dksX6_row_1 12 rfl rfl)
theorem dX6_row_38 : decode cX6_row 38 = .ok (.iload_n 1, 1) := dk_27 (dk_at dksX6_row_1 15 rfl rfl)
theorem dX6_row_39 : decode cX6_row 39 = .ok (.iaload, 1) := dk_46 (dk_at dksX6_row_1 16 rfl rfl)
theorem dX6_row_40 : decode cX6_row 40 = .ok (.bipush 6, 2) := dk_16 6 (dk_at dksX6_row_1 17 rfl rfl)
theorem dX6_row_42 : decode cX6_row 42 = .ok (.if_icmp .eq 6, 3) := dk_159 0 6 (dk_at dksX6_row_1 19 rfl rfl)
theorem dX6_row_45 : decode cX6_row 45 = .ok (.bipush (-3), 2) := dk_16 253 (dk_at dksX6_row_1 22 rfl rfl)
theorem dX6_row_47 : decode cX6_row 47 = .ok (.ireturn, 1) := dk_172 (dk_at dksX6_row_2 0 rfl rfl)
theorem dX6_row_48 : decode cX6_row 48 = .ok (.aload_n 0, 1) := dk_42 (dk_at dksX6_row_2 1 rfl rfl)
theorem dX6_row_49 : decode cX6_row 49 = .ok (.getfield 41, 3) := dk_180 0 41 (dk_at dksX6_row_2 2 rfl rfl)
theorem dX6_row_52 : decode cX6_row 52 = .ok (.iconst 4, 1) := dk_7 (dk_at dksX6_row_2 5 rfl rfl)
theorem dX6_row_53 : decode cX6_row 53 = .ok (.iload_n 1, 1) := dk_27 (dk_at dksX6_row_2 6 rfl rfl)
theorem dX6_row_54 : decode cX6_row 54 = .ok (.imul, 1) := dk_104 (dk_at dksX6_row_2 7 rfl rfl)
theorem dX6_row_55 : decode cX6_row 55 = .ok (.iload_n 2, 1) := dk_28 (dk_at dksX6_row_2 8 rfl rfl)
theorem dX6_row_56 : decode cX6_row 56 = .ok (.iadd, 1) := dk_96 (dk_at dksX6_row_2 9 rfl rfl)
theorem dX6_row_57 : decode cX6_row 57 = .ok (.iaload, 1) := dk_46 (dk_at dksX6_row_2 10 rfl rfl)
theorem dX6_row_58 : decode cX6_row 58 = .ok (.istore 4, 2) := dk_54 4 (dk_at dksX6_row_2 11 rfl rfl)
theorem dX6_row_60 : decode cX6_row 60 = .ok (.aload_n 0, 1) := dk_42 (dk_at dksX6_row_2 13 rfl rfl)
theorem dX6_row_61 : decode cX6_row 61 = .ok (.getfield 41, 3) := dk_180 0 41 (dk_at dksX6_row_2 14 rfl rfl)
theorem dX6_row_64 : decode cX6_row 64 = .ok (.iconst 4, 1) := dk_7 (dk_at dksX6_row_2 17 rfl rfl)
theorem dX6_row_65 : decode cX6_row 65 = .ok (.iload_n 1, 1) := dk_27 (dk_at dksX6_row_2 18 rfl rfl)
theorem dX6_row_66 : decode cX6_row 66 = .ok (.imul, 1) := dk_104 (dk_at dksX6_row_2 19 rfl rfl)
theorem dX6_row_67 : decode cX6_row 67 = .ok (.iload_n 2, 1) := dk_28 (dk_at dksX6_row_2 20 rfl rfl)
theorem dX6_row_68 : decode cX6_row 68 = .ok (.iadd, 1) := dk_96 (dk_at dksX6_row_2 21 rfl rfl)
theorem dX6_row_69 : decode cX6_row 69 = .ok (.iload_n 3, 1) := dk_29 (dk_at dksX6_row_2 22 rfl rfl)
theorem dX6_row_70 : decode cX6_row 70 = .ok (.iastore, 1) := dk_79 (dk_at dksX6_row_2 23 rfl rfl)
theorem dX6_row_71 : decode cX6_row 71 = .ok (.iload 4, 2) := dk_21 4 (dk_at dksX6_row_3 0 rfl rfl)
theorem dX6_row_73 : decode cX6_row 73 = .ok (.ireturn, 1) := dk_172 (dk_at dksX6_row_3 2 rfl rfl)
abbrev cX6_home : ByteArray := prog_23_method_11_code
def yX6_home : MethodName := ⟨RX6, "home", "(I)I"⟩
def dkwX6_home_0 : List UInt8 := [42, 27, 182, 0, 231, 154, 0, 6, 16, 254, 172, 42, 180, 0, 25, 61, 42, 27, 181, 0, 25, 28, 172]
abbrev dktX6_home_0 : List UInt8 := dkwX6_home_0 ++ []
theorem dksX6_home_0 : cX6_home.data.toList.drop 0 = dktX6_home_0 := by decide +kernel
theorem dX6_home_0 : decode cX6_home 0 = .ok (.aload_n 0, 1) := dk_42 (dk_at dksX6_home_0 0 rfl rfl)
theorem dX6_home_1 : decode cX6_home 1 = .ok (.iload_n 1, 1) := dk_27 (dk_at dksX6_home_0 1 rfl rfl)
theorem dX6_home_2 : decode cX6_home 2 = .ok (.invokevirtual 231, 3) := dk_182 0 231 (dk_at dksX6_home_0 2 rfl rfl)
theorem dX6_home_5 : decode cX6_home 5 = .ok (.ifCond .ne 6, 3) := dk_154 0 6 (dk_at dksX6_home_0 5 rfl rfl)
theorem dX6_home_8 : decode cX6_home 8 = .ok (.bipush (-2), 2) := dk_16 254 (dk_at dksX6_home_0 8 rfl rfl)
theorem dX6_home_10 : decode cX6_home 10 = .ok (.ireturn, 1) := dk_172 (dk_at dksX6_home_0 10 rfl rfl)
theorem dX6_home_11 : decode cX6_home 11 = .ok (.aload_n 0, 1) := dk_42 (dk_at dksX6_home_0 11 rfl rfl)
theorem dX6_home_12 : decode cX6_home 12 = .ok (.getfield 25, 3) := dk_180 0 25 (dk_at dksX6_home_0 12 rfl rfl)
theorem dX6_home_15 : decode cX6_home 15 = .ok (.istore_n 2, 1) := dk_61 (dk_at dksX6_home_0 15 rfl rfl)
theorem dX6_home_16 : decode cX6_home 16 = .ok (.aload_n 0, 1) := dk_42 (dk_at dksX6_home_0 16 rfl rfl)
theorem dX6_home_17 : decode cX6_home 17 = .ok (.iload_n 1, 1) := dk_27 (dk_at dksX6_home_0 17 rfl rfl)
theorem dX6_home_18 : decode cX6_home 18 = .ok (.putfield 25, 3) := dk_181 0 25 (dk_at dksX6_home_0 18 rfl rfl)
theorem dX6_home_21 : decode cX6_home 21 = .ok (.iload_n 2, 1) := dk_28 (dk_at dksX6_home_0 21 rfl rfl)
theorem dX6_home_22 : decode cX6_home 22 = .ok (.ireturn, 1) := dk_172 (dk_at dksX6_home_0 22 rfl rfl)
abbrev cX6_height : ByteArray := prog_23_method_12_code
def yX6_height : MethodName := ⟨RX6, "height", "(I)I"⟩
def dkwX6_height_1 : List UInt8 := [181, 0, 19, 28, 172]
abbrev dktX6_height_1 : List UInt8 := dkwX6_height_1 ++ []
def dkwX6_height_0 : List UInt8 := [42, 27, 3, 17, 1, 144, 182, 0, 227, 154, 0, 6, 16, 254, 172, 42, 180, 0, 19, 61, 42, 27]
abbrev dktX6_height_0 : List UInt8 := dkwX6_height_0 ++ dktX6_height_1
theorem dksX6_height_0 : cX6_height.data.toList.drop 0 = dktX6_height_0 := by decide +kernel
theorem dksX6_height_1 : cX6_height.data.toList.drop 22 = dktX6_height_1 := dk_seg dksX6_height_0 22 rfl rfl
theorem dX6_height_0 : decode cX6_height 0 = .ok (.aload_n 0, 1) := dk_42 (dk_at dksX6_height_0 0 rfl rfl)
theorem dX6_height_1 : decode cX6_height 1 = .ok (.iload_n 1, 1) := dk_27 (dk_at dksX6_height_0 1 rfl rfl)
theorem dX6_height_2 : decode cX6_height 2 = .ok (.iconst 0, 1) := dk_3 (dk_at dksX6_height_0 2 rfl rfl)
theorem dX6_height_3 : decode cX6_height 3 = .ok (.sipush 400, 3) := dk_17 1 144 (dk_at dksX6_height_0 3 rfl rfl)
theorem dX6_height_6 : decode cX6_height 6 = .ok (.invokevirtual 227, 3) := dk_182 0 227 (dk_at dksX6_height_0 6 rfl rfl)
theorem dX6_height_9 : decode cX6_height 9 = .ok (.ifCond .ne 6, 3) := dk_154 0 6 (dk_at dksX6_height_0 9 rfl rfl)
theorem dX6_height_12 : decode cX6_height 12 = .ok (.bipush (-2), 2) := dk_16 254 (dk_at dksX6_height_0 12 rfl rfl)
theorem dX6_height_14 : decode cX6_height 14 = .ok (.ireturn, 1) := dk_172 (dk_at dksX6_height_0 14 rfl rfl)
theorem dX6_height_15 : decode cX6_height 15 = .ok (.aload_n 0, 1) := dk_42 (dk_at dksX6_height_0 15 rfl rfl)
theorem dX6_height_16 : decode cX6_height 16 = .ok (.getfield 19, 3) := dk_180 0 19 (dk_at dksX6_height_0 16 rfl rfl)
theorem dX6_height_19 : decode cX6_height 19 = .ok (.istore_n 2, 1) := dk_61 (dk_at dksX6_height_0 19 rfl rfl)
theorem dX6_height_20 : decode cX6_height 20 = .ok (.aload_n 0, 1) := dk_42 (dk_at dksX6_height_0 20 rfl rfl)
theorem dX6_height_21 : decode cX6_height 21 = .ok (.iload_n 1, 1) := dk_27 (dk_at dksX6_height_0 21 rfl rfl)
theorem dX6_height_22 : decode cX6_height 22 = .ok (.putfield 19, 3) := dk_181 0 19 (dk_at dksX6_height_1 0 rfl rfl)
theorem dX6_height_25 : decode cX6_height 25 = .ok (.iload_n 2, 1) := dk_28 (dk_at dksX6_height_1 3 rfl rfl)
theorem dX6_height_26 : decode cX6_height 26 = .ok (.ireturn, 1) := dk_172 (dk_at dksX6_height_1 4 rfl rfl)
abbrev cX6_feed : ByteArray := prog_23_method_13_code
def yX6_feed : MethodName := ⟨RX6, "feed", "(I)I"⟩
def dkwX6_feed_2 : List UInt8 := [180, 0, 50, 172]
abbrev dktX6_feed_2 : List UInt8 := dkwX6_feed_2 ++ []
def dkwX6_feed_1 : List UInt8 := [16, 252, 172, 42, 180, 0, 59, 42, 180, 0, 50, 27, 79, 42, 89, 180, 0, 50, 4, 96, 181, 0, 50, 42]
abbrev dktX6_feed_1 : List UInt8 := dkwX6_feed_1 ++ dktX6_feed_2
def dkwX6_feed_0 : List UInt8 := [42, 27, 3, 16, 127, 182, 0, 227, 154, 0, 6, 16, 254, 172, 42, 180, 0, 50, 16, 100, 160, 0, 6]
abbrev dktX6_feed_0 : List UInt8 := dkwX6_feed_0 ++ dktX6_feed_1
theorem dksX6_feed_0 : cX6_feed.data.toList.drop 0 = dktX6_feed_0 := by decide +kernel
theorem dksX6_feed_1 : cX6_feed.data.toList.drop 23 = dktX6_feed_1 := dk_seg dksX6_feed_0 23 rfl rfl
theorem dksX6_feed_2 : cX6_feed.data.toList.drop 47 = dktX6_feed_2 := dk_seg dksX6_feed_1 24 rfl rfl
theorem dX6_feed_0 : decode cX6_feed 0 = .ok (.aload_n 0, 1) := dk_42 (dk_at dksX6_feed_0 0 rfl rfl)
theorem dX6_feed_1 : decode cX6_feed 1 = .ok (.iload_n 1, 1) := dk_27 (dk_at dksX6_feed_0 1 rfl rfl)
theorem dX6_feed_2 : decode cX6_feed 2 = .ok (.iconst 0, 1) := dk_3 (dk_at dksX6_feed_0 2 rfl rfl)
theorem dX6_feed_3 : decode cX6_feed 3 = .ok (.bipush 127, 2) := dk_16 127 (dk_at dksX6_feed_0 3 rfl rfl)
theorem dX6_feed_5 : decode cX6_feed 5 = .ok (.invokevirtual 227, 3) := dk_182 0 227 (dk_at dksX6_feed_0 5 rfl rfl)
theorem dX6_feed_8 : decode cX6_feed 8 = .ok (.ifCond .ne 6, 3) := dk_154 0 6 (dk_at dksX6_feed_0 8 rfl rfl)
theorem dX6_feed_11 : decode cX6_feed 11 = .ok (.bipush (-2), 2) := dk_16 254 (dk_at dksX6_feed_0 11 rfl rfl)
theorem dX6_feed_13 : decode cX6_feed 13 = .ok (.ireturn, 1) := dk_172 (dk_at dksX6_feed_0 13 rfl rfl)
theorem dX6_feed_14 : decode cX6_feed 14 = .ok (.aload_n 0, 1) := dk_42 (dk_at dksX6_feed_0 14 rfl rfl)
theorem dX6_feed_15 : decode cX6_feed 15 = .ok (.getfield 50, 3) := dk_180 0 50 (dk_at dksX6_feed_0 15 rfl rfl)
theorem dX6_feed_18 : decode cX6_feed 18 = .ok (.bipush 100, 2) := dk_16 100 (dk_at dksX6_feed_0 18 rfl rfl)
theorem dX6_feed_20 : decode cX6_feed 20 = .ok (.if_icmp .ne 6, 3) := dk_160 0 6 (dk_at dksX6_feed_0 20 rfl rfl)
theorem dX6_feed_23 : decode cX6_feed 23 = .ok (.bipush (-4), 2) := dk_16 252 (dk_at dksX6_feed_1 0 rfl rfl)
theorem dX6_feed_25 : decode cX6_feed 25 = .ok (.ireturn, 1) := dk_172 (dk_at dksX6_feed_1 2 rfl rfl)
theorem dX6_feed_26 : decode cX6_feed 26 = .ok (.aload_n 0, 1) := dk_42 (dk_at dksX6_feed_1 3 rfl rfl)
theorem dX6_feed_27 : decode cX6_feed 27 = .ok (.getfield 59, 3) := dk_180 0 59 (dk_at dksX6_feed_1 4 rfl rfl)
theorem dX6_feed_30 : decode cX6_feed 30 = .ok (.aload_n 0, 1) := dk_42 (dk_at dksX6_feed_1 7 rfl rfl)
theorem dX6_feed_31 : decode cX6_feed 31 = .ok (.getfield 50, 3) := dk_180 0 50 (dk_at dksX6_feed_1 8 rfl rfl)
theorem dX6_feed_34 : decode cX6_feed 34 = .ok (.iload_n 1, 1) := dk_27 (dk_at dksX6_feed_1 11 rfl rfl)
theorem dX6_feed_35 : decode cX6_feed 35 = .ok (.iastore, 1) := dk_79 (dk_at dksX6_feed_1 12 rfl rfl)
theorem dX6_feed_36 : decode cX6_feed 36 = .ok (.aload_n 0, 1) := dk_42 (dk_at dksX6_feed_1 13 rfl rfl)
theorem dX6_feed_37 : decode cX6_feed 37 = .ok (.dup, 1) := dk_89 (dk_at dksX6_feed_1 14 rfl rfl)
theorem dX6_feed_38 : decode cX6_feed 38 = .ok (.getfield 50, 3) := dk_180 0 50 (dk_at dksX6_feed_1 15 rfl rfl)
theorem dX6_feed_41 : decode cX6_feed 41 = .ok (.iconst 1, 1) := dk_4 (dk_at dksX6_feed_1 18 rfl rfl)
theorem dX6_feed_42 : decode cX6_feed 42 = .ok (.iadd, 1) := dk_96 (dk_at dksX6_feed_1 19 rfl rfl)
theorem dX6_feed_43 : decode cX6_feed 43 = .ok (.putfield 50, 3) := dk_181 0 50 (dk_at dksX6_feed_1 20 rfl rfl)
theorem dX6_feed_46 : decode cX6_feed 46 = .ok (.aload_n 0, 1) := dk_42 (dk_at dksX6_feed_1 23 rfl rfl)
theorem dX6_feed_47 : decode cX6_feed 47 = .ok (.getfield 50, 3) := dk_180 0 50 (dk_at dksX6_feed_2 0 rfl rfl)
theorem dX6_feed_50 : decode cX6_feed 50 = .ok (.ireturn, 1) := dk_172 (dk_at dksX6_feed_2 3 rfl rfl)
abbrev cX6_air : ByteArray := prog_23_method_28_code
def yX6_air : MethodName := ⟨RX6, "air", "()I"⟩
def dkwX6_air_2 : List UInt8 := [89, 180, 0, 44, 4, 96, 181, 0, 44, 42, 180, 0, 47, 172]
abbrev dktX6_air_2 : List UInt8 := dkwX6_air_2 ++ []
def dkwX6_air_1 : List UInt8 := [181, 0, 50, 27, 154, 0, 11, 16, 246, 42, 180, 0, 53, 100, 172, 42, 42, 180, 0, 44, 181, 0, 47, 42]
abbrev dktX6_air_1 : List UInt8 := dkwX6_air_1 ++ dktX6_air_2
def dkwX6_air_0 : List UInt8 := [42, 180, 0, 44, 16, 6, 160, 0, 6, 16, 252, 172, 42, 42, 180, 0, 44, 182, 1, 26, 60, 42, 3]
abbrev dktX6_air_0 : List UInt8 := dkwX6_air_0 ++ dktX6_air_1
theorem dksX6_air_0 : cX6_air.data.toList.drop 0 = dktX6_air_0 := by decide +kernel
theorem dksX6_air_1 : cX6_air.data.toList.drop 23 = dktX6_air_1 := dk_seg dksX6_air_0 23 rfl rfl
theorem dksX6_air_2 : cX6_air.data.toList.drop 47 = dktX6_air_2 := dk_seg dksX6_air_1 24 rfl rfl
theorem dX6_air_0 : decode cX6_air 0 = .ok (.aload_n 0, 1) := dk_42 (dk_at dksX6_air_0 0 rfl rfl)
theorem dX6_air_1 : decode cX6_air 1 = .ok (.getfield 44, 3) := dk_180 0 44 (dk_at dksX6_air_0 1 rfl rfl)
theorem dX6_air_4 : decode cX6_air 4 = .ok (.bipush 6, 2) := dk_16 6 (dk_at dksX6_air_0 4 rfl rfl)
theorem dX6_air_6 : decode cX6_air 6 = .ok (.if_icmp .ne 6, 3) := dk_160 0 6 (dk_at dksX6_air_0 6 rfl rfl)
theorem dX6_air_9 : decode cX6_air 9 = .ok (.bipush (-4), 2) := dk_16 252 (dk_at dksX6_air_0 9 rfl rfl)
theorem dX6_air_11 : decode cX6_air 11 = .ok (.ireturn, 1) := dk_172 (dk_at dksX6_air_0 11 rfl rfl)
theorem dX6_air_12 : decode cX6_air 12 = .ok (.aload_n 0, 1) := dk_42 (dk_at dksX6_air_0 12 rfl rfl)
theorem dX6_air_13 : decode cX6_air 13 = .ok (.aload_n 0, 1) := dk_42 (dk_at dksX6_air_0 13 rfl rfl)
theorem dX6_air_14 : decode cX6_air 14 = .ok (.getfield 44, 3) := dk_180 0 44 (dk_at dksX6_air_0 14 rfl rfl)
theorem dX6_air_17 : decode cX6_air 17 = .ok (.invokevirtual 282, 3) := dk_182 1 26 (dk_at dksX6_air_0 17 rfl rfl)
theorem dX6_air_20 : decode cX6_air 20 = .ok (.istore_n 1, 1) := dk_60 (dk_at dksX6_air_0 20 rfl rfl)
theorem dX6_air_21 : decode cX6_air 21 = .ok (.aload_n 0, 1) := dk_42 (dk_at dksX6_air_0 21 rfl rfl)
theorem dX6_air_22 : decode cX6_air 22 = .ok (.iconst 0, 1) := dk_3 (dk_at dksX6_air_0 22 rfl rfl)
theorem dX6_air_23 : decode cX6_air 23 = .ok (.putfield 50, 3) := dk_181 0 50 (dk_at dksX6_air_1 0 rfl rfl)
theorem dX6_air_26 : decode cX6_air 26 = .ok (.iload_n 1, 1) := dk_27 (dk_at dksX6_air_1 3 rfl rfl)
theorem dX6_air_27 : decode cX6_air 27 = .ok (.ifCond .ne 11, 3) := dk_154 0 11 (dk_at dksX6_air_1 4 rfl rfl)
theorem dX6_air_30 : decode cX6_air 30 = .ok (.bipush (-10), 2) := dk_16 246 (dk_at dksX6_air_1 7 rfl rfl)
theorem dX6_air_32 : decode cX6_air 32 = .ok (.aload_n 0, 1) := dk_42 (dk_at dksX6_air_1 9 rfl rfl)
theorem dX6_air_33 : decode cX6_air 33 = .ok (.getfield 53, 3) := dk_180 0 53 (dk_at dksX6_air_1 10 rfl rfl)
theorem dX6_air_36 : decode cX6_air 36 = .ok (.isub, 1) := dk_100 (dk_at dksX6_air_1 13 rfl rfl)
theorem dX6_air_37 : decode cX6_air 37 = .ok (.ireturn, 1) := dk_172 (dk_at dksX6_air_1 14 rfl rfl)
theorem dX6_air_38 : decode cX6_air 38 = .ok (.aload_n 0, 1) := dk_42 (dk_at dksX6_air_1 15 rfl rfl)
theorem dX6_air_39 : decode cX6_air 39 = .ok (.aload_n 0, 1) := dk_42 (dk_at dksX6_air_1 16 rfl rfl)
theorem dX6_air_40 : decode cX6_air 40 = .ok (.getfield 44, 3) := dk_180 0 44 (dk_at dksX6_air_1 17 rfl rfl)
theorem dX6_air_43 : decode cX6_air 43 = .ok (.putfield 47, 3) := dk_181 0 47 (dk_at dksX6_air_1 20 rfl rfl)
theorem dX6_air_46 : decode cX6_air 46 = .ok (.aload_n 0, 1) := dk_42 (dk_at dksX6_air_1 23 rfl rfl)
theorem dX6_air_47 : decode cX6_air 47 = .ok (.dup, 1) := dk_89 (dk_at dksX6_air_2 0 rfl rfl)
theorem dX6_air_48 : decode cX6_air 48 = .ok (.getfield 44, 3) := dk_180 0 44 (dk_at dksX6_air_2 1 rfl rfl)
theorem dX6_air_51 : decode cX6_air 51 = .ok (.iconst 1, 1) := dk_4 (dk_at dksX6_air_2 4 rfl rfl)
theorem dX6_air_52 : decode cX6_air 52 = .ok (.iadd, 1) := dk_96 (dk_at dksX6_air_2 5 rfl rfl)
theorem dX6_air_53 : decode cX6_air 53 = .ok (.putfield 44, 3) := dk_181 0 44 (dk_at dksX6_air_2 6 rfl rfl)
theorem dX6_air_56 : decode cX6_air 56 = .ok (.aload_n 0, 1) := dk_42 (dk_at dksX6_air_2 9 rfl rfl)
theorem dX6_air_57 : decode cX6_air 57 = .ok (.getfield 47, 3) := dk_180 0 47 (dk_at dksX6_air_2 10 rfl rfl)
theorem dX6_air_60 : decode cX6_air 60 = .ok (.ireturn, 1) := dk_172 (dk_at dksX6_air_2 13 rfl rfl)
abbrev cX6_goesText : ByteArray := prog_23_method_27_code
def yX6_goesText : MethodName := ⟨RX6, "goesText", "(I)Z"⟩
def dkwX6_goesText_3 : List UInt8 := [172]
abbrev dktX6_goesText_3 : List UInt8 := dkwX6_goesText_3 ++ []
def dkwX6_goesText_2 : List UInt8 := [180, 0, 50, 160, 0, 5, 4, 172, 28, 16, 10, 159, 0, 12, 42, 16, 59, 182, 0, 242, 154, 255, 206, 3]
abbrev dktX6_goesText_2 : List UInt8 := dkwX6_goesText_2 ++ dktX6_goesText_3
def dkwX6_goesText_1 : List UInt8 := [182, 1, 23, 154, 0, 5, 3, 172, 132, 2, 1, 42, 180, 0, 62, 27, 28, 79, 42, 180, 0, 53, 42]
abbrev dktX6_goesText_1 : List UInt8 := dkwX6_goesText_1 ++ dktX6_goesText_2
def dkwX6_goesText_0 : List UInt8 := [42, 3, 181, 0, 53, 42, 16, 100, 27, 104, 181, 0, 83, 3, 61, 42, 16, 10, 27, 104, 28, 96]
abbrev dktX6_goesText_0 : List UInt8 := dkwX6_goesText_0 ++ dktX6_goesText_1
theorem dksX6_goesText_0 : cX6_goesText.data.toList.drop 0 = dktX6_goesText_0 := by decide +kernel
theorem dksX6_goesText_1 : cX6_goesText.data.toList.drop 22 = dktX6_goesText_1 := dk_seg dksX6_goesText_0 22 rfl rfl
theorem dksX6_goesText_2 : cX6_goesText.data.toList.drop 45 = dktX6_goesText_2 := dk_seg dksX6_goesText_1 23 rfl rfl
theorem dksX6_goesText_3 : cX6_goesText.data.toList.drop 69 = dktX6_goesText_3 := dk_seg dksX6_goesText_2 24 rfl rfl
theorem dX6_goesText_0 : decode cX6_goesText 0 = .ok (.aload_n 0, 1) := dk_42 (dk_at dksX6_goesText_0 0 rfl rfl)
theorem dX6_goesText_1 : decode cX6_goesText 1 = .ok (.iconst 0, 1) := dk_3 (dk_at dksX6_goesText_0 1 rfl rfl)
theorem dX6_goesText_2 : decode cX6_goesText 2 = .ok (.putfield 53, 3) := dk_181 0 53 (dk_at dksX6_goesText_0 2 rfl rfl)
theorem dX6_goesText_5 : decode cX6_goesText 5 = .ok (.aload_n 0, 1) := dk_42 (dk_at dksX6_goesText_0 5 rfl rfl)
theorem dX6_goesText_6 : decode cX6_goesText 6 = .ok (.bipush 100, 2) := dk_16 100 (dk_at dksX6_goesText_0 6 rfl rfl)
theorem dX6_goesText_8 : decode cX6_goesText 8 = .ok (.iload_n 1, 1) := dk_27 (dk_at dksX6_goesText_0 8 rfl rfl)
theorem dX6_goesText_9 : decode cX6_goesText 9 = .ok (.imul, 1) := dk_104 (dk_at dksX6_goesText_0 9 rfl rfl)
theorem dX6_goesText_10 : decode cX6_goesText 10 = .ok (.putfield 83, 3) := dk_181 0 83 (dk_at dksX6_goesText_0 10 rfl rfl)
theorem dX6_goesText_13 : decode cX6_goesText 13 = .ok (.iconst 0, 1) := dk_3 (dk_at dksX6_goesText_0 13 rfl rfl)
theorem dX6_goesText_14 : decode cX6_goesText 14 = .ok (.istore_n 2, 1) := dk_61 (dk_at dksX6_goesText_0 14 rfl rfl)
theorem dX6_goesText_15 : decode cX6_goesText 15 = .ok (.aload_n 0, 1) := dk_42 (dk_at dksX6_goesText_0 15 rfl rfl)
theorem dX6_goesText_16 : decode cX6_goesText 16 = .ok (.bipush 10, 2) := dk_16 10 (dk_at dksX6_goesText_0 16 rfl rfl)
theorem dX6_goesText_18 : decode cX6_goesText 18 = .ok (.iload_n 1, 1) := dk_27 (dk_at dksX6_goesText_0 18 rfl rfl)
theorem dX6_goesText_19 : decode cX6_goesText 19 = .ok (.imul, 1) := dk_104 (dk_at dksX6_goesText_0 19 rfl rfl)
theorem dX6_goesText_20 : decode cX6_goesText 20 = .ok (.iload_n 2, 1) := dk_28 (dk_at dksX6_goesText_0 20 rfl rfl)
theorem dX6_goesText_21 : decode cX6_goesText 21 = .ok (.iadd, 1) := dk_96 (dk_at dksX6_goesText_0 21 rfl rfl)
theorem dX6_goesText_22 : decode cX6_goesText 22 = .ok (.invokevirtual 279, 3) := dk_182 1 23 (dk_at dksX6_goesText_1 0 rfl rfl)
theorem dX6_goesText_25 : decode cX6_goesText 25 = .ok (.ifCond .ne 5, 3) := dk_154 0 5 (dk_at dksX6_goesText_1 3 rfl rfl)
theorem dX6_goesText_28 : decode cX6_goesText 28 = .ok (.iconst 0, 1) := dk_3 (dk_at dksX6_goesText_1 6 rfl rfl)
theorem dX6_goesText_29 : decode cX6_goesText 29 = .ok (.ireturn, 1) := dk_172 (dk_at dksX6_goesText_1 7 rfl rfl)
theorem dX6_goesText_30 : decode cX6_goesText 30 = .ok (.iinc 2 1, 3) := dk_132 2 1 (dk_at dksX6_goesText_1 8 rfl rfl)
theorem dX6_goesText_33 : decode cX6_goesText 33 = .ok (.aload_n 0, 1) := dk_42 (dk_at dksX6_goesText_1 11 rfl rfl)
theorem dX6_goesText_34 : decode cX6_goesText 34 = .ok (.getfield 62, 3) := dk_180 0 62 (dk_at dksX6_goesText_1 12 rfl rfl)
theorem dX6_goesText_37 : decode cX6_goesText 37 = .ok (.iload_n 1, 1) := dk_27 (dk_at dksX6_goesText_1 15 rfl rfl)
theorem dX6_goesText_38 : decode cX6_goesText 38 = .ok (.iload_n 2, 1) := dk_28 (dk_at dksX6_goesText_1 16 rfl rfl)
theorem dX6_goesText_39 : decode cX6_goesText 39 = .ok (.iastore, 1) := dk_79 (dk_at dksX6_goesText_1 17 rfl rfl)
theorem dX6_goesText_40 : decode cX6_goesText 40 = .ok (.aload_n 0, 1) := dk_42 (dk_at dksX6_goesText_1 18 rfl rfl)
theorem dX6_goesText_41 : decode cX6_goesText 41 = .ok (.getfield 53, 3) := dk_180 0 53 (dk_at dksX6_goesText_1 19 rfl rfl)
theorem dX6_goesText_44 : decode cX6_goesText 44 = .ok (.aload_n 0, 1) := dk_42 (dk_at dksX6_goesText_1 22 rfl rfl)
theorem dX6_goesText_45 : decode cX6_goesText 45 = .ok (.getfield 50, 3) := dk_180 0 50 (dk_at dksX6_goesText_2 0 rfl rfl)
theorem dX6_goesText_48 : decode cX6_goesText 48 = .ok (.if_icmp .ne 5, 3) := dk_160 0 5 (dk_at dksX6_goesText_2 3 rfl rfl)
theorem dX6_goesText_51 : decode cX6_goesText 51 = .ok (.iconst 1, 1) := dk_4 (dk_at dksX6_goesText_2 6 rfl rfl)
theorem dX6_goesText_52 : decode cX6_goesText 52 = .ok (.ireturn, 1) := dk_172 (dk_at dksX6_goesText_2 7 rfl rfl)
theorem dX6_goesText_53 : decode cX6_goesText 53 = .ok (.iload_n 2, 1) := dk_28 (dk_at dksX6_goesText_2 8 rfl rfl)
theorem dX6_goesText_54 : decode cX6_goesText 54 = .ok (.bipush 10, 2) := dk_16 10 (dk_at dksX6_goesText_2 9 rfl rfl)
theorem dX6_goesText_56 : decode cX6_goesText 56 = .ok (.if_icmp .eq 12, 3) := dk_159 0 12 (dk_at dksX6_goesText_2 11 rfl rfl)
theorem dX6_goesText_59 : decode cX6_goesText 59 = .ok (.aload_n 0, 1) := dk_42 (dk_at dksX6_goesText_2 14 rfl rfl)
theorem dX6_goesText_60 : decode cX6_goesText 60 = .ok (.bipush 59, 2) := dk_16 59 (dk_at dksX6_goesText_2 15 rfl rfl)
theorem dX6_goesText_62 : decode cX6_goesText 62 = .ok (.invokevirtual 242, 3) := dk_182 0 242 (dk_at dksX6_goesText_2 17 rfl rfl)
theorem dX6_goesText_65 : decode cX6_goesText 65 = .ok (.ifCond .ne (-50), 3) := dk_154 255 206 (dk_at dksX6_goesText_2 20 rfl rfl)
theorem dX6_goesText_68 : decode cX6_goesText 68 = .ok (.iconst 0, 1) := dk_3 (dk_at dksX6_goesText_2 23 rfl rfl)
theorem dX6_goesText_69 : decode cX6_goesText 69 = .ok (.ireturn, 1) := dk_172 (dk_at dksX6_goesText_3 0 rfl rfl)
abbrev cX6_takesClause : ByteArray := prog_23_method_26_code
def yX6_takesClause : MethodName := ⟨RX6, "takesClause", "(I)Z"⟩
def dkwX6_takesClause_2 : List UInt8 := [27, 182, 1, 20, 153, 0, 7, 4, 167, 0, 4, 3, 172]
abbrev dktX6_takesClause_2 : List UInt8 := dkwX6_takesClause_2 ++ []
def dkwX6_takesClause_1 : List UInt8 := [180, 0, 56, 79, 42, 180, 0, 65, 27, 46, 5, 162, 0, 20, 42, 16, 32, 182, 0, 242, 153, 0, 15, 42]
abbrev dktX6_takesClause_1 : List UInt8 := dkwX6_takesClause_1 ++ dktX6_takesClause_2
def dkwX6_takesClause_0 : List UInt8 := [42, 27, 182, 1, 17, 153, 0, 10, 42, 182, 1, 1, 154, 0, 5, 3, 172, 42, 180, 0, 68, 27, 42]
abbrev dktX6_takesClause_0 : List UInt8 := dkwX6_takesClause_0 ++ dktX6_takesClause_1
theorem dksX6_takesClause_0 : cX6_takesClause.data.toList.drop 0 = dktX6_takesClause_0 := by decide +kernel
theorem dksX6_takesClause_1 : cX6_takesClause.data.toList.drop 23 = dktX6_takesClause_1 := dk_seg dksX6_takesClause_0 23 rfl rfl
theorem dksX6_takesClause_2 : cX6_takesClause.data.toList.drop 47 = dktX6_takesClause_2 := dk_seg dksX6_takesClause_1 24 rfl rfl
theorem dX6_takesClause_0 : decode cX6_takesClause 0 = .ok (.aload_n 0, 1) := dk_42 (dk_at dksX6_takesClause_0 0 rfl rfl)
theorem dX6_takesClause_1 : decode cX6_takesClause 1 = .ok (.iload_n 1, 1) := dk_27 (dk_at dksX6_takesClause_0 1 rfl rfl)
theorem dX6_takesClause_2 : decode cX6_takesClause 2 = .ok (.invokevirtual 273, 3) := dk_182 1 17 (dk_at dksX6_takesClause_0 2 rfl rfl)
theorem dX6_takesClause_5 : decode cX6_takesClause 5 = .ok (.ifCond .eq 10, 3) := dk_153 0 10 (dk_at dksX6_takesClause_0 5 rfl rfl)
theorem dX6_takesClause_8 : decode cX6_takesClause 8 = .ok (.aload_n 0, 1) := dk_42 (dk_at dksX6_takesClause_0 8 rfl rfl)
theorem dX6_takesClause_9 : decode cX6_takesClause 9 = .ok (.invokevirtual 257, 3) := dk_182 1 1 (dk_at dksX6_takesClause_0 9 rfl rfl)
theorem dX6_takesClause_12 : decode cX6_takesClause 12 = .ok (.ifCond .ne 5, 3) := dk_154 0 5 (dk_at dksX6_takesClause_0 12 rfl rfl)
theorem dX6_takesClause_15 : decode cX6_takesClause 15 = .ok (.iconst 0, 1) := dk_3 (dk_at dksX6_takesClause_0 15 rfl rfl)
theorem dX6_takesClause_16 : decode cX6_takesClause 16 = .ok (.ireturn, 1) := dk_172 (dk_at dksX6_takesClause_0 16 rfl rfl)
theorem dX6_takesClause_17 : decode cX6_takesClause 17 = .ok (.aload_n 0, 1) := dk_42 (dk_at dksX6_takesClause_0 17 rfl rfl)
theorem dX6_takesClause_18 : decode cX6_takesClause 18 = .ok (.getfield 68, 3) := dk_180 0 68 (dk_at dksX6_takesClause_0 18 rfl rfl)
theorem dX6_takesClause_21 : decode cX6_takesClause 21 = .ok (.iload_n 1, 1) := dk_27 (dk_at dksX6_takesClause_0 21 rfl rfl)
theorem dX6_takesClause_22 : decode cX6_takesClause 22 = .ok (.aload_n 0, 1) := dk_42 (dk_at dksX6_takesClause_0 22 rfl rfl)
theorem dX6_takesClause_23 : decode cX6_takesClause 23 = .ok (.getfield 56, 3) := dk_180 0 56 (dk_at dksX6_takesClause_1 0 rfl rfl)
theorem dX6_takesClause_26 : decode cX6_takesClause 26 = .ok (.iastore, 1) := dk_79 (dk_at dksX6_takesClause_1 3 rfl rfl)
theorem dX6_takesClause_27 : decode cX6_takesClause 27 = .ok (.aload_n 0, 1) := dk_42 (dk_at dksX6_takesClause_1 4 rfl rfl)
theorem dX6_takesClause_28 : decode cX6_takesClause 28 = .ok (.getfield 65, 3) := dk_180 0 65 (dk_at dksX6_takesClause_1 5 rfl rfl)
theorem dX6_takesClause_31 : decode cX6_takesClause 31 = .ok (.iload_n 1, 1) := dk_27 (dk_at dksX6_takesClause_1 8 rfl rfl)
theorem dX6_takesClause_32 : decode cX6_takesClause 32 = .ok (.iaload, 1) := dk_46 (dk_at dksX6_takesClause_1 9 rfl rfl)
theorem dX6_takesClause_33 : decode cX6_takesClause 33 = .ok (.iconst 2, 1) := dk_5 (dk_at dksX6_takesClause_1 10 rfl rfl)
theorem dX6_takesClause_34 : decode cX6_takesClause 34 = .ok (.if_icmp .ge 20, 3) := dk_162 0 20 (dk_at dksX6_takesClause_1 11 rfl rfl)
theorem dX6_takesClause_37 : decode cX6_takesClause 37 = .ok (.aload_n 0, 1) := dk_42 (dk_at dksX6_takesClause_1 14 rfl rfl)
theorem dX6_takesClause_38 : decode cX6_takesClause 38 = .ok (.bipush 32, 2) := dk_16 32 (dk_at dksX6_takesClause_1 15 rfl rfl)
theorem dX6_takesClause_40 : decode cX6_takesClause 40 = .ok (.invokevirtual 242, 3) := dk_182 0 242 (dk_at dksX6_takesClause_1 17 rfl rfl)
theorem dX6_takesClause_43 : decode cX6_takesClause 43 = .ok (.ifCond .eq 15, 3) := dk_153 0 15 (dk_at dksX6_takesClause_1 20 rfl rfl)
theorem dX6_takesClause_46 : decode cX6_takesClause 46 = .ok (.aload_n 0, 1) := dk_42 (dk_at dksX6_takesClause_1 23 rfl rfl)
theorem dX6_takesClause_47 : decode cX6_takesClause 47 = .ok (.iload_n 1, 1) := dk_27 (dk_at dksX6_takesClause_2 0 rfl rfl)
theorem dX6_takesClause_48 : decode cX6_takesClause 48 = .ok (.invokevirtual 276, 3) := dk_182 1 20 (dk_at dksX6_takesClause_2 1 rfl rfl)
theorem dX6_takesClause_51 : decode cX6_takesClause 51 = .ok (.ifCond .eq 7, 3) := dk_153 0 7 (dk_at dksX6_takesClause_2 4 rfl rfl)
theorem dX6_takesClause_54 : decode cX6_takesClause 54 = .ok (.iconst 1, 1) := dk_4 (dk_at dksX6_takesClause_2 7 rfl rfl)
theorem dX6_takesClause_55 : decode cX6_takesClause 55 = .ok (.goto 4, 3) := dk_167 0 4 (dk_at dksX6_takesClause_2 8 rfl rfl)
theorem dX6_takesClause_58 : decode cX6_takesClause 58 = .ok (.iconst 0, 1) := dk_3 (dk_at dksX6_takesClause_2 11 rfl rfl)
theorem dX6_takesClause_59 : decode cX6_takesClause 59 = .ok (.ireturn, 1) := dk_172 (dk_at dksX6_takesClause_2 12 rfl rfl)
abbrev cX6_takesHead : ByteArray := prog_23_method_25_code
def yX6_takesHead : MethodName := ⟨RX6, "takesHead", "(I)Z"⟩
def dkwX6_takesHead_4 : List UInt8 := [6, 79, 42, 16, 10, 7, 182, 1, 13, 172]
abbrev dktX6_takesHead_4 : List UInt8 := dkwX6_takesHead_4 ++ []
def dkwX6_takesHead_3 : List UInt8 := [182, 1, 13, 172, 42, 180, 0, 65, 27, 5, 79, 42, 16, 6, 7, 182, 1, 13, 172, 42, 180, 0, 65, 27]
abbrev dktX6_takesHead_3 : List UInt8 := dkwX6_takesHead_3 ++ dktX6_takesHead_4
def dkwX6_takesHead_2 : List UInt8 := [42, 180, 0, 65, 27, 3, 79, 42, 3, 5, 182, 1, 13, 172, 42, 180, 0, 65, 27, 4, 79, 42, 5, 7]
abbrev dktX6_takesHead_2 : List UInt8 := dkwX6_takesHead_2 ++ dktX6_takesHead_3
def dkwX6_takesHead_1 : List UInt8 := [171, 0, 0, 0, 0, 0, 0, 79, 0, 0, 0, 3, 0, 0, 0, 98, 0, 0, 0, 64, 0, 0, 0, 100, 0, 0, 0, 50, 0, 0, 0, 117, 0, 0, 0, 36]
abbrev dktX6_takesHead_1 : List UInt8 := dkwX6_takesHead_1 ++ dktX6_takesHead_2
def dkwX6_takesHead_0 : List UInt8 := [42, 182, 0, 238]
abbrev dktX6_takesHead_0 : List UInt8 := dkwX6_takesHead_0 ++ dktX6_takesHead_1
theorem dksX6_takesHead_0 : cX6_takesHead.data.toList.drop 0 = dktX6_takesHead_0 := by decide +kernel
theorem dksX6_takesHead_1 : cX6_takesHead.data.toList.drop 4 = dktX6_takesHead_1 := dk_seg dksX6_takesHead_0 4 rfl rfl
theorem dksX6_takesHead_2 : cX6_takesHead.data.toList.drop 40 = dktX6_takesHead_2 := dk_seg dksX6_takesHead_1 36 rfl rfl
theorem dksX6_takesHead_3 : cX6_takesHead.data.toList.drop 64 = dktX6_takesHead_3 := dk_seg dksX6_takesHead_2 24 rfl rfl
theorem dksX6_takesHead_4 : cX6_takesHead.data.toList.drop 88 = dktX6_takesHead_4 := dk_seg dksX6_takesHead_3 24 rfl rfl
theorem dX6_takesHead_0 : decode cX6_takesHead 0 = .ok (.aload_n 0, 1) := dk_42 (dk_at dksX6_takesHead_0 0 rfl rfl)
theorem dX6_takesHead_1 : decode cX6_takesHead 1 = .ok (.invokevirtual 238, 3) := dk_182 0 238 (dk_at dksX6_takesHead_0 1 rfl rfl)
theorem dX6_takesHead_4 : decode cX6_takesHead 4 = .ok (.lookupswitch 79 #[(98, 64), (100, 50), (117, 36)], 36) := by decide +kernel
theorem dX6_takesHead_40 : decode cX6_takesHead 40 = .ok (.aload_n 0, 1) := dk_42 (dk_at dksX6_takesHead_2 0 rfl rfl)
theorem dX6_takesHead_41 : decode cX6_takesHead 41 = .ok (.getfield 65, 3) := dk_180 0 65 (dk_at dksX6_takesHead_2 1 rfl rfl)
theorem dX6_takesHead_44 : decode cX6_takesHead 44 = .ok (.iload_n 1, 1) := dk_27 (dk_at dksX6_takesHead_2 4 rfl rfl)
theorem dX6_takesHead_45 : decode cX6_takesHead 45 = .ok (.iconst 0, 1) := dk_3 (dk_at dksX6_takesHead_2 5 rfl rfl)
theorem dX6_takesHead_46 : decode cX6_takesHead 46 = .ok (.iastore, 1) := dk_79 (dk_at dksX6_takesHead_2 6 rfl rfl)
theorem dX6_takesHead_47 : decode cX6_takesHead 47 = .ok (.aload_n 0, 1) := dk_42 (dk_at dksX6_takesHead_2 7 rfl rfl)
theorem dX6_takesHead_48 : decode cX6_takesHead 48 = .ok (.iconst 0, 1) := dk_3 (dk_at dksX6_takesHead_2 8 rfl rfl)
theorem dX6_takesHead_49 : decode cX6_takesHead 49 = .ok (.iconst 2, 1) := dk_5 (dk_at dksX6_takesHead_2 9 rfl rfl)
theorem dX6_takesHead_50 : decode cX6_takesHead 50 = .ok (.invokevirtual 269, 3) := dk_182 1 13 (dk_at dksX6_takesHead_2 10 rfl rfl)
theorem dX6_takesHead_53 : decode cX6_takesHead 53 = .ok (.ireturn, 1) := dk_172 (dk_at dksX6_takesHead_2 13 rfl rfl)
theorem dX6_takesHead_54 : decode cX6_takesHead 54 = .ok (.aload_n 0, 1) := dk_42 (dk_at dksX6_takesHead_2 14 rfl rfl)
theorem dX6_takesHead_55 : decode cX6_takesHead 55 = .ok (.getfield 65, 3) := dk_180 0 65 (dk_at dksX6_takesHead_2 15 rfl rfl)
theorem dX6_takesHead_58 : decode cX6_takesHead 58 = .ok (.iload_n 1, 1) := dk_27 (dk_at dksX6_takesHead_2 18 rfl rfl)
theorem dX6_takesHead_59 : decode cX6_takesHead 59 = .ok (.iconst 1, 1) := dk_4 (dk_at dksX6_takesHead_2 19 rfl rfl)
theorem dX6_takesHead_60 : decode cX6_takesHead 60 = .ok (.iastore, 1) := dk_79 (dk_at dksX6_takesHead_2 20 rfl rfl)
theorem dX6_takesHead_61 : decode cX6_takesHead 61 = .ok (.aload_n 0, 1) := dk_42 (dk_at dksX6_takesHead_2 21 rfl rfl)
theorem dX6_takesHead_62 : decode cX6_takesHead 62 = .ok (.iconst 2, 1) := dk_5 (dk_at dksX6_takesHead_2 22 rfl rfl)
theorem dX6_takesHead_63 : decode cX6_takesHead 63 = .ok (.iconst 4, 1) := dk_7 (dk_at dksX6_takesHead_2 23 rfl rfl)
theorem dX6_takesHead_64 : decode cX6_takesHead 64 = .ok (.invokevirtual 269, 3) := dk_182 1 13 (dk_at dksX6_takesHead_3 0 rfl rfl)
theorem dX6_takesHead_67 : decode cX6_takesHead 67 = .ok (.ireturn, 1) := dk_172 (dk_at dksX6_takesHead_3 3 rfl rfl)
theorem dX6_takesHead_68 : decode cX6_takesHead 68 = .ok (.aload_n 0, 1) := dk_42 (dk_at dksX6_takesHead_3 4 rfl rfl)
theorem dX6_takesHead_69 : decode cX6_takesHead 69 = .ok (.getfield 65, 3) := dk_180 0 65 (dk_at dksX6_takesHead_3 5 rfl rfl)
theorem dX6_takesHead_72 : decode cX6_takesHead 72 = .ok (.iload_n 1, 1) := dk_27 (dk_at dksX6_takesHead_3 8 rfl rfl)
theorem dX6_takesHead_73 : decode cX6_takesHead 73 = .ok (.iconst 2, 1) := dk_5 (dk_at dksX6_takesHead_3 9 rfl rfl)
theorem dX6_takesHead_74 : decode cX6_takesHead 74 = .ok (.iastore, 1) := dk_79 (dk_at dksX6_takesHead_3 10 rfl rfl)
theorem dX6_takesHead_75 : decode cX6_takesHead 75 = .ok (.aload_n 0, 1) := dk_42 (dk_at dksX6_takesHead_3 11 rfl rfl)
theorem dX6_takesHead_76 : decode cX6_takesHead 76 = .ok (.bipush 6, 2) := dk_16 6 (dk_at dksX6_takesHead_3 12 rfl rfl)
theorem dX6_takesHead_78 : decode cX6_takesHead 78 = .ok (.iconst 4, 1) := dk_7 (dk_at dksX6_takesHead_3 14 rfl rfl)
theorem dX6_takesHead_79 : decode cX6_takesHead 79 = .ok (.invokevirtual 269, 3) := dk_182 1 13 (dk_at dksX6_takesHead_3 15 rfl rfl)
theorem dX6_takesHead_82 : decode cX6_takesHead 82 = .ok (.ireturn, 1) := dk_172 (dk_at dksX6_takesHead_3 18 rfl rfl)
theorem dX6_takesHead_83 : decode cX6_takesHead 83 = .ok (.aload_n 0, 1) := dk_42 (dk_at dksX6_takesHead_3 19 rfl rfl)
theorem dX6_takesHead_84 : decode cX6_takesHead 84 = .ok (.getfield 65, 3) := dk_180 0 65 (dk_at dksX6_takesHead_3 20 rfl rfl)
theorem dX6_takesHead_87 : decode cX6_takesHead 87 = .ok (.iload_n 1, 1) := dk_27 (dk_at dksX6_takesHead_3 23 rfl rfl)
theorem dX6_takesHead_88 : decode cX6_takesHead 88 = .ok (.iconst 3, 1) := dk_6 (dk_at dksX6_takesHead_4 0 rfl rfl)
theorem dX6_takesHead_89 : decode cX6_takesHead 89 = .ok (.iastore, 1) := dk_79 (dk_at dksX6_takesHead_4 1 rfl rfl)
theorem dX6_takesHead_90 : decode cX6_takesHead 90 = .ok (.aload_n 0, 1) := dk_42 (dk_at dksX6_takesHead_4 2 rfl rfl)
theorem dX6_takesHead_91 : decode cX6_takesHead 91 = .ok (.bipush 10, 2) := dk_16 10 (dk_at dksX6_takesHead_4 3 rfl rfl)
theorem dX6_takesHead_93 : decode cX6_takesHead 93 = .ok (.iconst 4, 1) := dk_7 (dk_at dksX6_takesHead_4 5 rfl rfl)
theorem dX6_takesHead_94 : decode cX6_takesHead 94 = .ok (.invokevirtual 269, 3) := dk_182 1 13 (dk_at dksX6_takesHead_4 6 rfl rfl)
theorem dX6_takesHead_97 : decode cX6_takesHead 97 = .ok (.ireturn, 1) := dk_172 (dk_at dksX6_takesHead_4 9 rfl rfl)
abbrev cX6_peek : ByteArray := prog_23_method_14_code
def yX6_peek : MethodName := ⟨RX6, "peek", "()I"⟩
def dkwX6_peek_1 : List UInt8 := [172]
abbrev dktX6_peek_1 : List UInt8 := dkwX6_peek_1 ++ []
def dkwX6_peek_0 : List UInt8 := [42, 180, 0, 53, 42, 180, 0, 50, 162, 0, 15, 42, 180, 0, 59, 42, 180, 0, 53, 46, 167, 0, 4, 2]
abbrev dktX6_peek_0 : List UInt8 := dkwX6_peek_0 ++ dktX6_peek_1
theorem dksX6_peek_0 : cX6_peek.data.toList.drop 0 = dktX6_peek_0 := by decide +kernel
theorem dksX6_peek_1 : cX6_peek.data.toList.drop 24 = dktX6_peek_1 := dk_seg dksX6_peek_0 24 rfl rfl
theorem dX6_peek_0 : decode cX6_peek 0 = .ok (.aload_n 0, 1) := dk_42 (dk_at dksX6_peek_0 0 rfl rfl)
theorem dX6_peek_1 : decode cX6_peek 1 = .ok (.getfield 53, 3) := dk_180 0 53 (dk_at dksX6_peek_0 1 rfl rfl)
theorem dX6_peek_4 : decode cX6_peek 4 = .ok (.aload_n 0, 1) := dk_42 (dk_at dksX6_peek_0 4 rfl rfl)
theorem dX6_peek_5 : decode cX6_peek 5 = .ok (.getfield 50, 3) := dk_180 0 50 (dk_at dksX6_peek_0 5 rfl rfl)
theorem dX6_peek_8 : decode cX6_peek 8 = .ok (.if_icmp .ge 15, 3) := dk_162 0 15 (dk_at dksX6_peek_0 8 rfl rfl)
theorem dX6_peek_11 : decode cX6_peek 11 = .ok (.aload_n 0, 1) := dk_42 (dk_at dksX6_peek_0 11 rfl rfl)
theorem dX6_peek_12 : decode cX6_peek 12 = .ok (.getfield 59, 3) := dk_180 0 59 (dk_at dksX6_peek_0 12 rfl rfl)
theorem dX6_peek_15 : decode cX6_peek 15 = .ok (.aload_n 0, 1) := dk_42 (dk_at dksX6_peek_0 15 rfl rfl)
theorem dX6_peek_16 : decode cX6_peek 16 = .ok (.getfield 53, 3) := dk_180 0 53 (dk_at dksX6_peek_0 16 rfl rfl)
theorem dX6_peek_19 : decode cX6_peek 19 = .ok (.iaload, 1) := dk_46 (dk_at dksX6_peek_0 19 rfl rfl)
theorem dX6_peek_20 : decode cX6_peek 20 = .ok (.goto 4, 3) := dk_167 0 4 (dk_at dksX6_peek_0 20 rfl rfl)
theorem dX6_peek_23 : decode cX6_peek 23 = .ok (.iconst (-1), 1) := dk_2 (dk_at dksX6_peek_0 23 rfl rfl)
theorem dX6_peek_24 : decode cX6_peek 24 = .ok (.ireturn, 1) := dk_172 (dk_at dksX6_peek_1 0 rfl rfl)
abbrev cX6_takesWord : ByteArray := prog_23_method_16_code
def yX6_takesWord : MethodName := ⟨RX6, "takesWord", "(II)Z"⟩
def dkwX6_takesWord_1 : List UInt8 := [132, 3, 1, 167, 255, 231, 42, 16, 32, 182, 0, 242, 172]
abbrev dktX6_takesWord_1 : List UInt8 := dkwX6_takesWord_1 ++ []
def dkwX6_takesWord_0 : List UInt8 := [3, 62, 29, 28, 162, 0, 26, 42, 42, 180, 0, 92, 27, 29, 96, 46, 182, 0, 242, 154, 0, 5, 3, 172]
abbrev dktX6_takesWord_0 : List UInt8 := dkwX6_takesWord_0 ++ dktX6_takesWord_1
theorem dksX6_takesWord_0 : cX6_takesWord.data.toList.drop 0 = dktX6_takesWord_0 := by decide +kernel
theorem dksX6_takesWord_1 : cX6_takesWord.data.toList.drop 24 = dktX6_takesWord_1 := dk_seg dksX6_takesWord_0 24 rfl rfl
theorem dX6_takesWord_0 : decode cX6_takesWord 0 = .ok (.iconst 0, 1) := dk_3 (dk_at dksX6_takesWord_0 0 rfl rfl)
theorem dX6_takesWord_1 : decode cX6_takesWord 1 = .ok (.istore_n 3, 1) := dk_62 (dk_at dksX6_takesWord_0 1 rfl rfl)
theorem dX6_takesWord_2 : decode cX6_takesWord 2 = .ok (.iload_n 3, 1) := dk_29 (dk_at dksX6_takesWord_0 2 rfl rfl)
theorem dX6_takesWord_3 : decode cX6_takesWord 3 = .ok (.iload_n 2, 1) := dk_28 (dk_at dksX6_takesWord_0 3 rfl rfl)
theorem dX6_takesWord_4 : decode cX6_takesWord 4 = .ok (.if_icmp .ge 26, 3) := dk_162 0 26 (dk_at dksX6_takesWord_0 4 rfl rfl)
theorem dX6_takesWord_7 : decode cX6_takesWord 7 = .ok (.aload_n 0, 1) := dk_42 (dk_at dksX6_takesWord_0 7 rfl rfl)
theorem dX6_takesWord_8 : decode cX6_takesWord 8 = .ok (.aload_n 0, 1) := dk_42 (dk_at dksX6_takesWord_0 8 rfl rfl)
theorem dX6_takesWord_9 : decode cX6_takesWord 9 = .ok (.getfield 92, 3) := dk_180 0 92 (dk_at dksX6_takesWord_0 9 rfl rfl)
theorem dX6_takesWord_12 : decode cX6_takesWord 12 = .ok (.iload_n 1, 1) := dk_27 (dk_at dksX6_takesWord_0 12 rfl rfl)
theorem dX6_takesWord_13 : decode cX6_takesWord 13 = .ok (.iload_n 3, 1) := dk_29 (dk_at dksX6_takesWord_0 13 rfl rfl)
theorem dX6_takesWord_14 : decode cX6_takesWord 14 = .ok (.iadd, 1) := dk_96 (dk_at dksX6_takesWord_0 14 rfl rfl)
theorem dX6_takesWord_15 : decode cX6_takesWord 15 = .ok (.iaload, 1) := dk_46 (dk_at dksX6_takesWord_0 15 rfl rfl)
theorem dX6_takesWord_16 : decode cX6_takesWord 16 = .ok (.invokevirtual 242, 3) := dk_182 0 242 (dk_at dksX6_takesWord_0 16 rfl rfl)
theorem dX6_takesWord_19 : decode cX6_takesWord 19 = .ok (.ifCond .ne 5, 3) := dk_154 0 5 (dk_at dksX6_takesWord_0 19 rfl rfl)
theorem dX6_takesWord_22 : decode cX6_takesWord 22 = .ok (.iconst 0, 1) := dk_3 (dk_at dksX6_takesWord_0 22 rfl rfl)
theorem dX6_takesWord_23 : decode cX6_takesWord 23 = .ok (.ireturn, 1) := dk_172 (dk_at dksX6_takesWord_0 23 rfl rfl)
theorem dX6_takesWord_24 : decode cX6_takesWord 24 = .ok (.iinc 3 1, 3) := dk_132 3 1 (dk_at dksX6_takesWord_1 0 rfl rfl)
theorem dX6_takesWord_27 : decode cX6_takesWord 27 = .ok (.goto (-25), 3) := dk_167 255 231 (dk_at dksX6_takesWord_1 3 rfl rfl)
theorem dX6_takesWord_30 : decode cX6_takesWord 30 = .ok (.aload_n 0, 1) := dk_42 (dk_at dksX6_takesWord_1 6 rfl rfl)
theorem dX6_takesWord_31 : decode cX6_takesWord 31 = .ok (.bipush 32, 2) := dk_16 32 (dk_at dksX6_takesWord_1 7 rfl rfl)
theorem dX6_takesWord_33 : decode cX6_takesWord 33 = .ok (.invokevirtual 242, 3) := dk_182 0 242 (dk_at dksX6_takesWord_1 9 rfl rfl)
theorem dX6_takesWord_36 : decode cX6_takesWord 36 = .ok (.ireturn, 1) := dk_172 (dk_at dksX6_takesWord_1 12 rfl rfl)
abbrev cX6_takes : ByteArray := prog_23_method_15_code
def yX6_takes : MethodName := ⟨RX6, "takes", "(I)Z"⟩
def dkwX6_takes_0 : List UInt8 := [42, 182, 0, 238, 27, 159, 0, 5, 3, 172, 42, 89, 180, 0, 53, 4, 96, 181, 0, 53, 4, 172]
abbrev dktX6_takes_0 : List UInt8 := dkwX6_takes_0 ++ []
theorem dksX6_takes_0 : cX6_takes.data.toList.drop 0 = dktX6_takes_0 := by decide +kernel
theorem dX6_takes_0 : decode cX6_takes 0 = .ok (.aload_n 0, 1) := dk_42 (dk_at dksX6_takes_0 0 rfl rfl)
theorem dX6_takes_1 : decode cX6_takes 1 = .ok (.invokevirtual 238, 3) := dk_182 0 238 (dk_at dksX6_takes_0 1 rfl rfl)
theorem dX6_takes_4 : decode cX6_takes 4 = .ok (.iload_n 1, 1) := dk_27 (dk_at dksX6_takes_0 4 rfl rfl)
theorem dX6_takes_5 : decode cX6_takes 5 = .ok (.if_icmp .eq 5, 3) := dk_159 0 5 (dk_at dksX6_takes_0 5 rfl rfl)
theorem dX6_takes_8 : decode cX6_takes 8 = .ok (.iconst 0, 1) := dk_3 (dk_at dksX6_takes_0 8 rfl rfl)
theorem dX6_takes_9 : decode cX6_takes 9 = .ok (.ireturn, 1) := dk_172 (dk_at dksX6_takes_0 9 rfl rfl)
theorem dX6_takes_10 : decode cX6_takes 10 = .ok (.aload_n 0, 1) := dk_42 (dk_at dksX6_takes_0 10 rfl rfl)
theorem dX6_takes_11 : decode cX6_takes 11 = .ok (.dup, 1) := dk_89 (dk_at dksX6_takes_0 11 rfl rfl)
theorem dX6_takes_12 : decode cX6_takes 12 = .ok (.getfield 53, 3) := dk_180 0 53 (dk_at dksX6_takes_0 12 rfl rfl)
theorem dX6_takes_15 : decode cX6_takes 15 = .ok (.iconst 1, 1) := dk_4 (dk_at dksX6_takes_0 15 rfl rfl)
theorem dX6_takes_16 : decode cX6_takes 16 = .ok (.iadd, 1) := dk_96 (dk_at dksX6_takes_0 16 rfl rfl)
theorem dX6_takes_17 : decode cX6_takes 17 = .ok (.putfield 53, 3) := dk_181 0 53 (dk_at dksX6_takes_0 17 rfl rfl)
theorem dX6_takes_20 : decode cX6_takes 20 = .ok (.iconst 1, 1) := dk_4 (dk_at dksX6_takes_0 20 rfl rfl)
theorem dX6_takes_21 : decode cX6_takes 21 = .ok (.ireturn, 1) := dk_172 (dk_at dksX6_takes_0 21 rfl rfl)
abbrev cX6_takesNumber : ByteArray := prog_23_method_18_code
def yX6_takesNumber : MethodName := ⟨RX6, "takesNumber", "()Z"⟩
def dkwX6_takesNumber_2 : List UInt8 := [181, 0, 56, 42, 89, 180, 0, 53, 4, 96, 181, 0, 53, 132, 1, 1, 167, 255, 212, 4, 172]
abbrev dktX6_takesNumber_2 : List UInt8 := dkwX6_takesNumber_2 ++ []
def dkwX6_takesNumber_1 : List UInt8 := [182, 0, 245, 153, 0, 38, 42, 16, 10, 42, 180, 0, 56, 104, 42, 182, 0, 238, 96, 16, 48, 100]
abbrev dktX6_takesNumber_1 : List UInt8 := dkwX6_takesNumber_1 ++ dktX6_takesNumber_2
def dkwX6_takesNumber_0 : List UInt8 := [42, 182, 0, 245, 154, 0, 5, 3, 172, 42, 3, 181, 0, 56, 3, 60, 27, 5, 162, 0, 45, 42]
abbrev dktX6_takesNumber_0 : List UInt8 := dkwX6_takesNumber_0 ++ dktX6_takesNumber_1
theorem dksX6_takesNumber_0 : cX6_takesNumber.data.toList.drop 0 = dktX6_takesNumber_0 := by decide +kernel
theorem dksX6_takesNumber_1 : cX6_takesNumber.data.toList.drop 22 = dktX6_takesNumber_1 := dk_seg dksX6_takesNumber_0 22 rfl rfl
theorem dksX6_takesNumber_2 : cX6_takesNumber.data.toList.drop 44 = dktX6_takesNumber_2 := dk_seg dksX6_takesNumber_1 22 rfl rfl
theorem dX6_takesNumber_0 : decode cX6_takesNumber 0 = .ok (.aload_n 0, 1) := dk_42 (dk_at dksX6_takesNumber_0 0 rfl rfl)
theorem dX6_takesNumber_1 : decode cX6_takesNumber 1 = .ok (.invokevirtual 245, 3) := dk_182 0 245 (dk_at dksX6_takesNumber_0 1 rfl rfl)
theorem dX6_takesNumber_4 : decode cX6_takesNumber 4 = .ok (.ifCond .ne 5, 3) := dk_154 0 5 (dk_at dksX6_takesNumber_0 4 rfl rfl)
theorem dX6_takesNumber_7 : decode cX6_takesNumber 7 = .ok (.iconst 0, 1) := dk_3 (dk_at dksX6_takesNumber_0 7 rfl rfl)
theorem dX6_takesNumber_8 : decode cX6_takesNumber 8 = .ok (.ireturn, 1) := dk_172 (dk_at dksX6_takesNumber_0 8 rfl rfl)
theorem dX6_takesNumber_9 : decode cX6_takesNumber 9 = .ok (.aload_n 0, 1) := dk_42 (dk_at dksX6_takesNumber_0 9 rfl rfl)
theorem dX6_takesNumber_10 : decode cX6_takesNumber 10 = .ok (.iconst 0, 1) := dk_3 (dk_at dksX6_takesNumber_0 10 rfl rfl)
theorem dX6_takesNumber_11 : decode cX6_takesNumber 11 = .ok (.putfield 56, 3) := dk_181 0 56 (dk_at dksX6_takesNumber_0 11 rfl rfl)
theorem dX6_takesNumber_14 : decode cX6_takesNumber 14 = .ok (.iconst 0, 1) := dk_3 (dk_at dksX6_takesNumber_0 14 rfl rfl)
theorem dX6_takesNumber_15 : decode cX6_takesNumber 15 = .ok (.istore_n 1, 1) := dk_60 (dk_at dksX6_takesNumber_0 15 rfl rfl)
theorem dX6_takesNumber_16 : decode cX6_takesNumber 16 = .ok (.iload_n 1, 1) := dk_27 (dk_at dksX6_takesNumber_0 16 rfl rfl)
theorem dX6_takesNumber_17 : decode cX6_takesNumber 17 = .ok (.iconst 2, 1) := dk_5 (dk_at dksX6_takesNumber_0 17 rfl rfl)
theorem dX6_takesNumber_18 : decode cX6_takesNumber 18 = .ok (.if_icmp .ge 45, 3) := dk_162 0 45 (dk_at dksX6_takesNumber_0 18 rfl rfl)
theorem dX6_takesNumber_21 : decode cX6_takesNumber 21 = .ok (.aload_n 0, 1) := dk_42 (dk_at dksX6_takesNumber_0 21 rfl rfl)
theorem dX6_takesNumber_22 : decode cX6_takesNumber 22 = .ok (.invokevirtual 245, 3) := dk_182 0 245 (dk_at dksX6_takesNumber_1 0 rfl rfl)
theorem dX6_takesNumber_25 : decode cX6_takesNumber 25 = .ok (.ifCond .eq 38, 3) := dk_153 0 38 (dk_at dksX6_takesNumber_1 3 rfl rfl)
theorem dX6_takesNumber_28 : decode cX6_takesNumber 28 = .ok (.aload_n 0, 1) := dk_42 (dk_at dksX6_takesNumber_1 6 rfl rfl)
theorem dX6_takesNumber_29 : decode cX6_takesNumber 29 = .ok (.bipush 10, 2) := dk_16 10 (dk_at dksX6_takesNumber_1 7 rfl rfl)
theorem dX6_takesNumber_31 : decode cX6_takesNumber 31 = .ok (.aload_n 0, 1) := dk_42 (dk_at dksX6_takesNumber_1 9 rfl rfl)
theorem dX6_takesNumber_32 : decode cX6_takesNumber 32 = .ok (.getfield 56, 3) := dk_180 0 56 (dk_at dksX6_takesNumber_1 10 rfl rfl)
theorem dX6_takesNumber_35 : decode cX6_takesNumber 35 = .ok (.imul, 1) := dk_104 (dk_at dksX6_takesNumber_1 13 rfl rfl)
theorem dX6_takesNumber_36 : decode cX6_takesNumber 36 = .ok (.aload_n 0, 1) := dk_42 (dk_at dksX6_takesNumber_1 14 rfl rfl)
theorem dX6_takesNumber_37 : decode cX6_takesNumber 37 = .ok (.invokevirtual 238, 3) := dk_182 0 238 (dk_at dksX6_takesNumber_1 15 rfl rfl)
theorem dX6_takesNumber_40 : decode cX6_takesNumber 40 = .ok (.iadd, 1) := dk_96 (dk_at dksX6_takesNumber_1 18 rfl rfl)
theorem dX6_takesNumber_41 : decode cX6_takesNumber 41 = .ok (.bipush 48, 2) := dk_16 48 (dk_at dksX6_takesNumber_1 19 rfl rfl)
theorem dX6_takesNumber_43 : decode cX6_takesNumber 43 = .ok (.isub, 1) := dk_100 (dk_at dksX6_takesNumber_1 21 rfl rfl)
theorem dX6_takesNumber_44 : decode cX6_takesNumber 44 = .ok (.putfield 56, 3) := dk_181 0 56 (dk_at dksX6_takesNumber_2 0 rfl rfl)
theorem dX6_takesNumber_47 : decode cX6_takesNumber 47 = .ok (.aload_n 0, 1) := dk_42 (dk_at dksX6_takesNumber_2 3 rfl rfl)
theorem dX6_takesNumber_48 : decode cX6_takesNumber 48 = .ok (.dup, 1) := dk_89 (dk_at dksX6_takesNumber_2 4 rfl rfl)
theorem dX6_takesNumber_49 : decode cX6_takesNumber 49 = .ok (.getfield 53, 3) := dk_180 0 53 (dk_at dksX6_takesNumber_2 5 rfl rfl)
theorem dX6_takesNumber_52 : decode cX6_takesNumber 52 = .ok (.iconst 1, 1) := dk_4 (dk_at dksX6_takesNumber_2 8 rfl rfl)
theorem dX6_takesNumber_53 : decode cX6_takesNumber 53 = .ok (.iadd, 1) := dk_96 (dk_at dksX6_takesNumber_2 9 rfl rfl)
theorem dX6_takesNumber_54 : decode cX6_takesNumber 54 = .ok (.putfield 53, 3) := dk_181 0 53 (dk_at dksX6_takesNumber_2 10 rfl rfl)
theorem dX6_takesNumber_57 : decode cX6_takesNumber 57 = .ok (.iinc 1 1, 3) := dk_132 1 1 (dk_at dksX6_takesNumber_2 13 rfl rfl)
theorem dX6_takesNumber_60 : decode cX6_takesNumber 60 = .ok (.goto (-44), 3) := dk_167 255 212 (dk_at dksX6_takesNumber_2 16 rfl rfl)
theorem dX6_takesNumber_63 : decode cX6_takesNumber 63 = .ok (.iconst 1, 1) := dk_4 (dk_at dksX6_takesNumber_2 19 rfl rfl)
theorem dX6_takesNumber_64 : decode cX6_takesNumber 64 = .ok (.ireturn, 1) := dk_172 (dk_at dksX6_takesNumber_2 20 rfl rfl)
abbrev cX6_isDigit : ByteArray := prog_23_method_17_code
def yX6_isDigit : MethodName := ⟨RX6, "isDigit", "()Z"⟩
def dkwX6_isDigit_0 : List UInt8 := [42, 42, 182, 0, 238, 16, 48, 16, 57, 182, 0, 227, 172]
abbrev dktX6_isDigit_0 : List UInt8 := dkwX6_isDigit_0 ++ []
theorem dksX6_isDigit_0 : cX6_isDigit.data.toList.drop 0 = dktX6_isDigit_0 := by decide +kernel
theorem dX6_isDigit_0 : decode cX6_isDigit 0 = .ok (.aload_n 0, 1) := dk_42 (dk_at dksX6_isDigit_0 0 rfl rfl)
theorem dX6_isDigit_1 : decode cX6_isDigit 1 = .ok (.aload_n 0, 1) := dk_42 (dk_at dksX6_isDigit_0 1 rfl rfl)
theorem dX6_isDigit_2 : decode cX6_isDigit 2 = .ok (.invokevirtual 238, 3) := dk_182 0 238 (dk_at dksX6_isDigit_0 2 rfl rfl)
theorem dX6_isDigit_5 : decode cX6_isDigit 5 = .ok (.bipush 48, 2) := dk_16 48 (dk_at dksX6_isDigit_0 5 rfl rfl)
theorem dX6_isDigit_7 : decode cX6_isDigit 7 = .ok (.bipush 57, 2) := dk_16 57 (dk_at dksX6_isDigit_0 7 rfl rfl)
theorem dX6_isDigit_9 : decode cX6_isDigit 9 = .ok (.invokevirtual 227, 3) := dk_182 0 227 (dk_at dksX6_isDigit_0 9 rfl rfl)
theorem dX6_isDigit_12 : decode cX6_isDigit 12 = .ok (.ireturn, 1) := dk_172 (dk_at dksX6_isDigit_0 12 rfl rfl)
abbrev cX6_takesE : ByteArray := prog_23_method_24_code
def yX6_takesE : MethodName := ⟨RX6, "takesE", "(I)Z"⟩
def dkwX6_takesE_9 : List UInt8 := [100, 181, 0, 89, 42, 89, 180, 0, 53, 4, 96, 181, 0, 53, 42, 182, 1, 4, 167, 255, 49]
abbrev dktX6_takesE_9 : List UInt8 := dkwX6_takesE_9 ++ []
def dkwX6_takesE_8 : List UInt8 := [29, 16, 41, 159, 0, 5, 3, 172, 42, 89, 180, 0, 86, 4, 100, 181, 0, 86, 42, 89, 180, 0, 89, 4]
abbrev dktX6_takesE_8 : List UInt8 := dkwX6_takesE_8 ++ dktX6_takesE_9
def dkwX6_takesE_7 : List UInt8 := [16, 124, 182, 1, 10, 42, 180, 0, 74, 27, 42, 180, 0, 83, 79, 42, 180, 0, 86, 154, 0, 5, 4, 172]
abbrev dktX6_takesE_7 : List UInt8 := dkwX6_takesE_7 ++ dktX6_takesE_8
def dkwX6_takesE_6 : List UInt8 := [180, 0, 86, 4, 96, 181, 0, 86, 4, 61, 42, 89, 180, 0, 53, 4, 96, 181, 0, 53, 167, 255, 119, 42]
abbrev dktX6_takesE_6 : List UInt8 := dkwX6_takesE_6 ++ dktX6_takesE_7
def dkwX6_takesE_5 : List UInt8 := [16, 124, 160, 0, 43, 42, 29, 182, 1, 10, 42, 180, 0, 80, 42, 180, 0, 86, 29, 79, 42, 89]
abbrev dktX6_takesE_5 : List UInt8 := dkwX6_takesE_5 ++ dktX6_takesE_6
def dkwX6_takesE_4 : List UInt8 := [167, 255, 185, 42, 182, 1, 7, 153, 0, 8, 3, 61, 167, 255, 173, 3, 172, 29, 16, 38, 159, 0, 9, 29]
abbrev dktX6_takesE_4 : List UInt8 := dkwX6_takesE_4 ++ dktX6_takesE_5
def dkwX6_takesE_3 : List UInt8 := [29, 79, 42, 89, 180, 0, 86, 4, 96, 181, 0, 86, 42, 89, 180, 0, 53, 4, 96, 181, 0, 53]
abbrev dktX6_takesE_3 : List UInt8 := dkwX6_takesE_3 ++ dktX6_takesE_4
def dkwX6_takesE_2 : List UInt8 := [7, 160, 0, 5, 3, 172, 42, 89, 180, 0, 89, 4, 96, 181, 0, 89, 42, 180, 0, 80, 42, 180, 0, 86]
abbrev dktX6_takesE_2 : List UInt8 := dkwX6_takesE_2 ++ dktX6_takesE_3
def dkwX6_takesE_1 : List UInt8 := [182, 0, 238, 62, 28, 153, 0, 82, 29, 16, 33, 159, 0, 9, 29, 16, 40, 160, 0, 56, 42, 180, 0, 89]
abbrev dktX6_takesE_1 : List UInt8 := dkwX6_takesE_1 ++ dktX6_takesE_2
def dkwX6_takesE_0 : List UInt8 := [42, 3, 181, 0, 86, 42, 3, 181, 0, 89, 42, 180, 0, 71, 27, 42, 180, 0, 83, 79, 4, 61, 42]
abbrev dktX6_takesE_0 : List UInt8 := dkwX6_takesE_0 ++ dktX6_takesE_1
theorem dksX6_takesE_0 : cX6_takesE.data.toList.drop 0 = dktX6_takesE_0 := by decide +kernel
theorem dksX6_takesE_1 : cX6_takesE.data.toList.drop 23 = dktX6_takesE_1 := dk_seg dksX6_takesE_0 23 rfl rfl
theorem dksX6_takesE_2 : cX6_takesE.data.toList.drop 47 = dktX6_takesE_2 := dk_seg dksX6_takesE_1 24 rfl rfl
theorem dksX6_takesE_3 : cX6_takesE.data.toList.drop 71 = dktX6_takesE_3 := dk_seg dksX6_takesE_2 24 rfl rfl
theorem dksX6_takesE_4 : cX6_takesE.data.toList.drop 93 = dktX6_takesE_4 := dk_seg dksX6_takesE_3 22 rfl rfl
theorem dksX6_takesE_5 : cX6_takesE.data.toList.drop 117 = dktX6_takesE_5 := dk_seg dksX6_takesE_4 24 rfl rfl
theorem dksX6_takesE_6 : cX6_takesE.data.toList.drop 139 = dktX6_takesE_6 := dk_seg dksX6_takesE_5 22 rfl rfl
theorem dksX6_takesE_7 : cX6_takesE.data.toList.drop 163 = dktX6_takesE_7 := dk_seg dksX6_takesE_6 24 rfl rfl
theorem dksX6_takesE_8 : cX6_takesE.data.toList.drop 187 = dktX6_takesE_8 := dk_seg dksX6_takesE_7 24 rfl rfl
theorem dksX6_takesE_9 : cX6_takesE.data.toList.drop 211 = dktX6_takesE_9 := dk_seg dksX6_takesE_8 24 rfl rfl
theorem dX6_takesE_0 : decode cX6_takesE 0 = .ok (.aload_n 0, 1) := dk_42 (dk_at dksX6_takesE_0 0 rfl rfl)
theorem dX6_takesE_1 : decode cX6_takesE 1 = .ok (.iconst 0, 1) := dk_3 (dk_at dksX6_takesE_0 1 rfl rfl)
theorem dX6_takesE_2 : decode cX6_takesE 2 = .ok (.putfield 86, 3) := dk_181 0 86 (dk_at dksX6_takesE_0 2 rfl rfl)
theorem dX6_takesE_5 : decode cX6_takesE 5 = .ok (.aload_n 0, 1) := dk_42 (dk_at dksX6_takesE_0 5 rfl rfl)
theorem dX6_takesE_6 : decode cX6_takesE 6 = .ok (.iconst 0, 1) := dk_3 (dk_at dksX6_takesE_0 6 rfl rfl)
theorem dX6_takesE_7 : decode cX6_takesE 7 = .ok (.putfield 89, 3) := dk_181 0 89 (dk_at dksX6_takesE_0 7 rfl rfl)
theorem dX6_takesE_10 : decode cX6_takesE 10 = .ok (.aload_n 0, 1) := dk_42 (dk_at dksX6_takesE_0 10 rfl rfl)
theorem dX6_takesE_11 : decode cX6_takesE 11 = .ok (.getfield 71, 3) := dk_180 0 71 (dk_at dksX6_takesE_0 11 rfl rfl)
theorem dX6_takesE_14 : decode cX6_takesE 14 = .ok (.iload_n 1, 1) := dk_27 (dk_at dksX6_takesE_0 14 rfl rfl)
theorem dX6_takesE_15 : decode cX6_takesE 15 = .ok (.aload_n 0, 1) := dk_42 (dk_at dksX6_takesE_0 15 rfl rfl)
theorem dX6_takesE_16 : decode cX6_takesE 16 = .ok (.getfield 83, 3) := dk_180 0 83 (dk_at dksX6_takesE_0 16 rfl rfl)
theorem dX6_takesE_19 : decode cX6_takesE 19 = .ok (.iastore, 1) := dk_79 (dk_at dksX6_takesE_0 19 rfl rfl)
theorem dX6_takesE_20 : decode cX6_takesE 20 = .ok (.iconst 1, 1) := dk_4 (dk_at dksX6_takesE_0 20 rfl rfl)
theorem dX6_takesE_21 : decode cX6_takesE 21 = .ok (.istore_n 2, 1) := dk_61 (dk_at dksX6_takesE_0 21 rfl rfl)
theorem dX6_takesE_22 : decode cX6_takesE 22 = .ok (.aload_n 0, 1) := dk_42 (dk_at dksX6_takesE_0 22 rfl rfl)
theorem dX6_takesE_23 : decode cX6_takesE 23 = .ok (.invokevirtual 238, 3) := dk_182 0 238 (dk_at dksX6_takesE_1 0 rfl rfl)
theorem dX6_takesE_26 : decode cX6_takesE 26 = .ok (.istore_n 3, 1) := dk_62 (dk_at dksX6_takesE_1 3 rfl rfl)
theorem dX6_takesE_27 : decode cX6_takesE 27 = .ok (.iload_n 2, 1) := dk_28 (dk_at dksX6_takesE_1 4 rfl rfl)
theorem dX6_takesE_28 : decode cX6_takesE 28 = .ok (.ifCond .eq 82, 3) := dk_153 0 82 (dk_at dksX6_takesE_1 5 rfl rfl)
theorem dX6_takesE_31 : decode cX6_takesE 31 = .ok (.iload_n 3, 1) := dk_29 (dk_at dksX6_takesE_1 8 rfl rfl)
theorem dX6_takesE_32 : decode cX6_takesE 32 = .ok (.bipush 33, 2) := dk_16 33 (dk_at dksX6_takesE_1 9 rfl rfl)
theorem dX6_takesE_34 : decode cX6_takesE 34 = .ok (.if_icmp .eq 9, 3) := dk_159 0 9 (dk_at dksX6_takesE_1 11 rfl rfl)
theorem dX6_takesE_37 : decode cX6_takesE 37 = .ok (.iload_n 3, 1) := dk_29 (dk_at dksX6_takesE_1 14 rfl rfl)
theorem dX6_takesE_38 : decode cX6_takesE 38 = .ok (.bipush 40, 2) := dk_16 40 (dk_at dksX6_takesE_1 15 rfl rfl)
theorem dX6_takesE_40 : decode cX6_takesE 40 = .ok (.if_icmp .ne 56, 3) := dk_160 0 56 (dk_at dksX6_takesE_1 17 rfl rfl)
theorem dX6_takesE_43 : decode cX6_takesE 43 = .ok (.aload_n 0, 1) := dk_42 (dk_at dksX6_takesE_1 20 rfl rfl)
theorem dX6_takesE_44 : decode cX6_takesE 44 = .ok (.getfield 89, 3) := dk_180 0 89 (dk_at dksX6_takesE_1 21 rfl rfl)
theorem dX6_takesE_47 : decode cX6_takesE 47 = .ok (.iconst 4, 1) := dk_7 (dk_at dksX6_takesE_2 0 rfl rfl)
theorem dX6_takesE_48 : decode cX6_takesE 48 = .ok (.if_icmp .ne 5, 3) := dk_160 0 5 (dk_at dksX6_takesE_2 1 rfl rfl)
theorem dX6_takesE_51 : decode cX6_takesE 51 = .ok (.iconst 0, 1) := dk_3 (dk_at dksX6_takesE_2 4 rfl rfl)
theorem dX6_takesE_52 : decode cX6_takesE 52 = .ok (.ireturn, 1) := dk_172 (dk_at dksX6_takesE_2 5 rfl rfl)
theorem dX6_takesE_53 : decode cX6_takesE 53 = .ok (.aload_n 0, 1) := dk_42 (dk_at dksX6_takesE_2 6 rfl rfl)
theorem dX6_takesE_54 : decode cX6_takesE 54 = .ok (.dup, 1) := dk_89 (dk_at dksX6_takesE_2 7 rfl rfl)
theorem dX6_takesE_55 : decode cX6_takesE 55 = .ok (.getfield 89, 3) := dk_180 0 89 (dk_at dksX6_takesE_2 8 rfl rfl)
theorem dX6_takesE_58 : decode cX6_takesE 58 = .ok (.iconst 1, 1) := dk_4 (dk_at dksX6_takesE_2 11 rfl rfl)
theorem dX6_takesE_59 : decode cX6_takesE 59 = .ok (.iadd, 1) := dk_96 (dk_at dksX6_takesE_2 12 rfl rfl)
theorem dX6_takesE_60 : decode cX6_takesE 60 = .ok (.putfield 89, 3) := dk_181 0 89 (dk_at dksX6_takesE_2 13 rfl rfl)
theorem dX6_takesE_63 : decode cX6_takesE 63 = .ok (.aload_n 0, 1) := dk_42 (dk_at dksX6_takesE_2 16 rfl rfl)
theorem dX6_takesE_64 : decode cX6_takesE 64 = .ok (.getfield 80, 3) := dk_180 0 80 (dk_at dksX6_takesE_2 17 rfl rfl)
theorem dX6_takesE_67 : decode cX6_takesE 67 = .ok (.aload_n 0, 1) := dk_42 (dk_at dksX6_takesE_2 20 rfl rfl)
theorem dX6_takesE_68 : decode cX6_takesE 68 = .ok (.getfield 86, 3) := dk_180 0 86 (dk_at dksX6_takesE_2 21 rfl rfl)
theorem dX6_takesE_71 : decode cX6_takesE 71 = .ok (.iload_n 3, 1) := dk_29 (dk_at dksX6_takesE_3 0 rfl rfl)
theorem dX6_takesE_72 : decode cX6_takesE 72 = .ok (.iastore, 1) := dk_79 (dk_at dksX6_takesE_3 1 rfl rfl)
theorem dX6_takesE_73 : decode cX6_takesE 73 = .ok (.aload_n 0, 1) := dk_42 (dk_at dksX6_takesE_3 2 rfl rfl)
theorem dX6_takesE_74 : decode cX6_takesE 74 = .ok (.dup, 1) := dk_89 (dk_at dksX6_takesE_3 3 rfl rfl)
theorem dX6_takesE_75 : decode cX6_takesE 75 = .ok (.getfield 86, 3) := dk_180 0 86 (dk_at dksX6_takesE_3 4 rfl rfl)
theorem dX6_takesE_78 : decode cX6_takesE 78 = .ok (.iconst 1, 1) := dk_4 (dk_at dksX6_takesE_3 7 rfl rfl)
theorem dX6_takesE_79 : decode cX6_takesE 79 = .ok (.iadd, 1) := dk_96 (dk_at dksX6_takesE_3 8 rfl rfl)
theorem dX6_takesE_80 : decode cX6_takesE 80 = .ok (.putfield 86, 3) := dk_181 0 86 (dk_at dksX6_takesE_3 9 rfl rfl)
theorem dX6_takesE_83 : decode cX6_takesE 83 = .ok (.aload_n 0, 1) := dk_42 (dk_at dksX6_takesE_3 12 rfl rfl)
theorem dX6_takesE_84 : decode cX6_takesE 84 = .ok (.dup, 1) := dk_89 (dk_at dksX6_takesE_3 13 rfl rfl)
theorem dX6_takesE_85 : decode cX6_takesE 85 = .ok (.getfield 53, 3) := dk_180 0 53 (dk_at dksX6_takesE_3 14 rfl rfl)
theorem dX6_takesE_88 : decode cX6_takesE 88 = .ok (.iconst 1, 1) := dk_4 (dk_at dksX6_takesE_3 17 rfl rfl)
theorem dX6_takesE_89 : decode cX6_takesE 89 = .ok (.iadd, 1) := dk_96 (dk_at dksX6_takesE_3 18 rfl rfl)
theorem dX6_takesE_90 : decode cX6_takesE 90 = .ok (.putfield 53, 3) := dk_181 0 53 (dk_at dksX6_takesE_3 19 rfl rfl)
theorem dX6_takesE_93 : decode cX6_takesE 93 = .ok (.goto (-71), 3) := dk_167 255 185 (dk_at dksX6_takesE_4 0 rfl rfl)
theorem dX6_takesE_96 : decode cX6_takesE 96 = .ok (.aload_n 0, 1) := dk_42 (dk_at dksX6_takesE_4 3 rfl rfl)
theorem dX6_takesE_97 : decode cX6_takesE 97 = .ok (.invokevirtual 263, 3) := dk_182 1 7 (dk_at dksX6_takesE_4 4 rfl rfl)
theorem dX6_takesE_100 : decode cX6_takesE 100 = .ok (.ifCond .eq 8, 3) := dk_153 0 8 (dk_at dksX6_takesE_4 7 rfl rfl)
theorem dX6_takesE_103 : decode cX6_takesE 103 = .ok (.iconst 0, 1) := dk_3 (dk_at dksX6_takesE_4 10 rfl rfl)
theorem dX6_takesE_104 : decode cX6_takesE 104 = .ok (.istore_n 2, 1) := dk_61 (dk_at dksX6_takesE_4 11 rfl rfl)
theorem dX6_takesE_105 : decode cX6_takesE 105 = .ok (.goto (-83), 3) := dk_167 255 173 (dk_at dksX6_takesE_4 12 rfl rfl)
theorem dX6_takesE_108 : decode cX6_takesE 108 = .ok (.iconst 0, 1) := dk_3 (dk_at dksX6_takesE_4 15 rfl rfl)
theorem dX6_takesE_109 : decode cX6_takesE 109 = .ok (.ireturn, 1) := dk_172 (dk_at dksX6_takesE_4 16 rfl rfl)
theorem dX6_takesE_110 : decode cX6_takesE 110 = .ok (.iload_n 3, 1) := dk_29 (dk_at dksX6_takesE_4 17 rfl rfl)
theorem dX6_takesE_111 : decode cX6_takesE 111 = .ok (.bipush 38, 2) := dk_16 38 (dk_at dksX6_takesE_4 18 rfl rfl)
theorem dX6_takesE_113 : decode cX6_takesE 113 = .ok (.if_icmp .eq 9, 3) := dk_159 0 9 (dk_at dksX6_takesE_4 20 rfl rfl)
theorem dX6_takesE_116 : decode cX6_takesE 116 = .ok (.iload_n 3, 1) := dk_29 (dk_at dksX6_takesE_4 23 rfl rfl)
theorem dX6_takesE_117 : decode cX6_takesE 117 = .ok (.bipush 124, 2) := dk_16 124 (dk_at dksX6_takesE_5 0 rfl rfl)
theorem dX6_takesE_119 : decode cX6_takesE 119 = .ok (.if_icmp .ne 43, 3) := dk_160 0 43 (dk_at dksX6_takesE_5 2 rfl rfl)
theorem dX6_takesE_122 : decode cX6_takesE 122 = .ok (.aload_n 0, 1) := dk_42 (dk_at dksX6_takesE_5 5 rfl rfl)
theorem dX6_takesE_123 : decode cX6_takesE 123 = .ok (.iload_n 3, 1) := dk_29 (dk_at dksX6_takesE_5 6 rfl rfl)
theorem dX6_takesE_124 : decode cX6_takesE 124 = .ok (.invokevirtual 266, 3) := dk_182 1 10 (dk_at dksX6_takesE_5 7 rfl rfl)
theorem dX6_takesE_127 : decode cX6_takesE 127 = .ok (.aload_n 0, 1) := dk_42 (dk_at dksX6_takesE_5 10 rfl rfl)
theorem dX6_takesE_128 : decode cX6_takesE 128 = .ok (.getfield 80, 3) := dk_180 0 80 (dk_at dksX6_takesE_5 11 rfl rfl)
theorem dX6_takesE_131 : decode cX6_takesE 131 = .ok (.aload_n 0, 1) := dk_42 (dk_at dksX6_takesE_5 14 rfl rfl)
theorem dX6_takesE_132 : decode cX6_takesE 132 = .ok (.getfield 86, 3) := dk_180 0 86 (dk_at dksX6_takesE_5 15 rfl rfl)
theorem dX6_takesE_135 : decode cX6_takesE 135 = .ok (.iload_n 3, 1) := dk_29 (dk_at dksX6_takesE_5 18 rfl rfl)
theorem dX6_takesE_136 : decode cX6_takesE 136 = .ok (.iastore, 1) := dk_79 (dk_at dksX6_takesE_5 19 rfl rfl)
theorem dX6_takesE_137 : decode cX6_takesE 137 = .ok (.aload_n 0, 1) := dk_42 (dk_at dksX6_takesE_5 20 rfl rfl)
theorem dX6_takesE_138 : decode cX6_takesE 138 = .ok (.dup, 1) := dk_89 (dk_at dksX6_takesE_5 21 rfl rfl)
theorem dX6_takesE_139 : decode cX6_takesE 139 = .ok (.getfield 86, 3) := dk_180 0 86 (dk_at dksX6_takesE_6 0 rfl rfl)
theorem dX6_takesE_142 : decode cX6_takesE 142 = .ok (.iconst 1, 1) := dk_4 (dk_at dksX6_takesE_6 3 rfl rfl)
theorem dX6_takesE_143 : decode cX6_takesE 143 = .ok (.iadd, 1) := dk_96 (dk_at dksX6_takesE_6 4 rfl rfl)
theorem dX6_takesE_144 : decode cX6_takesE 144 = .ok (.putfield 86, 3) := dk_181 0 86 (dk_at dksX6_takesE_6 5 rfl rfl)
theorem dX6_takesE_147 : decode cX6_takesE 147 = .ok (.iconst 1, 1) := dk_4 (dk_at dksX6_takesE_6 8 rfl rfl)
theorem dX6_takesE_148 : decode cX6_takesE 148 = .ok (.istore_n 2, 1) := dk_61 (dk_at dksX6_takesE_6 9 rfl rfl)
theorem dX6_takesE_149 : decode cX6_takesE 149 = .ok (.aload_n 0, 1) := dk_42 (dk_at dksX6_takesE_6 10 rfl rfl)
theorem dX6_takesE_150 : decode cX6_takesE 150 = .ok (.dup, 1) := dk_89 (dk_at dksX6_takesE_6 11 rfl rfl)
theorem dX6_takesE_151 : decode cX6_takesE 151 = .ok (.getfield 53, 3) := dk_180 0 53 (dk_at dksX6_takesE_6 12 rfl rfl)
theorem dX6_takesE_154 : decode cX6_takesE 154 = .ok (.iconst 1, 1) := dk_4 (dk_at dksX6_takesE_6 15 rfl rfl)
theorem dX6_takesE_155 : decode cX6_takesE 155 = .ok (.iadd, 1) := dk_96 (dk_at dksX6_takesE_6 16 rfl rfl)
theorem dX6_takesE_156 : decode cX6_takesE 156 = .ok (.putfield 53, 3) := dk_181 0 53 (dk_at dksX6_takesE_6 17 rfl rfl)
theorem dX6_takesE_159 : decode cX6_takesE 159 = .ok (.goto (-137), 3) := dk_167 255 119 (dk_at dksX6_takesE_6 20 rfl rfl)
theorem dX6_takesE_162 : decode cX6_takesE 162 = .ok (.aload_n 0, 1) := dk_42 (dk_at dksX6_takesE_6 23 rfl rfl)
theorem dX6_takesE_163 : decode cX6_takesE 163 = .ok (.bipush 124, 2) := dk_16 124 (dk_at dksX6_takesE_7 0 rfl rfl)
theorem dX6_takesE_165 : decode cX6_takesE 165 = .ok (.invokevirtual 266, 3) := dk_182 1 10 (dk_at dksX6_takesE_7 2 rfl rfl)
theorem dX6_takesE_168 : decode cX6_takesE 168 = .ok (.aload_n 0, 1) := dk_42 (dk_at dksX6_takesE_7 5 rfl rfl)
theorem dX6_takesE_169 : decode cX6_takesE 169 = .ok (.getfield 74, 3) := dk_180 0 74 (dk_at dksX6_takesE_7 6 rfl rfl)
theorem dX6_takesE_172 : decode cX6_takesE 172 = .ok (.iload_n 1, 1) := dk_27 (dk_at dksX6_takesE_7 9 rfl rfl)
theorem dX6_takesE_173 : decode cX6_takesE 173 = .ok (.aload_n 0, 1) := dk_42 (dk_at dksX6_takesE_7 10 rfl rfl)
theorem dX6_takesE_174 : decode cX6_takesE 174 = .ok (.getfield 83, 3) := dk_180 0 83 (dk_at dksX6_takesE_7 11 rfl rfl)
theorem dX6_takesE_177 : decode cX6_takesE 177 = .ok (.iastore, 1) := dk_79 (dk_at dksX6_takesE_7 14 rfl rfl)
theorem dX6_takesE_178 : decode cX6_takesE 178 = .ok (.aload_n 0, 1) := dk_42 (dk_at dksX6_takesE_7 15 rfl rfl)
theorem dX6_takesE_179 : decode cX6_takesE 179 = .ok (.getfield 86, 3) := dk_180 0 86 (dk_at dksX6_takesE_7 16 rfl rfl)
theorem dX6_takesE_182 : decode cX6_takesE 182 = .ok (.ifCond .ne 5, 3) := dk_154 0 5 (dk_at dksX6_takesE_7 19 rfl rfl)
theorem dX6_takesE_185 : decode cX6_takesE 185 = .ok (.iconst 1, 1) := dk_4 (dk_at dksX6_takesE_7 22 rfl rfl)
theorem dX6_takesE_186 : decode cX6_takesE 186 = .ok (.ireturn, 1) := dk_172 (dk_at dksX6_takesE_7 23 rfl rfl)
theorem dX6_takesE_187 : decode cX6_takesE 187 = .ok (.iload_n 3, 1) := dk_29 (dk_at dksX6_takesE_8 0 rfl rfl)
theorem dX6_takesE_188 : decode cX6_takesE 188 = .ok (.bipush 41, 2) := dk_16 41 (dk_at dksX6_takesE_8 1 rfl rfl)
theorem dX6_takesE_190 : decode cX6_takesE 190 = .ok (.if_icmp .eq 5, 3) := dk_159 0 5 (dk_at dksX6_takesE_8 3 rfl rfl)
theorem dX6_takesE_193 : decode cX6_takesE 193 = .ok (.iconst 0, 1) := dk_3 (dk_at dksX6_takesE_8 6 rfl rfl)
theorem dX6_takesE_194 : decode cX6_takesE 194 = .ok (.ireturn, 1) := dk_172 (dk_at dksX6_takesE_8 7 rfl rfl)
theorem dX6_takesE_195 : decode cX6_takesE 195 = .ok (.aload_n 0, 1) := dk_42 (dk_at dksX6_takesE_8 8 rfl rfl)
theorem dX6_takesE_196 : decode cX6_takesE 196 = .ok (.dup, 1) := dk_89 (dk_at dksX6_takesE_8 9 rfl rfl)
theorem dX6_takesE_197 : decode cX6_takesE 197 = .ok (.getfield 86, 3) := dk_180 0 86 (dk_at dksX6_takesE_8 10 rfl rfl)
theorem dX6_takesE_200 : decode cX6_takesE 200 = .ok (.iconst 1, 1) := dk_4 (dk_at dksX6_takesE_8 13 rfl rfl)
theorem dX6_takesE_201 : decode cX6_takesE 201 = .ok (.isub, 1) := dk_100 (dk_at dksX6_takesE_8 14 rfl rfl)
theorem dX6_takesE_202 : decode cX6_takesE 202 = .ok (.putfield 86, 3) := dk_181 0 86 (dk_at dksX6_takesE_8 15 rfl rfl)
theorem dX6_takesE_205 : decode cX6_takesE 205 = .ok (.aload_n 0, 1) := dk_42 (dk_at dksX6_takesE_8 18 rfl rfl)
theorem dX6_takesE_206 : decode cX6_takesE 206 = .ok (.dup, 1) := dk_89 (dk_at dksX6_takesE_8 19 rfl rfl)
theorem dX6_takesE_207 : decode cX6_takesE 207 = .ok (.getfield 89, 3) := dk_180 0 89 (dk_at dksX6_takesE_8 20 rfl rfl)
theorem dX6_takesE_210 : decode cX6_takesE 210 = .ok (.iconst 1, 1) := dk_4 (dk_at dksX6_takesE_8 23 rfl rfl)
theorem dX6_takesE_211 : decode cX6_takesE 211 = .ok (.isub, 1) := dk_100 (dk_at dksX6_takesE_9 0 rfl rfl)
theorem dX6_takesE_212 : decode cX6_takesE 212 = .ok (.putfield 89, 3) := dk_181 0 89 (dk_at dksX6_takesE_9 1 rfl rfl)
theorem dX6_takesE_215 : decode cX6_takesE 215 = .ok (.aload_n 0, 1) := dk_42 (dk_at dksX6_takesE_9 4 rfl rfl)
theorem dX6_takesE_216 : decode cX6_takesE 216 = .ok (.dup, 1) := dk_89 (dk_at dksX6_takesE_9 5 rfl rfl)
theorem dX6_takesE_217 : decode cX6_takesE 217 = .ok (.getfield 53, 3) := dk_180 0 53 (dk_at dksX6_takesE_9 6 rfl rfl)
theorem dX6_takesE_220 : decode cX6_takesE 220 = .ok (.iconst 1, 1) := dk_4 (dk_at dksX6_takesE_9 9 rfl rfl)
theorem dX6_takesE_221 : decode cX6_takesE 221 = .ok (.iadd, 1) := dk_96 (dk_at dksX6_takesE_9 10 rfl rfl)
theorem dX6_takesE_222 : decode cX6_takesE 222 = .ok (.putfield 53, 3) := dk_181 0 53 (dk_at dksX6_takesE_9 11 rfl rfl)
theorem dX6_takesE_225 : decode cX6_takesE 225 = .ok (.aload_n 0, 1) := dk_42 (dk_at dksX6_takesE_9 14 rfl rfl)
theorem dX6_takesE_226 : decode cX6_takesE 226 = .ok (.invokevirtual 260, 3) := dk_182 1 4 (dk_at dksX6_takesE_9 15 rfl rfl)
theorem dX6_takesE_229 : decode cX6_takesE 229 = .ok (.goto (-207), 3) := dk_167 255 49 (dk_at dksX6_takesE_9 18 rfl rfl)
abbrev cX6_takesTest : ByteArray := prog_23_method_23_code
def yX6_takesTest : MethodName := ⟨RX6, "takesTest", "()Z"⟩
def dkwX6_takesTest_3 : List UInt8 := [16, 100, 28, 16, 60, 100, 104, 96, 42, 180, 0, 56, 96, 182, 0, 249, 42, 182, 1, 4, 4, 172]
abbrev dktX6_takesTest_3 : List UInt8 := dkwX6_takesTest_3 ++ []
def dkwX6_takesTest_2 : List UInt8 := [180, 0, 53, 4, 96, 181, 0, 53, 42, 182, 1, 1, 154, 0, 5, 3, 172, 42, 17, 3, 232, 27, 104]
abbrev dktX6_takesTest_2 : List UInt8 := dkwX6_takesTest_2 ++ dktX6_takesTest_3
def dkwX6_takesTest_1 : List UInt8 := [181, 0, 53, 42, 182, 0, 238, 61, 42, 28, 16, 60, 16, 62, 182, 0, 227, 154, 0, 5, 3, 172, 42, 89]
abbrev dktX6_takesTest_1 : List UInt8 := dkwX6_takesTest_1 ++ dktX6_takesTest_2
def dkwX6_takesTest_0 : List UInt8 := [42, 42, 182, 0, 238, 182, 0, 253, 60, 27, 156, 0, 5, 3, 172, 42, 89, 180, 0, 53, 4, 96]
abbrev dktX6_takesTest_0 : List UInt8 := dkwX6_takesTest_0 ++ dktX6_takesTest_1
theorem dksX6_takesTest_0 : cX6_takesTest.data.toList.drop 0 = dktX6_takesTest_0 := by decide +kernel
theorem dksX6_takesTest_1 : cX6_takesTest.data.toList.drop 22 = dktX6_takesTest_1 := dk_seg dksX6_takesTest_0 22 rfl rfl
theorem dksX6_takesTest_2 : cX6_takesTest.data.toList.drop 46 = dktX6_takesTest_2 := dk_seg dksX6_takesTest_1 24 rfl rfl
theorem dksX6_takesTest_3 : cX6_takesTest.data.toList.drop 69 = dktX6_takesTest_3 := dk_seg dksX6_takesTest_2 23 rfl rfl
theorem dX6_takesTest_0 : decode cX6_takesTest 0 = .ok (.aload_n 0, 1) := dk_42 (dk_at dksX6_takesTest_0 0 rfl rfl)
theorem dX6_takesTest_1 : decode cX6_takesTest 1 = .ok (.aload_n 0, 1) := dk_42 (dk_at dksX6_takesTest_0 1 rfl rfl)
theorem dX6_takesTest_2 : decode cX6_takesTest 2 = .ok (.invokevirtual 238, 3) := dk_182 0 238 (dk_at dksX6_takesTest_0 2 rfl rfl)
theorem dX6_takesTest_5 : decode cX6_takesTest 5 = .ok (.invokevirtual 253, 3) := dk_182 0 253 (dk_at dksX6_takesTest_0 5 rfl rfl)
theorem dX6_takesTest_8 : decode cX6_takesTest 8 = .ok (.istore_n 1, 1) := dk_60 (dk_at dksX6_takesTest_0 8 rfl rfl)
theorem dX6_takesTest_9 : decode cX6_takesTest 9 = .ok (.iload_n 1, 1) := dk_27 (dk_at dksX6_takesTest_0 9 rfl rfl)
theorem dX6_takesTest_10 : decode cX6_takesTest 10 = .ok (.ifCond .ge 5, 3) := dk_156 0 5 (dk_at dksX6_takesTest_0 10 rfl rfl)
theorem dX6_takesTest_13 : decode cX6_takesTest 13 = .ok (.iconst 0, 1) := dk_3 (dk_at dksX6_takesTest_0 13 rfl rfl)
theorem dX6_takesTest_14 : decode cX6_takesTest 14 = .ok (.ireturn, 1) := dk_172 (dk_at dksX6_takesTest_0 14 rfl rfl)
theorem dX6_takesTest_15 : decode cX6_takesTest 15 = .ok (.aload_n 0, 1) := dk_42 (dk_at dksX6_takesTest_0 15 rfl rfl)
theorem dX6_takesTest_16 : decode cX6_takesTest 16 = .ok (.dup, 1) := dk_89 (dk_at dksX6_takesTest_0 16 rfl rfl)
theorem dX6_takesTest_17 : decode cX6_takesTest 17 = .ok (.getfield 53, 3) := dk_180 0 53 (dk_at dksX6_takesTest_0 17 rfl rfl)
theorem dX6_takesTest_20 : decode cX6_takesTest 20 = .ok (.iconst 1, 1) := dk_4 (dk_at dksX6_takesTest_0 20 rfl rfl)
theorem dX6_takesTest_21 : decode cX6_takesTest 21 = .ok (.iadd, 1) := dk_96 (dk_at dksX6_takesTest_0 21 rfl rfl)
theorem dX6_takesTest_22 : decode cX6_takesTest 22 = .ok (.putfield 53, 3) := dk_181 0 53 (dk_at dksX6_takesTest_1 0 rfl rfl)
theorem dX6_takesTest_25 : decode cX6_takesTest 25 = .ok (.aload_n 0, 1) := dk_42 (dk_at dksX6_takesTest_1 3 rfl rfl)
theorem dX6_takesTest_26 : decode cX6_takesTest 26 = .ok (.invokevirtual 238, 3) := dk_182 0 238 (dk_at dksX6_takesTest_1 4 rfl rfl)
theorem dX6_takesTest_29 : decode cX6_takesTest 29 = .ok (.istore_n 2, 1) := dk_61 (dk_at dksX6_takesTest_1 7 rfl rfl)
theorem dX6_takesTest_30 : decode cX6_takesTest 30 = .ok (.aload_n 0, 1) := dk_42 (dk_at dksX6_takesTest_1 8 rfl rfl)
theorem dX6_takesTest_31 : decode cX6_takesTest 31 = .ok (.iload_n 2, 1) := dk_28 (dk_at dksX6_takesTest_1 9 rfl rfl)
theorem dX6_takesTest_32 : decode cX6_takesTest 32 = .ok (.bipush 60, 2) := dk_16 60 (dk_at dksX6_takesTest_1 10 rfl rfl)
theorem dX6_takesTest_34 : decode cX6_takesTest 34 = .ok (.bipush 62, 2) := dk_16 62 (dk_at dksX6_takesTest_1 12 rfl rfl)
theorem dX6_takesTest_36 : decode cX6_takesTest 36 = .ok (.invokevirtual 227, 3) := dk_182 0 227 (dk_at dksX6_takesTest_1 14 rfl rfl)
theorem dX6_takesTest_39 : decode cX6_takesTest 39 = .ok (.ifCond .ne 5, 3) := dk_154 0 5 (dk_at dksX6_takesTest_1 17 rfl rfl)
theorem dX6_takesTest_42 : decode cX6_takesTest 42 = .ok (.iconst 0, 1) := dk_3 (dk_at dksX6_takesTest_1 20 rfl rfl)
theorem dX6_takesTest_43 : decode cX6_takesTest 43 = .ok (.ireturn, 1) := dk_172 (dk_at dksX6_takesTest_1 21 rfl rfl)
theorem dX6_takesTest_44 : decode cX6_takesTest 44 = .ok (.aload_n 0, 1) := dk_42 (dk_at dksX6_takesTest_1 22 rfl rfl)
theorem dX6_takesTest_45 : decode cX6_takesTest 45 = .ok (.dup, 1) := dk_89 (dk_at dksX6_takesTest_1 23 rfl rfl)
theorem dX6_takesTest_46 : decode cX6_takesTest 46 = .ok (.getfield 53, 3) := dk_180 0 53 (dk_at dksX6_takesTest_2 0 rfl rfl)
theorem dX6_takesTest_49 : decode cX6_takesTest 49 = .ok (.iconst 1, 1) := dk_4 (dk_at dksX6_takesTest_2 3 rfl rfl)
theorem dX6_takesTest_50 : decode cX6_takesTest 50 = .ok (.iadd, 1) := dk_96 (dk_at dksX6_takesTest_2 4 rfl rfl)
theorem dX6_takesTest_51 : decode cX6_takesTest 51 = .ok (.putfield 53, 3) := dk_181 0 53 (dk_at dksX6_takesTest_2 5 rfl rfl)
theorem dX6_takesTest_54 : decode cX6_takesTest 54 = .ok (.aload_n 0, 1) := dk_42 (dk_at dksX6_takesTest_2 8 rfl rfl)
theorem dX6_takesTest_55 : decode cX6_takesTest 55 = .ok (.invokevirtual 257, 3) := dk_182 1 1 (dk_at dksX6_takesTest_2 9 rfl rfl)
theorem dX6_takesTest_58 : decode cX6_takesTest 58 = .ok (.ifCond .ne 5, 3) := dk_154 0 5 (dk_at dksX6_takesTest_2 12 rfl rfl)
theorem dX6_takesTest_61 : decode cX6_takesTest 61 = .ok (.iconst 0, 1) := dk_3 (dk_at dksX6_takesTest_2 15 rfl rfl)
theorem dX6_takesTest_62 : decode cX6_takesTest 62 = .ok (.ireturn, 1) := dk_172 (dk_at dksX6_takesTest_2 16 rfl rfl)
theorem dX6_takesTest_63 : decode cX6_takesTest 63 = .ok (.aload_n 0, 1) := dk_42 (dk_at dksX6_takesTest_2 17 rfl rfl)
theorem dX6_takesTest_64 : decode cX6_takesTest 64 = .ok (.sipush 1000, 3) := dk_17 3 232 (dk_at dksX6_takesTest_2 18 rfl rfl)
theorem dX6_takesTest_67 : decode cX6_takesTest 67 = .ok (.iload_n 1, 1) := dk_27 (dk_at dksX6_takesTest_2 21 rfl rfl)
theorem dX6_takesTest_68 : decode cX6_takesTest 68 = .ok (.imul, 1) := dk_104 (dk_at dksX6_takesTest_2 22 rfl rfl)
theorem dX6_takesTest_69 : decode cX6_takesTest 69 = .ok (.bipush 100, 2) := dk_16 100 (dk_at dksX6_takesTest_3 0 rfl rfl)
theorem dX6_takesTest_71 : decode cX6_takesTest 71 = .ok (.iload_n 2, 1) := dk_28 (dk_at dksX6_takesTest_3 2 rfl rfl)
theorem dX6_takesTest_72 : decode cX6_takesTest 72 = .ok (.bipush 60, 2) := dk_16 60 (dk_at dksX6_takesTest_3 3 rfl rfl)
theorem dX6_takesTest_74 : decode cX6_takesTest 74 = .ok (.isub, 1) := dk_100 (dk_at dksX6_takesTest_3 5 rfl rfl)
theorem dX6_takesTest_75 : decode cX6_takesTest 75 = .ok (.imul, 1) := dk_104 (dk_at dksX6_takesTest_3 6 rfl rfl)
theorem dX6_takesTest_76 : decode cX6_takesTest 76 = .ok (.iadd, 1) := dk_96 (dk_at dksX6_takesTest_3 7 rfl rfl)
theorem dX6_takesTest_77 : decode cX6_takesTest 77 = .ok (.aload_n 0, 1) := dk_42 (dk_at dksX6_takesTest_3 8 rfl rfl)
theorem dX6_takesTest_78 : decode cX6_takesTest 78 = .ok (.getfield 56, 3) := dk_180 0 56 (dk_at dksX6_takesTest_3 9 rfl rfl)
theorem dX6_takesTest_81 : decode cX6_takesTest 81 = .ok (.iadd, 1) := dk_96 (dk_at dksX6_takesTest_3 12 rfl rfl)
theorem dX6_takesTest_82 : decode cX6_takesTest 82 = .ok (.invokevirtual 249, 3) := dk_182 0 249 (dk_at dksX6_takesTest_3 13 rfl rfl)
theorem dX6_takesTest_85 : decode cX6_takesTest 85 = .ok (.aload_n 0, 1) := dk_42 (dk_at dksX6_takesTest_3 16 rfl rfl)
theorem dX6_takesTest_86 : decode cX6_takesTest 86 = .ok (.invokevirtual 260, 3) := dk_182 1 4 (dk_at dksX6_takesTest_3 17 rfl rfl)
theorem dX6_takesTest_89 : decode cX6_takesTest 89 = .ok (.iconst 1, 1) := dk_4 (dk_at dksX6_takesTest_3 20 rfl rfl)
theorem dX6_takesTest_90 : decode cX6_takesTest 90 = .ok (.ireturn, 1) := dk_172 (dk_at dksX6_takesTest_3 21 rfl rfl)
abbrev cX6_place : ByteArray := prog_23_method_22_code
def yX6_place : MethodName := ⟨RX6, "place", "(I)I"⟩
def dkwX6_place_2 : List UInt8 := [3, 172, 4, 172, 5, 172, 6, 172, 7, 172, 8, 172, 2, 172]
abbrev dktX6_place_2 : List UInt8 := dkwX6_place_2 ++ []
def dkwX6_place_1 : List UInt8 := [170, 0, 0, 0, 0, 0, 87, 0, 0, 0, 104, 0, 0, 0, 118, 0, 0, 0, 79, 0, 0, 0, 87, 0, 0, 0, 87, 0, 0, 0, 77, 0, 0, 0, 75, 0, 0, 0, 85, 0, 0, 0, 87, 0, 0, 0, 87, 0, 0, 0, 87, 0, 0, 0, 87, 0, 0, 0, 87, 0, 0, 0, 87, 0, 0, 0, 81, 0, 0, 0, 87, 0, 0, 0, 83]
abbrev dktX6_place_1 : List UInt8 := dkwX6_place_1 ++ dktX6_place_2
def dkwX6_place_0 : List UInt8 := [27]
abbrev dktX6_place_0 : List UInt8 := dkwX6_place_0 ++ dktX6_place_1
theorem dksX6_place_0 : cX6_place.data.toList.drop 0 = dktX6_place_0 := by decide +kernel
theorem dksX6_place_1 : cX6_place.data.toList.drop 1 = dktX6_place_1 := dk_seg dksX6_place_0 1 rfl rfl
theorem dksX6_place_2 : cX6_place.data.toList.drop 76 = dktX6_place_2 := dk_seg dksX6_place_1 75 rfl rfl
theorem dX6_place_0 : decode cX6_place 0 = .ok (.iload_n 1, 1) := dk_27 (dk_at dksX6_place_0 0 rfl rfl)
theorem dX6_place_1 : decode cX6_place 1 = .ok (.tableswitch 87 104 118 #[79, 87, 87, 77, 75, 85, 87, 87, 87, 87, 87, 87, 81, 87, 83], 75) := by decide +kernel
theorem dX6_place_76 : decode cX6_place 76 = .ok (.iconst 0, 1) := dk_3 (dk_at dksX6_place_2 0 rfl rfl)
theorem dX6_place_77 : decode cX6_place 77 = .ok (.ireturn, 1) := dk_172 (dk_at dksX6_place_2 1 rfl rfl)
theorem dX6_place_78 : decode cX6_place 78 = .ok (.iconst 1, 1) := dk_4 (dk_at dksX6_place_2 2 rfl rfl)
theorem dX6_place_79 : decode cX6_place 79 = .ok (.ireturn, 1) := dk_172 (dk_at dksX6_place_2 3 rfl rfl)
theorem dX6_place_80 : decode cX6_place 80 = .ok (.iconst 2, 1) := dk_5 (dk_at dksX6_place_2 4 rfl rfl)
theorem dX6_place_81 : decode cX6_place 81 = .ok (.ireturn, 1) := dk_172 (dk_at dksX6_place_2 5 rfl rfl)
theorem dX6_place_82 : decode cX6_place 82 = .ok (.iconst 3, 1) := dk_6 (dk_at dksX6_place_2 6 rfl rfl)
theorem dX6_place_83 : decode cX6_place 83 = .ok (.ireturn, 1) := dk_172 (dk_at dksX6_place_2 7 rfl rfl)
theorem dX6_place_84 : decode cX6_place 84 = .ok (.iconst 4, 1) := dk_7 (dk_at dksX6_place_2 8 rfl rfl)
theorem dX6_place_85 : decode cX6_place 85 = .ok (.ireturn, 1) := dk_172 (dk_at dksX6_place_2 9 rfl rfl)
theorem dX6_place_86 : decode cX6_place 86 = .ok (.iconst 5, 1) := dk_8 (dk_at dksX6_place_2 10 rfl rfl)
theorem dX6_place_87 : decode cX6_place 87 = .ok (.ireturn, 1) := dk_172 (dk_at dksX6_place_2 11 rfl rfl)
theorem dX6_place_88 : decode cX6_place 88 = .ok (.iconst (-1), 1) := dk_2 (dk_at dksX6_place_2 12 rfl rfl)
theorem dX6_place_89 : decode cX6_place 89 = .ok (.ireturn, 1) := dk_172 (dk_at dksX6_place_2 13 rfl rfl)
abbrev cX6_emits : ByteArray := prog_23_method_19_code
def yX6_emits : MethodName := ⟨RX6, "emits", "(I)V"⟩
def dkwX6_emits_0 : List UInt8 := [42, 180, 0, 77, 42, 180, 0, 83, 27, 79, 42, 89, 180, 0, 83, 4, 96, 181, 0, 83, 177]
abbrev dktX6_emits_0 : List UInt8 := dkwX6_emits_0 ++ []
theorem dksX6_emits_0 : cX6_emits.data.toList.drop 0 = dktX6_emits_0 := by decide +kernel
theorem dX6_emits_0 : decode cX6_emits 0 = .ok (.aload_n 0, 1) := dk_42 (dk_at dksX6_emits_0 0 rfl rfl)
theorem dX6_emits_1 : decode cX6_emits 1 = .ok (.getfield 77, 3) := dk_180 0 77 (dk_at dksX6_emits_0 1 rfl rfl)
theorem dX6_emits_4 : decode cX6_emits 4 = .ok (.aload_n 0, 1) := dk_42 (dk_at dksX6_emits_0 4 rfl rfl)
theorem dX6_emits_5 : decode cX6_emits 5 = .ok (.getfield 83, 3) := dk_180 0 83 (dk_at dksX6_emits_0 5 rfl rfl)
theorem dX6_emits_8 : decode cX6_emits 8 = .ok (.iload_n 1, 1) := dk_27 (dk_at dksX6_emits_0 8 rfl rfl)
theorem dX6_emits_9 : decode cX6_emits 9 = .ok (.iastore, 1) := dk_79 (dk_at dksX6_emits_0 9 rfl rfl)
theorem dX6_emits_10 : decode cX6_emits 10 = .ok (.aload_n 0, 1) := dk_42 (dk_at dksX6_emits_0 10 rfl rfl)
theorem dX6_emits_11 : decode cX6_emits 11 = .ok (.dup, 1) := dk_89 (dk_at dksX6_emits_0 11 rfl rfl)
theorem dX6_emits_12 : decode cX6_emits 12 = .ok (.getfield 83, 3) := dk_180 0 83 (dk_at dksX6_emits_0 12 rfl rfl)
theorem dX6_emits_15 : decode cX6_emits 15 = .ok (.iconst 1, 1) := dk_4 (dk_at dksX6_emits_0 15 rfl rfl)
theorem dX6_emits_16 : decode cX6_emits 16 = .ok (.iadd, 1) := dk_96 (dk_at dksX6_emits_0 16 rfl rfl)
theorem dX6_emits_17 : decode cX6_emits 17 = .ok (.putfield 83, 3) := dk_181 0 83 (dk_at dksX6_emits_0 17 rfl rfl)
theorem dX6_emits_20 : decode cX6_emits 20 = .ok (.return_, 1) := dk_177 (dk_at dksX6_emits_0 20 rfl rfl)
abbrev cX6_whole : ByteArray := prog_23_method_20_code
def yX6_whole : MethodName := ⟨RX6, "whole", "()V"⟩
def dkwX6_whole_2 : List UInt8 := [181, 0, 89, 167, 255, 207, 177]
abbrev dktX6_whole_2 : List UInt8 := dkwX6_whole_2 ++ []
def dkwX6_whole_1 : List UInt8 := [16, 223, 182, 0, 249, 42, 89, 180, 0, 86, 4, 100, 181, 0, 86, 42, 89, 180, 0, 89, 4, 100]
abbrev dktX6_whole_1 : List UInt8 := dkwX6_whole_1 ++ dktX6_whole_2
def dkwX6_whole_0 : List UInt8 := [42, 180, 0, 86, 158, 0, 48, 42, 180, 0, 80, 42, 180, 0, 86, 4, 100, 46, 16, 33, 160, 0, 32, 42]
abbrev dktX6_whole_0 : List UInt8 := dkwX6_whole_0 ++ dktX6_whole_1
theorem dksX6_whole_0 : cX6_whole.data.toList.drop 0 = dktX6_whole_0 := by decide +kernel
theorem dksX6_whole_1 : cX6_whole.data.toList.drop 24 = dktX6_whole_1 := dk_seg dksX6_whole_0 24 rfl rfl
theorem dksX6_whole_2 : cX6_whole.data.toList.drop 46 = dktX6_whole_2 := dk_seg dksX6_whole_1 22 rfl rfl
theorem dX6_whole_0 : decode cX6_whole 0 = .ok (.aload_n 0, 1) := dk_42 (dk_at dksX6_whole_0 0 rfl rfl)
theorem dX6_whole_1 : decode cX6_whole 1 = .ok (.getfield 86, 3) := dk_180 0 86 (dk_at dksX6_whole_0 1 rfl rfl)
theorem dX6_whole_4 : decode cX6_whole 4 = .ok (.ifCond .le 48, 3) := dk_158 0 48 (dk_at dksX6_whole_0 4 rfl rfl)
theorem dX6_whole_7 : decode cX6_whole 7 = .ok (.aload_n 0, 1) := dk_42 (dk_at dksX6_whole_0 7 rfl rfl)
theorem dX6_whole_8 : decode cX6_whole 8 = .ok (.getfield 80, 3) := dk_180 0 80 (dk_at dksX6_whole_0 8 rfl rfl)
theorem dX6_whole_11 : decode cX6_whole 11 = .ok (.aload_n 0, 1) := dk_42 (dk_at dksX6_whole_0 11 rfl rfl)
theorem dX6_whole_12 : decode cX6_whole 12 = .ok (.getfield 86, 3) := dk_180 0 86 (dk_at dksX6_whole_0 12 rfl rfl)
theorem dX6_whole_15 : decode cX6_whole 15 = .ok (.iconst 1, 1) := dk_4 (dk_at dksX6_whole_0 15 rfl rfl)
theorem dX6_whole_16 : decode cX6_whole 16 = .ok (.isub, 1) := dk_100 (dk_at dksX6_whole_0 16 rfl rfl)
theorem dX6_whole_17 : decode cX6_whole 17 = .ok (.iaload, 1) := dk_46 (dk_at dksX6_whole_0 17 rfl rfl)
theorem dX6_whole_18 : decode cX6_whole 18 = .ok (.bipush 33, 2) := dk_16 33 (dk_at dksX6_whole_0 18 rfl rfl)
theorem dX6_whole_20 : decode cX6_whole 20 = .ok (.if_icmp .ne 32, 3) := dk_160 0 32 (dk_at dksX6_whole_0 20 rfl rfl)
theorem dX6_whole_23 : decode cX6_whole 23 = .ok (.aload_n 0, 1) := dk_42 (dk_at dksX6_whole_0 23 rfl rfl)
theorem dX6_whole_24 : decode cX6_whole 24 = .ok (.bipush (-33), 2) := dk_16 223 (dk_at dksX6_whole_1 0 rfl rfl)
theorem dX6_whole_26 : decode cX6_whole 26 = .ok (.invokevirtual 249, 3) := dk_182 0 249 (dk_at dksX6_whole_1 2 rfl rfl)
theorem dX6_whole_29 : decode cX6_whole 29 = .ok (.aload_n 0, 1) := dk_42 (dk_at dksX6_whole_1 5 rfl rfl)
theorem dX6_whole_30 : decode cX6_whole 30 = .ok (.dup, 1) := dk_89 (dk_at dksX6_whole_1 6 rfl rfl)
theorem dX6_whole_31 : decode cX6_whole 31 = .ok (.getfield 86, 3) := dk_180 0 86 (dk_at dksX6_whole_1 7 rfl rfl)
theorem dX6_whole_34 : decode cX6_whole 34 = .ok (.iconst 1, 1) := dk_4 (dk_at dksX6_whole_1 10 rfl rfl)
theorem dX6_whole_35 : decode cX6_whole 35 = .ok (.isub, 1) := dk_100 (dk_at dksX6_whole_1 11 rfl rfl)
theorem dX6_whole_36 : decode cX6_whole 36 = .ok (.putfield 86, 3) := dk_181 0 86 (dk_at dksX6_whole_1 12 rfl rfl)
theorem dX6_whole_39 : decode cX6_whole 39 = .ok (.aload_n 0, 1) := dk_42 (dk_at dksX6_whole_1 15 rfl rfl)
theorem dX6_whole_40 : decode cX6_whole 40 = .ok (.dup, 1) := dk_89 (dk_at dksX6_whole_1 16 rfl rfl)
theorem dX6_whole_41 : decode cX6_whole 41 = .ok (.getfield 89, 3) := dk_180 0 89 (dk_at dksX6_whole_1 17 rfl rfl)
theorem dX6_whole_44 : decode cX6_whole 44 = .ok (.iconst 1, 1) := dk_4 (dk_at dksX6_whole_1 20 rfl rfl)
theorem dX6_whole_45 : decode cX6_whole 45 = .ok (.isub, 1) := dk_100 (dk_at dksX6_whole_1 21 rfl rfl)
theorem dX6_whole_46 : decode cX6_whole 46 = .ok (.putfield 89, 3) := dk_181 0 89 (dk_at dksX6_whole_2 0 rfl rfl)
theorem dX6_whole_49 : decode cX6_whole 49 = .ok (.goto (-49), 3) := dk_167 255 207 (dk_at dksX6_whole_2 3 rfl rfl)
theorem dX6_whole_52 : decode cX6_whole 52 = .ok (.return_, 1) := dk_177 (dk_at dksX6_whole_2 6 rfl rfl)
abbrev cX6_settle : ByteArray := prog_23_method_21_code
def yX6_settle : MethodName := ⟨RX6, "settle", "(I)V"⟩
def dkwX6_settle_3 : List UInt8 := [167, 255, 187, 177]
abbrev dktX6_settle_3 : List UInt8 := dkwX6_settle_3 ++ []
def dkwX6_settle_2 : List UInt8 := [180, 0, 86, 4, 100, 181, 0, 86, 42, 42, 180, 0, 80, 42, 180, 0, 86, 46, 116, 182, 0, 249]
abbrev dktX6_settle_2 : List UInt8 := dkwX6_settle_2 ++ dktX6_settle_3
def dkwX6_settle_1 : List UInt8 := [180, 0, 80, 42, 180, 0, 86, 4, 100, 46, 16, 124, 160, 0, 36, 27, 16, 38, 159, 0, 30, 42, 89]
abbrev dktX6_settle_1 : List UInt8 := dkwX6_settle_1 ++ dktX6_settle_2
def dkwX6_settle_0 : List UInt8 := [42, 180, 0, 86, 158, 0, 68, 42, 180, 0, 80, 42, 180, 0, 86, 4, 100, 46, 16, 38, 159, 0, 25, 42]
abbrev dktX6_settle_0 : List UInt8 := dkwX6_settle_0 ++ dktX6_settle_1
theorem dksX6_settle_0 : cX6_settle.data.toList.drop 0 = dktX6_settle_0 := by decide +kernel
theorem dksX6_settle_1 : cX6_settle.data.toList.drop 24 = dktX6_settle_1 := dk_seg dksX6_settle_0 24 rfl rfl
theorem dksX6_settle_2 : cX6_settle.data.toList.drop 47 = dktX6_settle_2 := dk_seg dksX6_settle_1 23 rfl rfl
theorem dksX6_settle_3 : cX6_settle.data.toList.drop 69 = dktX6_settle_3 := dk_seg dksX6_settle_2 22 rfl rfl
theorem dX6_settle_0 : decode cX6_settle 0 = .ok (.aload_n 0, 1) := dk_42 (dk_at dksX6_settle_0 0 rfl rfl)
theorem dX6_settle_1 : decode cX6_settle 1 = .ok (.getfield 86, 3) := dk_180 0 86 (dk_at dksX6_settle_0 1 rfl rfl)
theorem dX6_settle_4 : decode cX6_settle 4 = .ok (.ifCond .le 68, 3) := dk_158 0 68 (dk_at dksX6_settle_0 4 rfl rfl)
theorem dX6_settle_7 : decode cX6_settle 7 = .ok (.aload_n 0, 1) := dk_42 (dk_at dksX6_settle_0 7 rfl rfl)
theorem dX6_settle_8 : decode cX6_settle 8 = .ok (.getfield 80, 3) := dk_180 0 80 (dk_at dksX6_settle_0 8 rfl rfl)
theorem dX6_settle_11 : decode cX6_settle 11 = .ok (.aload_n 0, 1) := dk_42 (dk_at dksX6_settle_0 11 rfl rfl)
theorem dX6_settle_12 : decode cX6_settle 12 = .ok (.getfield 86, 3) := dk_180 0 86 (dk_at dksX6_settle_0 12 rfl rfl)
theorem dX6_settle_15 : decode cX6_settle 15 = .ok (.iconst 1, 1) := dk_4 (dk_at dksX6_settle_0 15 rfl rfl)
theorem dX6_settle_16 : decode cX6_settle 16 = .ok (.isub, 1) := dk_100 (dk_at dksX6_settle_0 16 rfl rfl)
theorem dX6_settle_17 : decode cX6_settle 17 = .ok (.iaload, 1) := dk_46 (dk_at dksX6_settle_0 17 rfl rfl)
theorem dX6_settle_18 : decode cX6_settle 18 = .ok (.bipush 38, 2) := dk_16 38 (dk_at dksX6_settle_0 18 rfl rfl)
theorem dX6_settle_20 : decode cX6_settle 20 = .ok (.if_icmp .eq 25, 3) := dk_159 0 25 (dk_at dksX6_settle_0 20 rfl rfl)
theorem dX6_settle_23 : decode cX6_settle 23 = .ok (.aload_n 0, 1) := dk_42 (dk_at dksX6_settle_0 23 rfl rfl)
theorem dX6_settle_24 : decode cX6_settle 24 = .ok (.getfield 80, 3) := dk_180 0 80 (dk_at dksX6_settle_1 0 rfl rfl)
theorem dX6_settle_27 : decode cX6_settle 27 = .ok (.aload_n 0, 1) := dk_42 (dk_at dksX6_settle_1 3 rfl rfl)
theorem dX6_settle_28 : decode cX6_settle 28 = .ok (.getfield 86, 3) := dk_180 0 86 (dk_at dksX6_settle_1 4 rfl rfl)
theorem dX6_settle_31 : decode cX6_settle 31 = .ok (.iconst 1, 1) := dk_4 (dk_at dksX6_settle_1 7 rfl rfl)
theorem dX6_settle_32 : decode cX6_settle 32 = .ok (.isub, 1) := dk_100 (dk_at dksX6_settle_1 8 rfl rfl)
theorem dX6_settle_33 : decode cX6_settle 33 = .ok (.iaload, 1) := dk_46 (dk_at dksX6_settle_1 9 rfl rfl)
theorem dX6_settle_34 : decode cX6_settle 34 = .ok (.bipush 124, 2) := dk_16 124 (dk_at dksX6_settle_1 10 rfl rfl)
theorem dX6_settle_36 : decode cX6_settle 36 = .ok (.if_icmp .ne 36, 3) := dk_160 0 36 (dk_at dksX6_settle_1 12 rfl rfl)
theorem dX6_settle_39 : decode cX6_settle 39 = .ok (.iload_n 1, 1) := dk_27 (dk_at dksX6_settle_1 15 rfl rfl)
theorem dX6_settle_40 : decode cX6_settle 40 = .ok (.bipush 38, 2) := dk_16 38 (dk_at dksX6_settle_1 16 rfl rfl)
theorem dX6_settle_42 : decode cX6_settle 42 = .ok (.if_icmp .eq 30, 3) := dk_159 0 30 (dk_at dksX6_settle_1 18 rfl rfl)
theorem dX6_settle_45 : decode cX6_settle 45 = .ok (.aload_n 0, 1) := dk_42 (dk_at dksX6_settle_1 21 rfl rfl)
theorem dX6_settle_46 : decode cX6_settle 46 = .ok (.dup, 1) := dk_89 (dk_at dksX6_settle_1 22 rfl rfl)
theorem dX6_settle_47 : decode cX6_settle 47 = .ok (.getfield 86, 3) := dk_180 0 86 (dk_at dksX6_settle_2 0 rfl rfl)
theorem dX6_settle_50 : decode cX6_settle 50 = .ok (.iconst 1, 1) := dk_4 (dk_at dksX6_settle_2 3 rfl rfl)
theorem dX6_settle_51 : decode cX6_settle 51 = .ok (.isub, 1) := dk_100 (dk_at dksX6_settle_2 4 rfl rfl)
theorem dX6_settle_52 : decode cX6_settle 52 = .ok (.putfield 86, 3) := dk_181 0 86 (dk_at dksX6_settle_2 5 rfl rfl)
theorem dX6_settle_55 : decode cX6_settle 55 = .ok (.aload_n 0, 1) := dk_42 (dk_at dksX6_settle_2 8 rfl rfl)
theorem dX6_settle_56 : decode cX6_settle 56 = .ok (.aload_n 0, 1) := dk_42 (dk_at dksX6_settle_2 9 rfl rfl)
theorem dX6_settle_57 : decode cX6_settle 57 = .ok (.getfield 80, 3) := dk_180 0 80 (dk_at dksX6_settle_2 10 rfl rfl)
theorem dX6_settle_60 : decode cX6_settle 60 = .ok (.aload_n 0, 1) := dk_42 (dk_at dksX6_settle_2 13 rfl rfl)
theorem dX6_settle_61 : decode cX6_settle 61 = .ok (.getfield 86, 3) := dk_180 0 86 (dk_at dksX6_settle_2 14 rfl rfl)
theorem dX6_settle_64 : decode cX6_settle 64 = .ok (.iaload, 1) := dk_46 (dk_at dksX6_settle_2 17 rfl rfl)
theorem dX6_settle_65 : decode cX6_settle 65 = .ok (.ineg, 1) := dk_116 (dk_at dksX6_settle_2 18 rfl rfl)
theorem dX6_settle_66 : decode cX6_settle 66 = .ok (.invokevirtual 249, 3) := dk_182 0 249 (dk_at dksX6_settle_2 19 rfl rfl)
theorem dX6_settle_69 : decode cX6_settle 69 = .ok (.goto (-69), 3) := dk_167 255 187 (dk_at dksX6_settle_3 0 rfl rfl)
theorem dX6_settle_72 : decode cX6_settle 72 = .ok (.return_, 1) := dk_177 (dk_at dksX6_settle_3 3 rfl rfl)
abbrev cX6_of : ByteArray := prog_23_method_38_code
def yX6_of : MethodName := ⟨RX6, "of", "(II)I"⟩
def dkwX6_of_3 : List UInt8 := [180, 0, 38, 27, 46, 172, 42, 27, 182, 1, 45, 172, 42, 27, 182, 1, 48, 172, 17, 252, 23, 172]
abbrev dktX6_of_3 : List UInt8 := dkwX6_of_3 ++ []
def dkwX6_of_2 : List UInt8 := [42, 180, 0, 28, 27, 46, 172, 42, 180, 0, 32, 27, 46, 172, 42, 180, 0, 35, 27, 46, 172, 42]
abbrev dktX6_of_2 : List UInt8 := dkwX6_of_2 ++ dktX6_of_3
def dkwX6_of_1 : List UInt8 := [170, 0, 0, 0, 0, 0, 79, 0, 0, 0, 0, 0, 0, 0, 5, 0, 0, 0, 39, 0, 0, 0, 46, 0, 0, 0, 53, 0, 0, 0, 60, 0, 0, 0, 67, 0, 0, 0, 73]
abbrev dktX6_of_1 : List UInt8 := dkwX6_of_1 ++ dktX6_of_2
def dkwX6_of_0 : List UInt8 := [42, 27, 182, 0, 235, 154, 0, 7, 17, 252, 23, 172, 28]
abbrev dktX6_of_0 : List UInt8 := dkwX6_of_0 ++ dktX6_of_1
theorem dksX6_of_0 : cX6_of.data.toList.drop 0 = dktX6_of_0 := by decide +kernel
theorem dksX6_of_1 : cX6_of.data.toList.drop 13 = dktX6_of_1 := dk_seg dksX6_of_0 13 rfl rfl
theorem dksX6_of_2 : cX6_of.data.toList.drop 52 = dktX6_of_2 := dk_seg dksX6_of_1 39 rfl rfl
theorem dksX6_of_3 : cX6_of.data.toList.drop 74 = dktX6_of_3 := dk_seg dksX6_of_2 22 rfl rfl
theorem dX6_of_0 : decode cX6_of 0 = .ok (.aload_n 0, 1) := dk_42 (dk_at dksX6_of_0 0 rfl rfl)
theorem dX6_of_1 : decode cX6_of 1 = .ok (.iload_n 1, 1) := dk_27 (dk_at dksX6_of_0 1 rfl rfl)
theorem dX6_of_2 : decode cX6_of 2 = .ok (.invokevirtual 235, 3) := dk_182 0 235 (dk_at dksX6_of_0 2 rfl rfl)
theorem dX6_of_5 : decode cX6_of 5 = .ok (.ifCond .ne 7, 3) := dk_154 0 7 (dk_at dksX6_of_0 5 rfl rfl)
theorem dX6_of_8 : decode cX6_of 8 = .ok (.sipush (-1001), 3) := dk_17 252 23 (dk_at dksX6_of_0 8 rfl rfl)
theorem dX6_of_11 : decode cX6_of 11 = .ok (.ireturn, 1) := dk_172 (dk_at dksX6_of_0 11 rfl rfl)
theorem dX6_of_12 : decode cX6_of 12 = .ok (.iload_n 2, 1) := dk_28 (dk_at dksX6_of_0 12 rfl rfl)
theorem dX6_of_13 : decode cX6_of 13 = .ok (.tableswitch 79 0 5 #[39, 46, 53, 60, 67, 73], 39) := by decide +kernel
theorem dX6_of_52 : decode cX6_of 52 = .ok (.aload_n 0, 1) := dk_42 (dk_at dksX6_of_2 0 rfl rfl)
theorem dX6_of_53 : decode cX6_of 53 = .ok (.getfield 28, 3) := dk_180 0 28 (dk_at dksX6_of_2 1 rfl rfl)
theorem dX6_of_56 : decode cX6_of 56 = .ok (.iload_n 1, 1) := dk_27 (dk_at dksX6_of_2 4 rfl rfl)
theorem dX6_of_57 : decode cX6_of 57 = .ok (.iaload, 1) := dk_46 (dk_at dksX6_of_2 5 rfl rfl)
theorem dX6_of_58 : decode cX6_of 58 = .ok (.ireturn, 1) := dk_172 (dk_at dksX6_of_2 6 rfl rfl)
theorem dX6_of_59 : decode cX6_of 59 = .ok (.aload_n 0, 1) := dk_42 (dk_at dksX6_of_2 7 rfl rfl)
theorem dX6_of_60 : decode cX6_of 60 = .ok (.getfield 32, 3) := dk_180 0 32 (dk_at dksX6_of_2 8 rfl rfl)
theorem dX6_of_63 : decode cX6_of 63 = .ok (.iload_n 1, 1) := dk_27 (dk_at dksX6_of_2 11 rfl rfl)
theorem dX6_of_64 : decode cX6_of 64 = .ok (.iaload, 1) := dk_46 (dk_at dksX6_of_2 12 rfl rfl)
theorem dX6_of_65 : decode cX6_of 65 = .ok (.ireturn, 1) := dk_172 (dk_at dksX6_of_2 13 rfl rfl)
theorem dX6_of_66 : decode cX6_of 66 = .ok (.aload_n 0, 1) := dk_42 (dk_at dksX6_of_2 14 rfl rfl)
theorem dX6_of_67 : decode cX6_of 67 = .ok (.getfield 35, 3) := dk_180 0 35 (dk_at dksX6_of_2 15 rfl rfl)
theorem dX6_of_70 : decode cX6_of 70 = .ok (.iload_n 1, 1) := dk_27 (dk_at dksX6_of_2 18 rfl rfl)
theorem dX6_of_71 : decode cX6_of 71 = .ok (.iaload, 1) := dk_46 (dk_at dksX6_of_2 19 rfl rfl)
theorem dX6_of_72 : decode cX6_of 72 = .ok (.ireturn, 1) := dk_172 (dk_at dksX6_of_2 20 rfl rfl)
theorem dX6_of_73 : decode cX6_of 73 = .ok (.aload_n 0, 1) := dk_42 (dk_at dksX6_of_2 21 rfl rfl)
theorem dX6_of_74 : decode cX6_of 74 = .ok (.getfield 38, 3) := dk_180 0 38 (dk_at dksX6_of_3 0 rfl rfl)
theorem dX6_of_77 : decode cX6_of 77 = .ok (.iload_n 1, 1) := dk_27 (dk_at dksX6_of_3 3 rfl rfl)
theorem dX6_of_78 : decode cX6_of 78 = .ok (.iaload, 1) := dk_46 (dk_at dksX6_of_3 4 rfl rfl)
theorem dX6_of_79 : decode cX6_of 79 = .ok (.ireturn, 1) := dk_172 (dk_at dksX6_of_3 5 rfl rfl)
theorem dX6_of_80 : decode cX6_of 80 = .ok (.aload_n 0, 1) := dk_42 (dk_at dksX6_of_3 6 rfl rfl)
theorem dX6_of_81 : decode cX6_of 81 = .ok (.iload_n 1, 1) := dk_27 (dk_at dksX6_of_3 7 rfl rfl)
theorem dX6_of_82 : decode cX6_of 82 = .ok (.invokevirtual 301, 3) := dk_182 1 45 (dk_at dksX6_of_3 8 rfl rfl)
theorem dX6_of_85 : decode cX6_of 85 = .ok (.ireturn, 1) := dk_172 (dk_at dksX6_of_3 11 rfl rfl)
theorem dX6_of_86 : decode cX6_of 86 = .ok (.aload_n 0, 1) := dk_42 (dk_at dksX6_of_3 12 rfl rfl)
theorem dX6_of_87 : decode cX6_of 87 = .ok (.iload_n 1, 1) := dk_27 (dk_at dksX6_of_3 13 rfl rfl)
theorem dX6_of_88 : decode cX6_of 88 = .ok (.invokevirtual 304, 3) := dk_182 1 48 (dk_at dksX6_of_3 14 rfl rfl)
theorem dX6_of_91 : decode cX6_of 91 = .ok (.ireturn, 1) := dk_172 (dk_at dksX6_of_3 17 rfl rfl)
theorem dX6_of_92 : decode cX6_of 92 = .ok (.sipush (-1001), 3) := dk_17 252 23 (dk_at dksX6_of_3 18 rfl rfl)
theorem dX6_of_95 : decode cX6_of 95 = .ok (.ireturn, 1) := dk_172 (dk_at dksX6_of_3 21 rfl rfl)
abbrev cX6_gain : ByteArray := prog_23_method_36_code
def yX6_gain : MethodName := ⟨RX6, "gain", "(I)I"⟩
def dkwX6_gain_3 : List UInt8 := [132, 3, 1, 167, 255, 195, 28, 172]
abbrev dktX6_gain_3 : List UInt8 := dkwX6_gain_3 ++ []
def dkwX6_gain_2 : List UInt8 := [46, 154, 0, 12, 42, 180, 0, 68, 29, 46, 167, 0, 10, 42, 180, 0, 68, 29, 46, 116, 96, 61]
abbrev dktX6_gain_2 : List UInt8 := dkwX6_gain_2 ++ dktX6_gain_3
def dkwX6_gain_1 : List UInt8 := [29, 46, 4, 163, 0, 43, 42, 29, 27, 182, 1, 42, 154, 0, 6, 167, 0, 31, 28, 42, 180, 0, 65, 29]
abbrev dktX6_gain_1 : List UInt8 := dkwX6_gain_1 ++ dktX6_gain_2
def dkwX6_gain_0 : List UInt8 := [42, 180, 0, 38, 27, 46, 61, 42, 182, 1, 29, 62, 29, 42, 182, 1, 32, 162, 0, 59, 42, 180, 0, 65]
abbrev dktX6_gain_0 : List UInt8 := dkwX6_gain_0 ++ dktX6_gain_1
theorem dksX6_gain_0 : cX6_gain.data.toList.drop 0 = dktX6_gain_0 := by decide +kernel
theorem dksX6_gain_1 : cX6_gain.data.toList.drop 24 = dktX6_gain_1 := dk_seg dksX6_gain_0 24 rfl rfl
theorem dksX6_gain_2 : cX6_gain.data.toList.drop 48 = dktX6_gain_2 := dk_seg dksX6_gain_1 24 rfl rfl
theorem dksX6_gain_3 : cX6_gain.data.toList.drop 70 = dktX6_gain_3 := dk_seg dksX6_gain_2 22 rfl rfl
theorem dX6_gain_0 : decode cX6_gain 0 = .ok (.aload_n 0, 1) := dk_42 (dk_at dksX6_gain_0 0 rfl rfl)
theorem dX6_gain_1 : decode cX6_gain 1 = .ok (.getfield 38, 3) := dk_180 0 38 (dk_at dksX6_gain_0 1 rfl rfl)
theorem dX6_gain_4 : decode cX6_gain 4 = .ok (.iload_n 1, 1) := dk_27 (dk_at dksX6_gain_0 4 rfl rfl)
theorem dX6_gain_5 : decode cX6_gain 5 = .ok (.iaload, 1) := dk_46 (dk_at dksX6_gain_0 5 rfl rfl)
theorem dX6_gain_6 : decode cX6_gain 6 = .ok (.istore_n 2, 1) := dk_61 (dk_at dksX6_gain_0 6 rfl rfl)
theorem dX6_gain_7 : decode cX6_gain 7 = .ok (.aload_n 0, 1) := dk_42 (dk_at dksX6_gain_0 7 rfl rfl)
theorem dX6_gain_8 : decode cX6_gain 8 = .ok (.invokevirtual 285, 3) := dk_182 1 29 (dk_at dksX6_gain_0 8 rfl rfl)
theorem dX6_gain_11 : decode cX6_gain 11 = .ok (.istore_n 3, 1) := dk_62 (dk_at dksX6_gain_0 11 rfl rfl)
theorem dX6_gain_12 : decode cX6_gain 12 = .ok (.iload_n 3, 1) := dk_29 (dk_at dksX6_gain_0 12 rfl rfl)
theorem dX6_gain_13 : decode cX6_gain 13 = .ok (.aload_n 0, 1) := dk_42 (dk_at dksX6_gain_0 13 rfl rfl)
theorem dX6_gain_14 : decode cX6_gain 14 = .ok (.invokevirtual 288, 3) := dk_182 1 32 (dk_at dksX6_gain_0 14 rfl rfl)
theorem dX6_gain_17 : decode cX6_gain 17 = .ok (.if_icmp .ge 59, 3) := dk_162 0 59 (dk_at dksX6_gain_0 17 rfl rfl)
theorem dX6_gain_20 : decode cX6_gain 20 = .ok (.aload_n 0, 1) := dk_42 (dk_at dksX6_gain_0 20 rfl rfl)
theorem dX6_gain_21 : decode cX6_gain 21 = .ok (.getfield 65, 3) := dk_180 0 65 (dk_at dksX6_gain_0 21 rfl rfl)
theorem dX6_gain_24 : decode cX6_gain 24 = .ok (.iload_n 3, 1) := dk_29 (dk_at dksX6_gain_1 0 rfl rfl)
theorem dX6_gain_25 : decode cX6_gain 25 = .ok (.iaload, 1) := dk_46 (dk_at dksX6_gain_1 1 rfl rfl)
theorem dX6_gain_26 : decode cX6_gain 26 = .ok (.iconst 1, 1) := dk_4 (dk_at dksX6_gain_1 2 rfl rfl)
theorem dX6_gain_27 : decode cX6_gain 27 = .ok (.if_icmp .gt 43, 3) := dk_163 0 43 (dk_at dksX6_gain_1 3 rfl rfl)
theorem dX6_gain_30 : decode cX6_gain 30 = .ok (.aload_n 0, 1) := dk_42 (dk_at dksX6_gain_1 6 rfl rfl)
theorem dX6_gain_31 : decode cX6_gain 31 = .ok (.iload_n 3, 1) := dk_29 (dk_at dksX6_gain_1 7 rfl rfl)
theorem dX6_gain_32 : decode cX6_gain 32 = .ok (.iload_n 1, 1) := dk_27 (dk_at dksX6_gain_1 8 rfl rfl)
theorem dX6_gain_33 : decode cX6_gain 33 = .ok (.invokevirtual 298, 3) := dk_182 1 42 (dk_at dksX6_gain_1 9 rfl rfl)
theorem dX6_gain_36 : decode cX6_gain 36 = .ok (.ifCond .ne 6, 3) := dk_154 0 6 (dk_at dksX6_gain_1 12 rfl rfl)
theorem dX6_gain_39 : decode cX6_gain 39 = .ok (.goto 31, 3) := dk_167 0 31 (dk_at dksX6_gain_1 15 rfl rfl)
theorem dX6_gain_42 : decode cX6_gain 42 = .ok (.iload_n 2, 1) := dk_28 (dk_at dksX6_gain_1 18 rfl rfl)
theorem dX6_gain_43 : decode cX6_gain 43 = .ok (.aload_n 0, 1) := dk_42 (dk_at dksX6_gain_1 19 rfl rfl)
theorem dX6_gain_44 : decode cX6_gain 44 = .ok (.getfield 65, 3) := dk_180 0 65 (dk_at dksX6_gain_1 20 rfl rfl)
theorem dX6_gain_47 : decode cX6_gain 47 = .ok (.iload_n 3, 1) := dk_29 (dk_at dksX6_gain_1 23 rfl rfl)
theorem dX6_gain_48 : decode cX6_gain 48 = .ok (.iaload, 1) := dk_46 (dk_at dksX6_gain_2 0 rfl rfl)
theorem dX6_gain_49 : decode cX6_gain 49 = .ok (.ifCond .ne 12, 3) := dk_154 0 12 (dk_at dksX6_gain_2 1 rfl rfl)
theorem dX6_gain_52 : decode cX6_gain 52 = .ok (.aload_n 0, 1) := dk_42 (dk_at dksX6_gain_2 4 rfl rfl)
theorem dX6_gain_53 : decode cX6_gain 53 = .ok (.getfield 68, 3) := dk_180 0 68 (dk_at dksX6_gain_2 5 rfl rfl)
theorem dX6_gain_56 : decode cX6_gain 56 = .ok (.iload_n 3, 1) := dk_29 (dk_at dksX6_gain_2 8 rfl rfl)
theorem dX6_gain_57 : decode cX6_gain 57 = .ok (.iaload, 1) := dk_46 (dk_at dksX6_gain_2 9 rfl rfl)
theorem dX6_gain_58 : decode cX6_gain 58 = .ok (.goto 10, 3) := dk_167 0 10 (dk_at dksX6_gain_2 10 rfl rfl)
theorem dX6_gain_61 : decode cX6_gain 61 = .ok (.aload_n 0, 1) := dk_42 (dk_at dksX6_gain_2 13 rfl rfl)
theorem dX6_gain_62 : decode cX6_gain 62 = .ok (.getfield 68, 3) := dk_180 0 68 (dk_at dksX6_gain_2 14 rfl rfl)
theorem dX6_gain_65 : decode cX6_gain 65 = .ok (.iload_n 3, 1) := dk_29 (dk_at dksX6_gain_2 17 rfl rfl)
theorem dX6_gain_66 : decode cX6_gain 66 = .ok (.iaload, 1) := dk_46 (dk_at dksX6_gain_2 18 rfl rfl)
theorem dX6_gain_67 : decode cX6_gain 67 = .ok (.ineg, 1) := dk_116 (dk_at dksX6_gain_2 19 rfl rfl)
theorem dX6_gain_68 : decode cX6_gain 68 = .ok (.iadd, 1) := dk_96 (dk_at dksX6_gain_2 20 rfl rfl)
theorem dX6_gain_69 : decode cX6_gain 69 = .ok (.istore_n 2, 1) := dk_61 (dk_at dksX6_gain_2 21 rfl rfl)
theorem dX6_gain_70 : decode cX6_gain 70 = .ok (.iinc 3 1, 3) := dk_132 3 1 (dk_at dksX6_gain_3 0 rfl rfl)
theorem dX6_gain_73 : decode cX6_gain 73 = .ok (.goto (-61), 3) := dk_167 255 195 (dk_at dksX6_gain_3 3 rfl rfl)
theorem dX6_gain_76 : decode cX6_gain 76 = .ok (.iload_n 2, 1) := dk_28 (dk_at dksX6_gain_3 6 rfl rfl)
theorem dX6_gain_77 : decode cX6_gain 77 = .ok (.ireturn, 1) := dk_172 (dk_at dksX6_gain_3 7 rfl rfl)
abbrev cX6_begin : ByteArray := prog_23_method_29_code
def yX6_begin : MethodName := ⟨RX6, "begin", "()I"⟩
def dkwX6_begin_0 : List UInt8 := [42, 180, 0, 47, 156, 0, 7, 3, 167, 0, 10, 16, 10, 42, 180, 0, 47, 104, 172]
abbrev dktX6_begin_0 : List UInt8 := dkwX6_begin_0 ++ []
theorem dksX6_begin_0 : cX6_begin.data.toList.drop 0 = dktX6_begin_0 := by decide +kernel
theorem dX6_begin_0 : decode cX6_begin 0 = .ok (.aload_n 0, 1) := dk_42 (dk_at dksX6_begin_0 0 rfl rfl)
theorem dX6_begin_1 : decode cX6_begin 1 = .ok (.getfield 47, 3) := dk_180 0 47 (dk_at dksX6_begin_0 1 rfl rfl)
theorem dX6_begin_4 : decode cX6_begin 4 = .ok (.ifCond .ge 7, 3) := dk_156 0 7 (dk_at dksX6_begin_0 4 rfl rfl)
theorem dX6_begin_7 : decode cX6_begin 7 = .ok (.iconst 0, 1) := dk_3 (dk_at dksX6_begin_0 7 rfl rfl)
theorem dX6_begin_8 : decode cX6_begin 8 = .ok (.goto 10, 3) := dk_167 0 10 (dk_at dksX6_begin_0 8 rfl rfl)
theorem dX6_begin_11 : decode cX6_begin 11 = .ok (.bipush 10, 2) := dk_16 10 (dk_at dksX6_begin_0 11 rfl rfl)
theorem dX6_begin_13 : decode cX6_begin 13 = .ok (.aload_n 0, 1) := dk_42 (dk_at dksX6_begin_0 13 rfl rfl)
theorem dX6_begin_14 : decode cX6_begin 14 = .ok (.getfield 47, 3) := dk_180 0 47 (dk_at dksX6_begin_0 14 rfl rfl)
theorem dX6_begin_17 : decode cX6_begin 17 = .ok (.imul, 1) := dk_104 (dk_at dksX6_begin_0 17 rfl rfl)
theorem dX6_begin_18 : decode cX6_begin 18 = .ok (.ireturn, 1) := dk_172 (dk_at dksX6_begin_0 18 rfl rfl)
abbrev cX6_behind : ByteArray := prog_23_method_30_code
def yX6_behind : MethodName := ⟨RX6, "behind", "()I"⟩
def dkwX6_behind_1 : List UInt8 := [180, 0, 47, 46, 96, 172]
abbrev dktX6_behind_1 : List UInt8 := dkwX6_behind_1 ++ []
def dkwX6_behind_0 : List UInt8 := [42, 180, 0, 47, 156, 0, 7, 3, 167, 0, 20, 16, 10, 42, 180, 0, 47, 104, 42, 180, 0, 62, 42]
abbrev dktX6_behind_0 : List UInt8 := dkwX6_behind_0 ++ dktX6_behind_1
theorem dksX6_behind_0 : cX6_behind.data.toList.drop 0 = dktX6_behind_0 := by decide +kernel
theorem dksX6_behind_1 : cX6_behind.data.toList.drop 23 = dktX6_behind_1 := dk_seg dksX6_behind_0 23 rfl rfl
theorem dX6_behind_0 : decode cX6_behind 0 = .ok (.aload_n 0, 1) := dk_42 (dk_at dksX6_behind_0 0 rfl rfl)
theorem dX6_behind_1 : decode cX6_behind 1 = .ok (.getfield 47, 3) := dk_180 0 47 (dk_at dksX6_behind_0 1 rfl rfl)
theorem dX6_behind_4 : decode cX6_behind 4 = .ok (.ifCond .ge 7, 3) := dk_156 0 7 (dk_at dksX6_behind_0 4 rfl rfl)
theorem dX6_behind_7 : decode cX6_behind 7 = .ok (.iconst 0, 1) := dk_3 (dk_at dksX6_behind_0 7 rfl rfl)
theorem dX6_behind_8 : decode cX6_behind 8 = .ok (.goto 20, 3) := dk_167 0 20 (dk_at dksX6_behind_0 8 rfl rfl)
theorem dX6_behind_11 : decode cX6_behind 11 = .ok (.bipush 10, 2) := dk_16 10 (dk_at dksX6_behind_0 11 rfl rfl)
theorem dX6_behind_13 : decode cX6_behind 13 = .ok (.aload_n 0, 1) := dk_42 (dk_at dksX6_behind_0 13 rfl rfl)
theorem dX6_behind_14 : decode cX6_behind 14 = .ok (.getfield 47, 3) := dk_180 0 47 (dk_at dksX6_behind_0 14 rfl rfl)
theorem dX6_behind_17 : decode cX6_behind 17 = .ok (.imul, 1) := dk_104 (dk_at dksX6_behind_0 17 rfl rfl)
theorem dX6_behind_18 : decode cX6_behind 18 = .ok (.aload_n 0, 1) := dk_42 (dk_at dksX6_behind_0 18 rfl rfl)
theorem dX6_behind_19 : decode cX6_behind 19 = .ok (.getfield 62, 3) := dk_180 0 62 (dk_at dksX6_behind_0 19 rfl rfl)
theorem dX6_behind_22 : decode cX6_behind 22 = .ok (.aload_n 0, 1) := dk_42 (dk_at dksX6_behind_0 22 rfl rfl)
theorem dX6_behind_23 : decode cX6_behind 23 = .ok (.getfield 47, 3) := dk_180 0 47 (dk_at dksX6_behind_1 0 rfl rfl)
theorem dX6_behind_26 : decode cX6_behind 26 = .ok (.iaload, 1) := dk_46 (dk_at dksX6_behind_1 3 rfl rfl)
theorem dX6_behind_27 : decode cX6_behind 27 = .ok (.iadd, 1) := dk_96 (dk_at dksX6_behind_1 4 rfl rfl)
theorem dX6_behind_28 : decode cX6_behind 28 = .ok (.ireturn, 1) := dk_172 (dk_at dksX6_behind_1 5 rfl rfl)
abbrev cX6_holds : ByteArray := prog_23_method_35_code
def yX6_holds : MethodName := ⟨RX6, "holds", "(II)Z"⟩
def dkwX6_holds_10 : List UInt8 := [132, 3, 1, 132, 4, 1, 167, 255, 26, 42, 180, 0, 95, 3, 51, 172]
abbrev dktX6_holds_10 : List UInt8 := dkwX6_holds_10 ++ []
def dkwX6_holds_9 : List UInt8 := [167, 0, 22, 3, 167, 0, 18, 21, 6, 21, 5, 16, 100, 112, 164, 0, 7, 4, 167, 0, 4, 3, 84]
abbrev dktX6_holds_9 : List UInt8 := dkwX6_holds_9 ++ dktX6_holds_10
def dkwX6_holds_8 : List UInt8 := [167, 0, 46, 3, 167, 0, 42, 21, 7, 4, 160, 0, 21, 21, 6, 21, 5, 16, 100, 112, 160, 0, 7, 4]
abbrev dktX6_holds_8 : List UInt8 := dkwX6_holds_8 ++ dktX6_holds_9
def dkwX6_holds_7 : List UInt8 := [112, 54, 7, 42, 180, 0, 95, 29, 21, 7, 154, 0, 21, 21, 6, 21, 5, 16, 100, 112, 162, 0, 7, 4]
abbrev dktX6_holds_7 : List UInt8 := dkwX6_holds_7 ++ dktX6_holds_8
def dkwX6_holds_6 : List UInt8 := [84, 167, 0, 97, 42, 21, 5, 17, 3, 232, 108, 28, 182, 1, 39, 54, 6, 21, 5, 16, 100, 108, 16, 10]
abbrev dktX6_holds_6 : List UInt8 := dkwX6_holds_6 ++ dktX6_holds_7
def dkwX6_holds_5 : List UInt8 := [180, 0, 95, 29, 4, 100, 51, 154, 0, 12, 42, 180, 0, 95, 29, 51, 153, 0, 7, 4, 167, 0, 4, 3]
abbrev dktX6_holds_5 : List UInt8 := dkwX6_holds_5 ++ dktX6_holds_6
def dkwX6_holds_4 : List UInt8 := [51, 153, 0, 16, 42, 180, 0, 95, 29, 51, 153, 0, 7, 4, 167, 0, 32, 3, 167, 0, 28, 42]
abbrev dktX6_holds_4 : List UInt8 := dkwX6_holds_4 ++ dktX6_holds_5
def dkwX6_holds_3 : List UInt8 := [132, 3, 255, 42, 180, 0, 95, 29, 4, 100, 21, 5, 16, 218, 160, 0, 31, 42, 180, 0, 95, 29, 4, 100]
abbrev dktX6_holds_3 : List UInt8 := dkwX6_holds_3 ++ dktX6_holds_4
def dkwX6_holds_2 : List UInt8 := [180, 0, 95, 29, 4, 100, 51, 154, 0, 7, 4, 167, 0, 4, 3, 84, 167, 0, 176, 21, 5, 156, 0, 77]
abbrev dktX6_holds_2 : List UInt8 := dkwX6_holds_2 ++ dktX6_holds_3
def dkwX6_holds_1 : List UInt8 := [180, 0, 77, 21, 4, 46, 54, 5, 21, 5, 16, 223, 160, 0, 30, 42, 180, 0, 95, 29, 4, 100, 42]
abbrev dktX6_holds_1 : List UInt8 := dkwX6_holds_1 ++ dktX6_holds_2
def dkwX6_holds_0 : List UInt8 := [3, 62, 42, 180, 0, 71, 27, 46, 54, 4, 21, 4, 42, 180, 0, 74, 27, 46, 162, 0, 225, 42]
abbrev dktX6_holds_0 : List UInt8 := dkwX6_holds_0 ++ dktX6_holds_1
theorem dksX6_holds_0 : cX6_holds.data.toList.drop 0 = dktX6_holds_0 := by decide +kernel
theorem dksX6_holds_1 : cX6_holds.data.toList.drop 22 = dktX6_holds_1 := dk_seg dksX6_holds_0 22 rfl rfl
theorem dksX6_holds_2 : cX6_holds.data.toList.drop 45 = dktX6_holds_2 := dk_seg dksX6_holds_1 23 rfl rfl
theorem dksX6_holds_3 : cX6_holds.data.toList.drop 69 = dktX6_holds_3 := dk_seg dksX6_holds_2 24 rfl rfl
theorem dksX6_holds_4 : cX6_holds.data.toList.drop 93 = dktX6_holds_4 := dk_seg dksX6_holds_3 24 rfl rfl
theorem dksX6_holds_5 : cX6_holds.data.toList.drop 115 = dktX6_holds_5 := dk_seg dksX6_holds_4 22 rfl rfl
theorem dksX6_holds_6 : cX6_holds.data.toList.drop 139 = dktX6_holds_6 := dk_seg dksX6_holds_5 24 rfl rfl
theorem dksX6_holds_7 : cX6_holds.data.toList.drop 163 = dktX6_holds_7 := dk_seg dksX6_holds_6 24 rfl rfl
theorem dksX6_holds_8 : cX6_holds.data.toList.drop 187 = dktX6_holds_8 := dk_seg dksX6_holds_7 24 rfl rfl
theorem dksX6_holds_9 : cX6_holds.data.toList.drop 211 = dktX6_holds_9 := dk_seg dksX6_holds_8 24 rfl rfl
theorem dksX6_holds_10 : cX6_holds.data.toList.drop 234 = dktX6_holds_10 := dk_seg dksX6_holds_9 23 rfl rfl
theorem dX6_holds_0 : decode cX6_holds 0 = .ok (.iconst 0, 1) := dk_3 (dk_at dksX6_holds_0 0 rfl rfl)
theorem dX6_holds_1 : decode cX6_holds 1 = .ok (.istore_n 3, 1) := dk_62 (dk_at dksX6_holds_0 1 rfl rfl)
theorem dX6_holds_2 : decode cX6_holds 2 = .ok (.aload_n 0, 1) := dk_42 (dk_at dksX6_holds_0 2 rfl rfl)
theorem dX6_holds_3 : decode cX6_holds 3 = .ok (.getfield 71, 3) := dk_180 0 71 (dk_at dksX6_holds_0 3 rfl rfl)
theorem dX6_holds_6 : decode cX6_holds 6 = .ok (.iload_n 1, 1) := dk_27 (dk_at dksX6_holds_0 6 rfl rfl)
theorem dX6_holds_7 : decode cX6_holds 7 = .ok (.iaload, 1) := dk_46 (dk_at dksX6_holds_0 7 rfl rfl)
theorem dX6_holds_8 : decode cX6_holds 8 = .ok (.istore 4, 2) := dk_54 4 (dk_at dksX6_holds_0 8 rfl rfl)
theorem dX6_holds_10 : decode cX6_holds 10 = .ok (.iload 4, 2) := dk_21 4 (dk_at dksX6_holds_0 10 rfl rfl)
theorem dX6_holds_12 : decode cX6_holds 12 = .ok (.aload_n 0, 1) := dk_42 (dk_at dksX6_holds_0 12 rfl rfl)
theorem dX6_holds_13 : decode cX6_holds 13 = .ok (.getfield 74, 3) := dk_180 0 74 (dk_at dksX6_holds_0 13 rfl rfl)
theorem dX6_holds_16 : decode cX6_holds 16 = .ok (.iload_n 1, 1) := dk_27 (dk_at dksX6_holds_0 16 rfl rfl)
theorem dX6_holds_17 : decode cX6_holds 17 = .ok (.iaload, 1) := dk_46 (dk_at dksX6_holds_0 17 rfl rfl)
theorem dX6_holds_18 : decode cX6_holds 18 = .ok (.if_icmp .ge 225, 3) := dk_162 0 225 (dk_at dksX6_holds_0 18 rfl rfl)
theorem dX6_holds_21 : decode cX6_holds 21 = .ok (.aload_n 0, 1) := dk_42 (dk_at dksX6_holds_0 21 rfl rfl)
theorem dX6_holds_22 : decode cX6_holds 22 = .ok (.getfield 77, 3) := dk_180 0 77 (dk_at dksX6_holds_1 0 rfl rfl)
theorem dX6_holds_25 : decode cX6_holds 25 = .ok (.iload 4, 2) := dk_21 4 (dk_at dksX6_holds_1 3 rfl rfl)
theorem dX6_holds_27 : decode cX6_holds 27 = .ok (.iaload, 1) := dk_46 (dk_at dksX6_holds_1 5 rfl rfl)
theorem dX6_holds_28 : decode cX6_holds 28 = .ok (.istore 5, 2) := dk_54 5 (dk_at dksX6_holds_1 6 rfl rfl)
theorem dX6_holds_30 : decode cX6_holds 30 = .ok (.iload 5, 2) := dk_21 5 (dk_at dksX6_holds_1 8 rfl rfl)
theorem dX6_holds_32 : decode cX6_holds 32 = .ok (.bipush (-33), 2) := dk_16 223 (dk_at dksX6_holds_1 10 rfl rfl)
theorem dX6_holds_34 : decode cX6_holds 34 = .ok (.if_icmp .ne 30, 3) := dk_160 0 30 (dk_at dksX6_holds_1 12 rfl rfl)
theorem dX6_holds_37 : decode cX6_holds 37 = .ok (.aload_n 0, 1) := dk_42 (dk_at dksX6_holds_1 15 rfl rfl)
theorem dX6_holds_38 : decode cX6_holds 38 = .ok (.getfield 95, 3) := dk_180 0 95 (dk_at dksX6_holds_1 16 rfl rfl)
theorem dX6_holds_41 : decode cX6_holds 41 = .ok (.iload_n 3, 1) := dk_29 (dk_at dksX6_holds_1 19 rfl rfl)
theorem dX6_holds_42 : decode cX6_holds 42 = .ok (.iconst 1, 1) := dk_4 (dk_at dksX6_holds_1 20 rfl rfl)
theorem dX6_holds_43 : decode cX6_holds 43 = .ok (.isub, 1) := dk_100 (dk_at dksX6_holds_1 21 rfl rfl)
theorem dX6_holds_44 : decode cX6_holds 44 = .ok (.aload_n 0, 1) := dk_42 (dk_at dksX6_holds_1 22 rfl rfl)
theorem dX6_holds_45 : decode cX6_holds 45 = .ok (.getfield 95, 3) := dk_180 0 95 (dk_at dksX6_holds_2 0 rfl rfl)
theorem dX6_holds_48 : decode cX6_holds 48 = .ok (.iload_n 3, 1) := dk_29 (dk_at dksX6_holds_2 3 rfl rfl)
theorem dX6_holds_49 : decode cX6_holds 49 = .ok (.iconst 1, 1) := dk_4 (dk_at dksX6_holds_2 4 rfl rfl)
theorem dX6_holds_50 : decode cX6_holds 50 = .ok (.isub, 1) := dk_100 (dk_at dksX6_holds_2 5 rfl rfl)
theorem dX6_holds_51 : decode cX6_holds 51 = .ok (.baload, 1) := dk_51 (dk_at dksX6_holds_2 6 rfl rfl)
theorem dX6_holds_52 : decode cX6_holds 52 = .ok (.ifCond .ne 7, 3) := dk_154 0 7 (dk_at dksX6_holds_2 7 rfl rfl)
theorem dX6_holds_55 : decode cX6_holds 55 = .ok (.iconst 1, 1) := dk_4 (dk_at dksX6_holds_2 10 rfl rfl)
theorem dX6_holds_56 : decode cX6_holds 56 = .ok (.goto 4, 3) := dk_167 0 4 (dk_at dksX6_holds_2 11 rfl rfl)
theorem dX6_holds_59 : decode cX6_holds 59 = .ok (.iconst 0, 1) := dk_3 (dk_at dksX6_holds_2 14 rfl rfl)
theorem dX6_holds_60 : decode cX6_holds 60 = .ok (.bastore, 1) := dk_84 (dk_at dksX6_holds_2 15 rfl rfl)
theorem dX6_holds_61 : decode cX6_holds 61 = .ok (.goto 176, 3) := dk_167 0 176 (dk_at dksX6_holds_2 16 rfl rfl)
theorem dX6_holds_64 : decode cX6_holds 64 = .ok (.iload 5, 2) := dk_21 5 (dk_at dksX6_holds_2 19 rfl rfl)
theorem dX6_holds_66 : decode cX6_holds 66 = .ok (.ifCond .ge 77, 3) := dk_156 0 77 (dk_at dksX6_holds_2 21 rfl rfl)
theorem dX6_holds_69 : decode cX6_holds 69 = .ok (.iinc 3 (-1), 3) := dk_132 3 255 (dk_at dksX6_holds_3 0 rfl rfl)
theorem dX6_holds_72 : decode cX6_holds 72 = .ok (.aload_n 0, 1) := dk_42 (dk_at dksX6_holds_3 3 rfl rfl)
theorem dX6_holds_73 : decode cX6_holds 73 = .ok (.getfield 95, 3) := dk_180 0 95 (dk_at dksX6_holds_3 4 rfl rfl)
theorem dX6_holds_76 : decode cX6_holds 76 = .ok (.iload_n 3, 1) := dk_29 (dk_at dksX6_holds_3 7 rfl rfl)
theorem dX6_holds_77 : decode cX6_holds 77 = .ok (.iconst 1, 1) := dk_4 (dk_at dksX6_holds_3 8 rfl rfl)
theorem dX6_holds_78 : decode cX6_holds 78 = .ok (.isub, 1) := dk_100 (dk_at dksX6_holds_3 9 rfl rfl)
theorem dX6_holds_79 : decode cX6_holds 79 = .ok (.iload 5, 2) := dk_21 5 (dk_at dksX6_holds_3 10 rfl rfl)
theorem dX6_holds_81 : decode cX6_holds 81 = .ok (.bipush (-38), 2) := dk_16 218 (dk_at dksX6_holds_3 12 rfl rfl)
theorem dX6_holds_83 : decode cX6_holds 83 = .ok (.if_icmp .ne 31, 3) := dk_160 0 31 (dk_at dksX6_holds_3 14 rfl rfl)
theorem dX6_holds_86 : decode cX6_holds 86 = .ok (.aload_n 0, 1) := dk_42 (dk_at dksX6_holds_3 17 rfl rfl)
theorem dX6_holds_87 : decode cX6_holds 87 = .ok (.getfield 95, 3) := dk_180 0 95 (dk_at dksX6_holds_3 18 rfl rfl)
theorem dX6_holds_90 : decode cX6_holds 90 = .ok (.iload_n 3, 1) := dk_29 (dk_at dksX6_holds_3 21 rfl rfl)
theorem dX6_holds_91 : decode cX6_holds 91 = .ok (.iconst 1, 1) := dk_4 (dk_at dksX6_holds_3 22 rfl rfl)
theorem dX6_holds_92 : decode cX6_holds 92 = .ok (.isub, 1) := dk_100 (dk_at dksX6_holds_3 23 rfl rfl)
theorem dX6_holds_93 : decode cX6_holds 93 = .ok (.baload, 1) := dk_51 (dk_at dksX6_holds_4 0 rfl rfl)
theorem dX6_holds_94 : decode cX6_holds 94 = .ok (.ifCond .eq 16, 3) := dk_153 0 16 (dk_at dksX6_holds_4 1 rfl rfl)
theorem dX6_holds_97 : decode cX6_holds 97 = .ok (.aload_n 0, 1) := dk_42 (dk_at dksX6_holds_4 4 rfl rfl)
theorem dX6_holds_98 : decode cX6_holds 98 = .ok (.getfield 95, 3) := dk_180 0 95 (dk_at dksX6_holds_4 5 rfl rfl)
theorem dX6_holds_101 : decode cX6_holds 101 = .ok (.iload_n 3, 1) := dk_29 (dk_at dksX6_holds_4 8 rfl rfl)
theorem dX6_holds_102 : decode cX6_holds 102 = .ok (.baload, 1) := dk_51 (dk_at dksX6_holds_4 9 rfl rfl)
theorem dX6_holds_103 : decode cX6_holds 103 = .ok (.ifCond .eq 7, 3) := dk_153 0 7 (dk_at dksX6_holds_4 10 rfl rfl)
theorem dX6_holds_106 : decode cX6_holds 106 = .ok (.iconst 1, 1) := dk_4 (dk_at dksX6_holds_4 13 rfl rfl)
theorem dX6_holds_107 : decode cX6_holds 107 = .ok (.goto 32, 3) := dk_167 0 32 (dk_at dksX6_holds_4 14 rfl rfl)
theorem dX6_holds_110 : decode cX6_holds 110 = .ok (.iconst 0, 1) := dk_3 (dk_at dksX6_holds_4 17 rfl rfl)
theorem dX6_holds_111 : decode cX6_holds 111 = .ok (.goto 28, 3) := dk_167 0 28 (dk_at dksX6_holds_4 18 rfl rfl)
theorem dX6_holds_114 : decode cX6_holds 114 = .ok (.aload_n 0, 1) := dk_42 (dk_at dksX6_holds_4 21 rfl rfl)
theorem dX6_holds_115 : decode cX6_holds 115 = .ok (.getfield 95, 3) := dk_180 0 95 (dk_at dksX6_holds_5 0 rfl rfl)
theorem dX6_holds_118 : decode cX6_holds 118 = .ok (.iload_n 3, 1) := dk_29 (dk_at dksX6_holds_5 3 rfl rfl)
theorem dX6_holds_119 : decode cX6_holds 119 = .ok (.iconst 1, 1) := dk_4 (dk_at dksX6_holds_5 4 rfl rfl)
theorem dX6_holds_120 : decode cX6_holds 120 = .ok (.isub, 1) := dk_100 (dk_at dksX6_holds_5 5 rfl rfl)
theorem dX6_holds_121 : decode cX6_holds 121 = .ok (.baload, 1) := dk_51 (dk_at dksX6_holds_5 6 rfl rfl)
theorem dX6_holds_122 : decode cX6_holds 122 = .ok (.ifCond .ne 12, 3) := dk_154 0 12 (dk_at dksX6_holds_5 7 rfl rfl)
theorem dX6_holds_125 : decode cX6_holds 125 = .ok (.aload_n 0, 1) := dk_42 (dk_at dksX6_holds_5 10 rfl rfl)
theorem dX6_holds_126 : decode cX6_holds 126 = .ok (.getfield 95, 3) := dk_180 0 95 (dk_at dksX6_holds_5 11 rfl rfl)
theorem dX6_holds_129 : decode cX6_holds 129 = .ok (.iload_n 3, 1) := dk_29 (dk_at dksX6_holds_5 14 rfl rfl)
theorem dX6_holds_130 : decode cX6_holds 130 = .ok (.baload, 1) := dk_51 (dk_at dksX6_holds_5 15 rfl rfl)
theorem dX6_holds_131 : decode cX6_holds 131 = .ok (.ifCond .eq 7, 3) := dk_153 0 7 (dk_at dksX6_holds_5 16 rfl rfl)
theorem dX6_holds_134 : decode cX6_holds 134 = .ok (.iconst 1, 1) := dk_4 (dk_at dksX6_holds_5 19 rfl rfl)
theorem dX6_holds_135 : decode cX6_holds 135 = .ok (.goto 4, 3) := dk_167 0 4 (dk_at dksX6_holds_5 20 rfl rfl)
theorem dX6_holds_138 : decode cX6_holds 138 = .ok (.iconst 0, 1) := dk_3 (dk_at dksX6_holds_5 23 rfl rfl)
theorem dX6_holds_139 : decode cX6_holds 139 = .ok (.bastore, 1) := dk_84 (dk_at dksX6_holds_6 0 rfl rfl)
theorem dX6_holds_140 : decode cX6_holds 140 = .ok (.goto 97, 3) := dk_167 0 97 (dk_at dksX6_holds_6 1 rfl rfl)
theorem dX6_holds_143 : decode cX6_holds 143 = .ok (.aload_n 0, 1) := dk_42 (dk_at dksX6_holds_6 4 rfl rfl)
theorem dX6_holds_144 : decode cX6_holds 144 = .ok (.iload 5, 2) := dk_21 5 (dk_at dksX6_holds_6 5 rfl rfl)
theorem dX6_holds_146 : decode cX6_holds 146 = .ok (.sipush 1000, 3) := dk_17 3 232 (dk_at dksX6_holds_6 7 rfl rfl)
theorem dX6_holds_149 : decode cX6_holds 149 = .ok (.idiv, 1) := dk_108 (dk_at dksX6_holds_6 10 rfl rfl)
theorem dX6_holds_150 : decode cX6_holds 150 = .ok (.iload_n 2, 1) := dk_28 (dk_at dksX6_holds_6 11 rfl rfl)
theorem dX6_holds_151 : decode cX6_holds 151 = .ok (.invokevirtual 295, 3) := dk_182 1 39 (dk_at dksX6_holds_6 12 rfl rfl)
theorem dX6_holds_154 : decode cX6_holds 154 = .ok (.istore 6, 2) := dk_54 6 (dk_at dksX6_holds_6 15 rfl rfl)
theorem dX6_holds_156 : decode cX6_holds 156 = .ok (.iload 5, 2) := dk_21 5 (dk_at dksX6_holds_6 17 rfl rfl)
theorem dX6_holds_158 : decode cX6_holds 158 = .ok (.bipush 100, 2) := dk_16 100 (dk_at dksX6_holds_6 19 rfl rfl)
theorem dX6_holds_160 : decode cX6_holds 160 = .ok (.idiv, 1) := dk_108 (dk_at dksX6_holds_6 21 rfl rfl)
theorem dX6_holds_161 : decode cX6_holds 161 = .ok (.bipush 10, 2) := dk_16 10 (dk_at dksX6_holds_6 22 rfl rfl)
theorem dX6_holds_163 : decode cX6_holds 163 = .ok (.irem, 1) := dk_112 (dk_at dksX6_holds_7 0 rfl rfl)
theorem dX6_holds_164 : decode cX6_holds 164 = .ok (.istore 7, 2) := dk_54 7 (dk_at dksX6_holds_7 1 rfl rfl)
theorem dX6_holds_166 : decode cX6_holds 166 = .ok (.aload_n 0, 1) := dk_42 (dk_at dksX6_holds_7 3 rfl rfl)
theorem dX6_holds_167 : decode cX6_holds 167 = .ok (.getfield 95, 3) := dk_180 0 95 (dk_at dksX6_holds_7 4 rfl rfl)
theorem dX6_holds_170 : decode cX6_holds 170 = .ok (.iload_n 3, 1) := dk_29 (dk_at dksX6_holds_7 7 rfl rfl)
theorem dX6_holds_171 : decode cX6_holds 171 = .ok (.iload 7, 2) := dk_21 7 (dk_at dksX6_holds_7 8 rfl rfl)
theorem dX6_holds_173 : decode cX6_holds 173 = .ok (.ifCond .ne 21, 3) := dk_154 0 21 (dk_at dksX6_holds_7 10 rfl rfl)
theorem dX6_holds_176 : decode cX6_holds 176 = .ok (.iload 6, 2) := dk_21 6 (dk_at dksX6_holds_7 13 rfl rfl)
theorem dX6_holds_178 : decode cX6_holds 178 = .ok (.iload 5, 2) := dk_21 5 (dk_at dksX6_holds_7 15 rfl rfl)
theorem dX6_holds_180 : decode cX6_holds 180 = .ok (.bipush 100, 2) := dk_16 100 (dk_at dksX6_holds_7 17 rfl rfl)
theorem dX6_holds_182 : decode cX6_holds 182 = .ok (.irem, 1) := dk_112 (dk_at dksX6_holds_7 19 rfl rfl)
theorem dX6_holds_183 : decode cX6_holds 183 = .ok (.if_icmp .ge 7, 3) := dk_162 0 7 (dk_at dksX6_holds_7 20 rfl rfl)
theorem dX6_holds_186 : decode cX6_holds 186 = .ok (.iconst 1, 1) := dk_4 (dk_at dksX6_holds_7 23 rfl rfl)
theorem dX6_holds_187 : decode cX6_holds 187 = .ok (.goto 46, 3) := dk_167 0 46 (dk_at dksX6_holds_8 0 rfl rfl)
theorem dX6_holds_190 : decode cX6_holds 190 = .ok (.iconst 0, 1) := dk_3 (dk_at dksX6_holds_8 3 rfl rfl)
theorem dX6_holds_191 : decode cX6_holds 191 = .ok (.goto 42, 3) := dk_167 0 42 (dk_at dksX6_holds_8 4 rfl rfl)
theorem dX6_holds_194 : decode cX6_holds 194 = .ok (.iload 7, 2) := dk_21 7 (dk_at dksX6_holds_8 7 rfl rfl)
theorem dX6_holds_196 : decode cX6_holds 196 = .ok (.iconst 1, 1) := dk_4 (dk_at dksX6_holds_8 9 rfl rfl)
theorem dX6_holds_197 : decode cX6_holds 197 = .ok (.if_icmp .ne 21, 3) := dk_160 0 21 (dk_at dksX6_holds_8 10 rfl rfl)
theorem dX6_holds_200 : decode cX6_holds 200 = .ok (.iload 6, 2) := dk_21 6 (dk_at dksX6_holds_8 13 rfl rfl)
theorem dX6_holds_202 : decode cX6_holds 202 = .ok (.iload 5, 2) := dk_21 5 (dk_at dksX6_holds_8 15 rfl rfl)
theorem dX6_holds_204 : decode cX6_holds 204 = .ok (.bipush 100, 2) := dk_16 100 (dk_at dksX6_holds_8 17 rfl rfl)
theorem dX6_holds_206 : decode cX6_holds 206 = .ok (.irem, 1) := dk_112 (dk_at dksX6_holds_8 19 rfl rfl)
theorem dX6_holds_207 : decode cX6_holds 207 = .ok (.if_icmp .ne 7, 3) := dk_160 0 7 (dk_at dksX6_holds_8 20 rfl rfl)
theorem dX6_holds_210 : decode cX6_holds 210 = .ok (.iconst 1, 1) := dk_4 (dk_at dksX6_holds_8 23 rfl rfl)
theorem dX6_holds_211 : decode cX6_holds 211 = .ok (.goto 22, 3) := dk_167 0 22 (dk_at dksX6_holds_9 0 rfl rfl)
theorem dX6_holds_214 : decode cX6_holds 214 = .ok (.iconst 0, 1) := dk_3 (dk_at dksX6_holds_9 3 rfl rfl)
theorem dX6_holds_215 : decode cX6_holds 215 = .ok (.goto 18, 3) := dk_167 0 18 (dk_at dksX6_holds_9 4 rfl rfl)
theorem dX6_holds_218 : decode cX6_holds 218 = .ok (.iload 6, 2) := dk_21 6 (dk_at dksX6_holds_9 7 rfl rfl)
theorem dX6_holds_220 : decode cX6_holds 220 = .ok (.iload 5, 2) := dk_21 5 (dk_at dksX6_holds_9 9 rfl rfl)
theorem dX6_holds_222 : decode cX6_holds 222 = .ok (.bipush 100, 2) := dk_16 100 (dk_at dksX6_holds_9 11 rfl rfl)
theorem dX6_holds_224 : decode cX6_holds 224 = .ok (.irem, 1) := dk_112 (dk_at dksX6_holds_9 13 rfl rfl)
theorem dX6_holds_225 : decode cX6_holds 225 = .ok (.if_icmp .le 7, 3) := dk_164 0 7 (dk_at dksX6_holds_9 14 rfl rfl)
theorem dX6_holds_228 : decode cX6_holds 228 = .ok (.iconst 1, 1) := dk_4 (dk_at dksX6_holds_9 17 rfl rfl)
theorem dX6_holds_229 : decode cX6_holds 229 = .ok (.goto 4, 3) := dk_167 0 4 (dk_at dksX6_holds_9 18 rfl rfl)
theorem dX6_holds_232 : decode cX6_holds 232 = .ok (.iconst 0, 1) := dk_3 (dk_at dksX6_holds_9 21 rfl rfl)
theorem dX6_holds_233 : decode cX6_holds 233 = .ok (.bastore, 1) := dk_84 (dk_at dksX6_holds_9 22 rfl rfl)
theorem dX6_holds_234 : decode cX6_holds 234 = .ok (.iinc 3 1, 3) := dk_132 3 1 (dk_at dksX6_holds_10 0 rfl rfl)
theorem dX6_holds_237 : decode cX6_holds 237 = .ok (.iinc 4 1, 3) := dk_132 4 1 (dk_at dksX6_holds_10 3 rfl rfl)
theorem dX6_holds_240 : decode cX6_holds 240 = .ok (.goto (-230), 3) := dk_167 255 26 (dk_at dksX6_holds_10 6 rfl rfl)
theorem dX6_holds_243 : decode cX6_holds 243 = .ok (.aload_n 0, 1) := dk_42 (dk_at dksX6_holds_10 9 rfl rfl)
theorem dX6_holds_244 : decode cX6_holds 244 = .ok (.getfield 95, 3) := dk_180 0 95 (dk_at dksX6_holds_10 10 rfl rfl)
theorem dX6_holds_247 : decode cX6_holds 247 = .ok (.iconst 0, 1) := dk_3 (dk_at dksX6_holds_10 13 rfl rfl)
theorem dX6_holds_248 : decode cX6_holds 248 = .ok (.baload, 1) := dk_51 (dk_at dksX6_holds_10 14 rfl rfl)
theorem dX6_holds_249 : decode cX6_holds 249 = .ok (.ireturn, 1) := dk_172 (dk_at dksX6_holds_10 15 rfl rfl)
abbrev cX6_factOf : ByteArray := prog_23_method_34_code
def yX6_factOf : MethodName := ⟨RX6, "factOf", "(II)I"⟩
def dkwX6_factOf_4 : List UInt8 := [172, 42, 180, 0, 35, 28, 46, 16, 10, 108, 172]
abbrev dktX6_factOf_4 : List UInt8 := dkwX6_factOf_4 ++ []
def dkwX6_factOf_3 : List UInt8 := [16, 99, 164, 0, 8, 16, 99, 167, 0, 10, 42, 180, 0, 13, 16, 10, 108, 172, 42, 180, 0, 32, 28, 46]
abbrev dktX6_factOf_3 : List UInt8 := dkwX6_factOf_3 ++ dktX6_factOf_4
def dkwX6_factOf_2 : List UInt8 := [28, 172, 42, 180, 0, 28, 28, 46, 172, 42, 180, 0, 19, 16, 50, 108, 172, 42, 180, 0, 13, 16, 10, 108]
abbrev dktX6_factOf_2 : List UInt8 := dkwX6_factOf_2 ++ dktX6_factOf_3
def dkwX6_factOf_1 : List UInt8 := [170, 0, 0, 0, 0, 0, 84, 0, 0, 0, 0, 0, 0, 0, 4, 0, 0, 0, 35, 0, 0, 0, 37, 0, 0, 0, 44, 0, 0, 0, 52, 0, 0, 0, 77]
abbrev dktX6_factOf_1 : List UInt8 := dkwX6_factOf_1 ++ dktX6_factOf_2
def dkwX6_factOf_0 : List UInt8 := [27]
abbrev dktX6_factOf_0 : List UInt8 := dkwX6_factOf_0 ++ dktX6_factOf_1
theorem dksX6_factOf_0 : cX6_factOf.data.toList.drop 0 = dktX6_factOf_0 := by decide +kernel
theorem dksX6_factOf_1 : cX6_factOf.data.toList.drop 1 = dktX6_factOf_1 := dk_seg dksX6_factOf_0 1 rfl rfl
theorem dksX6_factOf_2 : cX6_factOf.data.toList.drop 36 = dktX6_factOf_2 := dk_seg dksX6_factOf_1 35 rfl rfl
theorem dksX6_factOf_3 : cX6_factOf.data.toList.drop 60 = dktX6_factOf_3 := dk_seg dksX6_factOf_2 24 rfl rfl
theorem dksX6_factOf_4 : cX6_factOf.data.toList.drop 84 = dktX6_factOf_4 := dk_seg dksX6_factOf_3 24 rfl rfl
theorem dX6_factOf_0 : decode cX6_factOf 0 = .ok (.iload_n 1, 1) := dk_27 (dk_at dksX6_factOf_0 0 rfl rfl)
theorem dX6_factOf_1 : decode cX6_factOf 1 = .ok (.tableswitch 84 0 4 #[35, 37, 44, 52, 77], 35) := by decide +kernel
theorem dX6_factOf_36 : decode cX6_factOf 36 = .ok (.iload_n 2, 1) := dk_28 (dk_at dksX6_factOf_2 0 rfl rfl)
theorem dX6_factOf_37 : decode cX6_factOf 37 = .ok (.ireturn, 1) := dk_172 (dk_at dksX6_factOf_2 1 rfl rfl)
theorem dX6_factOf_38 : decode cX6_factOf 38 = .ok (.aload_n 0, 1) := dk_42 (dk_at dksX6_factOf_2 2 rfl rfl)
theorem dX6_factOf_39 : decode cX6_factOf 39 = .ok (.getfield 28, 3) := dk_180 0 28 (dk_at dksX6_factOf_2 3 rfl rfl)
theorem dX6_factOf_42 : decode cX6_factOf 42 = .ok (.iload_n 2, 1) := dk_28 (dk_at dksX6_factOf_2 6 rfl rfl)
theorem dX6_factOf_43 : decode cX6_factOf 43 = .ok (.iaload, 1) := dk_46 (dk_at dksX6_factOf_2 7 rfl rfl)
theorem dX6_factOf_44 : decode cX6_factOf 44 = .ok (.ireturn, 1) := dk_172 (dk_at dksX6_factOf_2 8 rfl rfl)
theorem dX6_factOf_45 : decode cX6_factOf 45 = .ok (.aload_n 0, 1) := dk_42 (dk_at dksX6_factOf_2 9 rfl rfl)
theorem dX6_factOf_46 : decode cX6_factOf 46 = .ok (.getfield 19, 3) := dk_180 0 19 (dk_at dksX6_factOf_2 10 rfl rfl)
theorem dX6_factOf_49 : decode cX6_factOf 49 = .ok (.bipush 50, 2) := dk_16 50 (dk_at dksX6_factOf_2 13 rfl rfl)
theorem dX6_factOf_51 : decode cX6_factOf 51 = .ok (.idiv, 1) := dk_108 (dk_at dksX6_factOf_2 15 rfl rfl)
theorem dX6_factOf_52 : decode cX6_factOf 52 = .ok (.ireturn, 1) := dk_172 (dk_at dksX6_factOf_2 16 rfl rfl)
theorem dX6_factOf_53 : decode cX6_factOf 53 = .ok (.aload_n 0, 1) := dk_42 (dk_at dksX6_factOf_2 17 rfl rfl)
theorem dX6_factOf_54 : decode cX6_factOf 54 = .ok (.getfield 13, 3) := dk_180 0 13 (dk_at dksX6_factOf_2 18 rfl rfl)
theorem dX6_factOf_57 : decode cX6_factOf 57 = .ok (.bipush 10, 2) := dk_16 10 (dk_at dksX6_factOf_2 21 rfl rfl)
theorem dX6_factOf_59 : decode cX6_factOf 59 = .ok (.idiv, 1) := dk_108 (dk_at dksX6_factOf_2 23 rfl rfl)
theorem dX6_factOf_60 : decode cX6_factOf 60 = .ok (.bipush 99, 2) := dk_16 99 (dk_at dksX6_factOf_3 0 rfl rfl)
theorem dX6_factOf_62 : decode cX6_factOf 62 = .ok (.if_icmp .le 8, 3) := dk_164 0 8 (dk_at dksX6_factOf_3 2 rfl rfl)
theorem dX6_factOf_65 : decode cX6_factOf 65 = .ok (.bipush 99, 2) := dk_16 99 (dk_at dksX6_factOf_3 5 rfl rfl)
theorem dX6_factOf_67 : decode cX6_factOf 67 = .ok (.goto 10, 3) := dk_167 0 10 (dk_at dksX6_factOf_3 7 rfl rfl)
theorem dX6_factOf_70 : decode cX6_factOf 70 = .ok (.aload_n 0, 1) := dk_42 (dk_at dksX6_factOf_3 10 rfl rfl)
theorem dX6_factOf_71 : decode cX6_factOf 71 = .ok (.getfield 13, 3) := dk_180 0 13 (dk_at dksX6_factOf_3 11 rfl rfl)
theorem dX6_factOf_74 : decode cX6_factOf 74 = .ok (.bipush 10, 2) := dk_16 10 (dk_at dksX6_factOf_3 14 rfl rfl)
theorem dX6_factOf_76 : decode cX6_factOf 76 = .ok (.idiv, 1) := dk_108 (dk_at dksX6_factOf_3 16 rfl rfl)
theorem dX6_factOf_77 : decode cX6_factOf 77 = .ok (.ireturn, 1) := dk_172 (dk_at dksX6_factOf_3 17 rfl rfl)
theorem dX6_factOf_78 : decode cX6_factOf 78 = .ok (.aload_n 0, 1) := dk_42 (dk_at dksX6_factOf_3 18 rfl rfl)
theorem dX6_factOf_79 : decode cX6_factOf 79 = .ok (.getfield 32, 3) := dk_180 0 32 (dk_at dksX6_factOf_3 19 rfl rfl)
theorem dX6_factOf_82 : decode cX6_factOf 82 = .ok (.iload_n 2, 1) := dk_28 (dk_at dksX6_factOf_3 22 rfl rfl)
theorem dX6_factOf_83 : decode cX6_factOf 83 = .ok (.iaload, 1) := dk_46 (dk_at dksX6_factOf_3 23 rfl rfl)
theorem dX6_factOf_84 : decode cX6_factOf 84 = .ok (.ireturn, 1) := dk_172 (dk_at dksX6_factOf_4 0 rfl rfl)
theorem dX6_factOf_85 : decode cX6_factOf 85 = .ok (.aload_n 0, 1) := dk_42 (dk_at dksX6_factOf_4 1 rfl rfl)
theorem dX6_factOf_86 : decode cX6_factOf 86 = .ok (.getfield 35, 3) := dk_180 0 35 (dk_at dksX6_factOf_4 2 rfl rfl)
theorem dX6_factOf_89 : decode cX6_factOf 89 = .ok (.iload_n 2, 1) := dk_28 (dk_at dksX6_factOf_4 5 rfl rfl)
theorem dX6_factOf_90 : decode cX6_factOf 90 = .ok (.iaload, 1) := dk_46 (dk_at dksX6_factOf_4 6 rfl rfl)
theorem dX6_factOf_91 : decode cX6_factOf 91 = .ok (.bipush 10, 2) := dk_16 10 (dk_at dksX6_factOf_4 7 rfl rfl)
theorem dX6_factOf_93 : decode cX6_factOf 93 = .ok (.idiv, 1) := dk_108 (dk_at dksX6_factOf_4 9 rfl rfl)
theorem dX6_factOf_94 : decode cX6_factOf 94 = .ok (.ireturn, 1) := dk_172 (dk_at dksX6_factOf_4 10 rfl rfl)
abbrev cX6_climb : ByteArray := prog_23_method_37_code
def yX6_climb : MethodName := ⟨RX6, "climb", "(I)I"⟩
def dkwX6_climb_7 : List UInt8 := [172]
abbrev dktX6_climb_7 : List UInt8 := dkwX6_climb_7 ++ []
def dkwX6_climb_6 : List UInt8 := [16, 254, 167, 0, 4, 28, 42, 180, 0, 41, 7, 27, 104, 42, 180, 0, 13, 7, 112, 96, 46, 96, 172, 28]
abbrev dktX6_climb_6 : List UInt8 := dkwX6_climb_6 ++ dktX6_climb_7
def dkwX6_climb_5 : List UInt8 := [5, 96, 112, 154, 0, 7, 2, 167, 0, 6, 28, 5, 108, 172, 42, 180, 0, 13, 16, 100, 161, 0, 8]
abbrev dktX6_climb_5 : List UInt8 := dkwX6_climb_5 ++ dktX6_climb_6
def dkwX6_climb_4 : List UInt8 := [167, 0, 13, 28, 42, 180, 0, 32, 27, 46, 5, 108, 96, 172, 42, 180, 0, 13, 42, 180, 0, 32, 27, 46]
abbrev dktX6_climb_4 : List UInt8 := dkwX6_climb_4 ++ dktX6_climb_5
def dkwX6_climb_3 : List UInt8 := [16, 254, 167, 0, 4, 28, 172, 42, 180, 0, 19, 16, 40, 42, 180, 0, 32, 27, 46, 104, 164, 0, 7, 3]
abbrev dktX6_climb_3 : List UInt8 := dkwX6_climb_3 ++ dktX6_climb_4
def dkwX6_climb_2 : List UInt8 := [28, 42, 180, 0, 32, 27, 46, 5, 108, 96, 172, 28, 5, 108, 172, 42, 180, 0, 13, 16, 100, 161, 0, 8]
abbrev dktX6_climb_2 : List UInt8 := dkwX6_climb_2 ++ dktX6_climb_3
def dkwX6_climb_1 : List UInt8 := [170, 0, 0, 0, 0, 0, 0, 158, 0, 0, 0, 1, 0, 0, 0, 6, 0, 0, 0, 40, 0, 0, 0, 51, 0, 0, 0, 55, 0, 0, 0, 71, 0, 0, 0, 102, 0, 0, 0, 126]
abbrev dktX6_climb_1 : List UInt8 := dkwX6_climb_1 ++ dktX6_climb_2
def dkwX6_climb_0 : List UInt8 := [42, 27, 182, 1, 45, 61, 42, 180, 0, 28, 27, 46]
abbrev dktX6_climb_0 : List UInt8 := dkwX6_climb_0 ++ dktX6_climb_1
theorem dksX6_climb_0 : cX6_climb.data.toList.drop 0 = dktX6_climb_0 := by decide +kernel
theorem dksX6_climb_1 : cX6_climb.data.toList.drop 12 = dktX6_climb_1 := dk_seg dksX6_climb_0 12 rfl rfl
theorem dksX6_climb_2 : cX6_climb.data.toList.drop 52 = dktX6_climb_2 := dk_seg dksX6_climb_1 40 rfl rfl
theorem dksX6_climb_3 : cX6_climb.data.toList.drop 76 = dktX6_climb_3 := dk_seg dksX6_climb_2 24 rfl rfl
theorem dksX6_climb_4 : cX6_climb.data.toList.drop 100 = dktX6_climb_4 := dk_seg dksX6_climb_3 24 rfl rfl
theorem dksX6_climb_5 : cX6_climb.data.toList.drop 124 = dktX6_climb_5 := dk_seg dksX6_climb_4 24 rfl rfl
theorem dksX6_climb_6 : cX6_climb.data.toList.drop 147 = dktX6_climb_6 := dk_seg dksX6_climb_5 23 rfl rfl
theorem dksX6_climb_7 : cX6_climb.data.toList.drop 171 = dktX6_climb_7 := dk_seg dksX6_climb_6 24 rfl rfl
theorem dX6_climb_0 : decode cX6_climb 0 = .ok (.aload_n 0, 1) := dk_42 (dk_at dksX6_climb_0 0 rfl rfl)
theorem dX6_climb_1 : decode cX6_climb 1 = .ok (.iload_n 1, 1) := dk_27 (dk_at dksX6_climb_0 1 rfl rfl)
theorem dX6_climb_2 : decode cX6_climb 2 = .ok (.invokevirtual 301, 3) := dk_182 1 45 (dk_at dksX6_climb_0 2 rfl rfl)
theorem dX6_climb_5 : decode cX6_climb 5 = .ok (.istore_n 2, 1) := dk_61 (dk_at dksX6_climb_0 5 rfl rfl)
theorem dX6_climb_6 : decode cX6_climb 6 = .ok (.aload_n 0, 1) := dk_42 (dk_at dksX6_climb_0 6 rfl rfl)
theorem dX6_climb_7 : decode cX6_climb 7 = .ok (.getfield 28, 3) := dk_180 0 28 (dk_at dksX6_climb_0 7 rfl rfl)
theorem dX6_climb_10 : decode cX6_climb 10 = .ok (.iload_n 1, 1) := dk_27 (dk_at dksX6_climb_0 10 rfl rfl)
theorem dX6_climb_11 : decode cX6_climb 11 = .ok (.iaload, 1) := dk_46 (dk_at dksX6_climb_0 11 rfl rfl)
theorem dX6_climb_12 : decode cX6_climb 12 = .ok (.tableswitch 158 1 6 #[40, 51, 55, 71, 102, 126], 40) := by decide +kernel
theorem dX6_climb_52 : decode cX6_climb 52 = .ok (.iload_n 2, 1) := dk_28 (dk_at dksX6_climb_2 0 rfl rfl)
theorem dX6_climb_53 : decode cX6_climb 53 = .ok (.aload_n 0, 1) := dk_42 (dk_at dksX6_climb_2 1 rfl rfl)
theorem dX6_climb_54 : decode cX6_climb 54 = .ok (.getfield 32, 3) := dk_180 0 32 (dk_at dksX6_climb_2 2 rfl rfl)
theorem dX6_climb_57 : decode cX6_climb 57 = .ok (.iload_n 1, 1) := dk_27 (dk_at dksX6_climb_2 5 rfl rfl)
theorem dX6_climb_58 : decode cX6_climb 58 = .ok (.iaload, 1) := dk_46 (dk_at dksX6_climb_2 6 rfl rfl)
theorem dX6_climb_59 : decode cX6_climb 59 = .ok (.iconst 2, 1) := dk_5 (dk_at dksX6_climb_2 7 rfl rfl)
theorem dX6_climb_60 : decode cX6_climb 60 = .ok (.idiv, 1) := dk_108 (dk_at dksX6_climb_2 8 rfl rfl)
theorem dX6_climb_61 : decode cX6_climb 61 = .ok (.iadd, 1) := dk_96 (dk_at dksX6_climb_2 9 rfl rfl)
theorem dX6_climb_62 : decode cX6_climb 62 = .ok (.ireturn, 1) := dk_172 (dk_at dksX6_climb_2 10 rfl rfl)
theorem dX6_climb_63 : decode cX6_climb 63 = .ok (.iload_n 2, 1) := dk_28 (dk_at dksX6_climb_2 11 rfl rfl)
theorem dX6_climb_64 : decode cX6_climb 64 = .ok (.iconst 2, 1) := dk_5 (dk_at dksX6_climb_2 12 rfl rfl)
theorem dX6_climb_65 : decode cX6_climb 65 = .ok (.idiv, 1) := dk_108 (dk_at dksX6_climb_2 13 rfl rfl)
theorem dX6_climb_66 : decode cX6_climb 66 = .ok (.ireturn, 1) := dk_172 (dk_at dksX6_climb_2 14 rfl rfl)
theorem dX6_climb_67 : decode cX6_climb 67 = .ok (.aload_n 0, 1) := dk_42 (dk_at dksX6_climb_2 15 rfl rfl)
theorem dX6_climb_68 : decode cX6_climb 68 = .ok (.getfield 13, 3) := dk_180 0 13 (dk_at dksX6_climb_2 16 rfl rfl)
theorem dX6_climb_71 : decode cX6_climb 71 = .ok (.bipush 100, 2) := dk_16 100 (dk_at dksX6_climb_2 19 rfl rfl)
theorem dX6_climb_73 : decode cX6_climb 73 = .ok (.if_icmp .lt 8, 3) := dk_161 0 8 (dk_at dksX6_climb_2 21 rfl rfl)
theorem dX6_climb_76 : decode cX6_climb 76 = .ok (.bipush (-2), 2) := dk_16 254 (dk_at dksX6_climb_3 0 rfl rfl)
theorem dX6_climb_78 : decode cX6_climb 78 = .ok (.goto 4, 3) := dk_167 0 4 (dk_at dksX6_climb_3 2 rfl rfl)
theorem dX6_climb_81 : decode cX6_climb 81 = .ok (.iload_n 2, 1) := dk_28 (dk_at dksX6_climb_3 5 rfl rfl)
theorem dX6_climb_82 : decode cX6_climb 82 = .ok (.ireturn, 1) := dk_172 (dk_at dksX6_climb_3 6 rfl rfl)
theorem dX6_climb_83 : decode cX6_climb 83 = .ok (.aload_n 0, 1) := dk_42 (dk_at dksX6_climb_3 7 rfl rfl)
theorem dX6_climb_84 : decode cX6_climb 84 = .ok (.getfield 19, 3) := dk_180 0 19 (dk_at dksX6_climb_3 8 rfl rfl)
theorem dX6_climb_87 : decode cX6_climb 87 = .ok (.bipush 40, 2) := dk_16 40 (dk_at dksX6_climb_3 11 rfl rfl)
theorem dX6_climb_89 : decode cX6_climb 89 = .ok (.aload_n 0, 1) := dk_42 (dk_at dksX6_climb_3 13 rfl rfl)
theorem dX6_climb_90 : decode cX6_climb 90 = .ok (.getfield 32, 3) := dk_180 0 32 (dk_at dksX6_climb_3 14 rfl rfl)
theorem dX6_climb_93 : decode cX6_climb 93 = .ok (.iload_n 1, 1) := dk_27 (dk_at dksX6_climb_3 17 rfl rfl)
theorem dX6_climb_94 : decode cX6_climb 94 = .ok (.iaload, 1) := dk_46 (dk_at dksX6_climb_3 18 rfl rfl)
theorem dX6_climb_95 : decode cX6_climb 95 = .ok (.imul, 1) := dk_104 (dk_at dksX6_climb_3 19 rfl rfl)
theorem dX6_climb_96 : decode cX6_climb 96 = .ok (.if_icmp .le 7, 3) := dk_164 0 7 (dk_at dksX6_climb_3 20 rfl rfl)
theorem dX6_climb_99 : decode cX6_climb 99 = .ok (.iconst 0, 1) := dk_3 (dk_at dksX6_climb_3 23 rfl rfl)
theorem dX6_climb_100 : decode cX6_climb 100 = .ok (.goto 13, 3) := dk_167 0 13 (dk_at dksX6_climb_4 0 rfl rfl)
theorem dX6_climb_103 : decode cX6_climb 103 = .ok (.iload_n 2, 1) := dk_28 (dk_at dksX6_climb_4 3 rfl rfl)
theorem dX6_climb_104 : decode cX6_climb 104 = .ok (.aload_n 0, 1) := dk_42 (dk_at dksX6_climb_4 4 rfl rfl)
theorem dX6_climb_105 : decode cX6_climb 105 = .ok (.getfield 32, 3) := dk_180 0 32 (dk_at dksX6_climb_4 5 rfl rfl)
theorem dX6_climb_108 : decode cX6_climb 108 = .ok (.iload_n 1, 1) := dk_27 (dk_at dksX6_climb_4 8 rfl rfl)
theorem dX6_climb_109 : decode cX6_climb 109 = .ok (.iaload, 1) := dk_46 (dk_at dksX6_climb_4 9 rfl rfl)
theorem dX6_climb_110 : decode cX6_climb 110 = .ok (.iconst 2, 1) := dk_5 (dk_at dksX6_climb_4 10 rfl rfl)
theorem dX6_climb_111 : decode cX6_climb 111 = .ok (.idiv, 1) := dk_108 (dk_at dksX6_climb_4 11 rfl rfl)
theorem dX6_climb_112 : decode cX6_climb 112 = .ok (.iadd, 1) := dk_96 (dk_at dksX6_climb_4 12 rfl rfl)
theorem dX6_climb_113 : decode cX6_climb 113 = .ok (.ireturn, 1) := dk_172 (dk_at dksX6_climb_4 13 rfl rfl)
theorem dX6_climb_114 : decode cX6_climb 114 = .ok (.aload_n 0, 1) := dk_42 (dk_at dksX6_climb_4 14 rfl rfl)
theorem dX6_climb_115 : decode cX6_climb 115 = .ok (.getfield 13, 3) := dk_180 0 13 (dk_at dksX6_climb_4 15 rfl rfl)
theorem dX6_climb_118 : decode cX6_climb 118 = .ok (.aload_n 0, 1) := dk_42 (dk_at dksX6_climb_4 18 rfl rfl)
theorem dX6_climb_119 : decode cX6_climb 119 = .ok (.getfield 32, 3) := dk_180 0 32 (dk_at dksX6_climb_4 19 rfl rfl)
theorem dX6_climb_122 : decode cX6_climb 122 = .ok (.iload_n 1, 1) := dk_27 (dk_at dksX6_climb_4 22 rfl rfl)
theorem dX6_climb_123 : decode cX6_climb 123 = .ok (.iaload, 1) := dk_46 (dk_at dksX6_climb_4 23 rfl rfl)
theorem dX6_climb_124 : decode cX6_climb 124 = .ok (.iconst 2, 1) := dk_5 (dk_at dksX6_climb_5 0 rfl rfl)
theorem dX6_climb_125 : decode cX6_climb 125 = .ok (.iadd, 1) := dk_96 (dk_at dksX6_climb_5 1 rfl rfl)
theorem dX6_climb_126 : decode cX6_climb 126 = .ok (.irem, 1) := dk_112 (dk_at dksX6_climb_5 2 rfl rfl)
theorem dX6_climb_127 : decode cX6_climb 127 = .ok (.ifCond .ne 7, 3) := dk_154 0 7 (dk_at dksX6_climb_5 3 rfl rfl)
theorem dX6_climb_130 : decode cX6_climb 130 = .ok (.iconst (-1), 1) := dk_2 (dk_at dksX6_climb_5 6 rfl rfl)
theorem dX6_climb_131 : decode cX6_climb 131 = .ok (.goto 6, 3) := dk_167 0 6 (dk_at dksX6_climb_5 7 rfl rfl)
theorem dX6_climb_134 : decode cX6_climb 134 = .ok (.iload_n 2, 1) := dk_28 (dk_at dksX6_climb_5 10 rfl rfl)
theorem dX6_climb_135 : decode cX6_climb 135 = .ok (.iconst 2, 1) := dk_5 (dk_at dksX6_climb_5 11 rfl rfl)
theorem dX6_climb_136 : decode cX6_climb 136 = .ok (.idiv, 1) := dk_108 (dk_at dksX6_climb_5 12 rfl rfl)
theorem dX6_climb_137 : decode cX6_climb 137 = .ok (.ireturn, 1) := dk_172 (dk_at dksX6_climb_5 13 rfl rfl)
theorem dX6_climb_138 : decode cX6_climb 138 = .ok (.aload_n 0, 1) := dk_42 (dk_at dksX6_climb_5 14 rfl rfl)
theorem dX6_climb_139 : decode cX6_climb 139 = .ok (.getfield 13, 3) := dk_180 0 13 (dk_at dksX6_climb_5 15 rfl rfl)
theorem dX6_climb_142 : decode cX6_climb 142 = .ok (.bipush 100, 2) := dk_16 100 (dk_at dksX6_climb_5 18 rfl rfl)
theorem dX6_climb_144 : decode cX6_climb 144 = .ok (.if_icmp .lt 8, 3) := dk_161 0 8 (dk_at dksX6_climb_5 20 rfl rfl)
theorem dX6_climb_147 : decode cX6_climb 147 = .ok (.bipush (-2), 2) := dk_16 254 (dk_at dksX6_climb_6 0 rfl rfl)
theorem dX6_climb_149 : decode cX6_climb 149 = .ok (.goto 4, 3) := dk_167 0 4 (dk_at dksX6_climb_6 2 rfl rfl)
theorem dX6_climb_152 : decode cX6_climb 152 = .ok (.iload_n 2, 1) := dk_28 (dk_at dksX6_climb_6 5 rfl rfl)
theorem dX6_climb_153 : decode cX6_climb 153 = .ok (.aload_n 0, 1) := dk_42 (dk_at dksX6_climb_6 6 rfl rfl)
theorem dX6_climb_154 : decode cX6_climb 154 = .ok (.getfield 41, 3) := dk_180 0 41 (dk_at dksX6_climb_6 7 rfl rfl)
theorem dX6_climb_157 : decode cX6_climb 157 = .ok (.iconst 4, 1) := dk_7 (dk_at dksX6_climb_6 10 rfl rfl)
theorem dX6_climb_158 : decode cX6_climb 158 = .ok (.iload_n 1, 1) := dk_27 (dk_at dksX6_climb_6 11 rfl rfl)
theorem dX6_climb_159 : decode cX6_climb 159 = .ok (.imul, 1) := dk_104 (dk_at dksX6_climb_6 12 rfl rfl)
theorem dX6_climb_160 : decode cX6_climb 160 = .ok (.aload_n 0, 1) := dk_42 (dk_at dksX6_climb_6 13 rfl rfl)
theorem dX6_climb_161 : decode cX6_climb 161 = .ok (.getfield 13, 3) := dk_180 0 13 (dk_at dksX6_climb_6 14 rfl rfl)
theorem dX6_climb_164 : decode cX6_climb 164 = .ok (.iconst 4, 1) := dk_7 (dk_at dksX6_climb_6 17 rfl rfl)
theorem dX6_climb_165 : decode cX6_climb 165 = .ok (.irem, 1) := dk_112 (dk_at dksX6_climb_6 18 rfl rfl)
theorem dX6_climb_166 : decode cX6_climb 166 = .ok (.iadd, 1) := dk_96 (dk_at dksX6_climb_6 19 rfl rfl)
theorem dX6_climb_167 : decode cX6_climb 167 = .ok (.iaload, 1) := dk_46 (dk_at dksX6_climb_6 20 rfl rfl)
theorem dX6_climb_168 : decode cX6_climb 168 = .ok (.iadd, 1) := dk_96 (dk_at dksX6_climb_6 21 rfl rfl)
theorem dX6_climb_169 : decode cX6_climb 169 = .ok (.ireturn, 1) := dk_172 (dk_at dksX6_climb_6 22 rfl rfl)
theorem dX6_climb_170 : decode cX6_climb 170 = .ok (.iload_n 2, 1) := dk_28 (dk_at dksX6_climb_6 23 rfl rfl)
theorem dX6_climb_171 : decode cX6_climb 171 = .ok (.ireturn, 1) := dk_172 (dk_at dksX6_climb_7 0 rfl rfl)
abbrev cX6_told : ByteArray := prog_23_method_39_code
def yX6_told : MethodName := ⟨RX6, "told", "(I)I"⟩
def dkwX6_told_4 : List UInt8 := [172]
abbrev dktX6_told_4 : List UInt8 := dkwX6_told_4 ++ []
def dkwX6_told_3 : List UInt8 := [167, 0, 7, 42, 180, 0, 22, 172, 42, 180, 0, 25, 172, 42, 182, 1, 51, 172, 42, 182, 1, 54, 172, 2]
abbrev dktX6_told_3 : List UInt8 := dkwX6_told_3 ++ dktX6_told_4
def dkwX6_told_2 : List UInt8 := [42, 180, 0, 13, 172, 42, 180, 0, 16, 172, 42, 180, 0, 19, 172, 42, 180, 0, 22, 156, 0, 8, 16, 251]
abbrev dktX6_told_2 : List UInt8 := dkwX6_told_2 ++ dktX6_told_3
def dkwX6_told_1 : List UInt8 := [170, 0, 0, 0, 0, 0, 90, 0, 0, 0, 0, 0, 0, 0, 6, 0, 0, 0, 43, 0, 0, 0, 48, 0, 0, 0, 53, 0, 0, 0, 58, 0, 0, 0, 75, 0, 0, 0, 80, 0, 0, 0, 85]
abbrev dktX6_told_1 : List UInt8 := dkwX6_told_1 ++ dktX6_told_2
def dkwX6_told_0 : List UInt8 := [27]
abbrev dktX6_told_0 : List UInt8 := dkwX6_told_0 ++ dktX6_told_1
theorem dksX6_told_0 : cX6_told.data.toList.drop 0 = dktX6_told_0 := by decide +kernel
theorem dksX6_told_1 : cX6_told.data.toList.drop 1 = dktX6_told_1 := dk_seg dksX6_told_0 1 rfl rfl
theorem dksX6_told_2 : cX6_told.data.toList.drop 44 = dktX6_told_2 := dk_seg dksX6_told_1 43 rfl rfl
theorem dksX6_told_3 : cX6_told.data.toList.drop 68 = dktX6_told_3 := dk_seg dksX6_told_2 24 rfl rfl
theorem dksX6_told_4 : cX6_told.data.toList.drop 92 = dktX6_told_4 := dk_seg dksX6_told_3 24 rfl rfl
theorem dX6_told_0 : decode cX6_told 0 = .ok (.iload_n 1, 1) := dk_27 (dk_at dksX6_told_0 0 rfl rfl)
theorem dX6_told_1 : decode cX6_told 1 = .ok (.tableswitch 90 0 6 #[43, 48, 53, 58, 75, 80, 85], 43) := by decide +kernel
theorem dX6_told_44 : decode cX6_told 44 = .ok (.aload_n 0, 1) := dk_42 (dk_at dksX6_told_2 0 rfl rfl)
theorem dX6_told_45 : decode cX6_told 45 = .ok (.getfield 13, 3) := dk_180 0 13 (dk_at dksX6_told_2 1 rfl rfl)
theorem dX6_told_48 : decode cX6_told 48 = .ok (.ireturn, 1) := dk_172 (dk_at dksX6_told_2 4 rfl rfl)
theorem dX6_told_49 : decode cX6_told 49 = .ok (.aload_n 0, 1) := dk_42 (dk_at dksX6_told_2 5 rfl rfl)
theorem dX6_told_50 : decode cX6_told 50 = .ok (.getfield 16, 3) := dk_180 0 16 (dk_at dksX6_told_2 6 rfl rfl)
theorem dX6_told_53 : decode cX6_told 53 = .ok (.ireturn, 1) := dk_172 (dk_at dksX6_told_2 9 rfl rfl)
theorem dX6_told_54 : decode cX6_told 54 = .ok (.aload_n 0, 1) := dk_42 (dk_at dksX6_told_2 10 rfl rfl)
theorem dX6_told_55 : decode cX6_told 55 = .ok (.getfield 19, 3) := dk_180 0 19 (dk_at dksX6_told_2 11 rfl rfl)
theorem dX6_told_58 : decode cX6_told 58 = .ok (.ireturn, 1) := dk_172 (dk_at dksX6_told_2 14 rfl rfl)
theorem dX6_told_59 : decode cX6_told 59 = .ok (.aload_n 0, 1) := dk_42 (dk_at dksX6_told_2 15 rfl rfl)
theorem dX6_told_60 : decode cX6_told 60 = .ok (.getfield 22, 3) := dk_180 0 22 (dk_at dksX6_told_2 16 rfl rfl)
theorem dX6_told_63 : decode cX6_told 63 = .ok (.ifCond .ge 8, 3) := dk_156 0 8 (dk_at dksX6_told_2 19 rfl rfl)
theorem dX6_told_66 : decode cX6_told 66 = .ok (.bipush (-5), 2) := dk_16 251 (dk_at dksX6_told_2 22 rfl rfl)
theorem dX6_told_68 : decode cX6_told 68 = .ok (.goto 7, 3) := dk_167 0 7 (dk_at dksX6_told_3 0 rfl rfl)
theorem dX6_told_71 : decode cX6_told 71 = .ok (.aload_n 0, 1) := dk_42 (dk_at dksX6_told_3 3 rfl rfl)
theorem dX6_told_72 : decode cX6_told 72 = .ok (.getfield 22, 3) := dk_180 0 22 (dk_at dksX6_told_3 4 rfl rfl)
theorem dX6_told_75 : decode cX6_told 75 = .ok (.ireturn, 1) := dk_172 (dk_at dksX6_told_3 7 rfl rfl)
theorem dX6_told_76 : decode cX6_told 76 = .ok (.aload_n 0, 1) := dk_42 (dk_at dksX6_told_3 8 rfl rfl)
theorem dX6_told_77 : decode cX6_told 77 = .ok (.getfield 25, 3) := dk_180 0 25 (dk_at dksX6_told_3 9 rfl rfl)
theorem dX6_told_80 : decode cX6_told 80 = .ok (.ireturn, 1) := dk_172 (dk_at dksX6_told_3 12 rfl rfl)
theorem dX6_told_81 : decode cX6_told 81 = .ok (.aload_n 0, 1) := dk_42 (dk_at dksX6_told_3 13 rfl rfl)
theorem dX6_told_82 : decode cX6_told 82 = .ok (.invokevirtual 307, 3) := dk_182 1 51 (dk_at dksX6_told_3 14 rfl rfl)
theorem dX6_told_85 : decode cX6_told 85 = .ok (.ireturn, 1) := dk_172 (dk_at dksX6_told_3 17 rfl rfl)
theorem dX6_told_86 : decode cX6_told 86 = .ok (.aload_n 0, 1) := dk_42 (dk_at dksX6_told_3 18 rfl rfl)
theorem dX6_told_87 : decode cX6_told 87 = .ok (.invokevirtual 310, 3) := dk_182 1 54 (dk_at dksX6_told_3 19 rfl rfl)
theorem dX6_told_90 : decode cX6_told 90 = .ok (.ireturn, 1) := dk_172 (dk_at dksX6_told_3 22 rfl rfl)
theorem dX6_told_91 : decode cX6_told 91 = .ok (.iconst (-1), 1) := dk_2 (dk_at dksX6_told_3 23 rfl rfl)
theorem dX6_told_92 : decode cX6_told 92 = .ok (.ireturn, 1) := dk_172 (dk_at dksX6_told_4 0 rfl rfl)
abbrev cX6_base : ByteArray := prog_23_method_32_code
def yX6_base : MethodName := ⟨RX6, "base", "()I"⟩
def dkwX6_base_1 : List UInt8 := [27, 172]
abbrev dktX6_base_1 : List UInt8 := dkwX6_base_1 ++ []
def dkwX6_base_0 : List UInt8 := [16, 10, 42, 5, 16, 40, 182, 1, 35, 104, 60, 27, 17, 1, 144, 164, 0, 9, 17, 1, 144, 167, 0, 4]
abbrev dktX6_base_0 : List UInt8 := dkwX6_base_0 ++ dktX6_base_1
theorem dksX6_base_0 : cX6_base.data.toList.drop 0 = dktX6_base_0 := by decide +kernel
theorem dksX6_base_1 : cX6_base.data.toList.drop 24 = dktX6_base_1 := dk_seg dksX6_base_0 24 rfl rfl
theorem dX6_base_0 : decode cX6_base 0 = .ok (.bipush 10, 2) := dk_16 10 (dk_at dksX6_base_0 0 rfl rfl)
theorem dX6_base_2 : decode cX6_base 2 = .ok (.aload_n 0, 1) := dk_42 (dk_at dksX6_base_0 2 rfl rfl)
theorem dX6_base_3 : decode cX6_base 3 = .ok (.iconst 2, 1) := dk_5 (dk_at dksX6_base_0 3 rfl rfl)
theorem dX6_base_4 : decode cX6_base 4 = .ok (.bipush 40, 2) := dk_16 40 (dk_at dksX6_base_0 4 rfl rfl)
theorem dX6_base_6 : decode cX6_base 6 = .ok (.invokevirtual 291, 3) := dk_182 1 35 (dk_at dksX6_base_0 6 rfl rfl)
theorem dX6_base_9 : decode cX6_base 9 = .ok (.imul, 1) := dk_104 (dk_at dksX6_base_0 9 rfl rfl)
theorem dX6_base_10 : decode cX6_base 10 = .ok (.istore_n 1, 1) := dk_60 (dk_at dksX6_base_0 10 rfl rfl)
theorem dX6_base_11 : decode cX6_base 11 = .ok (.iload_n 1, 1) := dk_27 (dk_at dksX6_base_0 11 rfl rfl)
theorem dX6_base_12 : decode cX6_base 12 = .ok (.sipush 400, 3) := dk_17 1 144 (dk_at dksX6_base_0 12 rfl rfl)
theorem dX6_base_15 : decode cX6_base 15 = .ok (.if_icmp .le 9, 3) := dk_164 0 9 (dk_at dksX6_base_0 15 rfl rfl)
theorem dX6_base_18 : decode cX6_base 18 = .ok (.sipush 400, 3) := dk_17 1 144 (dk_at dksX6_base_0 18 rfl rfl)
theorem dX6_base_21 : decode cX6_base 21 = .ok (.goto 4, 3) := dk_167 0 4 (dk_at dksX6_base_0 21 rfl rfl)
theorem dX6_base_24 : decode cX6_base 24 = .ok (.iload_n 1, 1) := dk_27 (dk_at dksX6_base_1 0 rfl rfl)
theorem dX6_base_25 : decode cX6_base 25 = .ok (.ireturn, 1) := dk_172 (dk_at dksX6_base_1 1 rfl rfl)
abbrev cX6_lastOf : ByteArray := prog_23_method_31_code
def yX6_lastOf : MethodName := ⟨RX6, "lastOf", "(II)I"⟩
def dkwX6_lastOf_1 : List UInt8 := [27, 160, 0, 13, 42, 180, 0, 68, 21, 4, 46, 167, 0, 4, 29, 62, 132, 4, 1, 167, 255, 221, 29, 172]
abbrev dktX6_lastOf_1 : List UInt8 := dkwX6_lastOf_1 ++ []
def dkwX6_lastOf_0 : List UInt8 := [28, 62, 42, 182, 1, 29, 54, 4, 21, 4, 42, 182, 1, 32, 162, 0, 32, 42, 180, 0, 65, 21, 4, 46]
abbrev dktX6_lastOf_0 : List UInt8 := dkwX6_lastOf_0 ++ dktX6_lastOf_1
theorem dksX6_lastOf_0 : cX6_lastOf.data.toList.drop 0 = dktX6_lastOf_0 := by decide +kernel
theorem dksX6_lastOf_1 : cX6_lastOf.data.toList.drop 24 = dktX6_lastOf_1 := dk_seg dksX6_lastOf_0 24 rfl rfl
theorem dX6_lastOf_0 : decode cX6_lastOf 0 = .ok (.iload_n 2, 1) := dk_28 (dk_at dksX6_lastOf_0 0 rfl rfl)
theorem dX6_lastOf_1 : decode cX6_lastOf 1 = .ok (.istore_n 3, 1) := dk_62 (dk_at dksX6_lastOf_0 1 rfl rfl)
theorem dX6_lastOf_2 : decode cX6_lastOf 2 = .ok (.aload_n 0, 1) := dk_42 (dk_at dksX6_lastOf_0 2 rfl rfl)
theorem dX6_lastOf_3 : decode cX6_lastOf 3 = .ok (.invokevirtual 285, 3) := dk_182 1 29 (dk_at dksX6_lastOf_0 3 rfl rfl)
theorem dX6_lastOf_6 : decode cX6_lastOf 6 = .ok (.istore 4, 2) := dk_54 4 (dk_at dksX6_lastOf_0 6 rfl rfl)
theorem dX6_lastOf_8 : decode cX6_lastOf 8 = .ok (.iload 4, 2) := dk_21 4 (dk_at dksX6_lastOf_0 8 rfl rfl)
theorem dX6_lastOf_10 : decode cX6_lastOf 10 = .ok (.aload_n 0, 1) := dk_42 (dk_at dksX6_lastOf_0 10 rfl rfl)
theorem dX6_lastOf_11 : decode cX6_lastOf 11 = .ok (.invokevirtual 288, 3) := dk_182 1 32 (dk_at dksX6_lastOf_0 11 rfl rfl)
theorem dX6_lastOf_14 : decode cX6_lastOf 14 = .ok (.if_icmp .ge 32, 3) := dk_162 0 32 (dk_at dksX6_lastOf_0 14 rfl rfl)
theorem dX6_lastOf_17 : decode cX6_lastOf 17 = .ok (.aload_n 0, 1) := dk_42 (dk_at dksX6_lastOf_0 17 rfl rfl)
theorem dX6_lastOf_18 : decode cX6_lastOf 18 = .ok (.getfield 65, 3) := dk_180 0 65 (dk_at dksX6_lastOf_0 18 rfl rfl)
theorem dX6_lastOf_21 : decode cX6_lastOf 21 = .ok (.iload 4, 2) := dk_21 4 (dk_at dksX6_lastOf_0 21 rfl rfl)
theorem dX6_lastOf_23 : decode cX6_lastOf 23 = .ok (.iaload, 1) := dk_46 (dk_at dksX6_lastOf_0 23 rfl rfl)
theorem dX6_lastOf_24 : decode cX6_lastOf 24 = .ok (.iload_n 1, 1) := dk_27 (dk_at dksX6_lastOf_1 0 rfl rfl)
theorem dX6_lastOf_25 : decode cX6_lastOf 25 = .ok (.if_icmp .ne 13, 3) := dk_160 0 13 (dk_at dksX6_lastOf_1 1 rfl rfl)
theorem dX6_lastOf_28 : decode cX6_lastOf 28 = .ok (.aload_n 0, 1) := dk_42 (dk_at dksX6_lastOf_1 4 rfl rfl)
theorem dX6_lastOf_29 : decode cX6_lastOf 29 = .ok (.getfield 68, 3) := dk_180 0 68 (dk_at dksX6_lastOf_1 5 rfl rfl)
theorem dX6_lastOf_32 : decode cX6_lastOf 32 = .ok (.iload 4, 2) := dk_21 4 (dk_at dksX6_lastOf_1 8 rfl rfl)
theorem dX6_lastOf_34 : decode cX6_lastOf 34 = .ok (.iaload, 1) := dk_46 (dk_at dksX6_lastOf_1 10 rfl rfl)
theorem dX6_lastOf_35 : decode cX6_lastOf 35 = .ok (.goto 4, 3) := dk_167 0 4 (dk_at dksX6_lastOf_1 11 rfl rfl)
theorem dX6_lastOf_38 : decode cX6_lastOf 38 = .ok (.iload_n 3, 1) := dk_29 (dk_at dksX6_lastOf_1 14 rfl rfl)
theorem dX6_lastOf_39 : decode cX6_lastOf 39 = .ok (.istore_n 3, 1) := dk_62 (dk_at dksX6_lastOf_1 15 rfl rfl)
theorem dX6_lastOf_40 : decode cX6_lastOf 40 = .ok (.iinc 4 1, 3) := dk_132 4 1 (dk_at dksX6_lastOf_1 16 rfl rfl)
theorem dX6_lastOf_43 : decode cX6_lastOf 43 = .ok (.goto (-35), 3) := dk_167 255 221 (dk_at dksX6_lastOf_1 19 rfl rfl)
theorem dX6_lastOf_46 : decode cX6_lastOf 46 = .ok (.iload_n 3, 1) := dk_29 (dk_at dksX6_lastOf_1 22 rfl rfl)
theorem dX6_lastOf_47 : decode cX6_lastOf 47 = .ok (.ireturn, 1) := dk_172 (dk_at dksX6_lastOf_1 23 rfl rfl)
abbrev cX6_safe : ByteArray := prog_23_method_33_code
def yX6_safe : MethodName := ⟨RX6, "safe", "()I"⟩
def dkwX6_safe_0 : List UInt8 := [16, 10, 42, 6, 16, 8, 182, 1, 35, 104, 172]
abbrev dktX6_safe_0 : List UInt8 := dkwX6_safe_0 ++ []
theorem dksX6_safe_0 : cX6_safe.data.toList.drop 0 = dktX6_safe_0 := by decide +kernel
theorem dX6_safe_0 : decode cX6_safe 0 = .ok (.bipush 10, 2) := dk_16 10 (dk_at dksX6_safe_0 0 rfl rfl)
theorem dX6_safe_2 : decode cX6_safe 2 = .ok (.aload_n 0, 1) := dk_42 (dk_at dksX6_safe_0 2 rfl rfl)
theorem dX6_safe_3 : decode cX6_safe 3 = .ok (.iconst 3, 1) := dk_6 (dk_at dksX6_safe_0 3 rfl rfl)
theorem dX6_safe_4 : decode cX6_safe 4 = .ok (.bipush 8, 2) := dk_16 8 (dk_at dksX6_safe_0 4 rfl rfl)
theorem dX6_safe_6 : decode cX6_safe 6 = .ok (.invokevirtual 291, 3) := dk_182 1 35 (dk_at dksX6_safe_0 6 rfl rfl)
theorem dX6_safe_9 : decode cX6_safe 9 = .ok (.imul, 1) := dk_104 (dk_at dksX6_safe_0 9 rfl rfl)
theorem dX6_safe_10 : decode cX6_safe 10 = .ok (.ireturn, 1) := dk_172 (dk_at dksX6_safe_0 10 rfl rfl)
abbrev cX6_enter : ByteArray := prog_23_method_43_code
def yX6_enter : MethodName := ⟨RX6, "enter", "(I)I"⟩
def dkwX6_enter_1 : List UInt8 := [159, 0, 7, 17, 252, 22, 172, 42, 27, 181, 0, 22, 42, 27, 182, 1, 48, 172]
abbrev dktX6_enter_1 : List UInt8 := dkwX6_enter_1 ++ []
def dkwX6_enter_0 : List UInt8 := [42, 27, 182, 0, 235, 154, 0, 7, 17, 252, 23, 172, 42, 180, 0, 35, 27, 46, 42, 180, 0, 16]
abbrev dktX6_enter_0 : List UInt8 := dkwX6_enter_0 ++ dktX6_enter_1
theorem dksX6_enter_0 : cX6_enter.data.toList.drop 0 = dktX6_enter_0 := by decide +kernel
theorem dksX6_enter_1 : cX6_enter.data.toList.drop 22 = dktX6_enter_1 := dk_seg dksX6_enter_0 22 rfl rfl
theorem dX6_enter_0 : decode cX6_enter 0 = .ok (.aload_n 0, 1) := dk_42 (dk_at dksX6_enter_0 0 rfl rfl)
theorem dX6_enter_1 : decode cX6_enter 1 = .ok (.iload_n 1, 1) := dk_27 (dk_at dksX6_enter_0 1 rfl rfl)
theorem dX6_enter_2 : decode cX6_enter 2 = .ok (.invokevirtual 235, 3) := dk_182 0 235 (dk_at dksX6_enter_0 2 rfl rfl)
theorem dX6_enter_5 : decode cX6_enter 5 = .ok (.ifCond .ne 7, 3) := dk_154 0 7 (dk_at dksX6_enter_0 5 rfl rfl)
theorem dX6_enter_8 : decode cX6_enter 8 = .ok (.sipush (-1001), 3) := dk_17 252 23 (dk_at dksX6_enter_0 8 rfl rfl)
theorem dX6_enter_11 : decode cX6_enter 11 = .ok (.ireturn, 1) := dk_172 (dk_at dksX6_enter_0 11 rfl rfl)
theorem dX6_enter_12 : decode cX6_enter 12 = .ok (.aload_n 0, 1) := dk_42 (dk_at dksX6_enter_0 12 rfl rfl)
theorem dX6_enter_13 : decode cX6_enter 13 = .ok (.getfield 35, 3) := dk_180 0 35 (dk_at dksX6_enter_0 13 rfl rfl)
theorem dX6_enter_16 : decode cX6_enter 16 = .ok (.iload_n 1, 1) := dk_27 (dk_at dksX6_enter_0 16 rfl rfl)
theorem dX6_enter_17 : decode cX6_enter 17 = .ok (.iaload, 1) := dk_46 (dk_at dksX6_enter_0 17 rfl rfl)
theorem dX6_enter_18 : decode cX6_enter 18 = .ok (.aload_n 0, 1) := dk_42 (dk_at dksX6_enter_0 18 rfl rfl)
theorem dX6_enter_19 : decode cX6_enter 19 = .ok (.getfield 16, 3) := dk_180 0 16 (dk_at dksX6_enter_0 19 rfl rfl)
theorem dX6_enter_22 : decode cX6_enter 22 = .ok (.if_icmp .eq 7, 3) := dk_159 0 7 (dk_at dksX6_enter_1 0 rfl rfl)
theorem dX6_enter_25 : decode cX6_enter 25 = .ok (.sipush (-1002), 3) := dk_17 252 22 (dk_at dksX6_enter_1 3 rfl rfl)
theorem dX6_enter_28 : decode cX6_enter 28 = .ok (.ireturn, 1) := dk_172 (dk_at dksX6_enter_1 6 rfl rfl)
theorem dX6_enter_29 : decode cX6_enter 29 = .ok (.aload_n 0, 1) := dk_42 (dk_at dksX6_enter_1 7 rfl rfl)
theorem dX6_enter_30 : decode cX6_enter 30 = .ok (.iload_n 1, 1) := dk_27 (dk_at dksX6_enter_1 8 rfl rfl)
theorem dX6_enter_31 : decode cX6_enter 31 = .ok (.putfield 22, 3) := dk_181 0 22 (dk_at dksX6_enter_1 9 rfl rfl)
theorem dX6_enter_34 : decode cX6_enter 34 = .ok (.aload_n 0, 1) := dk_42 (dk_at dksX6_enter_1 12 rfl rfl)
theorem dX6_enter_35 : decode cX6_enter 35 = .ok (.iload_n 1, 1) := dk_27 (dk_at dksX6_enter_1 13 rfl rfl)
theorem dX6_enter_36 : decode cX6_enter 36 = .ok (.invokevirtual 304, 3) := dk_182 1 48 (dk_at dksX6_enter_1 14 rfl rfl)
theorem dX6_enter_39 : decode cX6_enter 39 = .ok (.ireturn, 1) := dk_172 (dk_at dksX6_enter_1 17 rfl rfl)
abbrev cX6_turn : ByteArray := prog_23_method_44_code
def yX6_turn : MethodName := ⟨RX6, "turn", "(I)I"⟩
def dkwX6_turn_2 : List UInt8 := [132, 2, 1, 167, 255, 240, 42, 180, 0, 19, 172]
abbrev dktX6_turn_2 : List UInt8 := dkwX6_turn_2 ++ []
def dkwX6_turn_1 : List UInt8 := [17, 39, 15, 164, 0, 6, 16, 253, 172, 3, 61, 28, 27, 162, 0, 17, 42, 42, 180, 0, 22, 182, 1, 67]
abbrev dktX6_turn_1 : List UInt8 := dkwX6_turn_1 ++ dktX6_turn_2
def dkwX6_turn_0 : List UInt8 := [42, 27, 182, 1, 64, 154, 0, 6, 16, 254, 172, 42, 180, 0, 22, 155, 0, 15, 42, 180, 0, 13, 27, 96]
abbrev dktX6_turn_0 : List UInt8 := dkwX6_turn_0 ++ dktX6_turn_1
theorem dksX6_turn_0 : cX6_turn.data.toList.drop 0 = dktX6_turn_0 := by decide +kernel
theorem dksX6_turn_1 : cX6_turn.data.toList.drop 24 = dktX6_turn_1 := dk_seg dksX6_turn_0 24 rfl rfl
theorem dksX6_turn_2 : cX6_turn.data.toList.drop 48 = dktX6_turn_2 := dk_seg dksX6_turn_1 24 rfl rfl
theorem dX6_turn_0 : decode cX6_turn 0 = .ok (.aload_n 0, 1) := dk_42 (dk_at dksX6_turn_0 0 rfl rfl)
theorem dX6_turn_1 : decode cX6_turn 1 = .ok (.iload_n 1, 1) := dk_27 (dk_at dksX6_turn_0 1 rfl rfl)
theorem dX6_turn_2 : decode cX6_turn 2 = .ok (.invokevirtual 320, 3) := dk_182 1 64 (dk_at dksX6_turn_0 2 rfl rfl)
theorem dX6_turn_5 : decode cX6_turn 5 = .ok (.ifCond .ne 6, 3) := dk_154 0 6 (dk_at dksX6_turn_0 5 rfl rfl)
theorem dX6_turn_8 : decode cX6_turn 8 = .ok (.bipush (-2), 2) := dk_16 254 (dk_at dksX6_turn_0 8 rfl rfl)
theorem dX6_turn_10 : decode cX6_turn 10 = .ok (.ireturn, 1) := dk_172 (dk_at dksX6_turn_0 10 rfl rfl)
theorem dX6_turn_11 : decode cX6_turn 11 = .ok (.aload_n 0, 1) := dk_42 (dk_at dksX6_turn_0 11 rfl rfl)
theorem dX6_turn_12 : decode cX6_turn 12 = .ok (.getfield 22, 3) := dk_180 0 22 (dk_at dksX6_turn_0 12 rfl rfl)
theorem dX6_turn_15 : decode cX6_turn 15 = .ok (.ifCond .lt 15, 3) := dk_155 0 15 (dk_at dksX6_turn_0 15 rfl rfl)
theorem dX6_turn_18 : decode cX6_turn 18 = .ok (.aload_n 0, 1) := dk_42 (dk_at dksX6_turn_0 18 rfl rfl)
theorem dX6_turn_19 : decode cX6_turn 19 = .ok (.getfield 13, 3) := dk_180 0 13 (dk_at dksX6_turn_0 19 rfl rfl)
theorem dX6_turn_22 : decode cX6_turn 22 = .ok (.iload_n 1, 1) := dk_27 (dk_at dksX6_turn_0 22 rfl rfl)
theorem dX6_turn_23 : decode cX6_turn 23 = .ok (.iadd, 1) := dk_96 (dk_at dksX6_turn_0 23 rfl rfl)
theorem dX6_turn_24 : decode cX6_turn 24 = .ok (.sipush 9999, 3) := dk_17 39 15 (dk_at dksX6_turn_1 0 rfl rfl)
theorem dX6_turn_27 : decode cX6_turn 27 = .ok (.if_icmp .le 6, 3) := dk_164 0 6 (dk_at dksX6_turn_1 3 rfl rfl)
theorem dX6_turn_30 : decode cX6_turn 30 = .ok (.bipush (-3), 2) := dk_16 253 (dk_at dksX6_turn_1 6 rfl rfl)
theorem dX6_turn_32 : decode cX6_turn 32 = .ok (.ireturn, 1) := dk_172 (dk_at dksX6_turn_1 8 rfl rfl)
theorem dX6_turn_33 : decode cX6_turn 33 = .ok (.iconst 0, 1) := dk_3 (dk_at dksX6_turn_1 9 rfl rfl)
theorem dX6_turn_34 : decode cX6_turn 34 = .ok (.istore_n 2, 1) := dk_61 (dk_at dksX6_turn_1 10 rfl rfl)
theorem dX6_turn_35 : decode cX6_turn 35 = .ok (.iload_n 2, 1) := dk_28 (dk_at dksX6_turn_1 11 rfl rfl)
theorem dX6_turn_36 : decode cX6_turn 36 = .ok (.iload_n 1, 1) := dk_27 (dk_at dksX6_turn_1 12 rfl rfl)
theorem dX6_turn_37 : decode cX6_turn 37 = .ok (.if_icmp .ge 17, 3) := dk_162 0 17 (dk_at dksX6_turn_1 13 rfl rfl)
theorem dX6_turn_40 : decode cX6_turn 40 = .ok (.aload_n 0, 1) := dk_42 (dk_at dksX6_turn_1 16 rfl rfl)
theorem dX6_turn_41 : decode cX6_turn 41 = .ok (.aload_n 0, 1) := dk_42 (dk_at dksX6_turn_1 17 rfl rfl)
theorem dX6_turn_42 : decode cX6_turn 42 = .ok (.getfield 22, 3) := dk_180 0 22 (dk_at dksX6_turn_1 18 rfl rfl)
theorem dX6_turn_45 : decode cX6_turn 45 = .ok (.invokevirtual 323, 3) := dk_182 1 67 (dk_at dksX6_turn_1 21 rfl rfl)
theorem dX6_turn_48 : decode cX6_turn 48 = .ok (.iinc 2 1, 3) := dk_132 2 1 (dk_at dksX6_turn_2 0 rfl rfl)
theorem dX6_turn_51 : decode cX6_turn 51 = .ok (.goto (-16), 3) := dk_167 255 240 (dk_at dksX6_turn_2 3 rfl rfl)
theorem dX6_turn_54 : decode cX6_turn 54 = .ok (.aload_n 0, 1) := dk_42 (dk_at dksX6_turn_2 6 rfl rfl)
theorem dX6_turn_55 : decode cX6_turn 55 = .ok (.getfield 19, 3) := dk_180 0 19 (dk_at dksX6_turn_2 7 rfl rfl)
theorem dX6_turn_58 : decode cX6_turn 58 = .ok (.ireturn, 1) := dk_172 (dk_at dksX6_turn_2 10 rfl rfl)
abbrev cX6_isTime : ByteArray := prog_23_method_7_code
def yX6_isTime : MethodName := ⟨RX6, "isTime", "(I)Z"⟩
def dkwX6_isTime_0 : List UInt8 := [42, 27, 3, 16, 60, 182, 0, 227, 172]
abbrev dktX6_isTime_0 : List UInt8 := dkwX6_isTime_0 ++ []
theorem dksX6_isTime_0 : cX6_isTime.data.toList.drop 0 = dktX6_isTime_0 := by decide +kernel
theorem dX6_isTime_0 : decode cX6_isTime 0 = .ok (.aload_n 0, 1) := dk_42 (dk_at dksX6_isTime_0 0 rfl rfl)
theorem dX6_isTime_1 : decode cX6_isTime 1 = .ok (.iload_n 1, 1) := dk_27 (dk_at dksX6_isTime_0 1 rfl rfl)
theorem dX6_isTime_2 : decode cX6_isTime 2 = .ok (.iconst 0, 1) := dk_3 (dk_at dksX6_isTime_0 2 rfl rfl)
theorem dX6_isTime_3 : decode cX6_isTime 3 = .ok (.bipush 60, 2) := dk_16 60 (dk_at dksX6_isTime_0 3 rfl rfl)
theorem dX6_isTime_5 : decode cX6_isTime 5 = .ok (.invokevirtual 227, 3) := dk_182 0 227 (dk_at dksX6_isTime_0 5 rfl rfl)
theorem dX6_isTime_8 : decode cX6_isTime 8 = .ok (.ireturn, 1) := dk_172 (dk_at dksX6_isTime_0 8 rfl rfl)
abbrev cX6_goMinute : ByteArray := prog_23_method_40_code
def yX6_goMinute : MethodName := ⟨RX6, "goMinute", "(I)V"⟩
def dkwX6_goMinute_3 : List UInt8 := [96, 181, 0, 13, 177]
abbrev dktX6_goMinute_3 : List UInt8 := dkwX6_goMinute_3 ++ []
def dkwX6_goMinute_2 : List UInt8 := [29, 167, 0, 14, 21, 4, 156, 0, 7, 3, 167, 0, 5, 21, 4, 181, 0, 19, 42, 89, 180, 0, 13, 4]
abbrev dktX6_goMinute_2 : List UInt8 := dkwX6_goMinute_2 ++ dktX6_goMinute_3
def dkwX6_goMinute_1 : List UInt8 := [42, 180, 0, 19, 62, 42, 180, 0, 19, 28, 96, 54, 4, 42, 28, 158, 0, 13, 21, 4, 29, 164, 0, 7]
abbrev dktX6_goMinute_1 : List UInt8 := dkwX6_goMinute_1 ++ dktX6_goMinute_2
def dkwX6_goMinute_0 : List UInt8 := [42, 27, 182, 1, 48, 61, 42, 182, 1, 51, 42, 180, 0, 19, 164, 0, 10, 42, 182, 1, 51, 167, 0, 7]
abbrev dktX6_goMinute_0 : List UInt8 := dkwX6_goMinute_0 ++ dktX6_goMinute_1
theorem dksX6_goMinute_0 : cX6_goMinute.data.toList.drop 0 = dktX6_goMinute_0 := by decide +kernel
theorem dksX6_goMinute_1 : cX6_goMinute.data.toList.drop 24 = dktX6_goMinute_1 := dk_seg dksX6_goMinute_0 24 rfl rfl
theorem dksX6_goMinute_2 : cX6_goMinute.data.toList.drop 48 = dktX6_goMinute_2 := dk_seg dksX6_goMinute_1 24 rfl rfl
theorem dksX6_goMinute_3 : cX6_goMinute.data.toList.drop 72 = dktX6_goMinute_3 := dk_seg dksX6_goMinute_2 24 rfl rfl
theorem dX6_goMinute_0 : decode cX6_goMinute 0 = .ok (.aload_n 0, 1) := dk_42 (dk_at dksX6_goMinute_0 0 rfl rfl)
theorem dX6_goMinute_1 : decode cX6_goMinute 1 = .ok (.iload_n 1, 1) := dk_27 (dk_at dksX6_goMinute_0 1 rfl rfl)
theorem dX6_goMinute_2 : decode cX6_goMinute 2 = .ok (.invokevirtual 304, 3) := dk_182 1 48 (dk_at dksX6_goMinute_0 2 rfl rfl)
theorem dX6_goMinute_5 : decode cX6_goMinute 5 = .ok (.istore_n 2, 1) := dk_61 (dk_at dksX6_goMinute_0 5 rfl rfl)
theorem dX6_goMinute_6 : decode cX6_goMinute 6 = .ok (.aload_n 0, 1) := dk_42 (dk_at dksX6_goMinute_0 6 rfl rfl)
theorem dX6_goMinute_7 : decode cX6_goMinute 7 = .ok (.invokevirtual 307, 3) := dk_182 1 51 (dk_at dksX6_goMinute_0 7 rfl rfl)
theorem dX6_goMinute_10 : decode cX6_goMinute 10 = .ok (.aload_n 0, 1) := dk_42 (dk_at dksX6_goMinute_0 10 rfl rfl)
theorem dX6_goMinute_11 : decode cX6_goMinute 11 = .ok (.getfield 19, 3) := dk_180 0 19 (dk_at dksX6_goMinute_0 11 rfl rfl)
theorem dX6_goMinute_14 : decode cX6_goMinute 14 = .ok (.if_icmp .le 10, 3) := dk_164 0 10 (dk_at dksX6_goMinute_0 14 rfl rfl)
theorem dX6_goMinute_17 : decode cX6_goMinute 17 = .ok (.aload_n 0, 1) := dk_42 (dk_at dksX6_goMinute_0 17 rfl rfl)
theorem dX6_goMinute_18 : decode cX6_goMinute 18 = .ok (.invokevirtual 307, 3) := dk_182 1 51 (dk_at dksX6_goMinute_0 18 rfl rfl)
theorem dX6_goMinute_21 : decode cX6_goMinute 21 = .ok (.goto 7, 3) := dk_167 0 7 (dk_at dksX6_goMinute_0 21 rfl rfl)
theorem dX6_goMinute_24 : decode cX6_goMinute 24 = .ok (.aload_n 0, 1) := dk_42 (dk_at dksX6_goMinute_1 0 rfl rfl)
theorem dX6_goMinute_25 : decode cX6_goMinute 25 = .ok (.getfield 19, 3) := dk_180 0 19 (dk_at dksX6_goMinute_1 1 rfl rfl)
theorem dX6_goMinute_28 : decode cX6_goMinute 28 = .ok (.istore_n 3, 1) := dk_62 (dk_at dksX6_goMinute_1 4 rfl rfl)
theorem dX6_goMinute_29 : decode cX6_goMinute 29 = .ok (.aload_n 0, 1) := dk_42 (dk_at dksX6_goMinute_1 5 rfl rfl)
theorem dX6_goMinute_30 : decode cX6_goMinute 30 = .ok (.getfield 19, 3) := dk_180 0 19 (dk_at dksX6_goMinute_1 6 rfl rfl)
theorem dX6_goMinute_33 : decode cX6_goMinute 33 = .ok (.iload_n 2, 1) := dk_28 (dk_at dksX6_goMinute_1 9 rfl rfl)
theorem dX6_goMinute_34 : decode cX6_goMinute 34 = .ok (.iadd, 1) := dk_96 (dk_at dksX6_goMinute_1 10 rfl rfl)
theorem dX6_goMinute_35 : decode cX6_goMinute 35 = .ok (.istore 4, 2) := dk_54 4 (dk_at dksX6_goMinute_1 11 rfl rfl)
theorem dX6_goMinute_37 : decode cX6_goMinute 37 = .ok (.aload_n 0, 1) := dk_42 (dk_at dksX6_goMinute_1 13 rfl rfl)
theorem dX6_goMinute_38 : decode cX6_goMinute 38 = .ok (.iload_n 2, 1) := dk_28 (dk_at dksX6_goMinute_1 14 rfl rfl)
theorem dX6_goMinute_39 : decode cX6_goMinute 39 = .ok (.ifCond .le 13, 3) := dk_158 0 13 (dk_at dksX6_goMinute_1 15 rfl rfl)
theorem dX6_goMinute_42 : decode cX6_goMinute 42 = .ok (.iload 4, 2) := dk_21 4 (dk_at dksX6_goMinute_1 18 rfl rfl)
theorem dX6_goMinute_44 : decode cX6_goMinute 44 = .ok (.iload_n 3, 1) := dk_29 (dk_at dksX6_goMinute_1 20 rfl rfl)
theorem dX6_goMinute_45 : decode cX6_goMinute 45 = .ok (.if_icmp .le 7, 3) := dk_164 0 7 (dk_at dksX6_goMinute_1 21 rfl rfl)
theorem dX6_goMinute_48 : decode cX6_goMinute 48 = .ok (.iload_n 3, 1) := dk_29 (dk_at dksX6_goMinute_2 0 rfl rfl)
theorem dX6_goMinute_49 : decode cX6_goMinute 49 = .ok (.goto 14, 3) := dk_167 0 14 (dk_at dksX6_goMinute_2 1 rfl rfl)
theorem dX6_goMinute_52 : decode cX6_goMinute 52 = .ok (.iload 4, 2) := dk_21 4 (dk_at dksX6_goMinute_2 4 rfl rfl)
theorem dX6_goMinute_54 : decode cX6_goMinute 54 = .ok (.ifCond .ge 7, 3) := dk_156 0 7 (dk_at dksX6_goMinute_2 6 rfl rfl)
theorem dX6_goMinute_57 : decode cX6_goMinute 57 = .ok (.iconst 0, 1) := dk_3 (dk_at dksX6_goMinute_2 9 rfl rfl)
theorem dX6_goMinute_58 : decode cX6_goMinute 58 = .ok (.goto 5, 3) := dk_167 0 5 (dk_at dksX6_goMinute_2 10 rfl rfl)
theorem dX6_goMinute_61 : decode cX6_goMinute 61 = .ok (.iload 4, 2) := dk_21 4 (dk_at dksX6_goMinute_2 13 rfl rfl)
theorem dX6_goMinute_63 : decode cX6_goMinute 63 = .ok (.putfield 19, 3) := dk_181 0 19 (dk_at dksX6_goMinute_2 15 rfl rfl)
theorem dX6_goMinute_66 : decode cX6_goMinute 66 = .ok (.aload_n 0, 1) := dk_42 (dk_at dksX6_goMinute_2 18 rfl rfl)
theorem dX6_goMinute_67 : decode cX6_goMinute 67 = .ok (.dup, 1) := dk_89 (dk_at dksX6_goMinute_2 19 rfl rfl)
theorem dX6_goMinute_68 : decode cX6_goMinute 68 = .ok (.getfield 13, 3) := dk_180 0 13 (dk_at dksX6_goMinute_2 20 rfl rfl)
theorem dX6_goMinute_71 : decode cX6_goMinute 71 = .ok (.iconst 1, 1) := dk_4 (dk_at dksX6_goMinute_2 23 rfl rfl)
theorem dX6_goMinute_72 : decode cX6_goMinute 72 = .ok (.iadd, 1) := dk_96 (dk_at dksX6_goMinute_3 0 rfl rfl)
theorem dX6_goMinute_73 : decode cX6_goMinute 73 = .ok (.putfield 13, 3) := dk_181 0 13 (dk_at dksX6_goMinute_3 1 rfl rfl)
theorem dX6_goMinute_76 : decode cX6_goMinute 76 = .ok (.return_, 1) := dk_177 (dk_at dksX6_goMinute_3 4 rfl rfl)
abbrev cX6_glide : ByteArray := prog_23_method_45_code
def yX6_glide : MethodName := ⟨RX6, "glide", "(II)I"⟩
def dkwX6_glide_2 : List UInt8 := [182, 1, 73, 154, 0, 6, 16, 253, 172, 42, 2, 181, 0, 22, 42, 180, 0, 19, 172]
abbrev dktX6_glide_2 : List UInt8 := dkwX6_glide_2 ++ []
def dkwX6_glide_1 : List UInt8 := [42, 180, 0, 16, 27, 182, 1, 57, 16, 10, 28, 100, 104, 96, 17, 39, 15, 163, 0, 12, 42, 27, 28]
abbrev dktX6_glide_1 : List UInt8 := dkwX6_glide_1 ++ dktX6_glide_2
def dkwX6_glide_0 : List UInt8 := [42, 27, 182, 0, 231, 153, 0, 11, 42, 28, 182, 1, 70, 154, 0, 6, 16, 254, 172, 42, 180, 0, 13, 42]
abbrev dktX6_glide_0 : List UInt8 := dkwX6_glide_0 ++ dktX6_glide_1
theorem dksX6_glide_0 : cX6_glide.data.toList.drop 0 = dktX6_glide_0 := by decide +kernel
theorem dksX6_glide_1 : cX6_glide.data.toList.drop 24 = dktX6_glide_1 := dk_seg dksX6_glide_0 24 rfl rfl
theorem dksX6_glide_2 : cX6_glide.data.toList.drop 47 = dktX6_glide_2 := dk_seg dksX6_glide_1 23 rfl rfl
theorem dX6_glide_0 : decode cX6_glide 0 = .ok (.aload_n 0, 1) := dk_42 (dk_at dksX6_glide_0 0 rfl rfl)
theorem dX6_glide_1 : decode cX6_glide 1 = .ok (.iload_n 1, 1) := dk_27 (dk_at dksX6_glide_0 1 rfl rfl)
theorem dX6_glide_2 : decode cX6_glide 2 = .ok (.invokevirtual 231, 3) := dk_182 0 231 (dk_at dksX6_glide_0 2 rfl rfl)
theorem dX6_glide_5 : decode cX6_glide 5 = .ok (.ifCond .eq 11, 3) := dk_153 0 11 (dk_at dksX6_glide_0 5 rfl rfl)
theorem dX6_glide_8 : decode cX6_glide 8 = .ok (.aload_n 0, 1) := dk_42 (dk_at dksX6_glide_0 8 rfl rfl)
theorem dX6_glide_9 : decode cX6_glide 9 = .ok (.iload_n 2, 1) := dk_28 (dk_at dksX6_glide_0 9 rfl rfl)
theorem dX6_glide_10 : decode cX6_glide 10 = .ok (.invokevirtual 326, 3) := dk_182 1 70 (dk_at dksX6_glide_0 10 rfl rfl)
theorem dX6_glide_13 : decode cX6_glide 13 = .ok (.ifCond .ne 6, 3) := dk_154 0 6 (dk_at dksX6_glide_0 13 rfl rfl)
theorem dX6_glide_16 : decode cX6_glide 16 = .ok (.bipush (-2), 2) := dk_16 254 (dk_at dksX6_glide_0 16 rfl rfl)
theorem dX6_glide_18 : decode cX6_glide 18 = .ok (.ireturn, 1) := dk_172 (dk_at dksX6_glide_0 18 rfl rfl)
theorem dX6_glide_19 : decode cX6_glide 19 = .ok (.aload_n 0, 1) := dk_42 (dk_at dksX6_glide_0 19 rfl rfl)
theorem dX6_glide_20 : decode cX6_glide 20 = .ok (.getfield 13, 3) := dk_180 0 13 (dk_at dksX6_glide_0 20 rfl rfl)
theorem dX6_glide_23 : decode cX6_glide 23 = .ok (.aload_n 0, 1) := dk_42 (dk_at dksX6_glide_0 23 rfl rfl)
theorem dX6_glide_24 : decode cX6_glide 24 = .ok (.aload_n 0, 1) := dk_42 (dk_at dksX6_glide_1 0 rfl rfl)
theorem dX6_glide_25 : decode cX6_glide 25 = .ok (.getfield 16, 3) := dk_180 0 16 (dk_at dksX6_glide_1 1 rfl rfl)
theorem dX6_glide_28 : decode cX6_glide 28 = .ok (.iload_n 1, 1) := dk_27 (dk_at dksX6_glide_1 4 rfl rfl)
theorem dX6_glide_29 : decode cX6_glide 29 = .ok (.invokevirtual 313, 3) := dk_182 1 57 (dk_at dksX6_glide_1 5 rfl rfl)
theorem dX6_glide_32 : decode cX6_glide 32 = .ok (.bipush 10, 2) := dk_16 10 (dk_at dksX6_glide_1 8 rfl rfl)
theorem dX6_glide_34 : decode cX6_glide 34 = .ok (.iload_n 2, 1) := dk_28 (dk_at dksX6_glide_1 10 rfl rfl)
theorem dX6_glide_35 : decode cX6_glide 35 = .ok (.isub, 1) := dk_100 (dk_at dksX6_glide_1 11 rfl rfl)
theorem dX6_glide_36 : decode cX6_glide 36 = .ok (.imul, 1) := dk_104 (dk_at dksX6_glide_1 12 rfl rfl)
theorem dX6_glide_37 : decode cX6_glide 37 = .ok (.iadd, 1) := dk_96 (dk_at dksX6_glide_1 13 rfl rfl)
theorem dX6_glide_38 : decode cX6_glide 38 = .ok (.sipush 9999, 3) := dk_17 39 15 (dk_at dksX6_glide_1 14 rfl rfl)
theorem dX6_glide_41 : decode cX6_glide 41 = .ok (.if_icmp .gt 12, 3) := dk_163 0 12 (dk_at dksX6_glide_1 17 rfl rfl)
theorem dX6_glide_44 : decode cX6_glide 44 = .ok (.aload_n 0, 1) := dk_42 (dk_at dksX6_glide_1 20 rfl rfl)
theorem dX6_glide_45 : decode cX6_glide 45 = .ok (.iload_n 1, 1) := dk_27 (dk_at dksX6_glide_1 21 rfl rfl)
theorem dX6_glide_46 : decode cX6_glide 46 = .ok (.iload_n 2, 1) := dk_28 (dk_at dksX6_glide_1 22 rfl rfl)
theorem dX6_glide_47 : decode cX6_glide 47 = .ok (.invokevirtual 329, 3) := dk_182 1 73 (dk_at dksX6_glide_2 0 rfl rfl)
theorem dX6_glide_50 : decode cX6_glide 50 = .ok (.ifCond .ne 6, 3) := dk_154 0 6 (dk_at dksX6_glide_2 3 rfl rfl)
theorem dX6_glide_53 : decode cX6_glide 53 = .ok (.bipush (-3), 2) := dk_16 253 (dk_at dksX6_glide_2 6 rfl rfl)
theorem dX6_glide_55 : decode cX6_glide 55 = .ok (.ireturn, 1) := dk_172 (dk_at dksX6_glide_2 8 rfl rfl)
theorem dX6_glide_56 : decode cX6_glide 56 = .ok (.aload_n 0, 1) := dk_42 (dk_at dksX6_glide_2 9 rfl rfl)
theorem dX6_glide_57 : decode cX6_glide 57 = .ok (.iconst (-1), 1) := dk_2 (dk_at dksX6_glide_2 10 rfl rfl)
theorem dX6_glide_58 : decode cX6_glide 58 = .ok (.putfield 22, 3) := dk_181 0 22 (dk_at dksX6_glide_2 11 rfl rfl)
theorem dX6_glide_61 : decode cX6_glide 61 = .ok (.aload_n 0, 1) := dk_42 (dk_at dksX6_glide_2 14 rfl rfl)
theorem dX6_glide_62 : decode cX6_glide 62 = .ok (.getfield 19, 3) := dk_180 0 19 (dk_at dksX6_glide_2 15 rfl rfl)
theorem dX6_glide_65 : decode cX6_glide 65 = .ok (.ireturn, 1) := dk_172 (dk_at dksX6_glide_2 18 rfl rfl)
abbrev cX6_isPace : ByteArray := prog_23_method_6_code
def yX6_isPace : MethodName := ⟨RX6, "isPace", "(I)Z"⟩
def dkwX6_isPace_0 : List UInt8 := [42, 27, 4, 16, 9, 182, 0, 227, 172]
abbrev dktX6_isPace_0 : List UInt8 := dkwX6_isPace_0 ++ []
theorem dksX6_isPace_0 : cX6_isPace.data.toList.drop 0 = dktX6_isPace_0 := by decide +kernel
theorem dX6_isPace_0 : decode cX6_isPace 0 = .ok (.aload_n 0, 1) := dk_42 (dk_at dksX6_isPace_0 0 rfl rfl)
theorem dX6_isPace_1 : decode cX6_isPace 1 = .ok (.iload_n 1, 1) := dk_27 (dk_at dksX6_isPace_0 1 rfl rfl)
theorem dX6_isPace_2 : decode cX6_isPace 2 = .ok (.iconst 1, 1) := dk_4 (dk_at dksX6_isPace_0 2 rfl rfl)
theorem dX6_isPace_3 : decode cX6_isPace 3 = .ok (.bipush 9, 2) := dk_16 9 (dk_at dksX6_isPace_0 3 rfl rfl)
theorem dX6_isPace_5 : decode cX6_isPace 5 = .ok (.invokevirtual 227, 3) := dk_182 0 227 (dk_at dksX6_isPace_0 5 rfl rfl)
theorem dX6_isPace_8 : decode cX6_isPace 8 = .ok (.ireturn, 1) := dk_172 (dk_at dksX6_isPace_0 8 rfl rfl)
abbrev cX6_apart : ByteArray := prog_23_method_3_code
def yX6_apart : MethodName := ⟨RX6, "apart", "(II)I"⟩
def dkwX6_apart_0 : List UInt8 := [27, 28, 162, 0, 9, 28, 27, 100, 167, 0, 6, 27, 28, 100, 172]
abbrev dktX6_apart_0 : List UInt8 := dkwX6_apart_0 ++ []
theorem dksX6_apart_0 : cX6_apart.data.toList.drop 0 = dktX6_apart_0 := by decide +kernel
theorem dX6_apart_0 : decode cX6_apart 0 = .ok (.iload_n 1, 1) := dk_27 (dk_at dksX6_apart_0 0 rfl rfl)
theorem dX6_apart_1 : decode cX6_apart 1 = .ok (.iload_n 2, 1) := dk_28 (dk_at dksX6_apart_0 1 rfl rfl)
theorem dX6_apart_2 : decode cX6_apart 2 = .ok (.if_icmp .ge 9, 3) := dk_162 0 9 (dk_at dksX6_apart_0 2 rfl rfl)
theorem dX6_apart_5 : decode cX6_apart 5 = .ok (.iload_n 2, 1) := dk_28 (dk_at dksX6_apart_0 5 rfl rfl)
theorem dX6_apart_6 : decode cX6_apart 6 = .ok (.iload_n 1, 1) := dk_27 (dk_at dksX6_apart_0 6 rfl rfl)
theorem dX6_apart_7 : decode cX6_apart 7 = .ok (.isub, 1) := dk_100 (dk_at dksX6_apart_0 7 rfl rfl)
theorem dX6_apart_8 : decode cX6_apart 8 = .ok (.goto 6, 3) := dk_167 0 6 (dk_at dksX6_apart_0 8 rfl rfl)
theorem dX6_apart_11 : decode cX6_apart 11 = .ok (.iload_n 1, 1) := dk_27 (dk_at dksX6_apart_0 11 rfl rfl)
theorem dX6_apart_12 : decode cX6_apart 12 = .ok (.iload_n 2, 1) := dk_28 (dk_at dksX6_apart_0 12 rfl rfl)
theorem dX6_apart_13 : decode cX6_apart 13 = .ok (.isub, 1) := dk_100 (dk_at dksX6_apart_0 13 rfl rfl)
theorem dX6_apart_14 : decode cX6_apart 14 = .ok (.ireturn, 1) := dk_172 (dk_at dksX6_apart_0 14 rfl rfl)
abbrev cX6_goGlide : ByteArray := prog_23_method_42_code
def yX6_goGlide : MethodName := ⟨RX6, "goGlide", "(II)Z"⟩
def dkwX6_goGlide_2 : List UInt8 := [27, 182, 1, 57, 16, 10, 28, 100, 104, 96, 181, 0, 13, 42, 27, 181, 0, 16, 4, 172]
abbrev dktX6_goGlide_2 : List UInt8 := dkwX6_goGlide_2 ++ []
def dkwX6_goGlide_1 : List UInt8 := [42, 42, 180, 0, 16, 27, 28, 182, 1, 60, 100, 181, 0, 19, 42, 89, 180, 0, 13, 42, 42, 180, 0, 16]
abbrev dktX6_goGlide_1 : List UInt8 := dkwX6_goGlide_1 ++ dktX6_goGlide_2
def dkwX6_goGlide_0 : List UInt8 := [42, 180, 0, 19, 42, 42, 180, 0, 16, 27, 28, 182, 1, 60, 162, 0, 5, 3, 172, 42, 89, 180, 0, 19]
abbrev dktX6_goGlide_0 : List UInt8 := dkwX6_goGlide_0 ++ dktX6_goGlide_1
theorem dksX6_goGlide_0 : cX6_goGlide.data.toList.drop 0 = dktX6_goGlide_0 := by decide +kernel
theorem dksX6_goGlide_1 : cX6_goGlide.data.toList.drop 24 = dktX6_goGlide_1 := dk_seg dksX6_goGlide_0 24 rfl rfl
theorem dksX6_goGlide_2 : cX6_goGlide.data.toList.drop 48 = dktX6_goGlide_2 := dk_seg dksX6_goGlide_1 24 rfl rfl
theorem dX6_goGlide_0 : decode cX6_goGlide 0 = .ok (.aload_n 0, 1) := dk_42 (dk_at dksX6_goGlide_0 0 rfl rfl)
theorem dX6_goGlide_1 : decode cX6_goGlide 1 = .ok (.getfield 19, 3) := dk_180 0 19 (dk_at dksX6_goGlide_0 1 rfl rfl)
theorem dX6_goGlide_4 : decode cX6_goGlide 4 = .ok (.aload_n 0, 1) := dk_42 (dk_at dksX6_goGlide_0 4 rfl rfl)
theorem dX6_goGlide_5 : decode cX6_goGlide 5 = .ok (.aload_n 0, 1) := dk_42 (dk_at dksX6_goGlide_0 5 rfl rfl)
theorem dX6_goGlide_6 : decode cX6_goGlide 6 = .ok (.getfield 16, 3) := dk_180 0 16 (dk_at dksX6_goGlide_0 6 rfl rfl)
theorem dX6_goGlide_9 : decode cX6_goGlide 9 = .ok (.iload_n 1, 1) := dk_27 (dk_at dksX6_goGlide_0 9 rfl rfl)
theorem dX6_goGlide_10 : decode cX6_goGlide 10 = .ok (.iload_n 2, 1) := dk_28 (dk_at dksX6_goGlide_0 10 rfl rfl)
theorem dX6_goGlide_11 : decode cX6_goGlide 11 = .ok (.invokevirtual 316, 3) := dk_182 1 60 (dk_at dksX6_goGlide_0 11 rfl rfl)
theorem dX6_goGlide_14 : decode cX6_goGlide 14 = .ok (.if_icmp .ge 5, 3) := dk_162 0 5 (dk_at dksX6_goGlide_0 14 rfl rfl)
theorem dX6_goGlide_17 : decode cX6_goGlide 17 = .ok (.iconst 0, 1) := dk_3 (dk_at dksX6_goGlide_0 17 rfl rfl)
theorem dX6_goGlide_18 : decode cX6_goGlide 18 = .ok (.ireturn, 1) := dk_172 (dk_at dksX6_goGlide_0 18 rfl rfl)
theorem dX6_goGlide_19 : decode cX6_goGlide 19 = .ok (.aload_n 0, 1) := dk_42 (dk_at dksX6_goGlide_0 19 rfl rfl)
theorem dX6_goGlide_20 : decode cX6_goGlide 20 = .ok (.dup, 1) := dk_89 (dk_at dksX6_goGlide_0 20 rfl rfl)
theorem dX6_goGlide_21 : decode cX6_goGlide 21 = .ok (.getfield 19, 3) := dk_180 0 19 (dk_at dksX6_goGlide_0 21 rfl rfl)
theorem dX6_goGlide_24 : decode cX6_goGlide 24 = .ok (.aload_n 0, 1) := dk_42 (dk_at dksX6_goGlide_1 0 rfl rfl)
theorem dX6_goGlide_25 : decode cX6_goGlide 25 = .ok (.aload_n 0, 1) := dk_42 (dk_at dksX6_goGlide_1 1 rfl rfl)
theorem dX6_goGlide_26 : decode cX6_goGlide 26 = .ok (.getfield 16, 3) := dk_180 0 16 (dk_at dksX6_goGlide_1 2 rfl rfl)
theorem dX6_goGlide_29 : decode cX6_goGlide 29 = .ok (.iload_n 1, 1) := dk_27 (dk_at dksX6_goGlide_1 5 rfl rfl)
theorem dX6_goGlide_30 : decode cX6_goGlide 30 = .ok (.iload_n 2, 1) := dk_28 (dk_at dksX6_goGlide_1 6 rfl rfl)
theorem dX6_goGlide_31 : decode cX6_goGlide 31 = .ok (.invokevirtual 316, 3) := dk_182 1 60 (dk_at dksX6_goGlide_1 7 rfl rfl)
theorem dX6_goGlide_34 : decode cX6_goGlide 34 = .ok (.isub, 1) := dk_100 (dk_at dksX6_goGlide_1 10 rfl rfl)
theorem dX6_goGlide_35 : decode cX6_goGlide 35 = .ok (.putfield 19, 3) := dk_181 0 19 (dk_at dksX6_goGlide_1 11 rfl rfl)
theorem dX6_goGlide_38 : decode cX6_goGlide 38 = .ok (.aload_n 0, 1) := dk_42 (dk_at dksX6_goGlide_1 14 rfl rfl)
theorem dX6_goGlide_39 : decode cX6_goGlide 39 = .ok (.dup, 1) := dk_89 (dk_at dksX6_goGlide_1 15 rfl rfl)
theorem dX6_goGlide_40 : decode cX6_goGlide 40 = .ok (.getfield 13, 3) := dk_180 0 13 (dk_at dksX6_goGlide_1 16 rfl rfl)
theorem dX6_goGlide_43 : decode cX6_goGlide 43 = .ok (.aload_n 0, 1) := dk_42 (dk_at dksX6_goGlide_1 19 rfl rfl)
theorem dX6_goGlide_44 : decode cX6_goGlide 44 = .ok (.aload_n 0, 1) := dk_42 (dk_at dksX6_goGlide_1 20 rfl rfl)
theorem dX6_goGlide_45 : decode cX6_goGlide 45 = .ok (.getfield 16, 3) := dk_180 0 16 (dk_at dksX6_goGlide_1 21 rfl rfl)
theorem dX6_goGlide_48 : decode cX6_goGlide 48 = .ok (.iload_n 1, 1) := dk_27 (dk_at dksX6_goGlide_2 0 rfl rfl)
theorem dX6_goGlide_49 : decode cX6_goGlide 49 = .ok (.invokevirtual 313, 3) := dk_182 1 57 (dk_at dksX6_goGlide_2 1 rfl rfl)
theorem dX6_goGlide_52 : decode cX6_goGlide 52 = .ok (.bipush 10, 2) := dk_16 10 (dk_at dksX6_goGlide_2 4 rfl rfl)
theorem dX6_goGlide_54 : decode cX6_goGlide 54 = .ok (.iload_n 2, 1) := dk_28 (dk_at dksX6_goGlide_2 6 rfl rfl)
theorem dX6_goGlide_55 : decode cX6_goGlide 55 = .ok (.isub, 1) := dk_100 (dk_at dksX6_goGlide_2 7 rfl rfl)
theorem dX6_goGlide_56 : decode cX6_goGlide 56 = .ok (.imul, 1) := dk_104 (dk_at dksX6_goGlide_2 8 rfl rfl)
theorem dX6_goGlide_57 : decode cX6_goGlide 57 = .ok (.iadd, 1) := dk_96 (dk_at dksX6_goGlide_2 9 rfl rfl)
theorem dX6_goGlide_58 : decode cX6_goGlide 58 = .ok (.putfield 13, 3) := dk_181 0 13 (dk_at dksX6_goGlide_2 10 rfl rfl)
theorem dX6_goGlide_61 : decode cX6_goGlide 61 = .ok (.aload_n 0, 1) := dk_42 (dk_at dksX6_goGlide_2 13 rfl rfl)
theorem dX6_goGlide_62 : decode cX6_goGlide 62 = .ok (.iload_n 1, 1) := dk_27 (dk_at dksX6_goGlide_2 14 rfl rfl)
theorem dX6_goGlide_63 : decode cX6_goGlide 63 = .ok (.putfield 16, 3) := dk_181 0 16 (dk_at dksX6_goGlide_2 15 rfl rfl)
theorem dX6_goGlide_66 : decode cX6_goGlide 66 = .ok (.iconst 1, 1) := dk_4 (dk_at dksX6_goGlide_2 18 rfl rfl)
theorem dX6_goGlide_67 : decode cX6_goGlide 67 = .ok (.ireturn, 1) := dk_172 (dk_at dksX6_goGlide_2 19 rfl rfl)
abbrev cX6_falls : ByteArray := prog_23_method_41_code
def yX6_falls : MethodName := ⟨RX6, "falls", "(III)I"⟩
def dkwX6_falls_0 : List UInt8 := [42, 27, 28, 182, 1, 57, 8, 29, 96, 104, 172]
abbrev dktX6_falls_0 : List UInt8 := dkwX6_falls_0 ++ []
theorem dksX6_falls_0 : cX6_falls.data.toList.drop 0 = dktX6_falls_0 := by decide +kernel
theorem dX6_falls_0 : decode cX6_falls 0 = .ok (.aload_n 0, 1) := dk_42 (dk_at dksX6_falls_0 0 rfl rfl)
theorem dX6_falls_1 : decode cX6_falls 1 = .ok (.iload_n 1, 1) := dk_27 (dk_at dksX6_falls_0 1 rfl rfl)
theorem dX6_falls_2 : decode cX6_falls 2 = .ok (.iload_n 2, 1) := dk_28 (dk_at dksX6_falls_0 2 rfl rfl)
theorem dX6_falls_3 : decode cX6_falls 3 = .ok (.invokevirtual 313, 3) := dk_182 1 57 (dk_at dksX6_falls_0 3 rfl rfl)
theorem dX6_falls_6 : decode cX6_falls 6 = .ok (.iconst 5, 1) := dk_8 (dk_at dksX6_falls_0 6 rfl rfl)
theorem dX6_falls_7 : decode cX6_falls 7 = .ok (.iload_n 3, 1) := dk_29 (dk_at dksX6_falls_0 7 rfl rfl)
theorem dX6_falls_8 : decode cX6_falls 8 = .ok (.iadd, 1) := dk_96 (dk_at dksX6_falls_0 8 rfl rfl)
theorem dX6_falls_9 : decode cX6_falls 9 = .ok (.imul, 1) := dk_104 (dk_at dksX6_falls_0 9 rfl rfl)
theorem dX6_falls_10 : decode cX6_falls 10 = .ok (.ireturn, 1) := dk_172 (dk_at dksX6_falls_0 10 rfl rfl)
abbrev cX6_up : ByteArray := prog_23_method_49_code
def yX6_up : MethodName := ⟨RX6, "up", "(II)I"⟩
def dkwX6_up_1 : List UInt8 := [167, 0, 5, 16, 254, 172]
abbrev dktX6_up_1 : List UInt8 := dkwX6_up_1 ++ []
def dkwX6_up_0 : List UInt8 := [42, 27, 182, 0, 235, 154, 0, 5, 2, 172, 42, 28, 182, 1, 64, 153, 0, 12, 42, 27, 28, 182, 1, 82]
abbrev dktX6_up_0 : List UInt8 := dkwX6_up_0 ++ dktX6_up_1
theorem dksX6_up_0 : cX6_up.data.toList.drop 0 = dktX6_up_0 := by decide +kernel
theorem dksX6_up_1 : cX6_up.data.toList.drop 24 = dktX6_up_1 := dk_seg dksX6_up_0 24 rfl rfl
theorem dX6_up_0 : decode cX6_up 0 = .ok (.aload_n 0, 1) := dk_42 (dk_at dksX6_up_0 0 rfl rfl)
theorem dX6_up_1 : decode cX6_up 1 = .ok (.iload_n 1, 1) := dk_27 (dk_at dksX6_up_0 1 rfl rfl)
theorem dX6_up_2 : decode cX6_up 2 = .ok (.invokevirtual 235, 3) := dk_182 0 235 (dk_at dksX6_up_0 2 rfl rfl)
theorem dX6_up_5 : decode cX6_up 5 = .ok (.ifCond .ne 5, 3) := dk_154 0 5 (dk_at dksX6_up_0 5 rfl rfl)
theorem dX6_up_8 : decode cX6_up 8 = .ok (.iconst (-1), 1) := dk_2 (dk_at dksX6_up_0 8 rfl rfl)
theorem dX6_up_9 : decode cX6_up 9 = .ok (.ireturn, 1) := dk_172 (dk_at dksX6_up_0 9 rfl rfl)
theorem dX6_up_10 : decode cX6_up 10 = .ok (.aload_n 0, 1) := dk_42 (dk_at dksX6_up_0 10 rfl rfl)
theorem dX6_up_11 : decode cX6_up 11 = .ok (.iload_n 2, 1) := dk_28 (dk_at dksX6_up_0 11 rfl rfl)
theorem dX6_up_12 : decode cX6_up 12 = .ok (.invokevirtual 320, 3) := dk_182 1 64 (dk_at dksX6_up_0 12 rfl rfl)
theorem dX6_up_15 : decode cX6_up 15 = .ok (.ifCond .eq 12, 3) := dk_153 0 12 (dk_at dksX6_up_0 15 rfl rfl)
theorem dX6_up_18 : decode cX6_up 18 = .ok (.aload_n 0, 1) := dk_42 (dk_at dksX6_up_0 18 rfl rfl)
theorem dX6_up_19 : decode cX6_up 19 = .ok (.iload_n 1, 1) := dk_27 (dk_at dksX6_up_0 19 rfl rfl)
theorem dX6_up_20 : decode cX6_up 20 = .ok (.iload_n 2, 1) := dk_28 (dk_at dksX6_up_0 20 rfl rfl)
theorem dX6_up_21 : decode cX6_up 21 = .ok (.invokevirtual 338, 3) := dk_182 1 82 (dk_at dksX6_up_0 21 rfl rfl)
theorem dX6_up_24 : decode cX6_up 24 = .ok (.goto 5, 3) := dk_167 0 5 (dk_at dksX6_up_1 0 rfl rfl)
theorem dX6_up_27 : decode cX6_up 27 = .ok (.bipush (-2), 2) := dk_16 254 (dk_at dksX6_up_1 3 rfl rfl)
theorem dX6_up_29 : decode cX6_up 29 = .ok (.ireturn, 1) := dk_172 (dk_at dksX6_up_1 5 rfl rfl)
abbrev cX6_upOf : ByteArray := prog_23_method_48_code
def yX6_upOf : MethodName := ⟨RX6, "upOf", "(II)I"⟩
def dkwX6_upOf_1 : List UInt8 := [180, 0, 19, 62, 42, 182, 1, 79, 29, 172]
abbrev dktX6_upOf_1 : List UInt8 := dkwX6_upOf_1 ++ []
def dkwX6_upOf_0 : List UInt8 := [42, 182, 1, 76, 3, 62, 29, 28, 162, 0, 14, 42, 27, 182, 1, 67, 132, 3, 1, 167, 255, 243, 42]
abbrev dktX6_upOf_0 : List UInt8 := dkwX6_upOf_0 ++ dktX6_upOf_1
theorem dksX6_upOf_0 : cX6_upOf.data.toList.drop 0 = dktX6_upOf_0 := by decide +kernel
theorem dksX6_upOf_1 : cX6_upOf.data.toList.drop 23 = dktX6_upOf_1 := dk_seg dksX6_upOf_0 23 rfl rfl
theorem dX6_upOf_0 : decode cX6_upOf 0 = .ok (.aload_n 0, 1) := dk_42 (dk_at dksX6_upOf_0 0 rfl rfl)
theorem dX6_upOf_1 : decode cX6_upOf 1 = .ok (.invokevirtual 332, 3) := dk_182 1 76 (dk_at dksX6_upOf_0 1 rfl rfl)
theorem dX6_upOf_4 : decode cX6_upOf 4 = .ok (.iconst 0, 1) := dk_3 (dk_at dksX6_upOf_0 4 rfl rfl)
theorem dX6_upOf_5 : decode cX6_upOf 5 = .ok (.istore_n 3, 1) := dk_62 (dk_at dksX6_upOf_0 5 rfl rfl)
theorem dX6_upOf_6 : decode cX6_upOf 6 = .ok (.iload_n 3, 1) := dk_29 (dk_at dksX6_upOf_0 6 rfl rfl)
theorem dX6_upOf_7 : decode cX6_upOf 7 = .ok (.iload_n 2, 1) := dk_28 (dk_at dksX6_upOf_0 7 rfl rfl)
theorem dX6_upOf_8 : decode cX6_upOf 8 = .ok (.if_icmp .ge 14, 3) := dk_162 0 14 (dk_at dksX6_upOf_0 8 rfl rfl)
theorem dX6_upOf_11 : decode cX6_upOf 11 = .ok (.aload_n 0, 1) := dk_42 (dk_at dksX6_upOf_0 11 rfl rfl)
theorem dX6_upOf_12 : decode cX6_upOf 12 = .ok (.iload_n 1, 1) := dk_27 (dk_at dksX6_upOf_0 12 rfl rfl)
theorem dX6_upOf_13 : decode cX6_upOf 13 = .ok (.invokevirtual 323, 3) := dk_182 1 67 (dk_at dksX6_upOf_0 13 rfl rfl)
theorem dX6_upOf_16 : decode cX6_upOf 16 = .ok (.iinc 3 1, 3) := dk_132 3 1 (dk_at dksX6_upOf_0 16 rfl rfl)
theorem dX6_upOf_19 : decode cX6_upOf 19 = .ok (.goto (-13), 3) := dk_167 255 243 (dk_at dksX6_upOf_0 19 rfl rfl)
theorem dX6_upOf_22 : decode cX6_upOf 22 = .ok (.aload_n 0, 1) := dk_42 (dk_at dksX6_upOf_0 22 rfl rfl)
theorem dX6_upOf_23 : decode cX6_upOf 23 = .ok (.getfield 19, 3) := dk_180 0 19 (dk_at dksX6_upOf_1 0 rfl rfl)
theorem dX6_upOf_26 : decode cX6_upOf 26 = .ok (.istore_n 3, 1) := dk_62 (dk_at dksX6_upOf_1 3 rfl rfl)
theorem dX6_upOf_27 : decode cX6_upOf 27 = .ok (.aload_n 0, 1) := dk_42 (dk_at dksX6_upOf_1 4 rfl rfl)
theorem dX6_upOf_28 : decode cX6_upOf 28 = .ok (.invokevirtual 335, 3) := dk_182 1 79 (dk_at dksX6_upOf_1 5 rfl rfl)
theorem dX6_upOf_31 : decode cX6_upOf 31 = .ok (.iload_n 3, 1) := dk_29 (dk_at dksX6_upOf_1 8 rfl rfl)
theorem dX6_upOf_32 : decode cX6_upOf 32 = .ok (.ireturn, 1) := dk_172 (dk_at dksX6_upOf_1 9 rfl rfl)
abbrev cX6_save : ByteArray := prog_23_method_46_code
def yX6_save : MethodName := ⟨RX6, "save", "()V"⟩
def dkwX6_save_1 : List UInt8 := [177]
abbrev dktX6_save_1 : List UInt8 := dkwX6_save_1 ++ []
def dkwX6_save_0 : List UInt8 := [42, 42, 180, 0, 13, 181, 0, 99, 42, 42, 180, 0, 16, 181, 0, 102, 42, 42, 180, 0, 19, 181, 0, 105]
abbrev dktX6_save_0 : List UInt8 := dkwX6_save_0 ++ dktX6_save_1
theorem dksX6_save_0 : cX6_save.data.toList.drop 0 = dktX6_save_0 := by decide +kernel
theorem dksX6_save_1 : cX6_save.data.toList.drop 24 = dktX6_save_1 := dk_seg dksX6_save_0 24 rfl rfl
theorem dX6_save_0 : decode cX6_save 0 = .ok (.aload_n 0, 1) := dk_42 (dk_at dksX6_save_0 0 rfl rfl)
theorem dX6_save_1 : decode cX6_save 1 = .ok (.aload_n 0, 1) := dk_42 (dk_at dksX6_save_0 1 rfl rfl)
theorem dX6_save_2 : decode cX6_save 2 = .ok (.getfield 13, 3) := dk_180 0 13 (dk_at dksX6_save_0 2 rfl rfl)
theorem dX6_save_5 : decode cX6_save 5 = .ok (.putfield 99, 3) := dk_181 0 99 (dk_at dksX6_save_0 5 rfl rfl)
theorem dX6_save_8 : decode cX6_save 8 = .ok (.aload_n 0, 1) := dk_42 (dk_at dksX6_save_0 8 rfl rfl)
theorem dX6_save_9 : decode cX6_save 9 = .ok (.aload_n 0, 1) := dk_42 (dk_at dksX6_save_0 9 rfl rfl)
theorem dX6_save_10 : decode cX6_save 10 = .ok (.getfield 16, 3) := dk_180 0 16 (dk_at dksX6_save_0 10 rfl rfl)
theorem dX6_save_13 : decode cX6_save 13 = .ok (.putfield 102, 3) := dk_181 0 102 (dk_at dksX6_save_0 13 rfl rfl)
theorem dX6_save_16 : decode cX6_save 16 = .ok (.aload_n 0, 1) := dk_42 (dk_at dksX6_save_0 16 rfl rfl)
theorem dX6_save_17 : decode cX6_save 17 = .ok (.aload_n 0, 1) := dk_42 (dk_at dksX6_save_0 17 rfl rfl)
theorem dX6_save_18 : decode cX6_save 18 = .ok (.getfield 19, 3) := dk_180 0 19 (dk_at dksX6_save_0 18 rfl rfl)
theorem dX6_save_21 : decode cX6_save 21 = .ok (.putfield 105, 3) := dk_181 0 105 (dk_at dksX6_save_0 21 rfl rfl)
theorem dX6_save_24 : decode cX6_save 24 = .ok (.return_, 1) := dk_177 (dk_at dksX6_save_1 0 rfl rfl)
abbrev cX6_putBack : ByteArray := prog_23_method_47_code
def yX6_putBack : MethodName := ⟨RX6, "putBack", "()V"⟩
def dkwX6_putBack_1 : List UInt8 := [177]
abbrev dktX6_putBack_1 : List UInt8 := dkwX6_putBack_1 ++ []
def dkwX6_putBack_0 : List UInt8 := [42, 42, 180, 0, 99, 181, 0, 13, 42, 42, 180, 0, 102, 181, 0, 16, 42, 42, 180, 0, 105, 181, 0, 19]
abbrev dktX6_putBack_0 : List UInt8 := dkwX6_putBack_0 ++ dktX6_putBack_1
theorem dksX6_putBack_0 : cX6_putBack.data.toList.drop 0 = dktX6_putBack_0 := by decide +kernel
theorem dksX6_putBack_1 : cX6_putBack.data.toList.drop 24 = dktX6_putBack_1 := dk_seg dksX6_putBack_0 24 rfl rfl
theorem dX6_putBack_0 : decode cX6_putBack 0 = .ok (.aload_n 0, 1) := dk_42 (dk_at dksX6_putBack_0 0 rfl rfl)
theorem dX6_putBack_1 : decode cX6_putBack 1 = .ok (.aload_n 0, 1) := dk_42 (dk_at dksX6_putBack_0 1 rfl rfl)
theorem dX6_putBack_2 : decode cX6_putBack 2 = .ok (.getfield 99, 3) := dk_180 0 99 (dk_at dksX6_putBack_0 2 rfl rfl)
theorem dX6_putBack_5 : decode cX6_putBack 5 = .ok (.putfield 13, 3) := dk_181 0 13 (dk_at dksX6_putBack_0 5 rfl rfl)
theorem dX6_putBack_8 : decode cX6_putBack 8 = .ok (.aload_n 0, 1) := dk_42 (dk_at dksX6_putBack_0 8 rfl rfl)
theorem dX6_putBack_9 : decode cX6_putBack 9 = .ok (.aload_n 0, 1) := dk_42 (dk_at dksX6_putBack_0 9 rfl rfl)
theorem dX6_putBack_10 : decode cX6_putBack 10 = .ok (.getfield 102, 3) := dk_180 0 102 (dk_at dksX6_putBack_0 10 rfl rfl)
theorem dX6_putBack_13 : decode cX6_putBack 13 = .ok (.putfield 16, 3) := dk_181 0 16 (dk_at dksX6_putBack_0 13 rfl rfl)
theorem dX6_putBack_16 : decode cX6_putBack 16 = .ok (.aload_n 0, 1) := dk_42 (dk_at dksX6_putBack_0 16 rfl rfl)
theorem dX6_putBack_17 : decode cX6_putBack 17 = .ok (.aload_n 0, 1) := dk_42 (dk_at dksX6_putBack_0 17 rfl rfl)
theorem dX6_putBack_18 : decode cX6_putBack 18 = .ok (.getfield 105, 3) := dk_180 0 105 (dk_at dksX6_putBack_0 18 rfl rfl)
theorem dX6_putBack_21 : decode cX6_putBack 21 = .ok (.putfield 19, 3) := dk_181 0 19 (dk_at dksX6_putBack_0 21 rfl rfl)
theorem dX6_putBack_24 : decode cX6_putBack 24 = .ok (.return_, 1) := dk_177 (dk_at dksX6_putBack_1 0 rfl rfl)
abbrev cX6_top : ByteArray := prog_23_method_50_code
def yX6_top : MethodName := ⟨RX6, "top", "(II)I"⟩
def dkwX6_top_3 : List UInt8 := [167, 255, 221, 42, 182, 1, 79, 28, 154, 0, 7, 29, 167, 0, 5, 21, 4, 172]
abbrev dktX6_top_3 : List UInt8 := dkwX6_top_3 ++ []
def dkwX6_top_2 : List UInt8 := [180, 0, 19, 29, 163, 0, 6, 167, 0, 12, 42, 180, 0, 19, 62, 21, 5, 54, 4, 132, 5, 1]
abbrev dktX6_top_2 : List UInt8 := dkwX6_top_2 ++ dktX6_top_3
def dkwX6_top_1 : List UInt8 := [42, 180, 0, 19, 62, 3, 54, 4, 4, 54, 5, 21, 5, 16, 61, 162, 0, 34, 42, 27, 182, 1, 67, 42]
abbrev dktX6_top_1 : List UInt8 := dkwX6_top_1 ++ dktX6_top_2
def dkwX6_top_0 : List UInt8 := [42, 27, 182, 0, 235, 153, 0, 13, 42, 28, 3, 4, 182, 0, 227, 154, 0, 5, 2, 172, 42, 182, 1, 76]
abbrev dktX6_top_0 : List UInt8 := dkwX6_top_0 ++ dktX6_top_1
theorem dksX6_top_0 : cX6_top.data.toList.drop 0 = dktX6_top_0 := by decide +kernel
theorem dksX6_top_1 : cX6_top.data.toList.drop 24 = dktX6_top_1 := dk_seg dksX6_top_0 24 rfl rfl
theorem dksX6_top_2 : cX6_top.data.toList.drop 48 = dktX6_top_2 := dk_seg dksX6_top_1 24 rfl rfl
theorem dksX6_top_3 : cX6_top.data.toList.drop 70 = dktX6_top_3 := dk_seg dksX6_top_2 22 rfl rfl
theorem dX6_top_0 : decode cX6_top 0 = .ok (.aload_n 0, 1) := dk_42 (dk_at dksX6_top_0 0 rfl rfl)
theorem dX6_top_1 : decode cX6_top 1 = .ok (.iload_n 1, 1) := dk_27 (dk_at dksX6_top_0 1 rfl rfl)
theorem dX6_top_2 : decode cX6_top 2 = .ok (.invokevirtual 235, 3) := dk_182 0 235 (dk_at dksX6_top_0 2 rfl rfl)
theorem dX6_top_5 : decode cX6_top 5 = .ok (.ifCond .eq 13, 3) := dk_153 0 13 (dk_at dksX6_top_0 5 rfl rfl)
theorem dX6_top_8 : decode cX6_top 8 = .ok (.aload_n 0, 1) := dk_42 (dk_at dksX6_top_0 8 rfl rfl)
theorem dX6_top_9 : decode cX6_top 9 = .ok (.iload_n 2, 1) := dk_28 (dk_at dksX6_top_0 9 rfl rfl)
theorem dX6_top_10 : decode cX6_top 10 = .ok (.iconst 0, 1) := dk_3 (dk_at dksX6_top_0 10 rfl rfl)
theorem dX6_top_11 : decode cX6_top 11 = .ok (.iconst 1, 1) := dk_4 (dk_at dksX6_top_0 11 rfl rfl)
theorem dX6_top_12 : decode cX6_top 12 = .ok (.invokevirtual 227, 3) := dk_182 0 227 (dk_at dksX6_top_0 12 rfl rfl)
theorem dX6_top_15 : decode cX6_top 15 = .ok (.ifCond .ne 5, 3) := dk_154 0 5 (dk_at dksX6_top_0 15 rfl rfl)
theorem dX6_top_18 : decode cX6_top 18 = .ok (.iconst (-1), 1) := dk_2 (dk_at dksX6_top_0 18 rfl rfl)
theorem dX6_top_19 : decode cX6_top 19 = .ok (.ireturn, 1) := dk_172 (dk_at dksX6_top_0 19 rfl rfl)
theorem dX6_top_20 : decode cX6_top 20 = .ok (.aload_n 0, 1) := dk_42 (dk_at dksX6_top_0 20 rfl rfl)
theorem dX6_top_21 : decode cX6_top 21 = .ok (.invokevirtual 332, 3) := dk_182 1 76 (dk_at dksX6_top_0 21 rfl rfl)
theorem dX6_top_24 : decode cX6_top 24 = .ok (.aload_n 0, 1) := dk_42 (dk_at dksX6_top_1 0 rfl rfl)
theorem dX6_top_25 : decode cX6_top 25 = .ok (.getfield 19, 3) := dk_180 0 19 (dk_at dksX6_top_1 1 rfl rfl)
theorem dX6_top_28 : decode cX6_top 28 = .ok (.istore_n 3, 1) := dk_62 (dk_at dksX6_top_1 4 rfl rfl)
theorem dX6_top_29 : decode cX6_top 29 = .ok (.iconst 0, 1) := dk_3 (dk_at dksX6_top_1 5 rfl rfl)
theorem dX6_top_30 : decode cX6_top 30 = .ok (.istore 4, 2) := dk_54 4 (dk_at dksX6_top_1 6 rfl rfl)
theorem dX6_top_32 : decode cX6_top 32 = .ok (.iconst 1, 1) := dk_4 (dk_at dksX6_top_1 8 rfl rfl)
theorem dX6_top_33 : decode cX6_top 33 = .ok (.istore 5, 2) := dk_54 5 (dk_at dksX6_top_1 9 rfl rfl)
theorem dX6_top_35 : decode cX6_top 35 = .ok (.iload 5, 2) := dk_21 5 (dk_at dksX6_top_1 11 rfl rfl)
theorem dX6_top_37 : decode cX6_top 37 = .ok (.bipush 61, 2) := dk_16 61 (dk_at dksX6_top_1 13 rfl rfl)
theorem dX6_top_39 : decode cX6_top 39 = .ok (.if_icmp .ge 34, 3) := dk_162 0 34 (dk_at dksX6_top_1 15 rfl rfl)
theorem dX6_top_42 : decode cX6_top 42 = .ok (.aload_n 0, 1) := dk_42 (dk_at dksX6_top_1 18 rfl rfl)
theorem dX6_top_43 : decode cX6_top 43 = .ok (.iload_n 1, 1) := dk_27 (dk_at dksX6_top_1 19 rfl rfl)
theorem dX6_top_44 : decode cX6_top 44 = .ok (.invokevirtual 323, 3) := dk_182 1 67 (dk_at dksX6_top_1 20 rfl rfl)
theorem dX6_top_47 : decode cX6_top 47 = .ok (.aload_n 0, 1) := dk_42 (dk_at dksX6_top_1 23 rfl rfl)
theorem dX6_top_48 : decode cX6_top 48 = .ok (.getfield 19, 3) := dk_180 0 19 (dk_at dksX6_top_2 0 rfl rfl)
theorem dX6_top_51 : decode cX6_top 51 = .ok (.iload_n 3, 1) := dk_29 (dk_at dksX6_top_2 3 rfl rfl)
theorem dX6_top_52 : decode cX6_top 52 = .ok (.if_icmp .gt 6, 3) := dk_163 0 6 (dk_at dksX6_top_2 4 rfl rfl)
theorem dX6_top_55 : decode cX6_top 55 = .ok (.goto 12, 3) := dk_167 0 12 (dk_at dksX6_top_2 7 rfl rfl)
theorem dX6_top_58 : decode cX6_top 58 = .ok (.aload_n 0, 1) := dk_42 (dk_at dksX6_top_2 10 rfl rfl)
theorem dX6_top_59 : decode cX6_top 59 = .ok (.getfield 19, 3) := dk_180 0 19 (dk_at dksX6_top_2 11 rfl rfl)
theorem dX6_top_62 : decode cX6_top 62 = .ok (.istore_n 3, 1) := dk_62 (dk_at dksX6_top_2 14 rfl rfl)
theorem dX6_top_63 : decode cX6_top 63 = .ok (.iload 5, 2) := dk_21 5 (dk_at dksX6_top_2 15 rfl rfl)
theorem dX6_top_65 : decode cX6_top 65 = .ok (.istore 4, 2) := dk_54 4 (dk_at dksX6_top_2 17 rfl rfl)
theorem dX6_top_67 : decode cX6_top 67 = .ok (.iinc 5 1, 3) := dk_132 5 1 (dk_at dksX6_top_2 19 rfl rfl)
theorem dX6_top_70 : decode cX6_top 70 = .ok (.goto (-35), 3) := dk_167 255 221 (dk_at dksX6_top_3 0 rfl rfl)
theorem dX6_top_73 : decode cX6_top 73 = .ok (.aload_n 0, 1) := dk_42 (dk_at dksX6_top_3 3 rfl rfl)
theorem dX6_top_74 : decode cX6_top 74 = .ok (.invokevirtual 335, 3) := dk_182 1 79 (dk_at dksX6_top_3 4 rfl rfl)
theorem dX6_top_77 : decode cX6_top 77 = .ok (.iload_n 2, 1) := dk_28 (dk_at dksX6_top_3 7 rfl rfl)
theorem dX6_top_78 : decode cX6_top 78 = .ok (.ifCond .ne 7, 3) := dk_154 0 7 (dk_at dksX6_top_3 8 rfl rfl)
theorem dX6_top_81 : decode cX6_top 81 = .ok (.iload_n 3, 1) := dk_29 (dk_at dksX6_top_3 11 rfl rfl)
theorem dX6_top_82 : decode cX6_top 82 = .ok (.goto 5, 3) := dk_167 0 5 (dk_at dksX6_top_3 12 rfl rfl)
theorem dX6_top_85 : decode cX6_top 85 = .ok (.iload 4, 2) := dk_21 4 (dk_at dksX6_top_3 15 rfl rfl)
theorem dX6_top_87 : decode cX6_top 87 = .ok (.ireturn, 1) := dk_172 (dk_at dksX6_top_3 17 rfl rfl)
abbrev cX6_arrives : ByteArray := prog_23_method_51_code
def yX6_arrives : MethodName := ⟨RX6, "arrives", "(II)I"⟩
def dkwX6_arrives_1 : List UInt8 := [42, 180, 0, 16, 27, 28, 182, 1, 60, 100, 62, 29, 156, 0, 8, 16, 251, 167, 0, 4, 29, 172]
abbrev dktX6_arrives_1 : List UInt8 := dkwX6_arrives_1 ++ []
def dkwX6_arrives_0 : List UInt8 := [42, 27, 182, 0, 231, 153, 0, 11, 42, 28, 182, 1, 70, 154, 0, 6, 16, 254, 172, 42, 180, 0, 19, 42]
abbrev dktX6_arrives_0 : List UInt8 := dkwX6_arrives_0 ++ dktX6_arrives_1
theorem dksX6_arrives_0 : cX6_arrives.data.toList.drop 0 = dktX6_arrives_0 := by decide +kernel
theorem dksX6_arrives_1 : cX6_arrives.data.toList.drop 24 = dktX6_arrives_1 := dk_seg dksX6_arrives_0 24 rfl rfl
theorem dX6_arrives_0 : decode cX6_arrives 0 = .ok (.aload_n 0, 1) := dk_42 (dk_at dksX6_arrives_0 0 rfl rfl)
theorem dX6_arrives_1 : decode cX6_arrives 1 = .ok (.iload_n 1, 1) := dk_27 (dk_at dksX6_arrives_0 1 rfl rfl)
theorem dX6_arrives_2 : decode cX6_arrives 2 = .ok (.invokevirtual 231, 3) := dk_182 0 231 (dk_at dksX6_arrives_0 2 rfl rfl)
theorem dX6_arrives_5 : decode cX6_arrives 5 = .ok (.ifCond .eq 11, 3) := dk_153 0 11 (dk_at dksX6_arrives_0 5 rfl rfl)
theorem dX6_arrives_8 : decode cX6_arrives 8 = .ok (.aload_n 0, 1) := dk_42 (dk_at dksX6_arrives_0 8 rfl rfl)
theorem dX6_arrives_9 : decode cX6_arrives 9 = .ok (.iload_n 2, 1) := dk_28 (dk_at dksX6_arrives_0 9 rfl rfl)
theorem dX6_arrives_10 : decode cX6_arrives 10 = .ok (.invokevirtual 326, 3) := dk_182 1 70 (dk_at dksX6_arrives_0 10 rfl rfl)
theorem dX6_arrives_13 : decode cX6_arrives 13 = .ok (.ifCond .ne 6, 3) := dk_154 0 6 (dk_at dksX6_arrives_0 13 rfl rfl)
theorem dX6_arrives_16 : decode cX6_arrives 16 = .ok (.bipush (-2), 2) := dk_16 254 (dk_at dksX6_arrives_0 16 rfl rfl)
theorem dX6_arrives_18 : decode cX6_arrives 18 = .ok (.ireturn, 1) := dk_172 (dk_at dksX6_arrives_0 18 rfl rfl)
theorem dX6_arrives_19 : decode cX6_arrives 19 = .ok (.aload_n 0, 1) := dk_42 (dk_at dksX6_arrives_0 19 rfl rfl)
theorem dX6_arrives_20 : decode cX6_arrives 20 = .ok (.getfield 19, 3) := dk_180 0 19 (dk_at dksX6_arrives_0 20 rfl rfl)
theorem dX6_arrives_23 : decode cX6_arrives 23 = .ok (.aload_n 0, 1) := dk_42 (dk_at dksX6_arrives_0 23 rfl rfl)
theorem dX6_arrives_24 : decode cX6_arrives 24 = .ok (.aload_n 0, 1) := dk_42 (dk_at dksX6_arrives_1 0 rfl rfl)
theorem dX6_arrives_25 : decode cX6_arrives 25 = .ok (.getfield 16, 3) := dk_180 0 16 (dk_at dksX6_arrives_1 1 rfl rfl)
theorem dX6_arrives_28 : decode cX6_arrives 28 = .ok (.iload_n 1, 1) := dk_27 (dk_at dksX6_arrives_1 4 rfl rfl)
theorem dX6_arrives_29 : decode cX6_arrives 29 = .ok (.iload_n 2, 1) := dk_28 (dk_at dksX6_arrives_1 5 rfl rfl)
theorem dX6_arrives_30 : decode cX6_arrives 30 = .ok (.invokevirtual 316, 3) := dk_182 1 60 (dk_at dksX6_arrives_1 6 rfl rfl)
theorem dX6_arrives_33 : decode cX6_arrives 33 = .ok (.isub, 1) := dk_100 (dk_at dksX6_arrives_1 9 rfl rfl)
theorem dX6_arrives_34 : decode cX6_arrives 34 = .ok (.istore_n 3, 1) := dk_62 (dk_at dksX6_arrives_1 10 rfl rfl)
theorem dX6_arrives_35 : decode cX6_arrives 35 = .ok (.iload_n 3, 1) := dk_29 (dk_at dksX6_arrives_1 11 rfl rfl)
theorem dX6_arrives_36 : decode cX6_arrives 36 = .ok (.ifCond .ge 8, 3) := dk_156 0 8 (dk_at dksX6_arrives_1 12 rfl rfl)
theorem dX6_arrives_39 : decode cX6_arrives 39 = .ok (.bipush (-5), 2) := dk_16 251 (dk_at dksX6_arrives_1 15 rfl rfl)
theorem dX6_arrives_41 : decode cX6_arrives 41 = .ok (.goto 4, 3) := dk_167 0 4 (dk_at dksX6_arrives_1 17 rfl rfl)
theorem dX6_arrives_44 : decode cX6_arrives 44 = .ok (.iload_n 3, 1) := dk_29 (dk_at dksX6_arrives_1 20 rfl rfl)
theorem dX6_arrives_45 : decode cX6_arrives 45 = .ok (.ireturn, 1) := dk_172 (dk_at dksX6_arrives_1 21 rfl rfl)
abbrev cX6_outed : ByteArray := prog_23_method_52_code
def yX6_outed : MethodName := ⟨RX6, "outed", "(II)I"⟩
def dkwX6_outed_2 : List UInt8 := [180, 0, 16, 27, 182, 1, 57, 172]
abbrev dktX6_outed_2 : List UInt8 := dkwX6_outed_2 ++ []
def dkwX6_outed_1 : List UInt8 := [28, 96, 108, 62, 29, 42, 42, 180, 0, 16, 27, 182, 1, 57, 162, 0, 7, 29, 167, 0, 12, 42, 42]
abbrev dktX6_outed_1 : List UInt8 := dkwX6_outed_1 ++ dktX6_outed_2
def dkwX6_outed_0 : List UInt8 := [42, 27, 182, 0, 231, 153, 0, 11, 42, 28, 182, 1, 70, 154, 0, 6, 16, 254, 172, 42, 180, 0, 19, 8]
abbrev dktX6_outed_0 : List UInt8 := dkwX6_outed_0 ++ dktX6_outed_1
theorem dksX6_outed_0 : cX6_outed.data.toList.drop 0 = dktX6_outed_0 := by decide +kernel
theorem dksX6_outed_1 : cX6_outed.data.toList.drop 24 = dktX6_outed_1 := dk_seg dksX6_outed_0 24 rfl rfl
theorem dksX6_outed_2 : cX6_outed.data.toList.drop 47 = dktX6_outed_2 := dk_seg dksX6_outed_1 23 rfl rfl
theorem dX6_outed_0 : decode cX6_outed 0 = .ok (.aload_n 0, 1) := dk_42 (dk_at dksX6_outed_0 0 rfl rfl)
theorem dX6_outed_1 : decode cX6_outed 1 = .ok (.iload_n 1, 1) := dk_27 (dk_at dksX6_outed_0 1 rfl rfl)
theorem dX6_outed_2 : decode cX6_outed 2 = .ok (.invokevirtual 231, 3) := dk_182 0 231 (dk_at dksX6_outed_0 2 rfl rfl)
theorem dX6_outed_5 : decode cX6_outed 5 = .ok (.ifCond .eq 11, 3) := dk_153 0 11 (dk_at dksX6_outed_0 5 rfl rfl)
theorem dX6_outed_8 : decode cX6_outed 8 = .ok (.aload_n 0, 1) := dk_42 (dk_at dksX6_outed_0 8 rfl rfl)
theorem dX6_outed_9 : decode cX6_outed 9 = .ok (.iload_n 2, 1) := dk_28 (dk_at dksX6_outed_0 9 rfl rfl)
theorem dX6_outed_10 : decode cX6_outed 10 = .ok (.invokevirtual 326, 3) := dk_182 1 70 (dk_at dksX6_outed_0 10 rfl rfl)
theorem dX6_outed_13 : decode cX6_outed 13 = .ok (.ifCond .ne 6, 3) := dk_154 0 6 (dk_at dksX6_outed_0 13 rfl rfl)
theorem dX6_outed_16 : decode cX6_outed 16 = .ok (.bipush (-2), 2) := dk_16 254 (dk_at dksX6_outed_0 16 rfl rfl)
theorem dX6_outed_18 : decode cX6_outed 18 = .ok (.ireturn, 1) := dk_172 (dk_at dksX6_outed_0 18 rfl rfl)
theorem dX6_outed_19 : decode cX6_outed 19 = .ok (.aload_n 0, 1) := dk_42 (dk_at dksX6_outed_0 19 rfl rfl)
theorem dX6_outed_20 : decode cX6_outed 20 = .ok (.getfield 19, 3) := dk_180 0 19 (dk_at dksX6_outed_0 20 rfl rfl)
theorem dX6_outed_23 : decode cX6_outed 23 = .ok (.iconst 5, 1) := dk_8 (dk_at dksX6_outed_0 23 rfl rfl)
theorem dX6_outed_24 : decode cX6_outed 24 = .ok (.iload_n 2, 1) := dk_28 (dk_at dksX6_outed_1 0 rfl rfl)
theorem dX6_outed_25 : decode cX6_outed 25 = .ok (.iadd, 1) := dk_96 (dk_at dksX6_outed_1 1 rfl rfl)
theorem dX6_outed_26 : decode cX6_outed 26 = .ok (.idiv, 1) := dk_108 (dk_at dksX6_outed_1 2 rfl rfl)
theorem dX6_outed_27 : decode cX6_outed 27 = .ok (.istore_n 3, 1) := dk_62 (dk_at dksX6_outed_1 3 rfl rfl)
theorem dX6_outed_28 : decode cX6_outed 28 = .ok (.iload_n 3, 1) := dk_29 (dk_at dksX6_outed_1 4 rfl rfl)
theorem dX6_outed_29 : decode cX6_outed 29 = .ok (.aload_n 0, 1) := dk_42 (dk_at dksX6_outed_1 5 rfl rfl)
theorem dX6_outed_30 : decode cX6_outed 30 = .ok (.aload_n 0, 1) := dk_42 (dk_at dksX6_outed_1 6 rfl rfl)
theorem dX6_outed_31 : decode cX6_outed 31 = .ok (.getfield 16, 3) := dk_180 0 16 (dk_at dksX6_outed_1 7 rfl rfl)
theorem dX6_outed_34 : decode cX6_outed 34 = .ok (.iload_n 1, 1) := dk_27 (dk_at dksX6_outed_1 10 rfl rfl)
theorem dX6_outed_35 : decode cX6_outed 35 = .ok (.invokevirtual 313, 3) := dk_182 1 57 (dk_at dksX6_outed_1 11 rfl rfl)
theorem dX6_outed_38 : decode cX6_outed 38 = .ok (.if_icmp .ge 7, 3) := dk_162 0 7 (dk_at dksX6_outed_1 14 rfl rfl)
theorem dX6_outed_41 : decode cX6_outed 41 = .ok (.iload_n 3, 1) := dk_29 (dk_at dksX6_outed_1 17 rfl rfl)
theorem dX6_outed_42 : decode cX6_outed 42 = .ok (.goto 12, 3) := dk_167 0 12 (dk_at dksX6_outed_1 18 rfl rfl)
theorem dX6_outed_45 : decode cX6_outed 45 = .ok (.aload_n 0, 1) := dk_42 (dk_at dksX6_outed_1 21 rfl rfl)
theorem dX6_outed_46 : decode cX6_outed 46 = .ok (.aload_n 0, 1) := dk_42 (dk_at dksX6_outed_1 22 rfl rfl)
theorem dX6_outed_47 : decode cX6_outed 47 = .ok (.getfield 16, 3) := dk_180 0 16 (dk_at dksX6_outed_2 0 rfl rfl)
theorem dX6_outed_50 : decode cX6_outed 50 = .ok (.iload_n 1, 1) := dk_27 (dk_at dksX6_outed_2 3 rfl rfl)
theorem dX6_outed_51 : decode cX6_outed 51 = .ok (.invokevirtual 313, 3) := dk_182 1 57 (dk_at dksX6_outed_2 4 rfl rfl)
theorem dX6_outed_54 : decode cX6_outed 54 = .ok (.ireturn, 1) := dk_172 (dk_at dksX6_outed_2 7 rfl rfl)
abbrev cX6_reach : ByteArray := prog_23_method_54_code
def yX6_reach : MethodName := ⟨RX6, "reach", "(I)I"⟩
def dkwX6_reach_2 : List UInt8 := [28, 172]
abbrev dktX6_reach_2 : List UInt8 := dkwX6_reach_2 ++ []
def dkwX6_reach_1 : List UInt8 := [42, 29, 27, 182, 1, 85, 153, 0, 9, 4, 29, 120, 167, 0, 4, 3, 128, 61, 132, 3, 1, 167, 255, 226]
abbrev dktX6_reach_1 : List UInt8 := dkwX6_reach_1 ++ dktX6_reach_2
def dkwX6_reach_0 : List UInt8 := [42, 27, 182, 1, 70, 154, 0, 6, 16, 254, 172, 3, 61, 3, 62, 29, 42, 180, 0, 7, 162, 0, 28, 28]
abbrev dktX6_reach_0 : List UInt8 := dkwX6_reach_0 ++ dktX6_reach_1
theorem dksX6_reach_0 : cX6_reach.data.toList.drop 0 = dktX6_reach_0 := by decide +kernel
theorem dksX6_reach_1 : cX6_reach.data.toList.drop 24 = dktX6_reach_1 := dk_seg dksX6_reach_0 24 rfl rfl
theorem dksX6_reach_2 : cX6_reach.data.toList.drop 48 = dktX6_reach_2 := dk_seg dksX6_reach_1 24 rfl rfl
theorem dX6_reach_0 : decode cX6_reach 0 = .ok (.aload_n 0, 1) := dk_42 (dk_at dksX6_reach_0 0 rfl rfl)
theorem dX6_reach_1 : decode cX6_reach 1 = .ok (.iload_n 1, 1) := dk_27 (dk_at dksX6_reach_0 1 rfl rfl)
theorem dX6_reach_2 : decode cX6_reach 2 = .ok (.invokevirtual 326, 3) := dk_182 1 70 (dk_at dksX6_reach_0 2 rfl rfl)
theorem dX6_reach_5 : decode cX6_reach 5 = .ok (.ifCond .ne 6, 3) := dk_154 0 6 (dk_at dksX6_reach_0 5 rfl rfl)
theorem dX6_reach_8 : decode cX6_reach 8 = .ok (.bipush (-2), 2) := dk_16 254 (dk_at dksX6_reach_0 8 rfl rfl)
theorem dX6_reach_10 : decode cX6_reach 10 = .ok (.ireturn, 1) := dk_172 (dk_at dksX6_reach_0 10 rfl rfl)
theorem dX6_reach_11 : decode cX6_reach 11 = .ok (.iconst 0, 1) := dk_3 (dk_at dksX6_reach_0 11 rfl rfl)
theorem dX6_reach_12 : decode cX6_reach 12 = .ok (.istore_n 2, 1) := dk_61 (dk_at dksX6_reach_0 12 rfl rfl)
theorem dX6_reach_13 : decode cX6_reach 13 = .ok (.iconst 0, 1) := dk_3 (dk_at dksX6_reach_0 13 rfl rfl)
theorem dX6_reach_14 : decode cX6_reach 14 = .ok (.istore_n 3, 1) := dk_62 (dk_at dksX6_reach_0 14 rfl rfl)
theorem dX6_reach_15 : decode cX6_reach 15 = .ok (.iload_n 3, 1) := dk_29 (dk_at dksX6_reach_0 15 rfl rfl)
theorem dX6_reach_16 : decode cX6_reach 16 = .ok (.aload_n 0, 1) := dk_42 (dk_at dksX6_reach_0 16 rfl rfl)
theorem dX6_reach_17 : decode cX6_reach 17 = .ok (.getfield 7, 3) := dk_180 0 7 (dk_at dksX6_reach_0 17 rfl rfl)
theorem dX6_reach_20 : decode cX6_reach 20 = .ok (.if_icmp .ge 28, 3) := dk_162 0 28 (dk_at dksX6_reach_0 20 rfl rfl)
theorem dX6_reach_23 : decode cX6_reach 23 = .ok (.iload_n 2, 1) := dk_28 (dk_at dksX6_reach_0 23 rfl rfl)
theorem dX6_reach_24 : decode cX6_reach 24 = .ok (.aload_n 0, 1) := dk_42 (dk_at dksX6_reach_1 0 rfl rfl)
theorem dX6_reach_25 : decode cX6_reach 25 = .ok (.iload_n 3, 1) := dk_29 (dk_at dksX6_reach_1 1 rfl rfl)
theorem dX6_reach_26 : decode cX6_reach 26 = .ok (.iload_n 1, 1) := dk_27 (dk_at dksX6_reach_1 2 rfl rfl)
theorem dX6_reach_27 : decode cX6_reach 27 = .ok (.invokevirtual 341, 3) := dk_182 1 85 (dk_at dksX6_reach_1 3 rfl rfl)
theorem dX6_reach_30 : decode cX6_reach 30 = .ok (.ifCond .eq 9, 3) := dk_153 0 9 (dk_at dksX6_reach_1 6 rfl rfl)
theorem dX6_reach_33 : decode cX6_reach 33 = .ok (.iconst 1, 1) := dk_4 (dk_at dksX6_reach_1 9 rfl rfl)
theorem dX6_reach_34 : decode cX6_reach 34 = .ok (.iload_n 3, 1) := dk_29 (dk_at dksX6_reach_1 10 rfl rfl)
theorem dX6_reach_35 : decode cX6_reach 35 = .ok (.ishl, 1) := dk_120 (dk_at dksX6_reach_1 11 rfl rfl)
theorem dX6_reach_36 : decode cX6_reach 36 = .ok (.goto 4, 3) := dk_167 0 4 (dk_at dksX6_reach_1 12 rfl rfl)
theorem dX6_reach_39 : decode cX6_reach 39 = .ok (.iconst 0, 1) := dk_3 (dk_at dksX6_reach_1 15 rfl rfl)
theorem dX6_reach_40 : decode cX6_reach 40 = .ok (.ior, 1) := dk_128 (dk_at dksX6_reach_1 16 rfl rfl)
theorem dX6_reach_41 : decode cX6_reach 41 = .ok (.istore_n 2, 1) := dk_61 (dk_at dksX6_reach_1 17 rfl rfl)
theorem dX6_reach_42 : decode cX6_reach 42 = .ok (.iinc 3 1, 3) := dk_132 3 1 (dk_at dksX6_reach_1 18 rfl rfl)
theorem dX6_reach_45 : decode cX6_reach 45 = .ok (.goto (-30), 3) := dk_167 255 226 (dk_at dksX6_reach_1 21 rfl rfl)
theorem dX6_reach_48 : decode cX6_reach 48 = .ok (.iload_n 2, 1) := dk_28 (dk_at dksX6_reach_2 0 rfl rfl)
theorem dX6_reach_49 : decode cX6_reach 49 = .ok (.ireturn, 1) := dk_172 (dk_at dksX6_reach_2 1 rfl rfl)
abbrev cX6_canReach : ByteArray := prog_23_method_53_code
def yX6_canReach : MethodName := ⟨RX6, "canReach", "(II)Z"⟩
def dkwX6_canReach_1 : List UInt8 := [155, 0, 15, 29, 42, 182, 1, 54, 161, 0, 7, 4, 167, 0, 4, 3, 172]
abbrev dktX6_canReach_1 : List UInt8 := dkwX6_canReach_1 ++ []
def dkwX6_canReach_0 : List UInt8 := [42, 180, 0, 19, 42, 42, 180, 0, 16, 42, 180, 0, 35, 27, 46, 28, 182, 1, 60, 100, 62, 29]
abbrev dktX6_canReach_0 : List UInt8 := dkwX6_canReach_0 ++ dktX6_canReach_1
theorem dksX6_canReach_0 : cX6_canReach.data.toList.drop 0 = dktX6_canReach_0 := by decide +kernel
theorem dksX6_canReach_1 : cX6_canReach.data.toList.drop 22 = dktX6_canReach_1 := dk_seg dksX6_canReach_0 22 rfl rfl
theorem dX6_canReach_0 : decode cX6_canReach 0 = .ok (.aload_n 0, 1) := dk_42 (dk_at dksX6_canReach_0 0 rfl rfl)
theorem dX6_canReach_1 : decode cX6_canReach 1 = .ok (.getfield 19, 3) := dk_180 0 19 (dk_at dksX6_canReach_0 1 rfl rfl)
theorem dX6_canReach_4 : decode cX6_canReach 4 = .ok (.aload_n 0, 1) := dk_42 (dk_at dksX6_canReach_0 4 rfl rfl)
theorem dX6_canReach_5 : decode cX6_canReach 5 = .ok (.aload_n 0, 1) := dk_42 (dk_at dksX6_canReach_0 5 rfl rfl)
theorem dX6_canReach_6 : decode cX6_canReach 6 = .ok (.getfield 16, 3) := dk_180 0 16 (dk_at dksX6_canReach_0 6 rfl rfl)
theorem dX6_canReach_9 : decode cX6_canReach 9 = .ok (.aload_n 0, 1) := dk_42 (dk_at dksX6_canReach_0 9 rfl rfl)
theorem dX6_canReach_10 : decode cX6_canReach 10 = .ok (.getfield 35, 3) := dk_180 0 35 (dk_at dksX6_canReach_0 10 rfl rfl)
theorem dX6_canReach_13 : decode cX6_canReach 13 = .ok (.iload_n 1, 1) := dk_27 (dk_at dksX6_canReach_0 13 rfl rfl)
theorem dX6_canReach_14 : decode cX6_canReach 14 = .ok (.iaload, 1) := dk_46 (dk_at dksX6_canReach_0 14 rfl rfl)
theorem dX6_canReach_15 : decode cX6_canReach 15 = .ok (.iload_n 2, 1) := dk_28 (dk_at dksX6_canReach_0 15 rfl rfl)
theorem dX6_canReach_16 : decode cX6_canReach 16 = .ok (.invokevirtual 316, 3) := dk_182 1 60 (dk_at dksX6_canReach_0 16 rfl rfl)
theorem dX6_canReach_19 : decode cX6_canReach 19 = .ok (.isub, 1) := dk_100 (dk_at dksX6_canReach_0 19 rfl rfl)
theorem dX6_canReach_20 : decode cX6_canReach 20 = .ok (.istore_n 3, 1) := dk_62 (dk_at dksX6_canReach_0 20 rfl rfl)
theorem dX6_canReach_21 : decode cX6_canReach 21 = .ok (.iload_n 3, 1) := dk_29 (dk_at dksX6_canReach_0 21 rfl rfl)
theorem dX6_canReach_22 : decode cX6_canReach 22 = .ok (.ifCond .lt 15, 3) := dk_155 0 15 (dk_at dksX6_canReach_1 0 rfl rfl)
theorem dX6_canReach_25 : decode cX6_canReach 25 = .ok (.iload_n 3, 1) := dk_29 (dk_at dksX6_canReach_1 3 rfl rfl)
theorem dX6_canReach_26 : decode cX6_canReach 26 = .ok (.aload_n 0, 1) := dk_42 (dk_at dksX6_canReach_1 4 rfl rfl)
theorem dX6_canReach_27 : decode cX6_canReach 27 = .ok (.invokevirtual 310, 3) := dk_182 1 54 (dk_at dksX6_canReach_1 5 rfl rfl)
theorem dX6_canReach_30 : decode cX6_canReach 30 = .ok (.if_icmp .lt 7, 3) := dk_161 0 7 (dk_at dksX6_canReach_1 8 rfl rfl)
theorem dX6_canReach_33 : decode cX6_canReach 33 = .ok (.iconst 1, 1) := dk_4 (dk_at dksX6_canReach_1 11 rfl rfl)
theorem dX6_canReach_34 : decode cX6_canReach 34 = .ok (.goto 4, 3) := dk_167 0 4 (dk_at dksX6_canReach_1 12 rfl rfl)
theorem dX6_canReach_37 : decode cX6_canReach 37 = .ok (.iconst 0, 1) := dk_3 (dk_at dksX6_canReach_1 15 rfl rfl)
theorem dX6_canReach_38 : decode cX6_canReach 38 = .ok (.ireturn, 1) := dk_172 (dk_at dksX6_canReach_1 16 rfl rfl)
abbrev cX6_next : ByteArray := prog_23_method_55_code
def yX6_next : MethodName := ⟨RX6, "next", "(I)I"⟩
def dkwX6_next_4 : List UInt8 := [132, 4, 1, 167, 255, 182, 28, 172]
abbrev dktX6_next_4 : List UInt8 := dkwX6_next_4 ++ []
def dkwX6_next_3 : List UInt8 := [182, 1, 79, 28, 155, 0, 12, 21, 6, 29, 163, 0, 6, 167, 0, 9, 21, 4, 61, 21, 6, 62]
abbrev dktX6_next_3 : List UInt8 := dkwX6_next_3 ++ dktX6_next_4
def dkwX6_next_2 : List UInt8 := [42, 180, 0, 35, 21, 4, 46, 27, 182, 1, 73, 54, 5, 42, 21, 4, 182, 1, 48, 54, 6, 42]
abbrev dktX6_next_2 : List UInt8 := dkwX6_next_2 ++ dktX6_next_3
def dkwX6_next_1 : List UInt8 := [180, 0, 7, 162, 0, 71, 42, 21, 4, 27, 182, 1, 85, 154, 0, 6, 167, 0, 52, 42, 182, 1, 76, 42]
abbrev dktX6_next_1 : List UInt8 := dkwX6_next_1 ++ dktX6_next_2
def dkwX6_next_0 : List UInt8 := [42, 27, 182, 1, 70, 154, 0, 6, 16, 254, 172, 16, 251, 61, 3, 62, 3, 54, 4, 21, 4, 42]
abbrev dktX6_next_0 : List UInt8 := dkwX6_next_0 ++ dktX6_next_1
theorem dksX6_next_0 : cX6_next.data.toList.drop 0 = dktX6_next_0 := by decide +kernel
theorem dksX6_next_1 : cX6_next.data.toList.drop 22 = dktX6_next_1 := dk_seg dksX6_next_0 22 rfl rfl
theorem dksX6_next_2 : cX6_next.data.toList.drop 46 = dktX6_next_2 := dk_seg dksX6_next_1 24 rfl rfl
theorem dksX6_next_3 : cX6_next.data.toList.drop 68 = dktX6_next_3 := dk_seg dksX6_next_2 22 rfl rfl
theorem dksX6_next_4 : cX6_next.data.toList.drop 90 = dktX6_next_4 := dk_seg dksX6_next_3 22 rfl rfl
theorem dX6_next_0 : decode cX6_next 0 = .ok (.aload_n 0, 1) := dk_42 (dk_at dksX6_next_0 0 rfl rfl)
theorem dX6_next_1 : decode cX6_next 1 = .ok (.iload_n 1, 1) := dk_27 (dk_at dksX6_next_0 1 rfl rfl)
theorem dX6_next_2 : decode cX6_next 2 = .ok (.invokevirtual 326, 3) := dk_182 1 70 (dk_at dksX6_next_0 2 rfl rfl)
theorem dX6_next_5 : decode cX6_next 5 = .ok (.ifCond .ne 6, 3) := dk_154 0 6 (dk_at dksX6_next_0 5 rfl rfl)
theorem dX6_next_8 : decode cX6_next 8 = .ok (.bipush (-2), 2) := dk_16 254 (dk_at dksX6_next_0 8 rfl rfl)
theorem dX6_next_10 : decode cX6_next 10 = .ok (.ireturn, 1) := dk_172 (dk_at dksX6_next_0 10 rfl rfl)
theorem dX6_next_11 : decode cX6_next 11 = .ok (.bipush (-5), 2) := dk_16 251 (dk_at dksX6_next_0 11 rfl rfl)
theorem dX6_next_13 : decode cX6_next 13 = .ok (.istore_n 2, 1) := dk_61 (dk_at dksX6_next_0 13 rfl rfl)
theorem dX6_next_14 : decode cX6_next 14 = .ok (.iconst 0, 1) := dk_3 (dk_at dksX6_next_0 14 rfl rfl)
theorem dX6_next_15 : decode cX6_next 15 = .ok (.istore_n 3, 1) := dk_62 (dk_at dksX6_next_0 15 rfl rfl)
theorem dX6_next_16 : decode cX6_next 16 = .ok (.iconst 0, 1) := dk_3 (dk_at dksX6_next_0 16 rfl rfl)
theorem dX6_next_17 : decode cX6_next 17 = .ok (.istore 4, 2) := dk_54 4 (dk_at dksX6_next_0 17 rfl rfl)
theorem dX6_next_19 : decode cX6_next 19 = .ok (.iload 4, 2) := dk_21 4 (dk_at dksX6_next_0 19 rfl rfl)
theorem dX6_next_21 : decode cX6_next 21 = .ok (.aload_n 0, 1) := dk_42 (dk_at dksX6_next_0 21 rfl rfl)
theorem dX6_next_22 : decode cX6_next 22 = .ok (.getfield 7, 3) := dk_180 0 7 (dk_at dksX6_next_1 0 rfl rfl)
theorem dX6_next_25 : decode cX6_next 25 = .ok (.if_icmp .ge 71, 3) := dk_162 0 71 (dk_at dksX6_next_1 3 rfl rfl)
theorem dX6_next_28 : decode cX6_next 28 = .ok (.aload_n 0, 1) := dk_42 (dk_at dksX6_next_1 6 rfl rfl)
theorem dX6_next_29 : decode cX6_next 29 = .ok (.iload 4, 2) := dk_21 4 (dk_at dksX6_next_1 7 rfl rfl)
theorem dX6_next_31 : decode cX6_next 31 = .ok (.iload_n 1, 1) := dk_27 (dk_at dksX6_next_1 9 rfl rfl)
theorem dX6_next_32 : decode cX6_next 32 = .ok (.invokevirtual 341, 3) := dk_182 1 85 (dk_at dksX6_next_1 10 rfl rfl)
theorem dX6_next_35 : decode cX6_next 35 = .ok (.ifCond .ne 6, 3) := dk_154 0 6 (dk_at dksX6_next_1 13 rfl rfl)
theorem dX6_next_38 : decode cX6_next 38 = .ok (.goto 52, 3) := dk_167 0 52 (dk_at dksX6_next_1 16 rfl rfl)
theorem dX6_next_41 : decode cX6_next 41 = .ok (.aload_n 0, 1) := dk_42 (dk_at dksX6_next_1 19 rfl rfl)
theorem dX6_next_42 : decode cX6_next 42 = .ok (.invokevirtual 332, 3) := dk_182 1 76 (dk_at dksX6_next_1 20 rfl rfl)
theorem dX6_next_45 : decode cX6_next 45 = .ok (.aload_n 0, 1) := dk_42 (dk_at dksX6_next_1 23 rfl rfl)
theorem dX6_next_46 : decode cX6_next 46 = .ok (.aload_n 0, 1) := dk_42 (dk_at dksX6_next_2 0 rfl rfl)
theorem dX6_next_47 : decode cX6_next 47 = .ok (.getfield 35, 3) := dk_180 0 35 (dk_at dksX6_next_2 1 rfl rfl)
theorem dX6_next_50 : decode cX6_next 50 = .ok (.iload 4, 2) := dk_21 4 (dk_at dksX6_next_2 4 rfl rfl)
theorem dX6_next_52 : decode cX6_next 52 = .ok (.iaload, 1) := dk_46 (dk_at dksX6_next_2 6 rfl rfl)
theorem dX6_next_53 : decode cX6_next 53 = .ok (.iload_n 1, 1) := dk_27 (dk_at dksX6_next_2 7 rfl rfl)
theorem dX6_next_54 : decode cX6_next 54 = .ok (.invokevirtual 329, 3) := dk_182 1 73 (dk_at dksX6_next_2 8 rfl rfl)
theorem dX6_next_57 : decode cX6_next 57 = .ok (.istore 5, 2) := dk_54 5 (dk_at dksX6_next_2 11 rfl rfl)
theorem dX6_next_59 : decode cX6_next 59 = .ok (.aload_n 0, 1) := dk_42 (dk_at dksX6_next_2 13 rfl rfl)
theorem dX6_next_60 : decode cX6_next 60 = .ok (.iload 4, 2) := dk_21 4 (dk_at dksX6_next_2 14 rfl rfl)
theorem dX6_next_62 : decode cX6_next 62 = .ok (.invokevirtual 304, 3) := dk_182 1 48 (dk_at dksX6_next_2 16 rfl rfl)
theorem dX6_next_65 : decode cX6_next 65 = .ok (.istore 6, 2) := dk_54 6 (dk_at dksX6_next_2 19 rfl rfl)
theorem dX6_next_67 : decode cX6_next 67 = .ok (.aload_n 0, 1) := dk_42 (dk_at dksX6_next_2 21 rfl rfl)
theorem dX6_next_68 : decode cX6_next 68 = .ok (.invokevirtual 335, 3) := dk_182 1 79 (dk_at dksX6_next_3 0 rfl rfl)
theorem dX6_next_71 : decode cX6_next 71 = .ok (.iload_n 2, 1) := dk_28 (dk_at dksX6_next_3 3 rfl rfl)
theorem dX6_next_72 : decode cX6_next 72 = .ok (.ifCond .lt 12, 3) := dk_155 0 12 (dk_at dksX6_next_3 4 rfl rfl)
theorem dX6_next_75 : decode cX6_next 75 = .ok (.iload 6, 2) := dk_21 6 (dk_at dksX6_next_3 7 rfl rfl)
theorem dX6_next_77 : decode cX6_next 77 = .ok (.iload_n 3, 1) := dk_29 (dk_at dksX6_next_3 9 rfl rfl)
theorem dX6_next_78 : decode cX6_next 78 = .ok (.if_icmp .gt 6, 3) := dk_163 0 6 (dk_at dksX6_next_3 10 rfl rfl)
theorem dX6_next_81 : decode cX6_next 81 = .ok (.goto 9, 3) := dk_167 0 9 (dk_at dksX6_next_3 13 rfl rfl)
theorem dX6_next_84 : decode cX6_next 84 = .ok (.iload 4, 2) := dk_21 4 (dk_at dksX6_next_3 16 rfl rfl)
theorem dX6_next_86 : decode cX6_next 86 = .ok (.istore_n 2, 1) := dk_61 (dk_at dksX6_next_3 18 rfl rfl)
theorem dX6_next_87 : decode cX6_next 87 = .ok (.iload 6, 2) := dk_21 6 (dk_at dksX6_next_3 19 rfl rfl)
theorem dX6_next_89 : decode cX6_next 89 = .ok (.istore_n 3, 1) := dk_62 (dk_at dksX6_next_3 21 rfl rfl)
theorem dX6_next_90 : decode cX6_next 90 = .ok (.iinc 4 1, 3) := dk_132 4 1 (dk_at dksX6_next_4 0 rfl rfl)
theorem dX6_next_93 : decode cX6_next 93 = .ok (.goto (-74), 3) := dk_167 255 182 (dk_at dksX6_next_4 3 rfl rfl)
theorem dX6_next_96 : decode cX6_next 96 = .ok (.iload_n 2, 1) := dk_28 (dk_at dksX6_next_4 6 rfl rfl)
theorem dX6_next_97 : decode cX6_next 97 = .ok (.ireturn, 1) := dk_172 (dk_at dksX6_next_4 7 rfl rfl)
abbrev cX6_lowest : ByteArray := prog_23_method_56_code
def yX6_lowest : MethodName := ⟨RX6, "lowest", "(II)I"⟩
def dkwX6_lowest_2 : List UInt8 := [164, 0, 8, 16, 251, 167, 0, 4, 29, 172]
abbrev dktX6_lowest_2 : List UInt8 := dkwX6_lowest_2 ++ []
def dkwX6_lowest_1 : List UInt8 := [180, 0, 16, 42, 180, 0, 35, 27, 46, 28, 182, 1, 60, 42, 182, 1, 54, 96, 62, 29, 17, 1, 144]
abbrev dktX6_lowest_1 : List UInt8 := dkwX6_lowest_1 ++ dktX6_lowest_2
def dkwX6_lowest_0 : List UInt8 := [42, 27, 182, 0, 235, 154, 0, 5, 2, 172, 42, 28, 182, 1, 70, 154, 0, 6, 16, 254, 172, 42, 42]
abbrev dktX6_lowest_0 : List UInt8 := dkwX6_lowest_0 ++ dktX6_lowest_1
theorem dksX6_lowest_0 : cX6_lowest.data.toList.drop 0 = dktX6_lowest_0 := by decide +kernel
theorem dksX6_lowest_1 : cX6_lowest.data.toList.drop 23 = dktX6_lowest_1 := dk_seg dksX6_lowest_0 23 rfl rfl
theorem dksX6_lowest_2 : cX6_lowest.data.toList.drop 46 = dktX6_lowest_2 := dk_seg dksX6_lowest_1 23 rfl rfl
theorem dX6_lowest_0 : decode cX6_lowest 0 = .ok (.aload_n 0, 1) := dk_42 (dk_at dksX6_lowest_0 0 rfl rfl)
theorem dX6_lowest_1 : decode cX6_lowest 1 = .ok (.iload_n 1, 1) := dk_27 (dk_at dksX6_lowest_0 1 rfl rfl)
theorem dX6_lowest_2 : decode cX6_lowest 2 = .ok (.invokevirtual 235, 3) := dk_182 0 235 (dk_at dksX6_lowest_0 2 rfl rfl)
theorem dX6_lowest_5 : decode cX6_lowest 5 = .ok (.ifCond .ne 5, 3) := dk_154 0 5 (dk_at dksX6_lowest_0 5 rfl rfl)
theorem dX6_lowest_8 : decode cX6_lowest 8 = .ok (.iconst (-1), 1) := dk_2 (dk_at dksX6_lowest_0 8 rfl rfl)
theorem dX6_lowest_9 : decode cX6_lowest 9 = .ok (.ireturn, 1) := dk_172 (dk_at dksX6_lowest_0 9 rfl rfl)
theorem dX6_lowest_10 : decode cX6_lowest 10 = .ok (.aload_n 0, 1) := dk_42 (dk_at dksX6_lowest_0 10 rfl rfl)
theorem dX6_lowest_11 : decode cX6_lowest 11 = .ok (.iload_n 2, 1) := dk_28 (dk_at dksX6_lowest_0 11 rfl rfl)
theorem dX6_lowest_12 : decode cX6_lowest 12 = .ok (.invokevirtual 326, 3) := dk_182 1 70 (dk_at dksX6_lowest_0 12 rfl rfl)
theorem dX6_lowest_15 : decode cX6_lowest 15 = .ok (.ifCond .ne 6, 3) := dk_154 0 6 (dk_at dksX6_lowest_0 15 rfl rfl)
theorem dX6_lowest_18 : decode cX6_lowest 18 = .ok (.bipush (-2), 2) := dk_16 254 (dk_at dksX6_lowest_0 18 rfl rfl)
theorem dX6_lowest_20 : decode cX6_lowest 20 = .ok (.ireturn, 1) := dk_172 (dk_at dksX6_lowest_0 20 rfl rfl)
theorem dX6_lowest_21 : decode cX6_lowest 21 = .ok (.aload_n 0, 1) := dk_42 (dk_at dksX6_lowest_0 21 rfl rfl)
theorem dX6_lowest_22 : decode cX6_lowest 22 = .ok (.aload_n 0, 1) := dk_42 (dk_at dksX6_lowest_0 22 rfl rfl)
theorem dX6_lowest_23 : decode cX6_lowest 23 = .ok (.getfield 16, 3) := dk_180 0 16 (dk_at dksX6_lowest_1 0 rfl rfl)
theorem dX6_lowest_26 : decode cX6_lowest 26 = .ok (.aload_n 0, 1) := dk_42 (dk_at dksX6_lowest_1 3 rfl rfl)
theorem dX6_lowest_27 : decode cX6_lowest 27 = .ok (.getfield 35, 3) := dk_180 0 35 (dk_at dksX6_lowest_1 4 rfl rfl)
theorem dX6_lowest_30 : decode cX6_lowest 30 = .ok (.iload_n 1, 1) := dk_27 (dk_at dksX6_lowest_1 7 rfl rfl)
theorem dX6_lowest_31 : decode cX6_lowest 31 = .ok (.iaload, 1) := dk_46 (dk_at dksX6_lowest_1 8 rfl rfl)
theorem dX6_lowest_32 : decode cX6_lowest 32 = .ok (.iload_n 2, 1) := dk_28 (dk_at dksX6_lowest_1 9 rfl rfl)
theorem dX6_lowest_33 : decode cX6_lowest 33 = .ok (.invokevirtual 316, 3) := dk_182 1 60 (dk_at dksX6_lowest_1 10 rfl rfl)
theorem dX6_lowest_36 : decode cX6_lowest 36 = .ok (.aload_n 0, 1) := dk_42 (dk_at dksX6_lowest_1 13 rfl rfl)
theorem dX6_lowest_37 : decode cX6_lowest 37 = .ok (.invokevirtual 310, 3) := dk_182 1 54 (dk_at dksX6_lowest_1 14 rfl rfl)
theorem dX6_lowest_40 : decode cX6_lowest 40 = .ok (.iadd, 1) := dk_96 (dk_at dksX6_lowest_1 17 rfl rfl)
theorem dX6_lowest_41 : decode cX6_lowest 41 = .ok (.istore_n 3, 1) := dk_62 (dk_at dksX6_lowest_1 18 rfl rfl)
theorem dX6_lowest_42 : decode cX6_lowest 42 = .ok (.iload_n 3, 1) := dk_29 (dk_at dksX6_lowest_1 19 rfl rfl)
theorem dX6_lowest_43 : decode cX6_lowest 43 = .ok (.sipush 400, 3) := dk_17 1 144 (dk_at dksX6_lowest_1 20 rfl rfl)
theorem dX6_lowest_46 : decode cX6_lowest 46 = .ok (.if_icmp .le 8, 3) := dk_164 0 8 (dk_at dksX6_lowest_2 0 rfl rfl)
theorem dX6_lowest_49 : decode cX6_lowest 49 = .ok (.bipush (-5), 2) := dk_16 251 (dk_at dksX6_lowest_2 3 rfl rfl)
theorem dX6_lowest_51 : decode cX6_lowest 51 = .ok (.goto 4, 3) := dk_167 0 4 (dk_at dksX6_lowest_2 5 rfl rfl)
theorem dX6_lowest_54 : decode cX6_lowest 54 = .ok (.iload_n 3, 1) := dk_29 (dk_at dksX6_lowest_2 8 rfl rfl)
theorem dX6_lowest_55 : decode cX6_lowest 55 = .ok (.ireturn, 1) := dk_172 (dk_at dksX6_lowest_2 9 rfl rfl)
abbrev cX6_by : ByteArray := prog_23_method_59_code
def yX6_by : MethodName := ⟨RX6, "by", "(III)I"⟩
def dkwX6_by_2 : List UInt8 := [154, 0, 8, 21, 4, 167, 0, 7, 42, 180, 0, 108, 172]
abbrev dktX6_by_2 : List UInt8 := dkwX6_by_2 ++ []
def dkwX6_by_1 : List UInt8 := [182, 1, 70, 154, 0, 6, 16, 254, 172, 42, 2, 27, 28, 182, 1, 92, 54, 4, 21, 4, 155, 0, 7, 29]
abbrev dktX6_by_1 : List UInt8 := dkwX6_by_1 ++ dktX6_by_2
def dkwX6_by_0 : List UInt8 := [42, 27, 182, 0, 235, 153, 0, 13, 42, 29, 3, 4, 182, 0, 227, 154, 0, 5, 2, 172, 42, 28]
abbrev dktX6_by_0 : List UInt8 := dkwX6_by_0 ++ dktX6_by_1
theorem dksX6_by_0 : cX6_by.data.toList.drop 0 = dktX6_by_0 := by decide +kernel
theorem dksX6_by_1 : cX6_by.data.toList.drop 22 = dktX6_by_1 := dk_seg dksX6_by_0 22 rfl rfl
theorem dksX6_by_2 : cX6_by.data.toList.drop 46 = dktX6_by_2 := dk_seg dksX6_by_1 24 rfl rfl
theorem dX6_by_0 : decode cX6_by 0 = .ok (.aload_n 0, 1) := dk_42 (dk_at dksX6_by_0 0 rfl rfl)
theorem dX6_by_1 : decode cX6_by 1 = .ok (.iload_n 1, 1) := dk_27 (dk_at dksX6_by_0 1 rfl rfl)
theorem dX6_by_2 : decode cX6_by 2 = .ok (.invokevirtual 235, 3) := dk_182 0 235 (dk_at dksX6_by_0 2 rfl rfl)
theorem dX6_by_5 : decode cX6_by 5 = .ok (.ifCond .eq 13, 3) := dk_153 0 13 (dk_at dksX6_by_0 5 rfl rfl)
theorem dX6_by_8 : decode cX6_by 8 = .ok (.aload_n 0, 1) := dk_42 (dk_at dksX6_by_0 8 rfl rfl)
theorem dX6_by_9 : decode cX6_by 9 = .ok (.iload_n 3, 1) := dk_29 (dk_at dksX6_by_0 9 rfl rfl)
theorem dX6_by_10 : decode cX6_by 10 = .ok (.iconst 0, 1) := dk_3 (dk_at dksX6_by_0 10 rfl rfl)
theorem dX6_by_11 : decode cX6_by 11 = .ok (.iconst 1, 1) := dk_4 (dk_at dksX6_by_0 11 rfl rfl)
theorem dX6_by_12 : decode cX6_by 12 = .ok (.invokevirtual 227, 3) := dk_182 0 227 (dk_at dksX6_by_0 12 rfl rfl)
theorem dX6_by_15 : decode cX6_by 15 = .ok (.ifCond .ne 5, 3) := dk_154 0 5 (dk_at dksX6_by_0 15 rfl rfl)
theorem dX6_by_18 : decode cX6_by 18 = .ok (.iconst (-1), 1) := dk_2 (dk_at dksX6_by_0 18 rfl rfl)
theorem dX6_by_19 : decode cX6_by 19 = .ok (.ireturn, 1) := dk_172 (dk_at dksX6_by_0 19 rfl rfl)
theorem dX6_by_20 : decode cX6_by 20 = .ok (.aload_n 0, 1) := dk_42 (dk_at dksX6_by_0 20 rfl rfl)
theorem dX6_by_21 : decode cX6_by 21 = .ok (.iload_n 2, 1) := dk_28 (dk_at dksX6_by_0 21 rfl rfl)
theorem dX6_by_22 : decode cX6_by 22 = .ok (.invokevirtual 326, 3) := dk_182 1 70 (dk_at dksX6_by_1 0 rfl rfl)
theorem dX6_by_25 : decode cX6_by 25 = .ok (.ifCond .ne 6, 3) := dk_154 0 6 (dk_at dksX6_by_1 3 rfl rfl)
theorem dX6_by_28 : decode cX6_by 28 = .ok (.bipush (-2), 2) := dk_16 254 (dk_at dksX6_by_1 6 rfl rfl)
theorem dX6_by_30 : decode cX6_by 30 = .ok (.ireturn, 1) := dk_172 (dk_at dksX6_by_1 8 rfl rfl)
theorem dX6_by_31 : decode cX6_by 31 = .ok (.aload_n 0, 1) := dk_42 (dk_at dksX6_by_1 9 rfl rfl)
theorem dX6_by_32 : decode cX6_by 32 = .ok (.iconst (-1), 1) := dk_2 (dk_at dksX6_by_1 10 rfl rfl)
theorem dX6_by_33 : decode cX6_by 33 = .ok (.iload_n 1, 1) := dk_27 (dk_at dksX6_by_1 11 rfl rfl)
theorem dX6_by_34 : decode cX6_by 34 = .ok (.iload_n 2, 1) := dk_28 (dk_at dksX6_by_1 12 rfl rfl)
theorem dX6_by_35 : decode cX6_by 35 = .ok (.invokevirtual 348, 3) := dk_182 1 92 (dk_at dksX6_by_1 13 rfl rfl)
theorem dX6_by_38 : decode cX6_by 38 = .ok (.istore 4, 2) := dk_54 4 (dk_at dksX6_by_1 16 rfl rfl)
theorem dX6_by_40 : decode cX6_by 40 = .ok (.iload 4, 2) := dk_21 4 (dk_at dksX6_by_1 18 rfl rfl)
theorem dX6_by_42 : decode cX6_by 42 = .ok (.ifCond .lt 7, 3) := dk_155 0 7 (dk_at dksX6_by_1 20 rfl rfl)
theorem dX6_by_45 : decode cX6_by 45 = .ok (.iload_n 3, 1) := dk_29 (dk_at dksX6_by_1 23 rfl rfl)
theorem dX6_by_46 : decode cX6_by 46 = .ok (.ifCond .ne 8, 3) := dk_154 0 8 (dk_at dksX6_by_2 0 rfl rfl)
theorem dX6_by_49 : decode cX6_by 49 = .ok (.iload 4, 2) := dk_21 4 (dk_at dksX6_by_2 3 rfl rfl)
theorem dX6_by_51 : decode cX6_by 51 = .ok (.goto 7, 3) := dk_167 0 7 (dk_at dksX6_by_2 5 rfl rfl)
theorem dX6_by_54 : decode cX6_by 54 = .ok (.aload_n 0, 1) := dk_42 (dk_at dksX6_by_2 8 rfl rfl)
theorem dX6_by_55 : decode cX6_by 55 = .ok (.getfield 108, 3) := dk_180 0 108 (dk_at dksX6_by_2 9 rfl rfl)
theorem dX6_by_58 : decode cX6_by 58 = .ok (.ireturn, 1) := dk_172 (dk_at dksX6_by_2 12 rfl rfl)
abbrev cX6_byOf : ByteArray := prog_23_method_58_code
def yX6_byOf : MethodName := ⟨RX6, "byOf", "(III)I"⟩
def dkwX6_byOf_5 : List UInt8 := [42, 182, 1, 79, 21, 4, 153, 0, 8, 21, 5, 167, 0, 5, 16, 251, 172]
abbrev dktX6_byOf_5 : List UInt8 := dkwX6_byOf_5 ++ []
def dkwX6_byOf_4 : List UInt8 := [182, 1, 73, 153, 0, 7, 4, 167, 0, 4, 3, 54, 4, 42, 180, 0, 13, 42, 180, 0, 99, 100, 54, 5]
abbrev dktX6_byOf_4 : List UInt8 := dkwX6_byOf_4 ++ dktX6_byOf_5
def dkwX6_byOf_3 : List UInt8 := [27, 156, 0, 8, 16, 60, 167, 0, 5, 16, 40, 182, 1, 88, 153, 0, 19, 42, 42, 180, 0, 25, 29]
abbrev dktX6_byOf_3 : List UInt8 := dkwX6_byOf_3 ++ dktX6_byOf_4
def dkwX6_byOf_2 : List UInt8 := [153, 0, 57, 42, 42, 180, 0, 35, 28, 46, 29, 182, 1, 73, 153, 0, 43, 42, 28, 42, 180, 0, 25, 29]
abbrev dktX6_byOf_2 : List UInt8 := dkwX6_byOf_2 ++ dktX6_byOf_3
def dkwX6_byOf_1 : List UInt8 := [42, 180, 0, 35, 28, 46, 29, 16, 40, 182, 1, 88, 153, 0, 7, 4, 167, 0, 4, 3, 54, 4, 21, 4]
abbrev dktX6_byOf_1 : List UInt8 := dkwX6_byOf_1 ++ dktX6_byOf_2
def dkwX6_byOf_0 : List UInt8 := [42, 182, 1, 76, 27, 155, 0, 34, 42, 42, 180, 0, 35, 27, 46, 29, 182, 1, 73, 153, 0, 24, 42, 27]
abbrev dktX6_byOf_0 : List UInt8 := dkwX6_byOf_0 ++ dktX6_byOf_1
theorem dksX6_byOf_0 : cX6_byOf.data.toList.drop 0 = dktX6_byOf_0 := by decide +kernel
theorem dksX6_byOf_1 : cX6_byOf.data.toList.drop 24 = dktX6_byOf_1 := dk_seg dksX6_byOf_0 24 rfl rfl
theorem dksX6_byOf_2 : cX6_byOf.data.toList.drop 48 = dktX6_byOf_2 := dk_seg dksX6_byOf_1 24 rfl rfl
theorem dksX6_byOf_3 : cX6_byOf.data.toList.drop 72 = dktX6_byOf_3 := dk_seg dksX6_byOf_2 24 rfl rfl
theorem dksX6_byOf_4 : cX6_byOf.data.toList.drop 95 = dktX6_byOf_4 := dk_seg dksX6_byOf_3 23 rfl rfl
theorem dksX6_byOf_5 : cX6_byOf.data.toList.drop 119 = dktX6_byOf_5 := dk_seg dksX6_byOf_4 24 rfl rfl
theorem dX6_byOf_0 : decode cX6_byOf 0 = .ok (.aload_n 0, 1) := dk_42 (dk_at dksX6_byOf_0 0 rfl rfl)
theorem dX6_byOf_1 : decode cX6_byOf 1 = .ok (.invokevirtual 332, 3) := dk_182 1 76 (dk_at dksX6_byOf_0 1 rfl rfl)
theorem dX6_byOf_4 : decode cX6_byOf 4 = .ok (.iload_n 1, 1) := dk_27 (dk_at dksX6_byOf_0 4 rfl rfl)
theorem dX6_byOf_5 : decode cX6_byOf 5 = .ok (.ifCond .lt 34, 3) := dk_155 0 34 (dk_at dksX6_byOf_0 5 rfl rfl)
theorem dX6_byOf_8 : decode cX6_byOf 8 = .ok (.aload_n 0, 1) := dk_42 (dk_at dksX6_byOf_0 8 rfl rfl)
theorem dX6_byOf_9 : decode cX6_byOf 9 = .ok (.aload_n 0, 1) := dk_42 (dk_at dksX6_byOf_0 9 rfl rfl)
theorem dX6_byOf_10 : decode cX6_byOf 10 = .ok (.getfield 35, 3) := dk_180 0 35 (dk_at dksX6_byOf_0 10 rfl rfl)
theorem dX6_byOf_13 : decode cX6_byOf 13 = .ok (.iload_n 1, 1) := dk_27 (dk_at dksX6_byOf_0 13 rfl rfl)
theorem dX6_byOf_14 : decode cX6_byOf 14 = .ok (.iaload, 1) := dk_46 (dk_at dksX6_byOf_0 14 rfl rfl)
theorem dX6_byOf_15 : decode cX6_byOf 15 = .ok (.iload_n 3, 1) := dk_29 (dk_at dksX6_byOf_0 15 rfl rfl)
theorem dX6_byOf_16 : decode cX6_byOf 16 = .ok (.invokevirtual 329, 3) := dk_182 1 73 (dk_at dksX6_byOf_0 16 rfl rfl)
theorem dX6_byOf_19 : decode cX6_byOf 19 = .ok (.ifCond .eq 24, 3) := dk_153 0 24 (dk_at dksX6_byOf_0 19 rfl rfl)
theorem dX6_byOf_22 : decode cX6_byOf 22 = .ok (.aload_n 0, 1) := dk_42 (dk_at dksX6_byOf_0 22 rfl rfl)
theorem dX6_byOf_23 : decode cX6_byOf 23 = .ok (.iload_n 1, 1) := dk_27 (dk_at dksX6_byOf_0 23 rfl rfl)
theorem dX6_byOf_24 : decode cX6_byOf 24 = .ok (.aload_n 0, 1) := dk_42 (dk_at dksX6_byOf_1 0 rfl rfl)
theorem dX6_byOf_25 : decode cX6_byOf 25 = .ok (.getfield 35, 3) := dk_180 0 35 (dk_at dksX6_byOf_1 1 rfl rfl)
theorem dX6_byOf_28 : decode cX6_byOf 28 = .ok (.iload_n 2, 1) := dk_28 (dk_at dksX6_byOf_1 4 rfl rfl)
theorem dX6_byOf_29 : decode cX6_byOf 29 = .ok (.iaload, 1) := dk_46 (dk_at dksX6_byOf_1 5 rfl rfl)
theorem dX6_byOf_30 : decode cX6_byOf 30 = .ok (.iload_n 3, 1) := dk_29 (dk_at dksX6_byOf_1 6 rfl rfl)
theorem dX6_byOf_31 : decode cX6_byOf 31 = .ok (.bipush 40, 2) := dk_16 40 (dk_at dksX6_byOf_1 7 rfl rfl)
theorem dX6_byOf_33 : decode cX6_byOf 33 = .ok (.invokevirtual 344, 3) := dk_182 1 88 (dk_at dksX6_byOf_1 9 rfl rfl)
theorem dX6_byOf_36 : decode cX6_byOf 36 = .ok (.ifCond .eq 7, 3) := dk_153 0 7 (dk_at dksX6_byOf_1 12 rfl rfl)
theorem dX6_byOf_39 : decode cX6_byOf 39 = .ok (.iconst 1, 1) := dk_4 (dk_at dksX6_byOf_1 15 rfl rfl)
theorem dX6_byOf_40 : decode cX6_byOf 40 = .ok (.goto 4, 3) := dk_167 0 4 (dk_at dksX6_byOf_1 16 rfl rfl)
theorem dX6_byOf_43 : decode cX6_byOf 43 = .ok (.iconst 0, 1) := dk_3 (dk_at dksX6_byOf_1 19 rfl rfl)
theorem dX6_byOf_44 : decode cX6_byOf 44 = .ok (.istore 4, 2) := dk_54 4 (dk_at dksX6_byOf_1 20 rfl rfl)
theorem dX6_byOf_46 : decode cX6_byOf 46 = .ok (.iload 4, 2) := dk_21 4 (dk_at dksX6_byOf_1 22 rfl rfl)
theorem dX6_byOf_48 : decode cX6_byOf 48 = .ok (.ifCond .eq 57, 3) := dk_153 0 57 (dk_at dksX6_byOf_2 0 rfl rfl)
theorem dX6_byOf_51 : decode cX6_byOf 51 = .ok (.aload_n 0, 1) := dk_42 (dk_at dksX6_byOf_2 3 rfl rfl)
theorem dX6_byOf_52 : decode cX6_byOf 52 = .ok (.aload_n 0, 1) := dk_42 (dk_at dksX6_byOf_2 4 rfl rfl)
theorem dX6_byOf_53 : decode cX6_byOf 53 = .ok (.getfield 35, 3) := dk_180 0 35 (dk_at dksX6_byOf_2 5 rfl rfl)
theorem dX6_byOf_56 : decode cX6_byOf 56 = .ok (.iload_n 2, 1) := dk_28 (dk_at dksX6_byOf_2 8 rfl rfl)
theorem dX6_byOf_57 : decode cX6_byOf 57 = .ok (.iaload, 1) := dk_46 (dk_at dksX6_byOf_2 9 rfl rfl)
theorem dX6_byOf_58 : decode cX6_byOf 58 = .ok (.iload_n 3, 1) := dk_29 (dk_at dksX6_byOf_2 10 rfl rfl)
theorem dX6_byOf_59 : decode cX6_byOf 59 = .ok (.invokevirtual 329, 3) := dk_182 1 73 (dk_at dksX6_byOf_2 11 rfl rfl)
theorem dX6_byOf_62 : decode cX6_byOf 62 = .ok (.ifCond .eq 43, 3) := dk_153 0 43 (dk_at dksX6_byOf_2 14 rfl rfl)
theorem dX6_byOf_65 : decode cX6_byOf 65 = .ok (.aload_n 0, 1) := dk_42 (dk_at dksX6_byOf_2 17 rfl rfl)
theorem dX6_byOf_66 : decode cX6_byOf 66 = .ok (.iload_n 2, 1) := dk_28 (dk_at dksX6_byOf_2 18 rfl rfl)
theorem dX6_byOf_67 : decode cX6_byOf 67 = .ok (.aload_n 0, 1) := dk_42 (dk_at dksX6_byOf_2 19 rfl rfl)
theorem dX6_byOf_68 : decode cX6_byOf 68 = .ok (.getfield 25, 3) := dk_180 0 25 (dk_at dksX6_byOf_2 20 rfl rfl)
theorem dX6_byOf_71 : decode cX6_byOf 71 = .ok (.iload_n 3, 1) := dk_29 (dk_at dksX6_byOf_2 23 rfl rfl)
theorem dX6_byOf_72 : decode cX6_byOf 72 = .ok (.iload_n 1, 1) := dk_27 (dk_at dksX6_byOf_3 0 rfl rfl)
theorem dX6_byOf_73 : decode cX6_byOf 73 = .ok (.ifCond .ge 8, 3) := dk_156 0 8 (dk_at dksX6_byOf_3 1 rfl rfl)
theorem dX6_byOf_76 : decode cX6_byOf 76 = .ok (.bipush 60, 2) := dk_16 60 (dk_at dksX6_byOf_3 4 rfl rfl)
theorem dX6_byOf_78 : decode cX6_byOf 78 = .ok (.goto 5, 3) := dk_167 0 5 (dk_at dksX6_byOf_3 6 rfl rfl)
theorem dX6_byOf_81 : decode cX6_byOf 81 = .ok (.bipush 40, 2) := dk_16 40 (dk_at dksX6_byOf_3 9 rfl rfl)
theorem dX6_byOf_83 : decode cX6_byOf 83 = .ok (.invokevirtual 344, 3) := dk_182 1 88 (dk_at dksX6_byOf_3 11 rfl rfl)
theorem dX6_byOf_86 : decode cX6_byOf 86 = .ok (.ifCond .eq 19, 3) := dk_153 0 19 (dk_at dksX6_byOf_3 14 rfl rfl)
theorem dX6_byOf_89 : decode cX6_byOf 89 = .ok (.aload_n 0, 1) := dk_42 (dk_at dksX6_byOf_3 17 rfl rfl)
theorem dX6_byOf_90 : decode cX6_byOf 90 = .ok (.aload_n 0, 1) := dk_42 (dk_at dksX6_byOf_3 18 rfl rfl)
theorem dX6_byOf_91 : decode cX6_byOf 91 = .ok (.getfield 25, 3) := dk_180 0 25 (dk_at dksX6_byOf_3 19 rfl rfl)
theorem dX6_byOf_94 : decode cX6_byOf 94 = .ok (.iload_n 3, 1) := dk_29 (dk_at dksX6_byOf_3 22 rfl rfl)
theorem dX6_byOf_95 : decode cX6_byOf 95 = .ok (.invokevirtual 329, 3) := dk_182 1 73 (dk_at dksX6_byOf_4 0 rfl rfl)
theorem dX6_byOf_98 : decode cX6_byOf 98 = .ok (.ifCond .eq 7, 3) := dk_153 0 7 (dk_at dksX6_byOf_4 3 rfl rfl)
theorem dX6_byOf_101 : decode cX6_byOf 101 = .ok (.iconst 1, 1) := dk_4 (dk_at dksX6_byOf_4 6 rfl rfl)
theorem dX6_byOf_102 : decode cX6_byOf 102 = .ok (.goto 4, 3) := dk_167 0 4 (dk_at dksX6_byOf_4 7 rfl rfl)
theorem dX6_byOf_105 : decode cX6_byOf 105 = .ok (.iconst 0, 1) := dk_3 (dk_at dksX6_byOf_4 10 rfl rfl)
theorem dX6_byOf_106 : decode cX6_byOf 106 = .ok (.istore 4, 2) := dk_54 4 (dk_at dksX6_byOf_4 11 rfl rfl)
theorem dX6_byOf_108 : decode cX6_byOf 108 = .ok (.aload_n 0, 1) := dk_42 (dk_at dksX6_byOf_4 13 rfl rfl)
theorem dX6_byOf_109 : decode cX6_byOf 109 = .ok (.getfield 13, 3) := dk_180 0 13 (dk_at dksX6_byOf_4 14 rfl rfl)
theorem dX6_byOf_112 : decode cX6_byOf 112 = .ok (.aload_n 0, 1) := dk_42 (dk_at dksX6_byOf_4 17 rfl rfl)
theorem dX6_byOf_113 : decode cX6_byOf 113 = .ok (.getfield 99, 3) := dk_180 0 99 (dk_at dksX6_byOf_4 18 rfl rfl)
theorem dX6_byOf_116 : decode cX6_byOf 116 = .ok (.isub, 1) := dk_100 (dk_at dksX6_byOf_4 21 rfl rfl)
theorem dX6_byOf_117 : decode cX6_byOf 117 = .ok (.istore 5, 2) := dk_54 5 (dk_at dksX6_byOf_4 22 rfl rfl)
theorem dX6_byOf_119 : decode cX6_byOf 119 = .ok (.aload_n 0, 1) := dk_42 (dk_at dksX6_byOf_5 0 rfl rfl)
theorem dX6_byOf_120 : decode cX6_byOf 120 = .ok (.invokevirtual 335, 3) := dk_182 1 79 (dk_at dksX6_byOf_5 1 rfl rfl)
theorem dX6_byOf_123 : decode cX6_byOf 123 = .ok (.iload 4, 2) := dk_21 4 (dk_at dksX6_byOf_5 4 rfl rfl)
theorem dX6_byOf_125 : decode cX6_byOf 125 = .ok (.ifCond .eq 8, 3) := dk_153 0 8 (dk_at dksX6_byOf_5 6 rfl rfl)
theorem dX6_byOf_128 : decode cX6_byOf 128 = .ok (.iload 5, 2) := dk_21 5 (dk_at dksX6_byOf_5 9 rfl rfl)
theorem dX6_byOf_130 : decode cX6_byOf 130 = .ok (.goto 5, 3) := dk_167 0 5 (dk_at dksX6_byOf_5 11 rfl rfl)
theorem dX6_byOf_133 : decode cX6_byOf 133 = .ok (.bipush (-5), 2) := dk_16 251 (dk_at dksX6_byOf_5 14 rfl rfl)
theorem dX6_byOf_135 : decode cX6_byOf 135 = .ok (.ireturn, 1) := dk_172 (dk_at dksX6_byOf_5 16 rfl rfl)
abbrev cX6_rises : ByteArray := prog_23_method_57_code
def yX6_rises : MethodName := ⟨RX6, "rises", "(IIII)Z"⟩
def dkwX6_rises_3 : List UInt8 := [3, 172]
abbrev dktX6_rises_3 : List UInt8 := dkwX6_rises_3 ++ []
def dkwX6_rises_2 : List UInt8 := [167, 255, 232, 42, 42, 180, 0, 19, 181, 0, 108, 42, 180, 0, 19, 21, 5, 161, 0, 7, 4, 167, 0, 4]
abbrev dktX6_rises_2 : List UInt8 := dkwX6_rises_2 ++ dktX6_rises_3
def dkwX6_rises_1 : List UInt8 := [21, 4, 162, 0, 23, 42, 180, 0, 19, 21, 5, 162, 0, 14, 42, 27, 182, 1, 67, 132, 6, 1]
abbrev dktX6_rises_1 : List UInt8 := dkwX6_rises_1 ++ dktX6_rises_2
def dkwX6_rises_0 : List UInt8 := [42, 42, 180, 0, 35, 27, 46, 28, 29, 182, 1, 60, 42, 182, 1, 54, 96, 54, 5, 3, 54, 6, 21, 6]
abbrev dktX6_rises_0 : List UInt8 := dkwX6_rises_0 ++ dktX6_rises_1
theorem dksX6_rises_0 : cX6_rises.data.toList.drop 0 = dktX6_rises_0 := by decide +kernel
theorem dksX6_rises_1 : cX6_rises.data.toList.drop 24 = dktX6_rises_1 := dk_seg dksX6_rises_0 24 rfl rfl
theorem dksX6_rises_2 : cX6_rises.data.toList.drop 46 = dktX6_rises_2 := dk_seg dksX6_rises_1 22 rfl rfl
theorem dksX6_rises_3 : cX6_rises.data.toList.drop 70 = dktX6_rises_3 := dk_seg dksX6_rises_2 24 rfl rfl
theorem dX6_rises_0 : decode cX6_rises 0 = .ok (.aload_n 0, 1) := dk_42 (dk_at dksX6_rises_0 0 rfl rfl)
theorem dX6_rises_1 : decode cX6_rises 1 = .ok (.aload_n 0, 1) := dk_42 (dk_at dksX6_rises_0 1 rfl rfl)
theorem dX6_rises_2 : decode cX6_rises 2 = .ok (.getfield 35, 3) := dk_180 0 35 (dk_at dksX6_rises_0 2 rfl rfl)
theorem dX6_rises_5 : decode cX6_rises 5 = .ok (.iload_n 1, 1) := dk_27 (dk_at dksX6_rises_0 5 rfl rfl)
theorem dX6_rises_6 : decode cX6_rises 6 = .ok (.iaload, 1) := dk_46 (dk_at dksX6_rises_0 6 rfl rfl)
theorem dX6_rises_7 : decode cX6_rises 7 = .ok (.iload_n 2, 1) := dk_28 (dk_at dksX6_rises_0 7 rfl rfl)
theorem dX6_rises_8 : decode cX6_rises 8 = .ok (.iload_n 3, 1) := dk_29 (dk_at dksX6_rises_0 8 rfl rfl)
theorem dX6_rises_9 : decode cX6_rises 9 = .ok (.invokevirtual 316, 3) := dk_182 1 60 (dk_at dksX6_rises_0 9 rfl rfl)
theorem dX6_rises_12 : decode cX6_rises 12 = .ok (.aload_n 0, 1) := dk_42 (dk_at dksX6_rises_0 12 rfl rfl)
theorem dX6_rises_13 : decode cX6_rises 13 = .ok (.invokevirtual 310, 3) := dk_182 1 54 (dk_at dksX6_rises_0 13 rfl rfl)
theorem dX6_rises_16 : decode cX6_rises 16 = .ok (.iadd, 1) := dk_96 (dk_at dksX6_rises_0 16 rfl rfl)
theorem dX6_rises_17 : decode cX6_rises 17 = .ok (.istore 5, 2) := dk_54 5 (dk_at dksX6_rises_0 17 rfl rfl)
theorem dX6_rises_19 : decode cX6_rises 19 = .ok (.iconst 0, 1) := dk_3 (dk_at dksX6_rises_0 19 rfl rfl)
theorem dX6_rises_20 : decode cX6_rises 20 = .ok (.istore 6, 2) := dk_54 6 (dk_at dksX6_rises_0 20 rfl rfl)
theorem dX6_rises_22 : decode cX6_rises 22 = .ok (.iload 6, 2) := dk_21 6 (dk_at dksX6_rises_0 22 rfl rfl)
theorem dX6_rises_24 : decode cX6_rises 24 = .ok (.iload 4, 2) := dk_21 4 (dk_at dksX6_rises_1 0 rfl rfl)
theorem dX6_rises_26 : decode cX6_rises 26 = .ok (.if_icmp .ge 23, 3) := dk_162 0 23 (dk_at dksX6_rises_1 2 rfl rfl)
theorem dX6_rises_29 : decode cX6_rises 29 = .ok (.aload_n 0, 1) := dk_42 (dk_at dksX6_rises_1 5 rfl rfl)
theorem dX6_rises_30 : decode cX6_rises 30 = .ok (.getfield 19, 3) := dk_180 0 19 (dk_at dksX6_rises_1 6 rfl rfl)
theorem dX6_rises_33 : decode cX6_rises 33 = .ok (.iload 5, 2) := dk_21 5 (dk_at dksX6_rises_1 9 rfl rfl)
theorem dX6_rises_35 : decode cX6_rises 35 = .ok (.if_icmp .ge 14, 3) := dk_162 0 14 (dk_at dksX6_rises_1 11 rfl rfl)
theorem dX6_rises_38 : decode cX6_rises 38 = .ok (.aload_n 0, 1) := dk_42 (dk_at dksX6_rises_1 14 rfl rfl)
theorem dX6_rises_39 : decode cX6_rises 39 = .ok (.iload_n 1, 1) := dk_27 (dk_at dksX6_rises_1 15 rfl rfl)
theorem dX6_rises_40 : decode cX6_rises 40 = .ok (.invokevirtual 323, 3) := dk_182 1 67 (dk_at dksX6_rises_1 16 rfl rfl)
theorem dX6_rises_43 : decode cX6_rises 43 = .ok (.iinc 6 1, 3) := dk_132 6 1 (dk_at dksX6_rises_1 19 rfl rfl)
theorem dX6_rises_46 : decode cX6_rises 46 = .ok (.goto (-24), 3) := dk_167 255 232 (dk_at dksX6_rises_2 0 rfl rfl)
theorem dX6_rises_49 : decode cX6_rises 49 = .ok (.aload_n 0, 1) := dk_42 (dk_at dksX6_rises_2 3 rfl rfl)
theorem dX6_rises_50 : decode cX6_rises 50 = .ok (.aload_n 0, 1) := dk_42 (dk_at dksX6_rises_2 4 rfl rfl)
theorem dX6_rises_51 : decode cX6_rises 51 = .ok (.getfield 19, 3) := dk_180 0 19 (dk_at dksX6_rises_2 5 rfl rfl)
theorem dX6_rises_54 : decode cX6_rises 54 = .ok (.putfield 108, 3) := dk_181 0 108 (dk_at dksX6_rises_2 8 rfl rfl)
theorem dX6_rises_57 : decode cX6_rises 57 = .ok (.aload_n 0, 1) := dk_42 (dk_at dksX6_rises_2 11 rfl rfl)
theorem dX6_rises_58 : decode cX6_rises 58 = .ok (.getfield 19, 3) := dk_180 0 19 (dk_at dksX6_rises_2 12 rfl rfl)
theorem dX6_rises_61 : decode cX6_rises 61 = .ok (.iload 5, 2) := dk_21 5 (dk_at dksX6_rises_2 15 rfl rfl)
theorem dX6_rises_63 : decode cX6_rises 63 = .ok (.if_icmp .lt 7, 3) := dk_161 0 7 (dk_at dksX6_rises_2 17 rfl rfl)
theorem dX6_rises_66 : decode cX6_rises 66 = .ok (.iconst 1, 1) := dk_4 (dk_at dksX6_rises_2 20 rfl rfl)
theorem dX6_rises_67 : decode cX6_rises 67 = .ok (.goto 4, 3) := dk_167 0 4 (dk_at dksX6_rises_2 21 rfl rfl)
theorem dX6_rises_70 : decode cX6_rises 70 = .ok (.iconst 0, 1) := dk_3 (dk_at dksX6_rises_3 0 rfl rfl)
theorem dX6_rises_71 : decode cX6_rises 71 = .ok (.ireturn, 1) := dk_172 (dk_at dksX6_rises_3 1 rfl rfl)
abbrev cX6_straight : ByteArray := prog_23_method_61_code
def yX6_straight : MethodName := ⟨RX6, "straight", "(I)I"⟩
def dkwX6_straight_0 : List UInt8 := [42, 27, 182, 1, 70, 153, 0, 11, 42, 27, 182, 1, 95, 167, 0, 5, 16, 254, 172]
abbrev dktX6_straight_0 : List UInt8 := dkwX6_straight_0 ++ []
theorem dksX6_straight_0 : cX6_straight.data.toList.drop 0 = dktX6_straight_0 := by decide +kernel
theorem dX6_straight_0 : decode cX6_straight 0 = .ok (.aload_n 0, 1) := dk_42 (dk_at dksX6_straight_0 0 rfl rfl)
theorem dX6_straight_1 : decode cX6_straight 1 = .ok (.iload_n 1, 1) := dk_27 (dk_at dksX6_straight_0 1 rfl rfl)
theorem dX6_straight_2 : decode cX6_straight 2 = .ok (.invokevirtual 326, 3) := dk_182 1 70 (dk_at dksX6_straight_0 2 rfl rfl)
theorem dX6_straight_5 : decode cX6_straight 5 = .ok (.ifCond .eq 11, 3) := dk_153 0 11 (dk_at dksX6_straight_0 5 rfl rfl)
theorem dX6_straight_8 : decode cX6_straight 8 = .ok (.aload_n 0, 1) := dk_42 (dk_at dksX6_straight_0 8 rfl rfl)
theorem dX6_straight_9 : decode cX6_straight 9 = .ok (.iload_n 1, 1) := dk_27 (dk_at dksX6_straight_0 9 rfl rfl)
theorem dX6_straight_10 : decode cX6_straight 10 = .ok (.invokevirtual 351, 3) := dk_182 1 95 (dk_at dksX6_straight_0 10 rfl rfl)
theorem dX6_straight_13 : decode cX6_straight 13 = .ok (.goto 5, 3) := dk_167 0 5 (dk_at dksX6_straight_0 13 rfl rfl)
theorem dX6_straight_16 : decode cX6_straight 16 = .ok (.bipush (-2), 2) := dk_16 254 (dk_at dksX6_straight_0 16 rfl rfl)
theorem dX6_straight_18 : decode cX6_straight 18 = .ok (.ireturn, 1) := dk_172 (dk_at dksX6_straight_0 18 rfl rfl)
abbrev cX6_straightOf : ByteArray := prog_23_method_60_code
def yX6_straightOf : MethodName := ⟨RX6, "straightOf", "(I)I"⟩
def dkwX6_straightOf_2 : List UInt8 := [16, 10, 27, 100, 104, 172]
abbrev dktX6_straightOf_2 : List UInt8 := dkwX6_straightOf_2 ++ []
def dkwX6_straightOf_1 : List UInt8 := [42, 182, 1, 54, 162, 0, 8, 16, 251, 167, 0, 20, 42, 42, 180, 0, 16, 42, 180, 0, 25, 182, 1, 57]
abbrev dktX6_straightOf_1 : List UInt8 := dkwX6_straightOf_1 ++ dktX6_straightOf_2
def dkwX6_straightOf_0 : List UInt8 := [42, 180, 0, 19, 42, 42, 180, 0, 16, 42, 180, 0, 25, 27, 182, 1, 60, 100, 61, 28, 155, 0, 11, 28]
abbrev dktX6_straightOf_0 : List UInt8 := dkwX6_straightOf_0 ++ dktX6_straightOf_1
theorem dksX6_straightOf_0 : cX6_straightOf.data.toList.drop 0 = dktX6_straightOf_0 := by decide +kernel
theorem dksX6_straightOf_1 : cX6_straightOf.data.toList.drop 24 = dktX6_straightOf_1 := dk_seg dksX6_straightOf_0 24 rfl rfl
theorem dksX6_straightOf_2 : cX6_straightOf.data.toList.drop 48 = dktX6_straightOf_2 := dk_seg dksX6_straightOf_1 24 rfl rfl
theorem dX6_straightOf_0 : decode cX6_straightOf 0 = .ok (.aload_n 0, 1) := dk_42 (dk_at dksX6_straightOf_0 0 rfl rfl)
theorem dX6_straightOf_1 : decode cX6_straightOf 1 = .ok (.getfield 19, 3) := dk_180 0 19 (dk_at dksX6_straightOf_0 1 rfl rfl)
theorem dX6_straightOf_4 : decode cX6_straightOf 4 = .ok (.aload_n 0, 1) := dk_42 (dk_at dksX6_straightOf_0 4 rfl rfl)
theorem dX6_straightOf_5 : decode cX6_straightOf 5 = .ok (.aload_n 0, 1) := dk_42 (dk_at dksX6_straightOf_0 5 rfl rfl)
theorem dX6_straightOf_6 : decode cX6_straightOf 6 = .ok (.getfield 16, 3) := dk_180 0 16 (dk_at dksX6_straightOf_0 6 rfl rfl)
theorem dX6_straightOf_9 : decode cX6_straightOf 9 = .ok (.aload_n 0, 1) := dk_42 (dk_at dksX6_straightOf_0 9 rfl rfl)
theorem dX6_straightOf_10 : decode cX6_straightOf 10 = .ok (.getfield 25, 3) := dk_180 0 25 (dk_at dksX6_straightOf_0 10 rfl rfl)
theorem dX6_straightOf_13 : decode cX6_straightOf 13 = .ok (.iload_n 1, 1) := dk_27 (dk_at dksX6_straightOf_0 13 rfl rfl)
theorem dX6_straightOf_14 : decode cX6_straightOf 14 = .ok (.invokevirtual 316, 3) := dk_182 1 60 (dk_at dksX6_straightOf_0 14 rfl rfl)
theorem dX6_straightOf_17 : decode cX6_straightOf 17 = .ok (.isub, 1) := dk_100 (dk_at dksX6_straightOf_0 17 rfl rfl)
theorem dX6_straightOf_18 : decode cX6_straightOf 18 = .ok (.istore_n 2, 1) := dk_61 (dk_at dksX6_straightOf_0 18 rfl rfl)
theorem dX6_straightOf_19 : decode cX6_straightOf 19 = .ok (.iload_n 2, 1) := dk_28 (dk_at dksX6_straightOf_0 19 rfl rfl)
theorem dX6_straightOf_20 : decode cX6_straightOf 20 = .ok (.ifCond .lt 11, 3) := dk_155 0 11 (dk_at dksX6_straightOf_0 20 rfl rfl)
theorem dX6_straightOf_23 : decode cX6_straightOf 23 = .ok (.iload_n 2, 1) := dk_28 (dk_at dksX6_straightOf_0 23 rfl rfl)
theorem dX6_straightOf_24 : decode cX6_straightOf 24 = .ok (.aload_n 0, 1) := dk_42 (dk_at dksX6_straightOf_1 0 rfl rfl)
theorem dX6_straightOf_25 : decode cX6_straightOf 25 = .ok (.invokevirtual 310, 3) := dk_182 1 54 (dk_at dksX6_straightOf_1 1 rfl rfl)
theorem dX6_straightOf_28 : decode cX6_straightOf 28 = .ok (.if_icmp .ge 8, 3) := dk_162 0 8 (dk_at dksX6_straightOf_1 4 rfl rfl)
theorem dX6_straightOf_31 : decode cX6_straightOf 31 = .ok (.bipush (-5), 2) := dk_16 251 (dk_at dksX6_straightOf_1 7 rfl rfl)
theorem dX6_straightOf_33 : decode cX6_straightOf 33 = .ok (.goto 20, 3) := dk_167 0 20 (dk_at dksX6_straightOf_1 9 rfl rfl)
theorem dX6_straightOf_36 : decode cX6_straightOf 36 = .ok (.aload_n 0, 1) := dk_42 (dk_at dksX6_straightOf_1 12 rfl rfl)
theorem dX6_straightOf_37 : decode cX6_straightOf 37 = .ok (.aload_n 0, 1) := dk_42 (dk_at dksX6_straightOf_1 13 rfl rfl)
theorem dX6_straightOf_38 : decode cX6_straightOf 38 = .ok (.getfield 16, 3) := dk_180 0 16 (dk_at dksX6_straightOf_1 14 rfl rfl)
theorem dX6_straightOf_41 : decode cX6_straightOf 41 = .ok (.aload_n 0, 1) := dk_42 (dk_at dksX6_straightOf_1 17 rfl rfl)
theorem dX6_straightOf_42 : decode cX6_straightOf 42 = .ok (.getfield 25, 3) := dk_180 0 25 (dk_at dksX6_straightOf_1 18 rfl rfl)
theorem dX6_straightOf_45 : decode cX6_straightOf 45 = .ok (.invokevirtual 313, 3) := dk_182 1 57 (dk_at dksX6_straightOf_1 21 rfl rfl)
theorem dX6_straightOf_48 : decode cX6_straightOf 48 = .ok (.bipush 10, 2) := dk_16 10 (dk_at dksX6_straightOf_2 0 rfl rfl)
theorem dX6_straightOf_50 : decode cX6_straightOf 50 = .ok (.iload_n 1, 1) := dk_27 (dk_at dksX6_straightOf_2 2 rfl rfl)
theorem dX6_straightOf_51 : decode cX6_straightOf 51 = .ok (.isub, 1) := dk_100 (dk_at dksX6_straightOf_2 3 rfl rfl)
theorem dX6_straightOf_52 : decode cX6_straightOf 52 = .ok (.imul, 1) := dk_104 (dk_at dksX6_straightOf_2 4 rfl rfl)
theorem dX6_straightOf_53 : decode cX6_straightOf 53 = .ok (.ireturn, 1) := dk_172 (dk_at dksX6_straightOf_2 5 rfl rfl)
abbrev cX6_best : ByteArray := prog_23_method_64_code
def yX6_best : MethodName := ⟨RX6, "best", "(I)I"⟩
def dkwX6_best_1 : List UInt8 := [180, 0, 111, 167, 0, 19, 27, 4, 160, 0, 10, 42, 180, 0, 114, 167, 0, 7, 42, 180, 0, 117, 172]
abbrev dktX6_best_1 : List UInt8 := dkwX6_best_1 ++ []
def dkwX6_best_0 : List UInt8 := [42, 27, 3, 5, 182, 0, 227, 154, 0, 7, 17, 252, 23, 172, 42, 2, 182, 1, 102, 27, 154, 0, 10, 42]
abbrev dktX6_best_0 : List UInt8 := dkwX6_best_0 ++ dktX6_best_1
theorem dksX6_best_0 : cX6_best.data.toList.drop 0 = dktX6_best_0 := by decide +kernel
theorem dksX6_best_1 : cX6_best.data.toList.drop 24 = dktX6_best_1 := dk_seg dksX6_best_0 24 rfl rfl
theorem dX6_best_0 : decode cX6_best 0 = .ok (.aload_n 0, 1) := dk_42 (dk_at dksX6_best_0 0 rfl rfl)
theorem dX6_best_1 : decode cX6_best 1 = .ok (.iload_n 1, 1) := dk_27 (dk_at dksX6_best_0 1 rfl rfl)
theorem dX6_best_2 : decode cX6_best 2 = .ok (.iconst 0, 1) := dk_3 (dk_at dksX6_best_0 2 rfl rfl)
theorem dX6_best_3 : decode cX6_best 3 = .ok (.iconst 2, 1) := dk_5 (dk_at dksX6_best_0 3 rfl rfl)
theorem dX6_best_4 : decode cX6_best 4 = .ok (.invokevirtual 227, 3) := dk_182 0 227 (dk_at dksX6_best_0 4 rfl rfl)
theorem dX6_best_7 : decode cX6_best 7 = .ok (.ifCond .ne 7, 3) := dk_154 0 7 (dk_at dksX6_best_0 7 rfl rfl)
theorem dX6_best_10 : decode cX6_best 10 = .ok (.sipush (-1001), 3) := dk_17 252 23 (dk_at dksX6_best_0 10 rfl rfl)
theorem dX6_best_13 : decode cX6_best 13 = .ok (.ireturn, 1) := dk_172 (dk_at dksX6_best_0 13 rfl rfl)
theorem dX6_best_14 : decode cX6_best 14 = .ok (.aload_n 0, 1) := dk_42 (dk_at dksX6_best_0 14 rfl rfl)
theorem dX6_best_15 : decode cX6_best 15 = .ok (.iconst (-1), 1) := dk_2 (dk_at dksX6_best_0 15 rfl rfl)
theorem dX6_best_16 : decode cX6_best 16 = .ok (.invokevirtual 358, 3) := dk_182 1 102 (dk_at dksX6_best_0 16 rfl rfl)
theorem dX6_best_19 : decode cX6_best 19 = .ok (.iload_n 1, 1) := dk_27 (dk_at dksX6_best_0 19 rfl rfl)
theorem dX6_best_20 : decode cX6_best 20 = .ok (.ifCond .ne 10, 3) := dk_154 0 10 (dk_at dksX6_best_0 20 rfl rfl)
theorem dX6_best_23 : decode cX6_best 23 = .ok (.aload_n 0, 1) := dk_42 (dk_at dksX6_best_0 23 rfl rfl)
theorem dX6_best_24 : decode cX6_best 24 = .ok (.getfield 111, 3) := dk_180 0 111 (dk_at dksX6_best_1 0 rfl rfl)
theorem dX6_best_27 : decode cX6_best 27 = .ok (.goto 19, 3) := dk_167 0 19 (dk_at dksX6_best_1 3 rfl rfl)
theorem dX6_best_30 : decode cX6_best 30 = .ok (.iload_n 1, 1) := dk_27 (dk_at dksX6_best_1 6 rfl rfl)
theorem dX6_best_31 : decode cX6_best 31 = .ok (.iconst 1, 1) := dk_4 (dk_at dksX6_best_1 7 rfl rfl)
theorem dX6_best_32 : decode cX6_best 32 = .ok (.if_icmp .ne 10, 3) := dk_160 0 10 (dk_at dksX6_best_1 8 rfl rfl)
theorem dX6_best_35 : decode cX6_best 35 = .ok (.aload_n 0, 1) := dk_42 (dk_at dksX6_best_1 11 rfl rfl)
theorem dX6_best_36 : decode cX6_best 36 = .ok (.getfield 114, 3) := dk_180 0 114 (dk_at dksX6_best_1 12 rfl rfl)
theorem dX6_best_39 : decode cX6_best 39 = .ok (.goto 7, 3) := dk_167 0 7 (dk_at dksX6_best_1 15 rfl rfl)
theorem dX6_best_42 : decode cX6_best 42 = .ok (.aload_n 0, 1) := dk_42 (dk_at dksX6_best_1 18 rfl rfl)
theorem dX6_best_43 : decode cX6_best 43 = .ok (.getfield 117, 3) := dk_180 0 117 (dk_at dksX6_best_1 19 rfl rfl)
theorem dX6_best_46 : decode cX6_best 46 = .ok (.ireturn, 1) := dk_172 (dk_at dksX6_best_1 22 rfl rfl)
abbrev cX6_layBest : ByteArray := prog_23_method_63_code
def yX6_layBest : MethodName := ⟨RX6, "layBest", "(I)V"⟩
def dkwX6_layBest_3 : List UInt8 := [28, 29, 182, 1, 92, 182, 1, 98, 132, 3, 1, 167, 255, 229, 132, 2, 1, 167, 255, 213, 177]
abbrev dktX6_layBest_3 : List UInt8 := dkwX6_layBest_3 ++ []
def dkwX6_layBest_2 : List UInt8 := [180, 0, 7, 162, 0, 41, 4, 62, 29, 16, 10, 162, 0, 27, 28, 27, 159, 0, 22, 42, 28, 29, 42, 2]
abbrev dktX6_layBest_2 : List UInt8 := dkwX6_layBest_2 ++ dktX6_layBest_3
def dkwX6_layBest_1 : List UInt8 := [162, 0, 20, 42, 2, 28, 42, 28, 182, 1, 95, 182, 1, 98, 132, 2, 1, 167, 255, 236, 3, 61, 28, 42]
abbrev dktX6_layBest_1 : List UInt8 := dkwX6_layBest_1 ++ dktX6_layBest_2
def dkwX6_layBest_0 : List UInt8 := [42, 16, 251, 181, 0, 111, 42, 16, 251, 181, 0, 114, 42, 16, 251, 181, 0, 117, 4, 61, 28, 16, 10]
abbrev dktX6_layBest_0 : List UInt8 := dkwX6_layBest_0 ++ dktX6_layBest_1
theorem dksX6_layBest_0 : cX6_layBest.data.toList.drop 0 = dktX6_layBest_0 := by decide +kernel
theorem dksX6_layBest_1 : cX6_layBest.data.toList.drop 23 = dktX6_layBest_1 := dk_seg dksX6_layBest_0 23 rfl rfl
theorem dksX6_layBest_2 : cX6_layBest.data.toList.drop 47 = dktX6_layBest_2 := dk_seg dksX6_layBest_1 24 rfl rfl
theorem dksX6_layBest_3 : cX6_layBest.data.toList.drop 71 = dktX6_layBest_3 := dk_seg dksX6_layBest_2 24 rfl rfl
theorem dX6_layBest_0 : decode cX6_layBest 0 = .ok (.aload_n 0, 1) := dk_42 (dk_at dksX6_layBest_0 0 rfl rfl)
theorem dX6_layBest_1 : decode cX6_layBest 1 = .ok (.bipush (-5), 2) := dk_16 251 (dk_at dksX6_layBest_0 1 rfl rfl)
theorem dX6_layBest_3 : decode cX6_layBest 3 = .ok (.putfield 111, 3) := dk_181 0 111 (dk_at dksX6_layBest_0 3 rfl rfl)
theorem dX6_layBest_6 : decode cX6_layBest 6 = .ok (.aload_n 0, 1) := dk_42 (dk_at dksX6_layBest_0 6 rfl rfl)
theorem dX6_layBest_7 : decode cX6_layBest 7 = .ok (.bipush (-5), 2) := dk_16 251 (dk_at dksX6_layBest_0 7 rfl rfl)
theorem dX6_layBest_9 : decode cX6_layBest 9 = .ok (.putfield 114, 3) := dk_181 0 114 (dk_at dksX6_layBest_0 9 rfl rfl)
theorem dX6_layBest_12 : decode cX6_layBest 12 = .ok (.aload_n 0, 1) := dk_42 (dk_at dksX6_layBest_0 12 rfl rfl)
theorem dX6_layBest_13 : decode cX6_layBest 13 = .ok (.bipush (-5), 2) := dk_16 251 (dk_at dksX6_layBest_0 13 rfl rfl)
theorem dX6_layBest_15 : decode cX6_layBest 15 = .ok (.putfield 117, 3) := dk_181 0 117 (dk_at dksX6_layBest_0 15 rfl rfl)
theorem dX6_layBest_18 : decode cX6_layBest 18 = .ok (.iconst 1, 1) := dk_4 (dk_at dksX6_layBest_0 18 rfl rfl)
theorem dX6_layBest_19 : decode cX6_layBest 19 = .ok (.istore_n 2, 1) := dk_61 (dk_at dksX6_layBest_0 19 rfl rfl)
theorem dX6_layBest_20 : decode cX6_layBest 20 = .ok (.iload_n 2, 1) := dk_28 (dk_at dksX6_layBest_0 20 rfl rfl)
theorem dX6_layBest_21 : decode cX6_layBest 21 = .ok (.bipush 10, 2) := dk_16 10 (dk_at dksX6_layBest_0 21 rfl rfl)
theorem dX6_layBest_23 : decode cX6_layBest 23 = .ok (.if_icmp .ge 20, 3) := dk_162 0 20 (dk_at dksX6_layBest_1 0 rfl rfl)
theorem dX6_layBest_26 : decode cX6_layBest 26 = .ok (.aload_n 0, 1) := dk_42 (dk_at dksX6_layBest_1 3 rfl rfl)
theorem dX6_layBest_27 : decode cX6_layBest 27 = .ok (.iconst (-1), 1) := dk_2 (dk_at dksX6_layBest_1 4 rfl rfl)
theorem dX6_layBest_28 : decode cX6_layBest 28 = .ok (.iload_n 2, 1) := dk_28 (dk_at dksX6_layBest_1 5 rfl rfl)
theorem dX6_layBest_29 : decode cX6_layBest 29 = .ok (.aload_n 0, 1) := dk_42 (dk_at dksX6_layBest_1 6 rfl rfl)
theorem dX6_layBest_30 : decode cX6_layBest 30 = .ok (.iload_n 2, 1) := dk_28 (dk_at dksX6_layBest_1 7 rfl rfl)
theorem dX6_layBest_31 : decode cX6_layBest 31 = .ok (.invokevirtual 351, 3) := dk_182 1 95 (dk_at dksX6_layBest_1 8 rfl rfl)
theorem dX6_layBest_34 : decode cX6_layBest 34 = .ok (.invokevirtual 354, 3) := dk_182 1 98 (dk_at dksX6_layBest_1 11 rfl rfl)
theorem dX6_layBest_37 : decode cX6_layBest 37 = .ok (.iinc 2 1, 3) := dk_132 2 1 (dk_at dksX6_layBest_1 14 rfl rfl)
theorem dX6_layBest_40 : decode cX6_layBest 40 = .ok (.goto (-20), 3) := dk_167 255 236 (dk_at dksX6_layBest_1 17 rfl rfl)
theorem dX6_layBest_43 : decode cX6_layBest 43 = .ok (.iconst 0, 1) := dk_3 (dk_at dksX6_layBest_1 20 rfl rfl)
theorem dX6_layBest_44 : decode cX6_layBest 44 = .ok (.istore_n 2, 1) := dk_61 (dk_at dksX6_layBest_1 21 rfl rfl)
theorem dX6_layBest_45 : decode cX6_layBest 45 = .ok (.iload_n 2, 1) := dk_28 (dk_at dksX6_layBest_1 22 rfl rfl)
theorem dX6_layBest_46 : decode cX6_layBest 46 = .ok (.aload_n 0, 1) := dk_42 (dk_at dksX6_layBest_1 23 rfl rfl)
theorem dX6_layBest_47 : decode cX6_layBest 47 = .ok (.getfield 7, 3) := dk_180 0 7 (dk_at dksX6_layBest_2 0 rfl rfl)
theorem dX6_layBest_50 : decode cX6_layBest 50 = .ok (.if_icmp .ge 41, 3) := dk_162 0 41 (dk_at dksX6_layBest_2 3 rfl rfl)
theorem dX6_layBest_53 : decode cX6_layBest 53 = .ok (.iconst 1, 1) := dk_4 (dk_at dksX6_layBest_2 6 rfl rfl)
theorem dX6_layBest_54 : decode cX6_layBest 54 = .ok (.istore_n 3, 1) := dk_62 (dk_at dksX6_layBest_2 7 rfl rfl)
theorem dX6_layBest_55 : decode cX6_layBest 55 = .ok (.iload_n 3, 1) := dk_29 (dk_at dksX6_layBest_2 8 rfl rfl)
theorem dX6_layBest_56 : decode cX6_layBest 56 = .ok (.bipush 10, 2) := dk_16 10 (dk_at dksX6_layBest_2 9 rfl rfl)
theorem dX6_layBest_58 : decode cX6_layBest 58 = .ok (.if_icmp .ge 27, 3) := dk_162 0 27 (dk_at dksX6_layBest_2 11 rfl rfl)
theorem dX6_layBest_61 : decode cX6_layBest 61 = .ok (.iload_n 2, 1) := dk_28 (dk_at dksX6_layBest_2 14 rfl rfl)
theorem dX6_layBest_62 : decode cX6_layBest 62 = .ok (.iload_n 1, 1) := dk_27 (dk_at dksX6_layBest_2 15 rfl rfl)
theorem dX6_layBest_63 : decode cX6_layBest 63 = .ok (.if_icmp .eq 22, 3) := dk_159 0 22 (dk_at dksX6_layBest_2 16 rfl rfl)
theorem dX6_layBest_66 : decode cX6_layBest 66 = .ok (.aload_n 0, 1) := dk_42 (dk_at dksX6_layBest_2 19 rfl rfl)
theorem dX6_layBest_67 : decode cX6_layBest 67 = .ok (.iload_n 2, 1) := dk_28 (dk_at dksX6_layBest_2 20 rfl rfl)
theorem dX6_layBest_68 : decode cX6_layBest 68 = .ok (.iload_n 3, 1) := dk_29 (dk_at dksX6_layBest_2 21 rfl rfl)
theorem dX6_layBest_69 : decode cX6_layBest 69 = .ok (.aload_n 0, 1) := dk_42 (dk_at dksX6_layBest_2 22 rfl rfl)
theorem dX6_layBest_70 : decode cX6_layBest 70 = .ok (.iconst (-1), 1) := dk_2 (dk_at dksX6_layBest_2 23 rfl rfl)
theorem dX6_layBest_71 : decode cX6_layBest 71 = .ok (.iload_n 2, 1) := dk_28 (dk_at dksX6_layBest_3 0 rfl rfl)
theorem dX6_layBest_72 : decode cX6_layBest 72 = .ok (.iload_n 3, 1) := dk_29 (dk_at dksX6_layBest_3 1 rfl rfl)
theorem dX6_layBest_73 : decode cX6_layBest 73 = .ok (.invokevirtual 348, 3) := dk_182 1 92 (dk_at dksX6_layBest_3 2 rfl rfl)
theorem dX6_layBest_76 : decode cX6_layBest 76 = .ok (.invokevirtual 354, 3) := dk_182 1 98 (dk_at dksX6_layBest_3 5 rfl rfl)
theorem dX6_layBest_79 : decode cX6_layBest 79 = .ok (.iinc 3 1, 3) := dk_132 3 1 (dk_at dksX6_layBest_3 8 rfl rfl)
theorem dX6_layBest_82 : decode cX6_layBest 82 = .ok (.goto (-27), 3) := dk_167 255 229 (dk_at dksX6_layBest_3 11 rfl rfl)
theorem dX6_layBest_85 : decode cX6_layBest 85 = .ok (.iinc 2 1, 3) := dk_132 2 1 (dk_at dksX6_layBest_3 14 rfl rfl)
theorem dX6_layBest_88 : decode cX6_layBest 88 = .ok (.goto (-43), 3) := dk_167 255 213 (dk_at dksX6_layBest_3 17 rfl rfl)
theorem dX6_layBest_91 : decode cX6_layBest 91 = .ok (.return_, 1) := dk_177 (dk_at dksX6_layBest_3 20 rfl rfl)
abbrev cX6_takesBest : ByteArray := prog_23_method_62_code
def yX6_takesBest : MethodName := ⟨RX6, "takesBest", "(III)V"⟩
def dkwX6_takesBest_1 : List UInt8 := [181, 0, 111, 42, 28, 181, 0, 114, 42, 29, 181, 0, 117, 177]
abbrev dktX6_takesBest_1 : List UInt8 := dkwX6_takesBest_1 ++ []
def dkwX6_takesBest_0 : List UInt8 := [29, 155, 0, 18, 42, 180, 0, 117, 155, 0, 12, 29, 42, 180, 0, 117, 161, 0, 4, 177, 42, 27]
abbrev dktX6_takesBest_0 : List UInt8 := dkwX6_takesBest_0 ++ dktX6_takesBest_1
theorem dksX6_takesBest_0 : cX6_takesBest.data.toList.drop 0 = dktX6_takesBest_0 := by decide +kernel
theorem dksX6_takesBest_1 : cX6_takesBest.data.toList.drop 22 = dktX6_takesBest_1 := dk_seg dksX6_takesBest_0 22 rfl rfl
theorem dX6_takesBest_0 : decode cX6_takesBest 0 = .ok (.iload_n 3, 1) := dk_29 (dk_at dksX6_takesBest_0 0 rfl rfl)
theorem dX6_takesBest_1 : decode cX6_takesBest 1 = .ok (.ifCond .lt 18, 3) := dk_155 0 18 (dk_at dksX6_takesBest_0 1 rfl rfl)
theorem dX6_takesBest_4 : decode cX6_takesBest 4 = .ok (.aload_n 0, 1) := dk_42 (dk_at dksX6_takesBest_0 4 rfl rfl)
theorem dX6_takesBest_5 : decode cX6_takesBest 5 = .ok (.getfield 117, 3) := dk_180 0 117 (dk_at dksX6_takesBest_0 5 rfl rfl)
theorem dX6_takesBest_8 : decode cX6_takesBest 8 = .ok (.ifCond .lt 12, 3) := dk_155 0 12 (dk_at dksX6_takesBest_0 8 rfl rfl)
theorem dX6_takesBest_11 : decode cX6_takesBest 11 = .ok (.iload_n 3, 1) := dk_29 (dk_at dksX6_takesBest_0 11 rfl rfl)
theorem dX6_takesBest_12 : decode cX6_takesBest 12 = .ok (.aload_n 0, 1) := dk_42 (dk_at dksX6_takesBest_0 12 rfl rfl)
theorem dX6_takesBest_13 : decode cX6_takesBest 13 = .ok (.getfield 117, 3) := dk_180 0 117 (dk_at dksX6_takesBest_0 13 rfl rfl)
theorem dX6_takesBest_16 : decode cX6_takesBest 16 = .ok (.if_icmp .lt 4, 3) := dk_161 0 4 (dk_at dksX6_takesBest_0 16 rfl rfl)
theorem dX6_takesBest_19 : decode cX6_takesBest 19 = .ok (.return_, 1) := dk_177 (dk_at dksX6_takesBest_0 19 rfl rfl)
theorem dX6_takesBest_20 : decode cX6_takesBest 20 = .ok (.aload_n 0, 1) := dk_42 (dk_at dksX6_takesBest_0 20 rfl rfl)
theorem dX6_takesBest_21 : decode cX6_takesBest 21 = .ok (.iload_n 1, 1) := dk_27 (dk_at dksX6_takesBest_0 21 rfl rfl)
theorem dX6_takesBest_22 : decode cX6_takesBest 22 = .ok (.putfield 111, 3) := dk_181 0 111 (dk_at dksX6_takesBest_1 0 rfl rfl)
theorem dX6_takesBest_25 : decode cX6_takesBest 25 = .ok (.aload_n 0, 1) := dk_42 (dk_at dksX6_takesBest_1 3 rfl rfl)
theorem dX6_takesBest_26 : decode cX6_takesBest 26 = .ok (.iload_n 2, 1) := dk_28 (dk_at dksX6_takesBest_1 4 rfl rfl)
theorem dX6_takesBest_27 : decode cX6_takesBest 27 = .ok (.putfield 114, 3) := dk_181 0 114 (dk_at dksX6_takesBest_1 5 rfl rfl)
theorem dX6_takesBest_30 : decode cX6_takesBest 30 = .ok (.aload_n 0, 1) := dk_42 (dk_at dksX6_takesBest_1 8 rfl rfl)
theorem dX6_takesBest_31 : decode cX6_takesBest 31 = .ok (.iload_n 3, 1) := dk_29 (dk_at dksX6_takesBest_1 9 rfl rfl)
theorem dX6_takesBest_32 : decode cX6_takesBest 32 = .ok (.putfield 117, 3) := dk_181 0 117 (dk_at dksX6_takesBest_1 10 rfl rfl)
theorem dX6_takesBest_35 : decode cX6_takesBest 35 = .ok (.return_, 1) := dk_177 (dk_at dksX6_takesBest_1 13 rfl rfl)
abbrev cX6_two : ByteArray := prog_23_method_65_code
def yX6_two : MethodName := ⟨RX6, "two", "(II)I"⟩
def dkwX6_two_5 : List UInt8 := [132, 5, 1, 167, 255, 171, 28, 154, 0, 7, 29, 167, 0, 5, 21, 4, 172]
abbrev dktX6_two_5 : List UInt8 := dkwX6_two_5 ++ []
def dkwX6_two_4 : List UInt8 := [167, 0, 16, 16, 10, 21, 5, 104, 21, 6, 96, 62, 21, 7, 54, 4, 132, 6, 1, 167, 255, 189]
abbrev dktX6_two_4 : List UInt8 := dkwX6_two_4 ++ dktX6_two_5
def dkwX6_two_3 : List UInt8 := [27, 182, 1, 92, 54, 7, 21, 7, 155, 0, 30, 29, 155, 0, 13, 21, 7, 21, 4, 161, 0, 6]
abbrev dktX6_two_3 : List UInt8 := dkwX6_two_3 ++ dktX6_two_4
def dkwX6_two_2 : List UInt8 := [42, 180, 0, 7, 162, 0, 64, 21, 5, 21, 6, 160, 0, 8, 16, 251, 167, 0, 12, 42, 21, 5, 21, 6]
abbrev dktX6_two_2 : List UInt8 := dkwX6_two_2 ++ dktX6_two_3
def dkwX6_two_1 : List UInt8 := [16, 251, 62, 16, 251, 54, 4, 3, 54, 5, 21, 5, 42, 180, 0, 7, 162, 0, 82, 3, 54, 6, 21, 6]
abbrev dktX6_two_1 : List UInt8 := dkwX6_two_1 ++ dktX6_two_2
def dkwX6_two_0 : List UInt8 := [42, 28, 3, 4, 182, 0, 227, 154, 0, 5, 2, 172, 42, 27, 182, 1, 70, 154, 0, 6, 16, 254, 172]
abbrev dktX6_two_0 : List UInt8 := dkwX6_two_0 ++ dktX6_two_1
theorem dksX6_two_0 : cX6_two.data.toList.drop 0 = dktX6_two_0 := by decide +kernel
theorem dksX6_two_1 : cX6_two.data.toList.drop 23 = dktX6_two_1 := dk_seg dksX6_two_0 23 rfl rfl
theorem dksX6_two_2 : cX6_two.data.toList.drop 47 = dktX6_two_2 := dk_seg dksX6_two_1 24 rfl rfl
theorem dksX6_two_3 : cX6_two.data.toList.drop 71 = dktX6_two_3 := dk_seg dksX6_two_2 24 rfl rfl
theorem dksX6_two_4 : cX6_two.data.toList.drop 93 = dktX6_two_4 := dk_seg dksX6_two_3 22 rfl rfl
theorem dksX6_two_5 : cX6_two.data.toList.drop 115 = dktX6_two_5 := dk_seg dksX6_two_4 22 rfl rfl
theorem dX6_two_0 : decode cX6_two 0 = .ok (.aload_n 0, 1) := dk_42 (dk_at dksX6_two_0 0 rfl rfl)
theorem dX6_two_1 : decode cX6_two 1 = .ok (.iload_n 2, 1) := dk_28 (dk_at dksX6_two_0 1 rfl rfl)
theorem dX6_two_2 : decode cX6_two 2 = .ok (.iconst 0, 1) := dk_3 (dk_at dksX6_two_0 2 rfl rfl)
theorem dX6_two_3 : decode cX6_two 3 = .ok (.iconst 1, 1) := dk_4 (dk_at dksX6_two_0 3 rfl rfl)
theorem dX6_two_4 : decode cX6_two 4 = .ok (.invokevirtual 227, 3) := dk_182 0 227 (dk_at dksX6_two_0 4 rfl rfl)
theorem dX6_two_7 : decode cX6_two 7 = .ok (.ifCond .ne 5, 3) := dk_154 0 5 (dk_at dksX6_two_0 7 rfl rfl)
theorem dX6_two_10 : decode cX6_two 10 = .ok (.iconst (-1), 1) := dk_2 (dk_at dksX6_two_0 10 rfl rfl)
theorem dX6_two_11 : decode cX6_two 11 = .ok (.ireturn, 1) := dk_172 (dk_at dksX6_two_0 11 rfl rfl)
theorem dX6_two_12 : decode cX6_two 12 = .ok (.aload_n 0, 1) := dk_42 (dk_at dksX6_two_0 12 rfl rfl)
theorem dX6_two_13 : decode cX6_two 13 = .ok (.iload_n 1, 1) := dk_27 (dk_at dksX6_two_0 13 rfl rfl)
theorem dX6_two_14 : decode cX6_two 14 = .ok (.invokevirtual 326, 3) := dk_182 1 70 (dk_at dksX6_two_0 14 rfl rfl)
theorem dX6_two_17 : decode cX6_two 17 = .ok (.ifCond .ne 6, 3) := dk_154 0 6 (dk_at dksX6_two_0 17 rfl rfl)
theorem dX6_two_20 : decode cX6_two 20 = .ok (.bipush (-2), 2) := dk_16 254 (dk_at dksX6_two_0 20 rfl rfl)
theorem dX6_two_22 : decode cX6_two 22 = .ok (.ireturn, 1) := dk_172 (dk_at dksX6_two_0 22 rfl rfl)
theorem dX6_two_23 : decode cX6_two 23 = .ok (.bipush (-5), 2) := dk_16 251 (dk_at dksX6_two_1 0 rfl rfl)
theorem dX6_two_25 : decode cX6_two 25 = .ok (.istore_n 3, 1) := dk_62 (dk_at dksX6_two_1 2 rfl rfl)
theorem dX6_two_26 : decode cX6_two 26 = .ok (.bipush (-5), 2) := dk_16 251 (dk_at dksX6_two_1 3 rfl rfl)
theorem dX6_two_28 : decode cX6_two 28 = .ok (.istore 4, 2) := dk_54 4 (dk_at dksX6_two_1 5 rfl rfl)
theorem dX6_two_30 : decode cX6_two 30 = .ok (.iconst 0, 1) := dk_3 (dk_at dksX6_two_1 7 rfl rfl)
theorem dX6_two_31 : decode cX6_two 31 = .ok (.istore 5, 2) := dk_54 5 (dk_at dksX6_two_1 8 rfl rfl)
theorem dX6_two_33 : decode cX6_two 33 = .ok (.iload 5, 2) := dk_21 5 (dk_at dksX6_two_1 10 rfl rfl)
theorem dX6_two_35 : decode cX6_two 35 = .ok (.aload_n 0, 1) := dk_42 (dk_at dksX6_two_1 12 rfl rfl)
theorem dX6_two_36 : decode cX6_two 36 = .ok (.getfield 7, 3) := dk_180 0 7 (dk_at dksX6_two_1 13 rfl rfl)
theorem dX6_two_39 : decode cX6_two 39 = .ok (.if_icmp .ge 82, 3) := dk_162 0 82 (dk_at dksX6_two_1 16 rfl rfl)
theorem dX6_two_42 : decode cX6_two 42 = .ok (.iconst 0, 1) := dk_3 (dk_at dksX6_two_1 19 rfl rfl)
theorem dX6_two_43 : decode cX6_two 43 = .ok (.istore 6, 2) := dk_54 6 (dk_at dksX6_two_1 20 rfl rfl)
theorem dX6_two_45 : decode cX6_two 45 = .ok (.iload 6, 2) := dk_21 6 (dk_at dksX6_two_1 22 rfl rfl)
theorem dX6_two_47 : decode cX6_two 47 = .ok (.aload_n 0, 1) := dk_42 (dk_at dksX6_two_2 0 rfl rfl)
theorem dX6_two_48 : decode cX6_two 48 = .ok (.getfield 7, 3) := dk_180 0 7 (dk_at dksX6_two_2 1 rfl rfl)
theorem dX6_two_51 : decode cX6_two 51 = .ok (.if_icmp .ge 64, 3) := dk_162 0 64 (dk_at dksX6_two_2 4 rfl rfl)
theorem dX6_two_54 : decode cX6_two 54 = .ok (.iload 5, 2) := dk_21 5 (dk_at dksX6_two_2 7 rfl rfl)
theorem dX6_two_56 : decode cX6_two 56 = .ok (.iload 6, 2) := dk_21 6 (dk_at dksX6_two_2 9 rfl rfl)
theorem dX6_two_58 : decode cX6_two 58 = .ok (.if_icmp .ne 8, 3) := dk_160 0 8 (dk_at dksX6_two_2 11 rfl rfl)
theorem dX6_two_61 : decode cX6_two 61 = .ok (.bipush (-5), 2) := dk_16 251 (dk_at dksX6_two_2 14 rfl rfl)
theorem dX6_two_63 : decode cX6_two 63 = .ok (.goto 12, 3) := dk_167 0 12 (dk_at dksX6_two_2 16 rfl rfl)
theorem dX6_two_66 : decode cX6_two 66 = .ok (.aload_n 0, 1) := dk_42 (dk_at dksX6_two_2 19 rfl rfl)
theorem dX6_two_67 : decode cX6_two 67 = .ok (.iload 5, 2) := dk_21 5 (dk_at dksX6_two_2 20 rfl rfl)
theorem dX6_two_69 : decode cX6_two 69 = .ok (.iload 6, 2) := dk_21 6 (dk_at dksX6_two_2 22 rfl rfl)
theorem dX6_two_71 : decode cX6_two 71 = .ok (.iload_n 1, 1) := dk_27 (dk_at dksX6_two_3 0 rfl rfl)
theorem dX6_two_72 : decode cX6_two 72 = .ok (.invokevirtual 348, 3) := dk_182 1 92 (dk_at dksX6_two_3 1 rfl rfl)
theorem dX6_two_75 : decode cX6_two 75 = .ok (.istore 7, 2) := dk_54 7 (dk_at dksX6_two_3 4 rfl rfl)
theorem dX6_two_77 : decode cX6_two 77 = .ok (.iload 7, 2) := dk_21 7 (dk_at dksX6_two_3 6 rfl rfl)
theorem dX6_two_79 : decode cX6_two 79 = .ok (.ifCond .lt 30, 3) := dk_155 0 30 (dk_at dksX6_two_3 8 rfl rfl)
theorem dX6_two_82 : decode cX6_two 82 = .ok (.iload_n 3, 1) := dk_29 (dk_at dksX6_two_3 11 rfl rfl)
theorem dX6_two_83 : decode cX6_two 83 = .ok (.ifCond .lt 13, 3) := dk_155 0 13 (dk_at dksX6_two_3 12 rfl rfl)
theorem dX6_two_86 : decode cX6_two 86 = .ok (.iload 7, 2) := dk_21 7 (dk_at dksX6_two_3 15 rfl rfl)
theorem dX6_two_88 : decode cX6_two 88 = .ok (.iload 4, 2) := dk_21 4 (dk_at dksX6_two_3 17 rfl rfl)
theorem dX6_two_90 : decode cX6_two 90 = .ok (.if_icmp .lt 6, 3) := dk_161 0 6 (dk_at dksX6_two_3 19 rfl rfl)
theorem dX6_two_93 : decode cX6_two 93 = .ok (.goto 16, 3) := dk_167 0 16 (dk_at dksX6_two_4 0 rfl rfl)
theorem dX6_two_96 : decode cX6_two 96 = .ok (.bipush 10, 2) := dk_16 10 (dk_at dksX6_two_4 3 rfl rfl)
theorem dX6_two_98 : decode cX6_two 98 = .ok (.iload 5, 2) := dk_21 5 (dk_at dksX6_two_4 5 rfl rfl)
theorem dX6_two_100 : decode cX6_two 100 = .ok (.imul, 1) := dk_104 (dk_at dksX6_two_4 7 rfl rfl)
theorem dX6_two_101 : decode cX6_two 101 = .ok (.iload 6, 2) := dk_21 6 (dk_at dksX6_two_4 8 rfl rfl)
theorem dX6_two_103 : decode cX6_two 103 = .ok (.iadd, 1) := dk_96 (dk_at dksX6_two_4 10 rfl rfl)
theorem dX6_two_104 : decode cX6_two 104 = .ok (.istore_n 3, 1) := dk_62 (dk_at dksX6_two_4 11 rfl rfl)
theorem dX6_two_105 : decode cX6_two 105 = .ok (.iload 7, 2) := dk_21 7 (dk_at dksX6_two_4 12 rfl rfl)
theorem dX6_two_107 : decode cX6_two 107 = .ok (.istore 4, 2) := dk_54 4 (dk_at dksX6_two_4 14 rfl rfl)
theorem dX6_two_109 : decode cX6_two 109 = .ok (.iinc 6 1, 3) := dk_132 6 1 (dk_at dksX6_two_4 16 rfl rfl)
theorem dX6_two_112 : decode cX6_two 112 = .ok (.goto (-67), 3) := dk_167 255 189 (dk_at dksX6_two_4 19 rfl rfl)
theorem dX6_two_115 : decode cX6_two 115 = .ok (.iinc 5 1, 3) := dk_132 5 1 (dk_at dksX6_two_5 0 rfl rfl)
theorem dX6_two_118 : decode cX6_two 118 = .ok (.goto (-85), 3) := dk_167 255 171 (dk_at dksX6_two_5 3 rfl rfl)
theorem dX6_two_121 : decode cX6_two 121 = .ok (.iload_n 2, 1) := dk_28 (dk_at dksX6_two_5 6 rfl rfl)
theorem dX6_two_122 : decode cX6_two 122 = .ok (.ifCond .ne 7, 3) := dk_154 0 7 (dk_at dksX6_two_5 7 rfl rfl)
theorem dX6_two_125 : decode cX6_two 125 = .ok (.iload_n 3, 1) := dk_29 (dk_at dksX6_two_5 10 rfl rfl)
theorem dX6_two_126 : decode cX6_two 126 = .ok (.goto 5, 3) := dk_167 0 5 (dk_at dksX6_two_5 11 rfl rfl)
theorem dX6_two_129 : decode cX6_two 129 = .ok (.iload 4, 2) := dk_21 4 (dk_at dksX6_two_5 14 rfl rfl)
theorem dX6_two_131 : decode cX6_two 131 = .ok (.ireturn, 1) := dk_172 (dk_at dksX6_two_5 16 rfl rfl)
abbrev cX6_worth : ByteArray := prog_23_method_66_code
def yX6_worth : MethodName := ⟨RX6, "worth", "(I)I"⟩
def dkwX6_worth_2 : List UInt8 := [17, 3, 231, 167, 0, 7, 42, 180, 0, 117, 28, 100, 172]
abbrev dktX6_worth_2 : List UInt8 := dkwX6_worth_2 ++ []
def dkwX6_worth_1 : List UInt8 := [17, 3, 231, 167, 0, 7, 42, 180, 0, 117, 61, 42, 27, 182, 1, 102, 42, 180, 0, 117, 156, 0, 9]
abbrev dktX6_worth_1 : List UInt8 := dkwX6_worth_1 ++ dktX6_worth_2
def dkwX6_worth_0 : List UInt8 := [42, 27, 182, 0, 235, 154, 0, 5, 2, 172, 42, 2, 182, 1, 102, 42, 180, 0, 117, 156, 0, 9]
abbrev dktX6_worth_0 : List UInt8 := dkwX6_worth_0 ++ dktX6_worth_1
theorem dksX6_worth_0 : cX6_worth.data.toList.drop 0 = dktX6_worth_0 := by decide +kernel
theorem dksX6_worth_1 : cX6_worth.data.toList.drop 22 = dktX6_worth_1 := dk_seg dksX6_worth_0 22 rfl rfl
theorem dksX6_worth_2 : cX6_worth.data.toList.drop 45 = dktX6_worth_2 := dk_seg dksX6_worth_1 23 rfl rfl
theorem dX6_worth_0 : decode cX6_worth 0 = .ok (.aload_n 0, 1) := dk_42 (dk_at dksX6_worth_0 0 rfl rfl)
theorem dX6_worth_1 : decode cX6_worth 1 = .ok (.iload_n 1, 1) := dk_27 (dk_at dksX6_worth_0 1 rfl rfl)
theorem dX6_worth_2 : decode cX6_worth 2 = .ok (.invokevirtual 235, 3) := dk_182 0 235 (dk_at dksX6_worth_0 2 rfl rfl)
theorem dX6_worth_5 : decode cX6_worth 5 = .ok (.ifCond .ne 5, 3) := dk_154 0 5 (dk_at dksX6_worth_0 5 rfl rfl)
theorem dX6_worth_8 : decode cX6_worth 8 = .ok (.iconst (-1), 1) := dk_2 (dk_at dksX6_worth_0 8 rfl rfl)
theorem dX6_worth_9 : decode cX6_worth 9 = .ok (.ireturn, 1) := dk_172 (dk_at dksX6_worth_0 9 rfl rfl)
theorem dX6_worth_10 : decode cX6_worth 10 = .ok (.aload_n 0, 1) := dk_42 (dk_at dksX6_worth_0 10 rfl rfl)
theorem dX6_worth_11 : decode cX6_worth 11 = .ok (.iconst (-1), 1) := dk_2 (dk_at dksX6_worth_0 11 rfl rfl)
theorem dX6_worth_12 : decode cX6_worth 12 = .ok (.invokevirtual 358, 3) := dk_182 1 102 (dk_at dksX6_worth_0 12 rfl rfl)
theorem dX6_worth_15 : decode cX6_worth 15 = .ok (.aload_n 0, 1) := dk_42 (dk_at dksX6_worth_0 15 rfl rfl)
theorem dX6_worth_16 : decode cX6_worth 16 = .ok (.getfield 117, 3) := dk_180 0 117 (dk_at dksX6_worth_0 16 rfl rfl)
theorem dX6_worth_19 : decode cX6_worth 19 = .ok (.ifCond .ge 9, 3) := dk_156 0 9 (dk_at dksX6_worth_0 19 rfl rfl)
theorem dX6_worth_22 : decode cX6_worth 22 = .ok (.sipush 999, 3) := dk_17 3 231 (dk_at dksX6_worth_1 0 rfl rfl)
theorem dX6_worth_25 : decode cX6_worth 25 = .ok (.goto 7, 3) := dk_167 0 7 (dk_at dksX6_worth_1 3 rfl rfl)
theorem dX6_worth_28 : decode cX6_worth 28 = .ok (.aload_n 0, 1) := dk_42 (dk_at dksX6_worth_1 6 rfl rfl)
theorem dX6_worth_29 : decode cX6_worth 29 = .ok (.getfield 117, 3) := dk_180 0 117 (dk_at dksX6_worth_1 7 rfl rfl)
theorem dX6_worth_32 : decode cX6_worth 32 = .ok (.istore_n 2, 1) := dk_61 (dk_at dksX6_worth_1 10 rfl rfl)
theorem dX6_worth_33 : decode cX6_worth 33 = .ok (.aload_n 0, 1) := dk_42 (dk_at dksX6_worth_1 11 rfl rfl)
theorem dX6_worth_34 : decode cX6_worth 34 = .ok (.iload_n 1, 1) := dk_27 (dk_at dksX6_worth_1 12 rfl rfl)
theorem dX6_worth_35 : decode cX6_worth 35 = .ok (.invokevirtual 358, 3) := dk_182 1 102 (dk_at dksX6_worth_1 13 rfl rfl)
theorem dX6_worth_38 : decode cX6_worth 38 = .ok (.aload_n 0, 1) := dk_42 (dk_at dksX6_worth_1 16 rfl rfl)
theorem dX6_worth_39 : decode cX6_worth 39 = .ok (.getfield 117, 3) := dk_180 0 117 (dk_at dksX6_worth_1 17 rfl rfl)
theorem dX6_worth_42 : decode cX6_worth 42 = .ok (.ifCond .ge 9, 3) := dk_156 0 9 (dk_at dksX6_worth_1 20 rfl rfl)
theorem dX6_worth_45 : decode cX6_worth 45 = .ok (.sipush 999, 3) := dk_17 3 231 (dk_at dksX6_worth_2 0 rfl rfl)
theorem dX6_worth_48 : decode cX6_worth 48 = .ok (.goto 7, 3) := dk_167 0 7 (dk_at dksX6_worth_2 3 rfl rfl)
theorem dX6_worth_51 : decode cX6_worth 51 = .ok (.aload_n 0, 1) := dk_42 (dk_at dksX6_worth_2 6 rfl rfl)
theorem dX6_worth_52 : decode cX6_worth 52 = .ok (.getfield 117, 3) := dk_180 0 117 (dk_at dksX6_worth_2 7 rfl rfl)
theorem dX6_worth_55 : decode cX6_worth 55 = .ok (.iload_n 2, 1) := dk_28 (dk_at dksX6_worth_2 10 rfl rfl)
theorem dX6_worth_56 : decode cX6_worth 56 = .ok (.isub, 1) := dk_100 (dk_at dksX6_worth_2 11 rfl rfl)
theorem dX6_worth_57 : decode cX6_worth 57 = .ok (.ireturn, 1) := dk_172 (dk_at dksX6_worth_2 12 rfl rfl)
abbrev cX6_leg : ByteArray := prog_23_method_67_code
def yX6_leg : MethodName := ⟨RX6, "leg", "(II)I"⟩
def dkwX6_leg_3 : List UInt8 := [181, 0, 120, 42, 180, 0, 120, 172]
abbrev dktX6_leg_3 : List UInt8 := dkwX6_leg_3 ++ []
def dkwX6_leg_2 : List UInt8 := [42, 180, 0, 120, 27, 79, 42, 180, 0, 126, 42, 180, 0, 120, 28, 79, 42, 89, 180, 0, 120, 4, 96]
abbrev dktX6_leg_2 : List UInt8 := dkwX6_leg_2 ++ dktX6_leg_3
def dkwX6_leg_1 : List UInt8 := [182, 1, 64, 154, 0, 6, 16, 254, 172, 42, 180, 0, 120, 7, 160, 0, 6, 16, 252, 172, 42, 180, 0, 123]
abbrev dktX6_leg_1 : List UInt8 := dkwX6_leg_1 ++ dktX6_leg_2
def dkwX6_leg_0 : List UInt8 := [27, 2, 160, 0, 10, 42, 3, 181, 0, 120, 3, 172, 42, 27, 182, 0, 235, 154, 0, 5, 2, 172, 42, 28]
abbrev dktX6_leg_0 : List UInt8 := dkwX6_leg_0 ++ dktX6_leg_1
theorem dksX6_leg_0 : cX6_leg.data.toList.drop 0 = dktX6_leg_0 := by decide +kernel
theorem dksX6_leg_1 : cX6_leg.data.toList.drop 24 = dktX6_leg_1 := dk_seg dksX6_leg_0 24 rfl rfl
theorem dksX6_leg_2 : cX6_leg.data.toList.drop 48 = dktX6_leg_2 := dk_seg dksX6_leg_1 24 rfl rfl
theorem dksX6_leg_3 : cX6_leg.data.toList.drop 71 = dktX6_leg_3 := dk_seg dksX6_leg_2 23 rfl rfl
theorem dX6_leg_0 : decode cX6_leg 0 = .ok (.iload_n 1, 1) := dk_27 (dk_at dksX6_leg_0 0 rfl rfl)
theorem dX6_leg_1 : decode cX6_leg 1 = .ok (.iconst (-1), 1) := dk_2 (dk_at dksX6_leg_0 1 rfl rfl)
theorem dX6_leg_2 : decode cX6_leg 2 = .ok (.if_icmp .ne 10, 3) := dk_160 0 10 (dk_at dksX6_leg_0 2 rfl rfl)
theorem dX6_leg_5 : decode cX6_leg 5 = .ok (.aload_n 0, 1) := dk_42 (dk_at dksX6_leg_0 5 rfl rfl)
theorem dX6_leg_6 : decode cX6_leg 6 = .ok (.iconst 0, 1) := dk_3 (dk_at dksX6_leg_0 6 rfl rfl)
theorem dX6_leg_7 : decode cX6_leg 7 = .ok (.putfield 120, 3) := dk_181 0 120 (dk_at dksX6_leg_0 7 rfl rfl)
theorem dX6_leg_10 : decode cX6_leg 10 = .ok (.iconst 0, 1) := dk_3 (dk_at dksX6_leg_0 10 rfl rfl)
theorem dX6_leg_11 : decode cX6_leg 11 = .ok (.ireturn, 1) := dk_172 (dk_at dksX6_leg_0 11 rfl rfl)
theorem dX6_leg_12 : decode cX6_leg 12 = .ok (.aload_n 0, 1) := dk_42 (dk_at dksX6_leg_0 12 rfl rfl)
theorem dX6_leg_13 : decode cX6_leg 13 = .ok (.iload_n 1, 1) := dk_27 (dk_at dksX6_leg_0 13 rfl rfl)
theorem dX6_leg_14 : decode cX6_leg 14 = .ok (.invokevirtual 235, 3) := dk_182 0 235 (dk_at dksX6_leg_0 14 rfl rfl)
theorem dX6_leg_17 : decode cX6_leg 17 = .ok (.ifCond .ne 5, 3) := dk_154 0 5 (dk_at dksX6_leg_0 17 rfl rfl)
theorem dX6_leg_20 : decode cX6_leg 20 = .ok (.iconst (-1), 1) := dk_2 (dk_at dksX6_leg_0 20 rfl rfl)
theorem dX6_leg_21 : decode cX6_leg 21 = .ok (.ireturn, 1) := dk_172 (dk_at dksX6_leg_0 21 rfl rfl)
theorem dX6_leg_22 : decode cX6_leg 22 = .ok (.aload_n 0, 1) := dk_42 (dk_at dksX6_leg_0 22 rfl rfl)
theorem dX6_leg_23 : decode cX6_leg 23 = .ok (.iload_n 2, 1) := dk_28 (dk_at dksX6_leg_0 23 rfl rfl)
theorem dX6_leg_24 : decode cX6_leg 24 = .ok (.invokevirtual 320, 3) := dk_182 1 64 (dk_at dksX6_leg_1 0 rfl rfl)
theorem dX6_leg_27 : decode cX6_leg 27 = .ok (.ifCond .ne 6, 3) := dk_154 0 6 (dk_at dksX6_leg_1 3 rfl rfl)
theorem dX6_leg_30 : decode cX6_leg 30 = .ok (.bipush (-2), 2) := dk_16 254 (dk_at dksX6_leg_1 6 rfl rfl)
theorem dX6_leg_32 : decode cX6_leg 32 = .ok (.ireturn, 1) := dk_172 (dk_at dksX6_leg_1 8 rfl rfl)
theorem dX6_leg_33 : decode cX6_leg 33 = .ok (.aload_n 0, 1) := dk_42 (dk_at dksX6_leg_1 9 rfl rfl)
theorem dX6_leg_34 : decode cX6_leg 34 = .ok (.getfield 120, 3) := dk_180 0 120 (dk_at dksX6_leg_1 10 rfl rfl)
theorem dX6_leg_37 : decode cX6_leg 37 = .ok (.iconst 4, 1) := dk_7 (dk_at dksX6_leg_1 13 rfl rfl)
theorem dX6_leg_38 : decode cX6_leg 38 = .ok (.if_icmp .ne 6, 3) := dk_160 0 6 (dk_at dksX6_leg_1 14 rfl rfl)
theorem dX6_leg_41 : decode cX6_leg 41 = .ok (.bipush (-4), 2) := dk_16 252 (dk_at dksX6_leg_1 17 rfl rfl)
theorem dX6_leg_43 : decode cX6_leg 43 = .ok (.ireturn, 1) := dk_172 (dk_at dksX6_leg_1 19 rfl rfl)
theorem dX6_leg_44 : decode cX6_leg 44 = .ok (.aload_n 0, 1) := dk_42 (dk_at dksX6_leg_1 20 rfl rfl)
theorem dX6_leg_45 : decode cX6_leg 45 = .ok (.getfield 123, 3) := dk_180 0 123 (dk_at dksX6_leg_1 21 rfl rfl)
theorem dX6_leg_48 : decode cX6_leg 48 = .ok (.aload_n 0, 1) := dk_42 (dk_at dksX6_leg_2 0 rfl rfl)
theorem dX6_leg_49 : decode cX6_leg 49 = .ok (.getfield 120, 3) := dk_180 0 120 (dk_at dksX6_leg_2 1 rfl rfl)
theorem dX6_leg_52 : decode cX6_leg 52 = .ok (.iload_n 1, 1) := dk_27 (dk_at dksX6_leg_2 4 rfl rfl)
theorem dX6_leg_53 : decode cX6_leg 53 = .ok (.iastore, 1) := dk_79 (dk_at dksX6_leg_2 5 rfl rfl)
theorem dX6_leg_54 : decode cX6_leg 54 = .ok (.aload_n 0, 1) := dk_42 (dk_at dksX6_leg_2 6 rfl rfl)
theorem dX6_leg_55 : decode cX6_leg 55 = .ok (.getfield 126, 3) := dk_180 0 126 (dk_at dksX6_leg_2 7 rfl rfl)
theorem dX6_leg_58 : decode cX6_leg 58 = .ok (.aload_n 0, 1) := dk_42 (dk_at dksX6_leg_2 10 rfl rfl)
theorem dX6_leg_59 : decode cX6_leg 59 = .ok (.getfield 120, 3) := dk_180 0 120 (dk_at dksX6_leg_2 11 rfl rfl)
theorem dX6_leg_62 : decode cX6_leg 62 = .ok (.iload_n 2, 1) := dk_28 (dk_at dksX6_leg_2 14 rfl rfl)
theorem dX6_leg_63 : decode cX6_leg 63 = .ok (.iastore, 1) := dk_79 (dk_at dksX6_leg_2 15 rfl rfl)
theorem dX6_leg_64 : decode cX6_leg 64 = .ok (.aload_n 0, 1) := dk_42 (dk_at dksX6_leg_2 16 rfl rfl)
theorem dX6_leg_65 : decode cX6_leg 65 = .ok (.dup, 1) := dk_89 (dk_at dksX6_leg_2 17 rfl rfl)
theorem dX6_leg_66 : decode cX6_leg 66 = .ok (.getfield 120, 3) := dk_180 0 120 (dk_at dksX6_leg_2 18 rfl rfl)
theorem dX6_leg_69 : decode cX6_leg 69 = .ok (.iconst 1, 1) := dk_4 (dk_at dksX6_leg_2 21 rfl rfl)
theorem dX6_leg_70 : decode cX6_leg 70 = .ok (.iadd, 1) := dk_96 (dk_at dksX6_leg_2 22 rfl rfl)
theorem dX6_leg_71 : decode cX6_leg 71 = .ok (.putfield 120, 3) := dk_181 0 120 (dk_at dksX6_leg_3 0 rfl rfl)
theorem dX6_leg_74 : decode cX6_leg 74 = .ok (.aload_n 0, 1) := dk_42 (dk_at dksX6_leg_3 3 rfl rfl)
theorem dX6_leg_75 : decode cX6_leg 75 = .ok (.getfield 120, 3) := dk_180 0 120 (dk_at dksX6_leg_3 4 rfl rfl)
theorem dX6_leg_78 : decode cX6_leg 78 = .ok (.ireturn, 1) := dk_172 (dk_at dksX6_leg_3 7 rfl rfl)
abbrev cX6_flown : ByteArray := prog_23_method_68_code
def yX6_flown : MethodName := ⟨RX6, "flown", "(II)I"⟩
def dkwX6_flown_7 : List UInt8 := [16, 251, 172]
abbrev dktX6_flown_7 : List UInt8 := dkwX6_flown_7 ++ []
def dkwX6_flown_6 : List UInt8 := [180, 0, 13, 42, 180, 0, 99, 100, 54, 4, 42, 182, 1, 79, 29, 153, 0, 8, 21, 4, 167, 0, 5]
abbrev dktX6_flown_6 : List UInt8 := dkwX6_flown_6 ++ dktX6_flown_7
def dkwX6_flown_5 : List UInt8 := [182, 1, 73, 153, 0, 7, 4, 167, 0, 4, 3, 62, 28, 154, 0, 10, 42, 180, 0, 19, 167, 0, 12, 42]
abbrev dktX6_flown_5 : List UInt8 := dkwX6_flown_5 ++ dktX6_flown_6
def dkwX6_flown_4 : List UInt8 := [132, 5, 1, 167, 255, 226, 132, 4, 1, 167, 255, 186, 29, 153, 0, 19, 42, 42, 180, 0, 25, 27]
abbrev dktX6_flown_4 : List UInt8 := dkwX6_flown_4 ++ dktX6_flown_5
def dkwX6_flown_3 : List UInt8 := [180, 0, 126, 21, 4, 46, 162, 0, 24, 29, 153, 0, 20, 42, 42, 180, 0, 123, 21, 4, 46, 182, 1, 67]
abbrev dktX6_flown_3 : List UInt8 := dkwX6_flown_3 ++ dktX6_flown_4
def dkwX6_flown_2 : List UInt8 := [180, 0, 35, 42, 180, 0, 123, 21, 4, 46, 46, 27, 182, 1, 73, 62, 3, 54, 5, 21, 5, 42]
abbrev dktX6_flown_2 : List UInt8 := dkwX6_flown_2 ++ dktX6_flown_3
def dkwX6_flown_1 : List UInt8 := [182, 1, 76, 4, 62, 3, 54, 4, 21, 4, 42, 180, 0, 120, 162, 0, 67, 29, 153, 0, 63, 42, 42]
abbrev dktX6_flown_1 : List UInt8 := dkwX6_flown_1 ++ dktX6_flown_2
def dkwX6_flown_0 : List UInt8 := [42, 28, 3, 4, 182, 0, 227, 154, 0, 5, 2, 172, 42, 27, 182, 1, 70, 154, 0, 6, 16, 254, 172, 42]
abbrev dktX6_flown_0 : List UInt8 := dkwX6_flown_0 ++ dktX6_flown_1
theorem dksX6_flown_0 : cX6_flown.data.toList.drop 0 = dktX6_flown_0 := by decide +kernel
theorem dksX6_flown_1 : cX6_flown.data.toList.drop 24 = dktX6_flown_1 := dk_seg dksX6_flown_0 24 rfl rfl
theorem dksX6_flown_2 : cX6_flown.data.toList.drop 47 = dktX6_flown_2 := dk_seg dksX6_flown_1 23 rfl rfl
theorem dksX6_flown_3 : cX6_flown.data.toList.drop 69 = dktX6_flown_3 := dk_seg dksX6_flown_2 22 rfl rfl
theorem dksX6_flown_4 : cX6_flown.data.toList.drop 93 = dktX6_flown_4 := dk_seg dksX6_flown_3 24 rfl rfl
theorem dksX6_flown_5 : cX6_flown.data.toList.drop 115 = dktX6_flown_5 := dk_seg dksX6_flown_4 22 rfl rfl
theorem dksX6_flown_6 : cX6_flown.data.toList.drop 139 = dktX6_flown_6 := dk_seg dksX6_flown_5 24 rfl rfl
theorem dksX6_flown_7 : cX6_flown.data.toList.drop 162 = dktX6_flown_7 := dk_seg dksX6_flown_6 23 rfl rfl
theorem dX6_flown_0 : decode cX6_flown 0 = .ok (.aload_n 0, 1) := dk_42 (dk_at dksX6_flown_0 0 rfl rfl)
theorem dX6_flown_1 : decode cX6_flown 1 = .ok (.iload_n 2, 1) := dk_28 (dk_at dksX6_flown_0 1 rfl rfl)
theorem dX6_flown_2 : decode cX6_flown 2 = .ok (.iconst 0, 1) := dk_3 (dk_at dksX6_flown_0 2 rfl rfl)
theorem dX6_flown_3 : decode cX6_flown 3 = .ok (.iconst 1, 1) := dk_4 (dk_at dksX6_flown_0 3 rfl rfl)
theorem dX6_flown_4 : decode cX6_flown 4 = .ok (.invokevirtual 227, 3) := dk_182 0 227 (dk_at dksX6_flown_0 4 rfl rfl)
theorem dX6_flown_7 : decode cX6_flown 7 = .ok (.ifCond .ne 5, 3) := dk_154 0 5 (dk_at dksX6_flown_0 7 rfl rfl)
theorem dX6_flown_10 : decode cX6_flown 10 = .ok (.iconst (-1), 1) := dk_2 (dk_at dksX6_flown_0 10 rfl rfl)
theorem dX6_flown_11 : decode cX6_flown 11 = .ok (.ireturn, 1) := dk_172 (dk_at dksX6_flown_0 11 rfl rfl)
theorem dX6_flown_12 : decode cX6_flown 12 = .ok (.aload_n 0, 1) := dk_42 (dk_at dksX6_flown_0 12 rfl rfl)
theorem dX6_flown_13 : decode cX6_flown 13 = .ok (.iload_n 1, 1) := dk_27 (dk_at dksX6_flown_0 13 rfl rfl)
theorem dX6_flown_14 : decode cX6_flown 14 = .ok (.invokevirtual 326, 3) := dk_182 1 70 (dk_at dksX6_flown_0 14 rfl rfl)
theorem dX6_flown_17 : decode cX6_flown 17 = .ok (.ifCond .ne 6, 3) := dk_154 0 6 (dk_at dksX6_flown_0 17 rfl rfl)
theorem dX6_flown_20 : decode cX6_flown 20 = .ok (.bipush (-2), 2) := dk_16 254 (dk_at dksX6_flown_0 20 rfl rfl)
theorem dX6_flown_22 : decode cX6_flown 22 = .ok (.ireturn, 1) := dk_172 (dk_at dksX6_flown_0 22 rfl rfl)
theorem dX6_flown_23 : decode cX6_flown 23 = .ok (.aload_n 0, 1) := dk_42 (dk_at dksX6_flown_0 23 rfl rfl)
theorem dX6_flown_24 : decode cX6_flown 24 = .ok (.invokevirtual 332, 3) := dk_182 1 76 (dk_at dksX6_flown_1 0 rfl rfl)
theorem dX6_flown_27 : decode cX6_flown 27 = .ok (.iconst 1, 1) := dk_4 (dk_at dksX6_flown_1 3 rfl rfl)
theorem dX6_flown_28 : decode cX6_flown 28 = .ok (.istore_n 3, 1) := dk_62 (dk_at dksX6_flown_1 4 rfl rfl)
theorem dX6_flown_29 : decode cX6_flown 29 = .ok (.iconst 0, 1) := dk_3 (dk_at dksX6_flown_1 5 rfl rfl)
theorem dX6_flown_30 : decode cX6_flown 30 = .ok (.istore 4, 2) := dk_54 4 (dk_at dksX6_flown_1 6 rfl rfl)
theorem dX6_flown_32 : decode cX6_flown 32 = .ok (.iload 4, 2) := dk_21 4 (dk_at dksX6_flown_1 8 rfl rfl)
theorem dX6_flown_34 : decode cX6_flown 34 = .ok (.aload_n 0, 1) := dk_42 (dk_at dksX6_flown_1 10 rfl rfl)
theorem dX6_flown_35 : decode cX6_flown 35 = .ok (.getfield 120, 3) := dk_180 0 120 (dk_at dksX6_flown_1 11 rfl rfl)
theorem dX6_flown_38 : decode cX6_flown 38 = .ok (.if_icmp .ge 67, 3) := dk_162 0 67 (dk_at dksX6_flown_1 14 rfl rfl)
theorem dX6_flown_41 : decode cX6_flown 41 = .ok (.iload_n 3, 1) := dk_29 (dk_at dksX6_flown_1 17 rfl rfl)
theorem dX6_flown_42 : decode cX6_flown 42 = .ok (.ifCond .eq 63, 3) := dk_153 0 63 (dk_at dksX6_flown_1 18 rfl rfl)
theorem dX6_flown_45 : decode cX6_flown 45 = .ok (.aload_n 0, 1) := dk_42 (dk_at dksX6_flown_1 21 rfl rfl)
theorem dX6_flown_46 : decode cX6_flown 46 = .ok (.aload_n 0, 1) := dk_42 (dk_at dksX6_flown_1 22 rfl rfl)
theorem dX6_flown_47 : decode cX6_flown 47 = .ok (.getfield 35, 3) := dk_180 0 35 (dk_at dksX6_flown_2 0 rfl rfl)
theorem dX6_flown_50 : decode cX6_flown 50 = .ok (.aload_n 0, 1) := dk_42 (dk_at dksX6_flown_2 3 rfl rfl)
theorem dX6_flown_51 : decode cX6_flown 51 = .ok (.getfield 123, 3) := dk_180 0 123 (dk_at dksX6_flown_2 4 rfl rfl)
theorem dX6_flown_54 : decode cX6_flown 54 = .ok (.iload 4, 2) := dk_21 4 (dk_at dksX6_flown_2 7 rfl rfl)
theorem dX6_flown_56 : decode cX6_flown 56 = .ok (.iaload, 1) := dk_46 (dk_at dksX6_flown_2 9 rfl rfl)
theorem dX6_flown_57 : decode cX6_flown 57 = .ok (.iaload, 1) := dk_46 (dk_at dksX6_flown_2 10 rfl rfl)
theorem dX6_flown_58 : decode cX6_flown 58 = .ok (.iload_n 1, 1) := dk_27 (dk_at dksX6_flown_2 11 rfl rfl)
theorem dX6_flown_59 : decode cX6_flown 59 = .ok (.invokevirtual 329, 3) := dk_182 1 73 (dk_at dksX6_flown_2 12 rfl rfl)
theorem dX6_flown_62 : decode cX6_flown 62 = .ok (.istore_n 3, 1) := dk_62 (dk_at dksX6_flown_2 15 rfl rfl)
theorem dX6_flown_63 : decode cX6_flown 63 = .ok (.iconst 0, 1) := dk_3 (dk_at dksX6_flown_2 16 rfl rfl)
theorem dX6_flown_64 : decode cX6_flown 64 = .ok (.istore 5, 2) := dk_54 5 (dk_at dksX6_flown_2 17 rfl rfl)
theorem dX6_flown_66 : decode cX6_flown 66 = .ok (.iload 5, 2) := dk_21 5 (dk_at dksX6_flown_2 19 rfl rfl)
theorem dX6_flown_68 : decode cX6_flown 68 = .ok (.aload_n 0, 1) := dk_42 (dk_at dksX6_flown_2 21 rfl rfl)
theorem dX6_flown_69 : decode cX6_flown 69 = .ok (.getfield 126, 3) := dk_180 0 126 (dk_at dksX6_flown_3 0 rfl rfl)
theorem dX6_flown_72 : decode cX6_flown 72 = .ok (.iload 4, 2) := dk_21 4 (dk_at dksX6_flown_3 3 rfl rfl)
theorem dX6_flown_74 : decode cX6_flown 74 = .ok (.iaload, 1) := dk_46 (dk_at dksX6_flown_3 5 rfl rfl)
theorem dX6_flown_75 : decode cX6_flown 75 = .ok (.if_icmp .ge 24, 3) := dk_162 0 24 (dk_at dksX6_flown_3 6 rfl rfl)
theorem dX6_flown_78 : decode cX6_flown 78 = .ok (.iload_n 3, 1) := dk_29 (dk_at dksX6_flown_3 9 rfl rfl)
theorem dX6_flown_79 : decode cX6_flown 79 = .ok (.ifCond .eq 20, 3) := dk_153 0 20 (dk_at dksX6_flown_3 10 rfl rfl)
theorem dX6_flown_82 : decode cX6_flown 82 = .ok (.aload_n 0, 1) := dk_42 (dk_at dksX6_flown_3 13 rfl rfl)
theorem dX6_flown_83 : decode cX6_flown 83 = .ok (.aload_n 0, 1) := dk_42 (dk_at dksX6_flown_3 14 rfl rfl)
theorem dX6_flown_84 : decode cX6_flown 84 = .ok (.getfield 123, 3) := dk_180 0 123 (dk_at dksX6_flown_3 15 rfl rfl)
theorem dX6_flown_87 : decode cX6_flown 87 = .ok (.iload 4, 2) := dk_21 4 (dk_at dksX6_flown_3 18 rfl rfl)
theorem dX6_flown_89 : decode cX6_flown 89 = .ok (.iaload, 1) := dk_46 (dk_at dksX6_flown_3 20 rfl rfl)
theorem dX6_flown_90 : decode cX6_flown 90 = .ok (.invokevirtual 323, 3) := dk_182 1 67 (dk_at dksX6_flown_3 21 rfl rfl)
theorem dX6_flown_93 : decode cX6_flown 93 = .ok (.iinc 5 1, 3) := dk_132 5 1 (dk_at dksX6_flown_4 0 rfl rfl)
theorem dX6_flown_96 : decode cX6_flown 96 = .ok (.goto (-30), 3) := dk_167 255 226 (dk_at dksX6_flown_4 3 rfl rfl)
theorem dX6_flown_99 : decode cX6_flown 99 = .ok (.iinc 4 1, 3) := dk_132 4 1 (dk_at dksX6_flown_4 6 rfl rfl)
theorem dX6_flown_102 : decode cX6_flown 102 = .ok (.goto (-70), 3) := dk_167 255 186 (dk_at dksX6_flown_4 9 rfl rfl)
theorem dX6_flown_105 : decode cX6_flown 105 = .ok (.iload_n 3, 1) := dk_29 (dk_at dksX6_flown_4 12 rfl rfl)
theorem dX6_flown_106 : decode cX6_flown 106 = .ok (.ifCond .eq 19, 3) := dk_153 0 19 (dk_at dksX6_flown_4 13 rfl rfl)
theorem dX6_flown_109 : decode cX6_flown 109 = .ok (.aload_n 0, 1) := dk_42 (dk_at dksX6_flown_4 16 rfl rfl)
theorem dX6_flown_110 : decode cX6_flown 110 = .ok (.aload_n 0, 1) := dk_42 (dk_at dksX6_flown_4 17 rfl rfl)
theorem dX6_flown_111 : decode cX6_flown 111 = .ok (.getfield 25, 3) := dk_180 0 25 (dk_at dksX6_flown_4 18 rfl rfl)
theorem dX6_flown_114 : decode cX6_flown 114 = .ok (.iload_n 1, 1) := dk_27 (dk_at dksX6_flown_4 21 rfl rfl)
theorem dX6_flown_115 : decode cX6_flown 115 = .ok (.invokevirtual 329, 3) := dk_182 1 73 (dk_at dksX6_flown_5 0 rfl rfl)
theorem dX6_flown_118 : decode cX6_flown 118 = .ok (.ifCond .eq 7, 3) := dk_153 0 7 (dk_at dksX6_flown_5 3 rfl rfl)
theorem dX6_flown_121 : decode cX6_flown 121 = .ok (.iconst 1, 1) := dk_4 (dk_at dksX6_flown_5 6 rfl rfl)
theorem dX6_flown_122 : decode cX6_flown 122 = .ok (.goto 4, 3) := dk_167 0 4 (dk_at dksX6_flown_5 7 rfl rfl)
theorem dX6_flown_125 : decode cX6_flown 125 = .ok (.iconst 0, 1) := dk_3 (dk_at dksX6_flown_5 10 rfl rfl)
theorem dX6_flown_126 : decode cX6_flown 126 = .ok (.istore_n 3, 1) := dk_62 (dk_at dksX6_flown_5 11 rfl rfl)
theorem dX6_flown_127 : decode cX6_flown 127 = .ok (.iload_n 2, 1) := dk_28 (dk_at dksX6_flown_5 12 rfl rfl)
theorem dX6_flown_128 : decode cX6_flown 128 = .ok (.ifCond .ne 10, 3) := dk_154 0 10 (dk_at dksX6_flown_5 13 rfl rfl)
theorem dX6_flown_131 : decode cX6_flown 131 = .ok (.aload_n 0, 1) := dk_42 (dk_at dksX6_flown_5 16 rfl rfl)
theorem dX6_flown_132 : decode cX6_flown 132 = .ok (.getfield 19, 3) := dk_180 0 19 (dk_at dksX6_flown_5 17 rfl rfl)
theorem dX6_flown_135 : decode cX6_flown 135 = .ok (.goto 12, 3) := dk_167 0 12 (dk_at dksX6_flown_5 20 rfl rfl)
theorem dX6_flown_138 : decode cX6_flown 138 = .ok (.aload_n 0, 1) := dk_42 (dk_at dksX6_flown_5 23 rfl rfl)
theorem dX6_flown_139 : decode cX6_flown 139 = .ok (.getfield 13, 3) := dk_180 0 13 (dk_at dksX6_flown_6 0 rfl rfl)
theorem dX6_flown_142 : decode cX6_flown 142 = .ok (.aload_n 0, 1) := dk_42 (dk_at dksX6_flown_6 3 rfl rfl)
theorem dX6_flown_143 : decode cX6_flown 143 = .ok (.getfield 99, 3) := dk_180 0 99 (dk_at dksX6_flown_6 4 rfl rfl)
theorem dX6_flown_146 : decode cX6_flown 146 = .ok (.isub, 1) := dk_100 (dk_at dksX6_flown_6 7 rfl rfl)
theorem dX6_flown_147 : decode cX6_flown 147 = .ok (.istore 4, 2) := dk_54 4 (dk_at dksX6_flown_6 8 rfl rfl)
theorem dX6_flown_149 : decode cX6_flown 149 = .ok (.aload_n 0, 1) := dk_42 (dk_at dksX6_flown_6 10 rfl rfl)
theorem dX6_flown_150 : decode cX6_flown 150 = .ok (.invokevirtual 335, 3) := dk_182 1 79 (dk_at dksX6_flown_6 11 rfl rfl)
theorem dX6_flown_153 : decode cX6_flown 153 = .ok (.iload_n 3, 1) := dk_29 (dk_at dksX6_flown_6 14 rfl rfl)
theorem dX6_flown_154 : decode cX6_flown 154 = .ok (.ifCond .eq 8, 3) := dk_153 0 8 (dk_at dksX6_flown_6 15 rfl rfl)
theorem dX6_flown_157 : decode cX6_flown 157 = .ok (.iload 4, 2) := dk_21 4 (dk_at dksX6_flown_6 18 rfl rfl)
theorem dX6_flown_159 : decode cX6_flown 159 = .ok (.goto 5, 3) := dk_167 0 5 (dk_at dksX6_flown_6 20 rfl rfl)
theorem dX6_flown_162 : decode cX6_flown 162 = .ok (.bipush (-5), 2) := dk_16 251 (dk_at dksX6_flown_7 0 rfl rfl)
theorem dX6_flown_164 : decode cX6_flown 164 = .ok (.ireturn, 1) := dk_172 (dk_at dksX6_flown_7 2 rfl rfl)
abbrev cX6_see : ByteArray := prog_23_method_69_code
def yX6_see : MethodName := ⟨RX6, "see", "(I)I"⟩
def dkwX6_see_2 : List UInt8 := [180, 0, 129, 27, 79, 42, 89, 180, 0, 129, 4, 96, 181, 0, 129, 42, 180, 0, 129, 172]
abbrev dktX6_see_2 : List UInt8 := dkwX6_see_2 ++ []
def dkwX6_see_1 : List UInt8 := [154, 0, 6, 16, 254, 172, 42, 180, 0, 129, 8, 160, 0, 6, 16, 252, 172, 42, 180, 0, 132, 42]
abbrev dktX6_see_1 : List UInt8 := dkwX6_see_1 ++ dktX6_see_2
def dkwX6_see_0 : List UInt8 := [27, 16, 156, 160, 0, 10, 42, 3, 181, 0, 129, 3, 172, 42, 27, 16, 157, 16, 99, 182, 0, 227]
abbrev dktX6_see_0 : List UInt8 := dkwX6_see_0 ++ dktX6_see_1
theorem dksX6_see_0 : cX6_see.data.toList.drop 0 = dktX6_see_0 := by decide +kernel
theorem dksX6_see_1 : cX6_see.data.toList.drop 22 = dktX6_see_1 := dk_seg dksX6_see_0 22 rfl rfl
theorem dksX6_see_2 : cX6_see.data.toList.drop 44 = dktX6_see_2 := dk_seg dksX6_see_1 22 rfl rfl
theorem dX6_see_0 : decode cX6_see 0 = .ok (.iload_n 1, 1) := dk_27 (dk_at dksX6_see_0 0 rfl rfl)
theorem dX6_see_1 : decode cX6_see 1 = .ok (.bipush (-100), 2) := dk_16 156 (dk_at dksX6_see_0 1 rfl rfl)
theorem dX6_see_3 : decode cX6_see 3 = .ok (.if_icmp .ne 10, 3) := dk_160 0 10 (dk_at dksX6_see_0 3 rfl rfl)
theorem dX6_see_6 : decode cX6_see 6 = .ok (.aload_n 0, 1) := dk_42 (dk_at dksX6_see_0 6 rfl rfl)
theorem dX6_see_7 : decode cX6_see 7 = .ok (.iconst 0, 1) := dk_3 (dk_at dksX6_see_0 7 rfl rfl)
theorem dX6_see_8 : decode cX6_see 8 = .ok (.putfield 129, 3) := dk_181 0 129 (dk_at dksX6_see_0 8 rfl rfl)
theorem dX6_see_11 : decode cX6_see 11 = .ok (.iconst 0, 1) := dk_3 (dk_at dksX6_see_0 11 rfl rfl)
theorem dX6_see_12 : decode cX6_see 12 = .ok (.ireturn, 1) := dk_172 (dk_at dksX6_see_0 12 rfl rfl)
theorem dX6_see_13 : decode cX6_see 13 = .ok (.aload_n 0, 1) := dk_42 (dk_at dksX6_see_0 13 rfl rfl)
theorem dX6_see_14 : decode cX6_see 14 = .ok (.iload_n 1, 1) := dk_27 (dk_at dksX6_see_0 14 rfl rfl)
theorem dX6_see_15 : decode cX6_see 15 = .ok (.bipush (-99), 2) := dk_16 157 (dk_at dksX6_see_0 15 rfl rfl)
theorem dX6_see_17 : decode cX6_see 17 = .ok (.bipush 99, 2) := dk_16 99 (dk_at dksX6_see_0 17 rfl rfl)
theorem dX6_see_19 : decode cX6_see 19 = .ok (.invokevirtual 227, 3) := dk_182 0 227 (dk_at dksX6_see_0 19 rfl rfl)
theorem dX6_see_22 : decode cX6_see 22 = .ok (.ifCond .ne 6, 3) := dk_154 0 6 (dk_at dksX6_see_1 0 rfl rfl)
theorem dX6_see_25 : decode cX6_see 25 = .ok (.bipush (-2), 2) := dk_16 254 (dk_at dksX6_see_1 3 rfl rfl)
theorem dX6_see_27 : decode cX6_see 27 = .ok (.ireturn, 1) := dk_172 (dk_at dksX6_see_1 5 rfl rfl)
theorem dX6_see_28 : decode cX6_see 28 = .ok (.aload_n 0, 1) := dk_42 (dk_at dksX6_see_1 6 rfl rfl)
theorem dX6_see_29 : decode cX6_see 29 = .ok (.getfield 129, 3) := dk_180 0 129 (dk_at dksX6_see_1 7 rfl rfl)
theorem dX6_see_32 : decode cX6_see 32 = .ok (.iconst 5, 1) := dk_8 (dk_at dksX6_see_1 10 rfl rfl)
theorem dX6_see_33 : decode cX6_see 33 = .ok (.if_icmp .ne 6, 3) := dk_160 0 6 (dk_at dksX6_see_1 11 rfl rfl)
theorem dX6_see_36 : decode cX6_see 36 = .ok (.bipush (-4), 2) := dk_16 252 (dk_at dksX6_see_1 14 rfl rfl)
theorem dX6_see_38 : decode cX6_see 38 = .ok (.ireturn, 1) := dk_172 (dk_at dksX6_see_1 16 rfl rfl)
theorem dX6_see_39 : decode cX6_see 39 = .ok (.aload_n 0, 1) := dk_42 (dk_at dksX6_see_1 17 rfl rfl)
theorem dX6_see_40 : decode cX6_see 40 = .ok (.getfield 132, 3) := dk_180 0 132 (dk_at dksX6_see_1 18 rfl rfl)
theorem dX6_see_43 : decode cX6_see 43 = .ok (.aload_n 0, 1) := dk_42 (dk_at dksX6_see_1 21 rfl rfl)
theorem dX6_see_44 : decode cX6_see 44 = .ok (.getfield 129, 3) := dk_180 0 129 (dk_at dksX6_see_2 0 rfl rfl)
theorem dX6_see_47 : decode cX6_see 47 = .ok (.iload_n 1, 1) := dk_27 (dk_at dksX6_see_2 3 rfl rfl)
theorem dX6_see_48 : decode cX6_see 48 = .ok (.iastore, 1) := dk_79 (dk_at dksX6_see_2 4 rfl rfl)
theorem dX6_see_49 : decode cX6_see 49 = .ok (.aload_n 0, 1) := dk_42 (dk_at dksX6_see_2 5 rfl rfl)
theorem dX6_see_50 : decode cX6_see 50 = .ok (.dup, 1) := dk_89 (dk_at dksX6_see_2 6 rfl rfl)
theorem dX6_see_51 : decode cX6_see 51 = .ok (.getfield 129, 3) := dk_180 0 129 (dk_at dksX6_see_2 7 rfl rfl)
theorem dX6_see_54 : decode cX6_see 54 = .ok (.iconst 1, 1) := dk_4 (dk_at dksX6_see_2 10 rfl rfl)
theorem dX6_see_55 : decode cX6_see 55 = .ok (.iadd, 1) := dk_96 (dk_at dksX6_see_2 11 rfl rfl)
theorem dX6_see_56 : decode cX6_see 56 = .ok (.putfield 129, 3) := dk_181 0 129 (dk_at dksX6_see_2 12 rfl rfl)
theorem dX6_see_59 : decode cX6_see 59 = .ok (.aload_n 0, 1) := dk_42 (dk_at dksX6_see_2 15 rfl rfl)
theorem dX6_see_60 : decode cX6_see 60 = .ok (.getfield 129, 3) := dk_180 0 129 (dk_at dksX6_see_2 16 rfl rfl)
theorem dX6_see_63 : decode cX6_see 63 = .ok (.ireturn, 1) := dk_172 (dk_at dksX6_see_2 19 rfl rfl)
abbrev cX6_who : ByteArray := prog_23_method_71_code
def yX6_who : MethodName := ⟨RX6, "who", "()I"⟩
def dkwX6_who_1 : List UInt8 := [167, 0, 4, 3, 128, 60, 132, 2, 1, 167, 255, 227, 27, 172]
abbrev dktX6_who_1 : List UInt8 := dkwX6_who_1 ++ []
def dkwX6_who_0 : List UInt8 := [3, 60, 3, 61, 28, 42, 180, 0, 7, 162, 0, 27, 27, 42, 28, 182, 1, 105, 153, 0, 9, 4, 28, 120]
abbrev dktX6_who_0 : List UInt8 := dkwX6_who_0 ++ dktX6_who_1
theorem dksX6_who_0 : cX6_who.data.toList.drop 0 = dktX6_who_0 := by decide +kernel
theorem dksX6_who_1 : cX6_who.data.toList.drop 24 = dktX6_who_1 := dk_seg dksX6_who_0 24 rfl rfl
theorem dX6_who_0 : decode cX6_who 0 = .ok (.iconst 0, 1) := dk_3 (dk_at dksX6_who_0 0 rfl rfl)
theorem dX6_who_1 : decode cX6_who 1 = .ok (.istore_n 1, 1) := dk_60 (dk_at dksX6_who_0 1 rfl rfl)
theorem dX6_who_2 : decode cX6_who 2 = .ok (.iconst 0, 1) := dk_3 (dk_at dksX6_who_0 2 rfl rfl)
theorem dX6_who_3 : decode cX6_who 3 = .ok (.istore_n 2, 1) := dk_61 (dk_at dksX6_who_0 3 rfl rfl)
theorem dX6_who_4 : decode cX6_who 4 = .ok (.iload_n 2, 1) := dk_28 (dk_at dksX6_who_0 4 rfl rfl)
theorem dX6_who_5 : decode cX6_who 5 = .ok (.aload_n 0, 1) := dk_42 (dk_at dksX6_who_0 5 rfl rfl)
theorem dX6_who_6 : decode cX6_who 6 = .ok (.getfield 7, 3) := dk_180 0 7 (dk_at dksX6_who_0 6 rfl rfl)
theorem dX6_who_9 : decode cX6_who 9 = .ok (.if_icmp .ge 27, 3) := dk_162 0 27 (dk_at dksX6_who_0 9 rfl rfl)
theorem dX6_who_12 : decode cX6_who 12 = .ok (.iload_n 1, 1) := dk_27 (dk_at dksX6_who_0 12 rfl rfl)
theorem dX6_who_13 : decode cX6_who 13 = .ok (.aload_n 0, 1) := dk_42 (dk_at dksX6_who_0 13 rfl rfl)
theorem dX6_who_14 : decode cX6_who 14 = .ok (.iload_n 2, 1) := dk_28 (dk_at dksX6_who_0 14 rfl rfl)
theorem dX6_who_15 : decode cX6_who 15 = .ok (.invokevirtual 361, 3) := dk_182 1 105 (dk_at dksX6_who_0 15 rfl rfl)
theorem dX6_who_18 : decode cX6_who 18 = .ok (.ifCond .eq 9, 3) := dk_153 0 9 (dk_at dksX6_who_0 18 rfl rfl)
theorem dX6_who_21 : decode cX6_who 21 = .ok (.iconst 1, 1) := dk_4 (dk_at dksX6_who_0 21 rfl rfl)
theorem dX6_who_22 : decode cX6_who 22 = .ok (.iload_n 2, 1) := dk_28 (dk_at dksX6_who_0 22 rfl rfl)
theorem dX6_who_23 : decode cX6_who 23 = .ok (.ishl, 1) := dk_120 (dk_at dksX6_who_0 23 rfl rfl)
theorem dX6_who_24 : decode cX6_who 24 = .ok (.goto 4, 3) := dk_167 0 4 (dk_at dksX6_who_1 0 rfl rfl)
theorem dX6_who_27 : decode cX6_who 27 = .ok (.iconst 0, 1) := dk_3 (dk_at dksX6_who_1 3 rfl rfl)
theorem dX6_who_28 : decode cX6_who 28 = .ok (.ior, 1) := dk_128 (dk_at dksX6_who_1 4 rfl rfl)
theorem dX6_who_29 : decode cX6_who 29 = .ok (.istore_n 1, 1) := dk_60 (dk_at dksX6_who_1 5 rfl rfl)
theorem dX6_who_30 : decode cX6_who 30 = .ok (.iinc 2 1, 3) := dk_132 2 1 (dk_at dksX6_who_1 6 rfl rfl)
theorem dX6_who_33 : decode cX6_who 33 = .ok (.goto (-29), 3) := dk_167 255 227 (dk_at dksX6_who_1 9 rfl rfl)
theorem dX6_who_36 : decode cX6_who 36 = .ok (.iload_n 1, 1) := dk_27 (dk_at dksX6_who_1 12 rfl rfl)
theorem dX6_who_37 : decode cX6_who 37 = .ok (.ireturn, 1) := dk_172 (dk_at dksX6_who_1 13 rfl rfl)
abbrev cX6_isSeen : ByteArray := prog_23_method_70_code
def yX6_isSeen : MethodName := ⟨RX6, "isSeen", "(I)Z"⟩
def dkwX6_isSeen_2 : List UInt8 := [167, 0, 4, 3, 61, 132, 3, 1, 167, 255, 208, 42, 182, 1, 79, 28, 172]
abbrev dktX6_isSeen_2 : List UInt8 := dkwX6_isSeen_2 ++ []
def dkwX6_isSeen_1 : List UInt8 := [54, 4, 42, 27, 182, 1, 67, 42, 180, 0, 19, 21, 4, 100, 42, 180, 0, 132, 29, 46, 160, 0, 7, 4]
abbrev dktX6_isSeen_1 : List UInt8 := dkwX6_isSeen_1 ++ dktX6_isSeen_2
def dkwX6_isSeen_0 : List UInt8 := [42, 182, 1, 76, 4, 61, 3, 62, 29, 42, 180, 0, 129, 162, 0, 46, 28, 153, 0, 42, 42, 180, 0, 19]
abbrev dktX6_isSeen_0 : List UInt8 := dkwX6_isSeen_0 ++ dktX6_isSeen_1
theorem dksX6_isSeen_0 : cX6_isSeen.data.toList.drop 0 = dktX6_isSeen_0 := by decide +kernel
theorem dksX6_isSeen_1 : cX6_isSeen.data.toList.drop 24 = dktX6_isSeen_1 := dk_seg dksX6_isSeen_0 24 rfl rfl
theorem dksX6_isSeen_2 : cX6_isSeen.data.toList.drop 48 = dktX6_isSeen_2 := dk_seg dksX6_isSeen_1 24 rfl rfl
theorem dX6_isSeen_0 : decode cX6_isSeen 0 = .ok (.aload_n 0, 1) := dk_42 (dk_at dksX6_isSeen_0 0 rfl rfl)
theorem dX6_isSeen_1 : decode cX6_isSeen 1 = .ok (.invokevirtual 332, 3) := dk_182 1 76 (dk_at dksX6_isSeen_0 1 rfl rfl)
theorem dX6_isSeen_4 : decode cX6_isSeen 4 = .ok (.iconst 1, 1) := dk_4 (dk_at dksX6_isSeen_0 4 rfl rfl)
theorem dX6_isSeen_5 : decode cX6_isSeen 5 = .ok (.istore_n 2, 1) := dk_61 (dk_at dksX6_isSeen_0 5 rfl rfl)
theorem dX6_isSeen_6 : decode cX6_isSeen 6 = .ok (.iconst 0, 1) := dk_3 (dk_at dksX6_isSeen_0 6 rfl rfl)
theorem dX6_isSeen_7 : decode cX6_isSeen 7 = .ok (.istore_n 3, 1) := dk_62 (dk_at dksX6_isSeen_0 7 rfl rfl)
theorem dX6_isSeen_8 : decode cX6_isSeen 8 = .ok (.iload_n 3, 1) := dk_29 (dk_at dksX6_isSeen_0 8 rfl rfl)
theorem dX6_isSeen_9 : decode cX6_isSeen 9 = .ok (.aload_n 0, 1) := dk_42 (dk_at dksX6_isSeen_0 9 rfl rfl)
theorem dX6_isSeen_10 : decode cX6_isSeen 10 = .ok (.getfield 129, 3) := dk_180 0 129 (dk_at dksX6_isSeen_0 10 rfl rfl)
theorem dX6_isSeen_13 : decode cX6_isSeen 13 = .ok (.if_icmp .ge 46, 3) := dk_162 0 46 (dk_at dksX6_isSeen_0 13 rfl rfl)
theorem dX6_isSeen_16 : decode cX6_isSeen 16 = .ok (.iload_n 2, 1) := dk_28 (dk_at dksX6_isSeen_0 16 rfl rfl)
theorem dX6_isSeen_17 : decode cX6_isSeen 17 = .ok (.ifCond .eq 42, 3) := dk_153 0 42 (dk_at dksX6_isSeen_0 17 rfl rfl)
theorem dX6_isSeen_20 : decode cX6_isSeen 20 = .ok (.aload_n 0, 1) := dk_42 (dk_at dksX6_isSeen_0 20 rfl rfl)
theorem dX6_isSeen_21 : decode cX6_isSeen 21 = .ok (.getfield 19, 3) := dk_180 0 19 (dk_at dksX6_isSeen_0 21 rfl rfl)
theorem dX6_isSeen_24 : decode cX6_isSeen 24 = .ok (.istore 4, 2) := dk_54 4 (dk_at dksX6_isSeen_1 0 rfl rfl)
theorem dX6_isSeen_26 : decode cX6_isSeen 26 = .ok (.aload_n 0, 1) := dk_42 (dk_at dksX6_isSeen_1 2 rfl rfl)
theorem dX6_isSeen_27 : decode cX6_isSeen 27 = .ok (.iload_n 1, 1) := dk_27 (dk_at dksX6_isSeen_1 3 rfl rfl)
theorem dX6_isSeen_28 : decode cX6_isSeen 28 = .ok (.invokevirtual 323, 3) := dk_182 1 67 (dk_at dksX6_isSeen_1 4 rfl rfl)
theorem dX6_isSeen_31 : decode cX6_isSeen 31 = .ok (.aload_n 0, 1) := dk_42 (dk_at dksX6_isSeen_1 7 rfl rfl)
theorem dX6_isSeen_32 : decode cX6_isSeen 32 = .ok (.getfield 19, 3) := dk_180 0 19 (dk_at dksX6_isSeen_1 8 rfl rfl)
theorem dX6_isSeen_35 : decode cX6_isSeen 35 = .ok (.iload 4, 2) := dk_21 4 (dk_at dksX6_isSeen_1 11 rfl rfl)
theorem dX6_isSeen_37 : decode cX6_isSeen 37 = .ok (.isub, 1) := dk_100 (dk_at dksX6_isSeen_1 13 rfl rfl)
theorem dX6_isSeen_38 : decode cX6_isSeen 38 = .ok (.aload_n 0, 1) := dk_42 (dk_at dksX6_isSeen_1 14 rfl rfl)
theorem dX6_isSeen_39 : decode cX6_isSeen 39 = .ok (.getfield 132, 3) := dk_180 0 132 (dk_at dksX6_isSeen_1 15 rfl rfl)
theorem dX6_isSeen_42 : decode cX6_isSeen 42 = .ok (.iload_n 3, 1) := dk_29 (dk_at dksX6_isSeen_1 18 rfl rfl)
theorem dX6_isSeen_43 : decode cX6_isSeen 43 = .ok (.iaload, 1) := dk_46 (dk_at dksX6_isSeen_1 19 rfl rfl)
theorem dX6_isSeen_44 : decode cX6_isSeen 44 = .ok (.if_icmp .ne 7, 3) := dk_160 0 7 (dk_at dksX6_isSeen_1 20 rfl rfl)
theorem dX6_isSeen_47 : decode cX6_isSeen 47 = .ok (.iconst 1, 1) := dk_4 (dk_at dksX6_isSeen_1 23 rfl rfl)
theorem dX6_isSeen_48 : decode cX6_isSeen 48 = .ok (.goto 4, 3) := dk_167 0 4 (dk_at dksX6_isSeen_2 0 rfl rfl)
theorem dX6_isSeen_51 : decode cX6_isSeen 51 = .ok (.iconst 0, 1) := dk_3 (dk_at dksX6_isSeen_2 3 rfl rfl)
theorem dX6_isSeen_52 : decode cX6_isSeen 52 = .ok (.istore_n 2, 1) := dk_61 (dk_at dksX6_isSeen_2 4 rfl rfl)
theorem dX6_isSeen_53 : decode cX6_isSeen 53 = .ok (.iinc 3 1, 3) := dk_132 3 1 (dk_at dksX6_isSeen_2 5 rfl rfl)
theorem dX6_isSeen_56 : decode cX6_isSeen 56 = .ok (.goto (-48), 3) := dk_167 255 208 (dk_at dksX6_isSeen_2 8 rfl rfl)
theorem dX6_isSeen_59 : decode cX6_isSeen 59 = .ok (.aload_n 0, 1) := dk_42 (dk_at dksX6_isSeen_2 11 rfl rfl)
theorem dX6_isSeen_60 : decode cX6_isSeen 60 = .ok (.invokevirtual 335, 3) := dk_182 1 79 (dk_at dksX6_isSeen_2 12 rfl rfl)
theorem dX6_isSeen_63 : decode cX6_isSeen 63 = .ok (.iload_n 2, 1) := dk_28 (dk_at dksX6_isSeen_2 15 rfl rfl)
theorem dX6_isSeen_64 : decode cX6_isSeen 64 = .ok (.ireturn, 1) := dk_172 (dk_at dksX6_isSeen_2 16 rfl rfl)
abbrev cX6_odds : ByteArray := prog_23_method_74_code
def yX6_odds : MethodName := ⟨RX6, "odds", "(III)J"⟩
def dkwX6_odds_4 : List UInt8 := [173]
abbrev dktX6_odds_4 : List UInt8 := dkwX6_odds_4 ++ []
def dkwX6_odds_3 : List UInt8 := [167, 0, 4, 3, 96, 54, 4, 132, 5, 1, 167, 255, 223, 42, 21, 4, 42, 180, 0, 7, 29, 182, 1, 113]
abbrev dktX6_odds_3 : List UInt8 := dkwX6_odds_3 ++ dktX6_odds_4
def dkwX6_odds_2 : List UInt8 := [21, 5, 42, 180, 0, 7, 162, 0, 30, 21, 4, 42, 21, 5, 28, 182, 1, 82, 27, 161, 0, 7, 4]
abbrev dktX6_odds_2 : List UInt8 := dkwX6_odds_2 ++ dktX6_odds_3
def dkwX6_odds_1 : List UInt8 := [182, 0, 227, 153, 0, 10, 42, 180, 0, 7, 154, 0, 7, 20, 1, 111, 173, 3, 54, 4, 3, 54, 5]
abbrev dktX6_odds_1 : List UInt8 := dkwX6_odds_1 ++ dktX6_odds_2
def dkwX6_odds_0 : List UInt8 := [42, 27, 3, 17, 1, 144, 182, 0, 227, 153, 0, 28, 42, 28, 182, 1, 64, 153, 0, 20, 42, 29, 3, 4]
abbrev dktX6_odds_0 : List UInt8 := dkwX6_odds_0 ++ dktX6_odds_1
theorem dksX6_odds_0 : cX6_odds.data.toList.drop 0 = dktX6_odds_0 := by decide +kernel
theorem dksX6_odds_1 : cX6_odds.data.toList.drop 24 = dktX6_odds_1 := dk_seg dksX6_odds_0 24 rfl rfl
theorem dksX6_odds_2 : cX6_odds.data.toList.drop 47 = dktX6_odds_2 := dk_seg dksX6_odds_1 23 rfl rfl
theorem dksX6_odds_3 : cX6_odds.data.toList.drop 70 = dktX6_odds_3 := dk_seg dksX6_odds_2 23 rfl rfl
theorem dksX6_odds_4 : cX6_odds.data.toList.drop 94 = dktX6_odds_4 := dk_seg dksX6_odds_3 24 rfl rfl
theorem dX6_odds_0 : decode cX6_odds 0 = .ok (.aload_n 0, 1) := dk_42 (dk_at dksX6_odds_0 0 rfl rfl)
theorem dX6_odds_1 : decode cX6_odds 1 = .ok (.iload_n 1, 1) := dk_27 (dk_at dksX6_odds_0 1 rfl rfl)
theorem dX6_odds_2 : decode cX6_odds 2 = .ok (.iconst 0, 1) := dk_3 (dk_at dksX6_odds_0 2 rfl rfl)
theorem dX6_odds_3 : decode cX6_odds 3 = .ok (.sipush 400, 3) := dk_17 1 144 (dk_at dksX6_odds_0 3 rfl rfl)
theorem dX6_odds_6 : decode cX6_odds 6 = .ok (.invokevirtual 227, 3) := dk_182 0 227 (dk_at dksX6_odds_0 6 rfl rfl)
theorem dX6_odds_9 : decode cX6_odds 9 = .ok (.ifCond .eq 28, 3) := dk_153 0 28 (dk_at dksX6_odds_0 9 rfl rfl)
theorem dX6_odds_12 : decode cX6_odds 12 = .ok (.aload_n 0, 1) := dk_42 (dk_at dksX6_odds_0 12 rfl rfl)
theorem dX6_odds_13 : decode cX6_odds 13 = .ok (.iload_n 2, 1) := dk_28 (dk_at dksX6_odds_0 13 rfl rfl)
theorem dX6_odds_14 : decode cX6_odds 14 = .ok (.invokevirtual 320, 3) := dk_182 1 64 (dk_at dksX6_odds_0 14 rfl rfl)
theorem dX6_odds_17 : decode cX6_odds 17 = .ok (.ifCond .eq 20, 3) := dk_153 0 20 (dk_at dksX6_odds_0 17 rfl rfl)
theorem dX6_odds_20 : decode cX6_odds 20 = .ok (.aload_n 0, 1) := dk_42 (dk_at dksX6_odds_0 20 rfl rfl)
theorem dX6_odds_21 : decode cX6_odds 21 = .ok (.iload_n 3, 1) := dk_29 (dk_at dksX6_odds_0 21 rfl rfl)
theorem dX6_odds_22 : decode cX6_odds 22 = .ok (.iconst 0, 1) := dk_3 (dk_at dksX6_odds_0 22 rfl rfl)
theorem dX6_odds_23 : decode cX6_odds 23 = .ok (.iconst 1, 1) := dk_4 (dk_at dksX6_odds_0 23 rfl rfl)
theorem dX6_odds_24 : decode cX6_odds 24 = .ok (.invokevirtual 227, 3) := dk_182 0 227 (dk_at dksX6_odds_1 0 rfl rfl)
theorem dX6_odds_27 : decode cX6_odds 27 = .ok (.ifCond .eq 10, 3) := dk_153 0 10 (dk_at dksX6_odds_1 3 rfl rfl)
theorem dX6_odds_30 : decode cX6_odds 30 = .ok (.aload_n 0, 1) := dk_42 (dk_at dksX6_odds_1 6 rfl rfl)
theorem dX6_odds_31 : decode cX6_odds 31 = .ok (.getfield 7, 3) := dk_180 0 7 (dk_at dksX6_odds_1 7 rfl rfl)
theorem dX6_odds_34 : decode cX6_odds 34 = .ok (.ifCond .ne 7, 3) := dk_154 0 7 (dk_at dksX6_odds_1 10 rfl rfl)
theorem dX6_odds_37 : decode cX6_odds 37 = .ok (.ldc2_w 367, 3) := dk_20 1 111 (dk_at dksX6_odds_1 13 rfl rfl)
theorem dX6_odds_40 : decode cX6_odds 40 = .ok (.lreturn, 1) := dk_173 (dk_at dksX6_odds_1 16 rfl rfl)
theorem dX6_odds_41 : decode cX6_odds 41 = .ok (.iconst 0, 1) := dk_3 (dk_at dksX6_odds_1 17 rfl rfl)
theorem dX6_odds_42 : decode cX6_odds 42 = .ok (.istore 4, 2) := dk_54 4 (dk_at dksX6_odds_1 18 rfl rfl)
theorem dX6_odds_44 : decode cX6_odds 44 = .ok (.iconst 0, 1) := dk_3 (dk_at dksX6_odds_1 20 rfl rfl)
theorem dX6_odds_45 : decode cX6_odds 45 = .ok (.istore 5, 2) := dk_54 5 (dk_at dksX6_odds_1 21 rfl rfl)
theorem dX6_odds_47 : decode cX6_odds 47 = .ok (.iload 5, 2) := dk_21 5 (dk_at dksX6_odds_2 0 rfl rfl)
theorem dX6_odds_49 : decode cX6_odds 49 = .ok (.aload_n 0, 1) := dk_42 (dk_at dksX6_odds_2 2 rfl rfl)
theorem dX6_odds_50 : decode cX6_odds 50 = .ok (.getfield 7, 3) := dk_180 0 7 (dk_at dksX6_odds_2 3 rfl rfl)
theorem dX6_odds_53 : decode cX6_odds 53 = .ok (.if_icmp .ge 30, 3) := dk_162 0 30 (dk_at dksX6_odds_2 6 rfl rfl)
theorem dX6_odds_56 : decode cX6_odds 56 = .ok (.iload 4, 2) := dk_21 4 (dk_at dksX6_odds_2 9 rfl rfl)
theorem dX6_odds_58 : decode cX6_odds 58 = .ok (.aload_n 0, 1) := dk_42 (dk_at dksX6_odds_2 11 rfl rfl)
theorem dX6_odds_59 : decode cX6_odds 59 = .ok (.iload 5, 2) := dk_21 5 (dk_at dksX6_odds_2 12 rfl rfl)
theorem dX6_odds_61 : decode cX6_odds 61 = .ok (.iload_n 2, 1) := dk_28 (dk_at dksX6_odds_2 14 rfl rfl)
theorem dX6_odds_62 : decode cX6_odds 62 = .ok (.invokevirtual 338, 3) := dk_182 1 82 (dk_at dksX6_odds_2 15 rfl rfl)
theorem dX6_odds_65 : decode cX6_odds 65 = .ok (.iload_n 1, 1) := dk_27 (dk_at dksX6_odds_2 18 rfl rfl)
theorem dX6_odds_66 : decode cX6_odds 66 = .ok (.if_icmp .lt 7, 3) := dk_161 0 7 (dk_at dksX6_odds_2 19 rfl rfl)
theorem dX6_odds_69 : decode cX6_odds 69 = .ok (.iconst 1, 1) := dk_4 (dk_at dksX6_odds_2 22 rfl rfl)
theorem dX6_odds_70 : decode cX6_odds 70 = .ok (.goto 4, 3) := dk_167 0 4 (dk_at dksX6_odds_3 0 rfl rfl)
theorem dX6_odds_73 : decode cX6_odds 73 = .ok (.iconst 0, 1) := dk_3 (dk_at dksX6_odds_3 3 rfl rfl)
theorem dX6_odds_74 : decode cX6_odds 74 = .ok (.iadd, 1) := dk_96 (dk_at dksX6_odds_3 4 rfl rfl)
theorem dX6_odds_75 : decode cX6_odds 75 = .ok (.istore 4, 2) := dk_54 4 (dk_at dksX6_odds_3 5 rfl rfl)
theorem dX6_odds_77 : decode cX6_odds 77 = .ok (.iinc 5 1, 3) := dk_132 5 1 (dk_at dksX6_odds_3 7 rfl rfl)
theorem dX6_odds_80 : decode cX6_odds 80 = .ok (.goto (-33), 3) := dk_167 255 223 (dk_at dksX6_odds_3 10 rfl rfl)
theorem dX6_odds_83 : decode cX6_odds 83 = .ok (.aload_n 0, 1) := dk_42 (dk_at dksX6_odds_3 13 rfl rfl)
theorem dX6_odds_84 : decode cX6_odds 84 = .ok (.iload 4, 2) := dk_21 4 (dk_at dksX6_odds_3 14 rfl rfl)
theorem dX6_odds_86 : decode cX6_odds 86 = .ok (.aload_n 0, 1) := dk_42 (dk_at dksX6_odds_3 16 rfl rfl)
theorem dX6_odds_87 : decode cX6_odds 87 = .ok (.getfield 7, 3) := dk_180 0 7 (dk_at dksX6_odds_3 17 rfl rfl)
theorem dX6_odds_90 : decode cX6_odds 90 = .ok (.iload_n 3, 1) := dk_29 (dk_at dksX6_odds_3 20 rfl rfl)
theorem dX6_odds_91 : decode cX6_odds 91 = .ok (.invokevirtual 369, 3) := dk_182 1 113 (dk_at dksX6_odds_3 21 rfl rfl)
theorem dX6_odds_94 : decode cX6_odds 94 = .ok (.lreturn, 1) := dk_173 (dk_at dksX6_odds_4 0 rfl rfl)
abbrev cX6_lowestTerms : ByteArray := prog_23_method_73_code
def yX6_lowestTerms : MethodName := ⟨RX6, "lowestTerms", "(III)J"⟩
def dkwX6_lowestTerms_1 : List UInt8 := [133, 173]
abbrev dktX6_lowestTerms_1 : List UInt8 := dkwX6_lowestTerms_1 ++ []
def dkwX6_lowestTerms_0 : List UInt8 := [42, 27, 28, 182, 1, 108, 54, 4, 29, 154, 0, 11, 27, 21, 4, 108, 133, 167, 0, 8, 28, 21, 4, 108]
abbrev dktX6_lowestTerms_0 : List UInt8 := dkwX6_lowestTerms_0 ++ dktX6_lowestTerms_1
theorem dksX6_lowestTerms_0 : cX6_lowestTerms.data.toList.drop 0 = dktX6_lowestTerms_0 := by decide +kernel
theorem dksX6_lowestTerms_1 : cX6_lowestTerms.data.toList.drop 24 = dktX6_lowestTerms_1 := dk_seg dksX6_lowestTerms_0 24 rfl rfl
theorem dX6_lowestTerms_0 : decode cX6_lowestTerms 0 = .ok (.aload_n 0, 1) := dk_42 (dk_at dksX6_lowestTerms_0 0 rfl rfl)
theorem dX6_lowestTerms_1 : decode cX6_lowestTerms 1 = .ok (.iload_n 1, 1) := dk_27 (dk_at dksX6_lowestTerms_0 1 rfl rfl)
theorem dX6_lowestTerms_2 : decode cX6_lowestTerms 2 = .ok (.iload_n 2, 1) := dk_28 (dk_at dksX6_lowestTerms_0 2 rfl rfl)
theorem dX6_lowestTerms_3 : decode cX6_lowestTerms 3 = .ok (.invokevirtual 364, 3) := dk_182 1 108 (dk_at dksX6_lowestTerms_0 3 rfl rfl)
theorem dX6_lowestTerms_6 : decode cX6_lowestTerms 6 = .ok (.istore 4, 2) := dk_54 4 (dk_at dksX6_lowestTerms_0 6 rfl rfl)
theorem dX6_lowestTerms_8 : decode cX6_lowestTerms 8 = .ok (.iload_n 3, 1) := dk_29 (dk_at dksX6_lowestTerms_0 8 rfl rfl)
theorem dX6_lowestTerms_9 : decode cX6_lowestTerms 9 = .ok (.ifCond .ne 11, 3) := dk_154 0 11 (dk_at dksX6_lowestTerms_0 9 rfl rfl)
theorem dX6_lowestTerms_12 : decode cX6_lowestTerms 12 = .ok (.iload_n 1, 1) := dk_27 (dk_at dksX6_lowestTerms_0 12 rfl rfl)
theorem dX6_lowestTerms_13 : decode cX6_lowestTerms 13 = .ok (.iload 4, 2) := dk_21 4 (dk_at dksX6_lowestTerms_0 13 rfl rfl)
theorem dX6_lowestTerms_15 : decode cX6_lowestTerms 15 = .ok (.idiv, 1) := dk_108 (dk_at dksX6_lowestTerms_0 15 rfl rfl)
theorem dX6_lowestTerms_16 : decode cX6_lowestTerms 16 = .ok (.i2l, 1) := dk_133 (dk_at dksX6_lowestTerms_0 16 rfl rfl)
theorem dX6_lowestTerms_17 : decode cX6_lowestTerms 17 = .ok (.goto 8, 3) := dk_167 0 8 (dk_at dksX6_lowestTerms_0 17 rfl rfl)
theorem dX6_lowestTerms_20 : decode cX6_lowestTerms 20 = .ok (.iload_n 2, 1) := dk_28 (dk_at dksX6_lowestTerms_0 20 rfl rfl)
theorem dX6_lowestTerms_21 : decode cX6_lowestTerms 21 = .ok (.iload 4, 2) := dk_21 4 (dk_at dksX6_lowestTerms_0 21 rfl rfl)
theorem dX6_lowestTerms_23 : decode cX6_lowestTerms 23 = .ok (.idiv, 1) := dk_108 (dk_at dksX6_lowestTerms_0 23 rfl rfl)
theorem dX6_lowestTerms_24 : decode cX6_lowestTerms 24 = .ok (.i2l, 1) := dk_133 (dk_at dksX6_lowestTerms_1 0 rfl rfl)
theorem dX6_lowestTerms_25 : decode cX6_lowestTerms 25 = .ok (.lreturn, 1) := dk_173 (dk_at dksX6_lowestTerms_1 1 rfl rfl)
abbrev cX6_divisor : ByteArray := prog_23_method_72_code
def yX6_divisor : MethodName := ⟨RX6, "divisor", "(II)I"⟩
def dkwX6_divisor_1 : List UInt8 := [167, 255, 238, 29, 172]
abbrev dktX6_divisor_1 : List UInt8 := dkwX6_divisor_1 ++ []
def dkwX6_divisor_0 : List UInt8 := [27, 62, 28, 54, 4, 21, 4, 153, 0, 19, 29, 21, 4, 112, 54, 5, 21, 4, 62, 21, 5, 54, 4]
abbrev dktX6_divisor_0 : List UInt8 := dkwX6_divisor_0 ++ dktX6_divisor_1
theorem dksX6_divisor_0 : cX6_divisor.data.toList.drop 0 = dktX6_divisor_0 := by decide +kernel
theorem dksX6_divisor_1 : cX6_divisor.data.toList.drop 23 = dktX6_divisor_1 := dk_seg dksX6_divisor_0 23 rfl rfl
theorem dX6_divisor_0 : decode cX6_divisor 0 = .ok (.iload_n 1, 1) := dk_27 (dk_at dksX6_divisor_0 0 rfl rfl)
theorem dX6_divisor_1 : decode cX6_divisor 1 = .ok (.istore_n 3, 1) := dk_62 (dk_at dksX6_divisor_0 1 rfl rfl)
theorem dX6_divisor_2 : decode cX6_divisor 2 = .ok (.iload_n 2, 1) := dk_28 (dk_at dksX6_divisor_0 2 rfl rfl)
theorem dX6_divisor_3 : decode cX6_divisor 3 = .ok (.istore 4, 2) := dk_54 4 (dk_at dksX6_divisor_0 3 rfl rfl)
theorem dX6_divisor_5 : decode cX6_divisor 5 = .ok (.iload 4, 2) := dk_21 4 (dk_at dksX6_divisor_0 5 rfl rfl)
theorem dX6_divisor_7 : decode cX6_divisor 7 = .ok (.ifCond .eq 19, 3) := dk_153 0 19 (dk_at dksX6_divisor_0 7 rfl rfl)
theorem dX6_divisor_10 : decode cX6_divisor 10 = .ok (.iload_n 3, 1) := dk_29 (dk_at dksX6_divisor_0 10 rfl rfl)
theorem dX6_divisor_11 : decode cX6_divisor 11 = .ok (.iload 4, 2) := dk_21 4 (dk_at dksX6_divisor_0 11 rfl rfl)
theorem dX6_divisor_13 : decode cX6_divisor 13 = .ok (.irem, 1) := dk_112 (dk_at dksX6_divisor_0 13 rfl rfl)
theorem dX6_divisor_14 : decode cX6_divisor 14 = .ok (.istore 5, 2) := dk_54 5 (dk_at dksX6_divisor_0 14 rfl rfl)
theorem dX6_divisor_16 : decode cX6_divisor 16 = .ok (.iload 4, 2) := dk_21 4 (dk_at dksX6_divisor_0 16 rfl rfl)
theorem dX6_divisor_18 : decode cX6_divisor 18 = .ok (.istore_n 3, 1) := dk_62 (dk_at dksX6_divisor_0 18 rfl rfl)
theorem dX6_divisor_19 : decode cX6_divisor 19 = .ok (.iload 5, 2) := dk_21 5 (dk_at dksX6_divisor_0 19 rfl rfl)
theorem dX6_divisor_21 : decode cX6_divisor 21 = .ok (.istore 4, 2) := dk_54 4 (dk_at dksX6_divisor_0 21 rfl rfl)
theorem dX6_divisor_23 : decode cX6_divisor 23 = .ok (.goto (-18), 3) := dk_167 255 238 (dk_at dksX6_divisor_1 0 rfl rfl)
theorem dX6_divisor_26 : decode cX6_divisor 26 = .ok (.iload_n 3, 1) := dk_29 (dk_at dksX6_divisor_1 3 rfl rfl)
theorem dX6_divisor_27 : decode cX6_divisor 27 = .ok (.ireturn, 1) := dk_172 (dk_at dksX6_divisor_1 4 rfl rfl)
abbrev cX6_mean : ByteArray := prog_23_method_75_code
def yX6_mean : MethodName := ⟨RX6, "mean", "(II)J"⟩
def dkwX6_mean_3 : List UInt8 := [173]
abbrev dktX6_mean_3 : List UInt8 := dkwX6_mean_3 ++ []
def dkwX6_mean_2 : List UInt8 := [21, 4, 27, 182, 1, 82, 96, 62, 132, 4, 1, 167, 255, 234, 42, 29, 42, 180, 0, 7, 28, 182, 1, 113]
abbrev dktX6_mean_2 : List UInt8 := dkwX6_mean_2 ++ dktX6_mean_3
def dkwX6_mean_1 : List UInt8 := [154, 0, 7, 20, 1, 111, 173, 3, 62, 3, 54, 4, 21, 4, 42, 180, 0, 7, 162, 0, 19, 29, 42]
abbrev dktX6_mean_1 : List UInt8 := dkwX6_mean_1 ++ dktX6_mean_2
def dkwX6_mean_0 : List UInt8 := [42, 27, 182, 1, 64, 153, 0, 20, 42, 28, 3, 4, 182, 0, 227, 153, 0, 10, 42, 180, 0, 7]
abbrev dktX6_mean_0 : List UInt8 := dkwX6_mean_0 ++ dktX6_mean_1
theorem dksX6_mean_0 : cX6_mean.data.toList.drop 0 = dktX6_mean_0 := by decide +kernel
theorem dksX6_mean_1 : cX6_mean.data.toList.drop 22 = dktX6_mean_1 := dk_seg dksX6_mean_0 22 rfl rfl
theorem dksX6_mean_2 : cX6_mean.data.toList.drop 45 = dktX6_mean_2 := dk_seg dksX6_mean_1 23 rfl rfl
theorem dksX6_mean_3 : cX6_mean.data.toList.drop 69 = dktX6_mean_3 := dk_seg dksX6_mean_2 24 rfl rfl
theorem dX6_mean_0 : decode cX6_mean 0 = .ok (.aload_n 0, 1) := dk_42 (dk_at dksX6_mean_0 0 rfl rfl)
theorem dX6_mean_1 : decode cX6_mean 1 = .ok (.iload_n 1, 1) := dk_27 (dk_at dksX6_mean_0 1 rfl rfl)
theorem dX6_mean_2 : decode cX6_mean 2 = .ok (.invokevirtual 320, 3) := dk_182 1 64 (dk_at dksX6_mean_0 2 rfl rfl)
theorem dX6_mean_5 : decode cX6_mean 5 = .ok (.ifCond .eq 20, 3) := dk_153 0 20 (dk_at dksX6_mean_0 5 rfl rfl)
theorem dX6_mean_8 : decode cX6_mean 8 = .ok (.aload_n 0, 1) := dk_42 (dk_at dksX6_mean_0 8 rfl rfl)
theorem dX6_mean_9 : decode cX6_mean 9 = .ok (.iload_n 2, 1) := dk_28 (dk_at dksX6_mean_0 9 rfl rfl)
theorem dX6_mean_10 : decode cX6_mean 10 = .ok (.iconst 0, 1) := dk_3 (dk_at dksX6_mean_0 10 rfl rfl)
theorem dX6_mean_11 : decode cX6_mean 11 = .ok (.iconst 1, 1) := dk_4 (dk_at dksX6_mean_0 11 rfl rfl)
theorem dX6_mean_12 : decode cX6_mean 12 = .ok (.invokevirtual 227, 3) := dk_182 0 227 (dk_at dksX6_mean_0 12 rfl rfl)
theorem dX6_mean_15 : decode cX6_mean 15 = .ok (.ifCond .eq 10, 3) := dk_153 0 10 (dk_at dksX6_mean_0 15 rfl rfl)
theorem dX6_mean_18 : decode cX6_mean 18 = .ok (.aload_n 0, 1) := dk_42 (dk_at dksX6_mean_0 18 rfl rfl)
theorem dX6_mean_19 : decode cX6_mean 19 = .ok (.getfield 7, 3) := dk_180 0 7 (dk_at dksX6_mean_0 19 rfl rfl)
theorem dX6_mean_22 : decode cX6_mean 22 = .ok (.ifCond .ne 7, 3) := dk_154 0 7 (dk_at dksX6_mean_1 0 rfl rfl)
theorem dX6_mean_25 : decode cX6_mean 25 = .ok (.ldc2_w 367, 3) := dk_20 1 111 (dk_at dksX6_mean_1 3 rfl rfl)
theorem dX6_mean_28 : decode cX6_mean 28 = .ok (.lreturn, 1) := dk_173 (dk_at dksX6_mean_1 6 rfl rfl)
theorem dX6_mean_29 : decode cX6_mean 29 = .ok (.iconst 0, 1) := dk_3 (dk_at dksX6_mean_1 7 rfl rfl)
theorem dX6_mean_30 : decode cX6_mean 30 = .ok (.istore_n 3, 1) := dk_62 (dk_at dksX6_mean_1 8 rfl rfl)
theorem dX6_mean_31 : decode cX6_mean 31 = .ok (.iconst 0, 1) := dk_3 (dk_at dksX6_mean_1 9 rfl rfl)
theorem dX6_mean_32 : decode cX6_mean 32 = .ok (.istore 4, 2) := dk_54 4 (dk_at dksX6_mean_1 10 rfl rfl)
theorem dX6_mean_34 : decode cX6_mean 34 = .ok (.iload 4, 2) := dk_21 4 (dk_at dksX6_mean_1 12 rfl rfl)
theorem dX6_mean_36 : decode cX6_mean 36 = .ok (.aload_n 0, 1) := dk_42 (dk_at dksX6_mean_1 14 rfl rfl)
theorem dX6_mean_37 : decode cX6_mean 37 = .ok (.getfield 7, 3) := dk_180 0 7 (dk_at dksX6_mean_1 15 rfl rfl)
theorem dX6_mean_40 : decode cX6_mean 40 = .ok (.if_icmp .ge 19, 3) := dk_162 0 19 (dk_at dksX6_mean_1 18 rfl rfl)
theorem dX6_mean_43 : decode cX6_mean 43 = .ok (.iload_n 3, 1) := dk_29 (dk_at dksX6_mean_1 21 rfl rfl)
theorem dX6_mean_44 : decode cX6_mean 44 = .ok (.aload_n 0, 1) := dk_42 (dk_at dksX6_mean_1 22 rfl rfl)
theorem dX6_mean_45 : decode cX6_mean 45 = .ok (.iload 4, 2) := dk_21 4 (dk_at dksX6_mean_2 0 rfl rfl)
theorem dX6_mean_47 : decode cX6_mean 47 = .ok (.iload_n 1, 1) := dk_27 (dk_at dksX6_mean_2 2 rfl rfl)
theorem dX6_mean_48 : decode cX6_mean 48 = .ok (.invokevirtual 338, 3) := dk_182 1 82 (dk_at dksX6_mean_2 3 rfl rfl)
theorem dX6_mean_51 : decode cX6_mean 51 = .ok (.iadd, 1) := dk_96 (dk_at dksX6_mean_2 6 rfl rfl)
theorem dX6_mean_52 : decode cX6_mean 52 = .ok (.istore_n 3, 1) := dk_62 (dk_at dksX6_mean_2 7 rfl rfl)
theorem dX6_mean_53 : decode cX6_mean 53 = .ok (.iinc 4 1, 3) := dk_132 4 1 (dk_at dksX6_mean_2 8 rfl rfl)
theorem dX6_mean_56 : decode cX6_mean 56 = .ok (.goto (-22), 3) := dk_167 255 234 (dk_at dksX6_mean_2 11 rfl rfl)
theorem dX6_mean_59 : decode cX6_mean 59 = .ok (.aload_n 0, 1) := dk_42 (dk_at dksX6_mean_2 14 rfl rfl)
theorem dX6_mean_60 : decode cX6_mean 60 = .ok (.iload_n 3, 1) := dk_29 (dk_at dksX6_mean_2 15 rfl rfl)
theorem dX6_mean_61 : decode cX6_mean 61 = .ok (.aload_n 0, 1) := dk_42 (dk_at dksX6_mean_2 16 rfl rfl)
theorem dX6_mean_62 : decode cX6_mean 62 = .ok (.getfield 7, 3) := dk_180 0 7 (dk_at dksX6_mean_2 17 rfl rfl)
theorem dX6_mean_65 : decode cX6_mean 65 = .ok (.iload_n 2, 1) := dk_28 (dk_at dksX6_mean_2 20 rfl rfl)
theorem dX6_mean_66 : decode cX6_mean 66 = .ok (.invokevirtual 369, 3) := dk_182 1 113 (dk_at dksX6_mean_2 21 rfl rfl)
theorem dX6_mean_69 : decode cX6_mean 69 = .ok (.lreturn, 1) := dk_173 (dk_at dksX6_mean_3 0 rfl rfl)
abbrev cX6_book : ByteArray := prog_23_method_76_code
def yX6_book : MethodName := ⟨RX6, "book", "(II)I"⟩
def dkwX6_book_3 : List UInt8 := [180, 0, 135, 4, 96, 181, 0, 135, 42, 180, 0, 135, 172]
abbrev dktX6_book_3 : List UInt8 := dkwX6_book_3 ++ []
def dkwX6_book_2 : List UInt8 := [172, 42, 180, 0, 138, 42, 180, 0, 135, 27, 79, 42, 180, 0, 141, 42, 180, 0, 135, 28, 79, 42, 89]
abbrev dktX6_book_2 : List UInt8 := dkwX6_book_2 ++ dktX6_book_3
def dkwX6_book_1 : List UInt8 := [16, 157, 16, 99, 182, 0, 227, 154, 0, 6, 16, 254, 172, 42, 180, 0, 135, 16, 8, 160, 0, 6, 16, 252]
abbrev dktX6_book_1 : List UInt8 := dkwX6_book_1 ++ dktX6_book_2
def dkwX6_book_0 : List UInt8 := [27, 2, 160, 0, 10, 42, 3, 181, 0, 135, 3, 172, 42, 27, 182, 0, 235, 154, 0, 5, 2, 172, 42, 28]
abbrev dktX6_book_0 : List UInt8 := dkwX6_book_0 ++ dktX6_book_1
theorem dksX6_book_0 : cX6_book.data.toList.drop 0 = dktX6_book_0 := by decide +kernel
theorem dksX6_book_1 : cX6_book.data.toList.drop 24 = dktX6_book_1 := dk_seg dksX6_book_0 24 rfl rfl
theorem dksX6_book_2 : cX6_book.data.toList.drop 48 = dktX6_book_2 := dk_seg dksX6_book_1 24 rfl rfl
theorem dksX6_book_3 : cX6_book.data.toList.drop 71 = dktX6_book_3 := dk_seg dksX6_book_2 23 rfl rfl
theorem dX6_book_0 : decode cX6_book 0 = .ok (.iload_n 1, 1) := dk_27 (dk_at dksX6_book_0 0 rfl rfl)
theorem dX6_book_1 : decode cX6_book 1 = .ok (.iconst (-1), 1) := dk_2 (dk_at dksX6_book_0 1 rfl rfl)
theorem dX6_book_2 : decode cX6_book 2 = .ok (.if_icmp .ne 10, 3) := dk_160 0 10 (dk_at dksX6_book_0 2 rfl rfl)
theorem dX6_book_5 : decode cX6_book 5 = .ok (.aload_n 0, 1) := dk_42 (dk_at dksX6_book_0 5 rfl rfl)
theorem dX6_book_6 : decode cX6_book 6 = .ok (.iconst 0, 1) := dk_3 (dk_at dksX6_book_0 6 rfl rfl)
theorem dX6_book_7 : decode cX6_book 7 = .ok (.putfield 135, 3) := dk_181 0 135 (dk_at dksX6_book_0 7 rfl rfl)
theorem dX6_book_10 : decode cX6_book 10 = .ok (.iconst 0, 1) := dk_3 (dk_at dksX6_book_0 10 rfl rfl)
theorem dX6_book_11 : decode cX6_book 11 = .ok (.ireturn, 1) := dk_172 (dk_at dksX6_book_0 11 rfl rfl)
theorem dX6_book_12 : decode cX6_book 12 = .ok (.aload_n 0, 1) := dk_42 (dk_at dksX6_book_0 12 rfl rfl)
theorem dX6_book_13 : decode cX6_book 13 = .ok (.iload_n 1, 1) := dk_27 (dk_at dksX6_book_0 13 rfl rfl)
theorem dX6_book_14 : decode cX6_book 14 = .ok (.invokevirtual 235, 3) := dk_182 0 235 (dk_at dksX6_book_0 14 rfl rfl)
theorem dX6_book_17 : decode cX6_book 17 = .ok (.ifCond .ne 5, 3) := dk_154 0 5 (dk_at dksX6_book_0 17 rfl rfl)
theorem dX6_book_20 : decode cX6_book 20 = .ok (.iconst (-1), 1) := dk_2 (dk_at dksX6_book_0 20 rfl rfl)
theorem dX6_book_21 : decode cX6_book 21 = .ok (.ireturn, 1) := dk_172 (dk_at dksX6_book_0 21 rfl rfl)
theorem dX6_book_22 : decode cX6_book 22 = .ok (.aload_n 0, 1) := dk_42 (dk_at dksX6_book_0 22 rfl rfl)
theorem dX6_book_23 : decode cX6_book 23 = .ok (.iload_n 2, 1) := dk_28 (dk_at dksX6_book_0 23 rfl rfl)
theorem dX6_book_24 : decode cX6_book 24 = .ok (.bipush (-99), 2) := dk_16 157 (dk_at dksX6_book_1 0 rfl rfl)
theorem dX6_book_26 : decode cX6_book 26 = .ok (.bipush 99, 2) := dk_16 99 (dk_at dksX6_book_1 2 rfl rfl)
theorem dX6_book_28 : decode cX6_book 28 = .ok (.invokevirtual 227, 3) := dk_182 0 227 (dk_at dksX6_book_1 4 rfl rfl)
theorem dX6_book_31 : decode cX6_book 31 = .ok (.ifCond .ne 6, 3) := dk_154 0 6 (dk_at dksX6_book_1 7 rfl rfl)
theorem dX6_book_34 : decode cX6_book 34 = .ok (.bipush (-2), 2) := dk_16 254 (dk_at dksX6_book_1 10 rfl rfl)
theorem dX6_book_36 : decode cX6_book 36 = .ok (.ireturn, 1) := dk_172 (dk_at dksX6_book_1 12 rfl rfl)
theorem dX6_book_37 : decode cX6_book 37 = .ok (.aload_n 0, 1) := dk_42 (dk_at dksX6_book_1 13 rfl rfl)
theorem dX6_book_38 : decode cX6_book 38 = .ok (.getfield 135, 3) := dk_180 0 135 (dk_at dksX6_book_1 14 rfl rfl)
theorem dX6_book_41 : decode cX6_book 41 = .ok (.bipush 8, 2) := dk_16 8 (dk_at dksX6_book_1 17 rfl rfl)
theorem dX6_book_43 : decode cX6_book 43 = .ok (.if_icmp .ne 6, 3) := dk_160 0 6 (dk_at dksX6_book_1 19 rfl rfl)
theorem dX6_book_46 : decode cX6_book 46 = .ok (.bipush (-4), 2) := dk_16 252 (dk_at dksX6_book_1 22 rfl rfl)
theorem dX6_book_48 : decode cX6_book 48 = .ok (.ireturn, 1) := dk_172 (dk_at dksX6_book_2 0 rfl rfl)
theorem dX6_book_49 : decode cX6_book 49 = .ok (.aload_n 0, 1) := dk_42 (dk_at dksX6_book_2 1 rfl rfl)
theorem dX6_book_50 : decode cX6_book 50 = .ok (.getfield 138, 3) := dk_180 0 138 (dk_at dksX6_book_2 2 rfl rfl)
theorem dX6_book_53 : decode cX6_book 53 = .ok (.aload_n 0, 1) := dk_42 (dk_at dksX6_book_2 5 rfl rfl)
theorem dX6_book_54 : decode cX6_book 54 = .ok (.getfield 135, 3) := dk_180 0 135 (dk_at dksX6_book_2 6 rfl rfl)
theorem dX6_book_57 : decode cX6_book 57 = .ok (.iload_n 1, 1) := dk_27 (dk_at dksX6_book_2 9 rfl rfl)
theorem dX6_book_58 : decode cX6_book 58 = .ok (.iastore, 1) := dk_79 (dk_at dksX6_book_2 10 rfl rfl)
theorem dX6_book_59 : decode cX6_book 59 = .ok (.aload_n 0, 1) := dk_42 (dk_at dksX6_book_2 11 rfl rfl)
theorem dX6_book_60 : decode cX6_book 60 = .ok (.getfield 141, 3) := dk_180 0 141 (dk_at dksX6_book_2 12 rfl rfl)
theorem dX6_book_63 : decode cX6_book 63 = .ok (.aload_n 0, 1) := dk_42 (dk_at dksX6_book_2 15 rfl rfl)
theorem dX6_book_64 : decode cX6_book 64 = .ok (.getfield 135, 3) := dk_180 0 135 (dk_at dksX6_book_2 16 rfl rfl)
theorem dX6_book_67 : decode cX6_book 67 = .ok (.iload_n 2, 1) := dk_28 (dk_at dksX6_book_2 19 rfl rfl)
theorem dX6_book_68 : decode cX6_book 68 = .ok (.iastore, 1) := dk_79 (dk_at dksX6_book_2 20 rfl rfl)
theorem dX6_book_69 : decode cX6_book 69 = .ok (.aload_n 0, 1) := dk_42 (dk_at dksX6_book_2 21 rfl rfl)
theorem dX6_book_70 : decode cX6_book 70 = .ok (.dup, 1) := dk_89 (dk_at dksX6_book_2 22 rfl rfl)
theorem dX6_book_71 : decode cX6_book 71 = .ok (.getfield 135, 3) := dk_180 0 135 (dk_at dksX6_book_3 0 rfl rfl)
theorem dX6_book_74 : decode cX6_book 74 = .ok (.iconst 1, 1) := dk_4 (dk_at dksX6_book_3 3 rfl rfl)
theorem dX6_book_75 : decode cX6_book 75 = .ok (.iadd, 1) := dk_96 (dk_at dksX6_book_3 4 rfl rfl)
theorem dX6_book_76 : decode cX6_book 76 = .ok (.putfield 135, 3) := dk_181 0 135 (dk_at dksX6_book_3 5 rfl rfl)
theorem dX6_book_79 : decode cX6_book 79 = .ok (.aload_n 0, 1) := dk_42 (dk_at dksX6_book_3 8 rfl rfl)
theorem dX6_book_80 : decode cX6_book 80 = .ok (.getfield 135, 3) := dk_180 0 135 (dk_at dksX6_book_3 9 rfl rfl)
theorem dX6_book_83 : decode cX6_book 83 = .ok (.ireturn, 1) := dk_172 (dk_at dksX6_book_3 12 rfl rfl)
abbrev cX6_looked : ByteArray := prog_23_method_77_code
def yX6_looked : MethodName := ⟨RX6, "looked", "()I"⟩
def dkwX6_looked_1 : List UInt8 := [27, 46, 159, 0, 5, 27, 172, 132, 1, 1, 167, 255, 224, 16, 251, 172]
abbrev dktX6_looked_1 : List UInt8 := dkwX6_looked_1 ++ []
def dkwX6_looked_0 : List UInt8 := [3, 60, 27, 42, 180, 0, 135, 162, 0, 30, 42, 42, 180, 0, 138, 27, 46, 182, 1, 48, 42, 180, 0, 141]
abbrev dktX6_looked_0 : List UInt8 := dkwX6_looked_0 ++ dktX6_looked_1
theorem dksX6_looked_0 : cX6_looked.data.toList.drop 0 = dktX6_looked_0 := by decide +kernel
theorem dksX6_looked_1 : cX6_looked.data.toList.drop 24 = dktX6_looked_1 := dk_seg dksX6_looked_0 24 rfl rfl
theorem dX6_looked_0 : decode cX6_looked 0 = .ok (.iconst 0, 1) := dk_3 (dk_at dksX6_looked_0 0 rfl rfl)
theorem dX6_looked_1 : decode cX6_looked 1 = .ok (.istore_n 1, 1) := dk_60 (dk_at dksX6_looked_0 1 rfl rfl)
theorem dX6_looked_2 : decode cX6_looked 2 = .ok (.iload_n 1, 1) := dk_27 (dk_at dksX6_looked_0 2 rfl rfl)
theorem dX6_looked_3 : decode cX6_looked 3 = .ok (.aload_n 0, 1) := dk_42 (dk_at dksX6_looked_0 3 rfl rfl)
theorem dX6_looked_4 : decode cX6_looked 4 = .ok (.getfield 135, 3) := dk_180 0 135 (dk_at dksX6_looked_0 4 rfl rfl)
theorem dX6_looked_7 : decode cX6_looked 7 = .ok (.if_icmp .ge 30, 3) := dk_162 0 30 (dk_at dksX6_looked_0 7 rfl rfl)
theorem dX6_looked_10 : decode cX6_looked 10 = .ok (.aload_n 0, 1) := dk_42 (dk_at dksX6_looked_0 10 rfl rfl)
theorem dX6_looked_11 : decode cX6_looked 11 = .ok (.aload_n 0, 1) := dk_42 (dk_at dksX6_looked_0 11 rfl rfl)
theorem dX6_looked_12 : decode cX6_looked 12 = .ok (.getfield 138, 3) := dk_180 0 138 (dk_at dksX6_looked_0 12 rfl rfl)
theorem dX6_looked_15 : decode cX6_looked 15 = .ok (.iload_n 1, 1) := dk_27 (dk_at dksX6_looked_0 15 rfl rfl)
theorem dX6_looked_16 : decode cX6_looked 16 = .ok (.iaload, 1) := dk_46 (dk_at dksX6_looked_0 16 rfl rfl)
theorem dX6_looked_17 : decode cX6_looked 17 = .ok (.invokevirtual 304, 3) := dk_182 1 48 (dk_at dksX6_looked_0 17 rfl rfl)
theorem dX6_looked_20 : decode cX6_looked 20 = .ok (.aload_n 0, 1) := dk_42 (dk_at dksX6_looked_0 20 rfl rfl)
theorem dX6_looked_21 : decode cX6_looked 21 = .ok (.getfield 141, 3) := dk_180 0 141 (dk_at dksX6_looked_0 21 rfl rfl)
theorem dX6_looked_24 : decode cX6_looked 24 = .ok (.iload_n 1, 1) := dk_27 (dk_at dksX6_looked_1 0 rfl rfl)
theorem dX6_looked_25 : decode cX6_looked 25 = .ok (.iaload, 1) := dk_46 (dk_at dksX6_looked_1 1 rfl rfl)
theorem dX6_looked_26 : decode cX6_looked 26 = .ok (.if_icmp .eq 5, 3) := dk_159 0 5 (dk_at dksX6_looked_1 2 rfl rfl)
theorem dX6_looked_29 : decode cX6_looked 29 = .ok (.iload_n 1, 1) := dk_27 (dk_at dksX6_looked_1 5 rfl rfl)
theorem dX6_looked_30 : decode cX6_looked 30 = .ok (.ireturn, 1) := dk_172 (dk_at dksX6_looked_1 6 rfl rfl)
theorem dX6_looked_31 : decode cX6_looked 31 = .ok (.iinc 1 1, 3) := dk_132 1 1 (dk_at dksX6_looked_1 7 rfl rfl)
theorem dX6_looked_34 : decode cX6_looked 34 = .ok (.goto (-32), 3) := dk_167 255 224 (dk_at dksX6_looked_1 10 rfl rfl)
theorem dX6_looked_37 : decode cX6_looked 37 = .ok (.bipush (-5), 2) := dk_16 251 (dk_at dksX6_looked_1 13 rfl rfl)
theorem dX6_looked_39 : decode cX6_looked 39 = .ok (.ireturn, 1) := dk_172 (dk_at dksX6_looked_1 15 rfl rfl)
abbrev cX6_judge : ByteArray := prog_23_method_78_code
def yX6_judge : MethodName := ⟨RX6, "judge", "(II)I"⟩
def dkwX6_judge_4 : List UInt8 := [167, 255, 187, 16, 251, 172]
abbrev dktX6_judge_4 : List UInt8 := dkwX6_judge_4 ++ []
def dkwX6_judge_3 : List UInt8 := [104, 28, 96, 29, 96, 47, 42, 180, 0, 35, 29, 46, 133, 148, 153, 0, 5, 29, 172, 132, 3, 1]
abbrev dktX6_judge_3 : List UInt8 := dkwX6_judge_3 ++ dktX6_judge_4
def dkwX6_judge_2 : List UInt8 := [180, 0, 217, 27, 46, 29, 100, 4, 100, 164, 0, 8, 16, 100, 29, 96, 172, 42, 180, 0, 220, 16, 60, 27]
abbrev dktX6_judge_2 : List UInt8 := dkwX6_judge_2 ++ dktX6_judge_3
def dkwX6_judge_1 : List UInt8 := [29, 42, 180, 0, 7, 162, 0, 67, 42, 180, 0, 214, 27, 46, 155, 0, 21, 28, 155, 0, 17, 28, 42]
abbrev dktX6_judge_1 : List UInt8 := dkwX6_judge_1 ++ dktX6_judge_2
def dkwX6_judge_0 : List UInt8 := [42, 27, 182, 1, 117, 154, 0, 5, 2, 172, 42, 180, 0, 214, 27, 46, 158, 0, 6, 16, 244, 172, 3, 62]
abbrev dktX6_judge_0 : List UInt8 := dkwX6_judge_0 ++ dktX6_judge_1
theorem dksX6_judge_0 : cX6_judge.data.toList.drop 0 = dktX6_judge_0 := by decide +kernel
theorem dksX6_judge_1 : cX6_judge.data.toList.drop 24 = dktX6_judge_1 := dk_seg dksX6_judge_0 24 rfl rfl
theorem dksX6_judge_2 : cX6_judge.data.toList.drop 47 = dktX6_judge_2 := dk_seg dksX6_judge_1 23 rfl rfl
theorem dksX6_judge_3 : cX6_judge.data.toList.drop 71 = dktX6_judge_3 := dk_seg dksX6_judge_2 24 rfl rfl
theorem dksX6_judge_4 : cX6_judge.data.toList.drop 93 = dktX6_judge_4 := dk_seg dksX6_judge_3 22 rfl rfl
theorem dX6_judge_0 : decode cX6_judge 0 = .ok (.aload_n 0, 1) := dk_42 (dk_at dksX6_judge_0 0 rfl rfl)
theorem dX6_judge_1 : decode cX6_judge 1 = .ok (.iload_n 1, 1) := dk_27 (dk_at dksX6_judge_0 1 rfl rfl)
theorem dX6_judge_2 : decode cX6_judge 2 = .ok (.invokevirtual 373, 3) := dk_182 1 117 (dk_at dksX6_judge_0 2 rfl rfl)
theorem dX6_judge_5 : decode cX6_judge 5 = .ok (.ifCond .ne 5, 3) := dk_154 0 5 (dk_at dksX6_judge_0 5 rfl rfl)
theorem dX6_judge_8 : decode cX6_judge 8 = .ok (.iconst (-1), 1) := dk_2 (dk_at dksX6_judge_0 8 rfl rfl)
theorem dX6_judge_9 : decode cX6_judge 9 = .ok (.ireturn, 1) := dk_172 (dk_at dksX6_judge_0 9 rfl rfl)
theorem dX6_judge_10 : decode cX6_judge 10 = .ok (.aload_n 0, 1) := dk_42 (dk_at dksX6_judge_0 10 rfl rfl)
theorem dX6_judge_11 : decode cX6_judge 11 = .ok (.getfield 214, 3) := dk_180 0 214 (dk_at dksX6_judge_0 11 rfl rfl)
theorem dX6_judge_14 : decode cX6_judge 14 = .ok (.iload_n 1, 1) := dk_27 (dk_at dksX6_judge_0 14 rfl rfl)
theorem dX6_judge_15 : decode cX6_judge 15 = .ok (.iaload, 1) := dk_46 (dk_at dksX6_judge_0 15 rfl rfl)
theorem dX6_judge_16 : decode cX6_judge 16 = .ok (.ifCond .le 6, 3) := dk_158 0 6 (dk_at dksX6_judge_0 16 rfl rfl)
theorem dX6_judge_19 : decode cX6_judge 19 = .ok (.bipush (-12), 2) := dk_16 244 (dk_at dksX6_judge_0 19 rfl rfl)
theorem dX6_judge_21 : decode cX6_judge 21 = .ok (.ireturn, 1) := dk_172 (dk_at dksX6_judge_0 21 rfl rfl)
theorem dX6_judge_22 : decode cX6_judge 22 = .ok (.iconst 0, 1) := dk_3 (dk_at dksX6_judge_0 22 rfl rfl)
theorem dX6_judge_23 : decode cX6_judge 23 = .ok (.istore_n 3, 1) := dk_62 (dk_at dksX6_judge_0 23 rfl rfl)
theorem dX6_judge_24 : decode cX6_judge 24 = .ok (.iload_n 3, 1) := dk_29 (dk_at dksX6_judge_1 0 rfl rfl)
theorem dX6_judge_25 : decode cX6_judge 25 = .ok (.aload_n 0, 1) := dk_42 (dk_at dksX6_judge_1 1 rfl rfl)
theorem dX6_judge_26 : decode cX6_judge 26 = .ok (.getfield 7, 3) := dk_180 0 7 (dk_at dksX6_judge_1 2 rfl rfl)
theorem dX6_judge_29 : decode cX6_judge 29 = .ok (.if_icmp .ge 67, 3) := dk_162 0 67 (dk_at dksX6_judge_1 5 rfl rfl)
theorem dX6_judge_32 : decode cX6_judge 32 = .ok (.aload_n 0, 1) := dk_42 (dk_at dksX6_judge_1 8 rfl rfl)
theorem dX6_judge_33 : decode cX6_judge 33 = .ok (.getfield 214, 3) := dk_180 0 214 (dk_at dksX6_judge_1 9 rfl rfl)
theorem dX6_judge_36 : decode cX6_judge 36 = .ok (.iload_n 1, 1) := dk_27 (dk_at dksX6_judge_1 12 rfl rfl)
theorem dX6_judge_37 : decode cX6_judge 37 = .ok (.iaload, 1) := dk_46 (dk_at dksX6_judge_1 13 rfl rfl)
theorem dX6_judge_38 : decode cX6_judge 38 = .ok (.ifCond .lt 21, 3) := dk_155 0 21 (dk_at dksX6_judge_1 14 rfl rfl)
theorem dX6_judge_41 : decode cX6_judge 41 = .ok (.iload_n 2, 1) := dk_28 (dk_at dksX6_judge_1 17 rfl rfl)
theorem dX6_judge_42 : decode cX6_judge 42 = .ok (.ifCond .lt 17, 3) := dk_155 0 17 (dk_at dksX6_judge_1 18 rfl rfl)
theorem dX6_judge_45 : decode cX6_judge 45 = .ok (.iload_n 2, 1) := dk_28 (dk_at dksX6_judge_1 21 rfl rfl)
theorem dX6_judge_46 : decode cX6_judge 46 = .ok (.aload_n 0, 1) := dk_42 (dk_at dksX6_judge_1 22 rfl rfl)
theorem dX6_judge_47 : decode cX6_judge 47 = .ok (.getfield 217, 3) := dk_180 0 217 (dk_at dksX6_judge_2 0 rfl rfl)
theorem dX6_judge_50 : decode cX6_judge 50 = .ok (.iload_n 1, 1) := dk_27 (dk_at dksX6_judge_2 3 rfl rfl)
theorem dX6_judge_51 : decode cX6_judge 51 = .ok (.iaload, 1) := dk_46 (dk_at dksX6_judge_2 4 rfl rfl)
theorem dX6_judge_52 : decode cX6_judge 52 = .ok (.iload_n 3, 1) := dk_29 (dk_at dksX6_judge_2 5 rfl rfl)
theorem dX6_judge_53 : decode cX6_judge 53 = .ok (.isub, 1) := dk_100 (dk_at dksX6_judge_2 6 rfl rfl)
theorem dX6_judge_54 : decode cX6_judge 54 = .ok (.iconst 1, 1) := dk_4 (dk_at dksX6_judge_2 7 rfl rfl)
theorem dX6_judge_55 : decode cX6_judge 55 = .ok (.isub, 1) := dk_100 (dk_at dksX6_judge_2 8 rfl rfl)
theorem dX6_judge_56 : decode cX6_judge 56 = .ok (.if_icmp .le 8, 3) := dk_164 0 8 (dk_at dksX6_judge_2 9 rfl rfl)
theorem dX6_judge_59 : decode cX6_judge 59 = .ok (.bipush 100, 2) := dk_16 100 (dk_at dksX6_judge_2 12 rfl rfl)
theorem dX6_judge_61 : decode cX6_judge 61 = .ok (.iload_n 3, 1) := dk_29 (dk_at dksX6_judge_2 14 rfl rfl)
theorem dX6_judge_62 : decode cX6_judge 62 = .ok (.iadd, 1) := dk_96 (dk_at dksX6_judge_2 15 rfl rfl)
theorem dX6_judge_63 : decode cX6_judge 63 = .ok (.ireturn, 1) := dk_172 (dk_at dksX6_judge_2 16 rfl rfl)
theorem dX6_judge_64 : decode cX6_judge 64 = .ok (.aload_n 0, 1) := dk_42 (dk_at dksX6_judge_2 17 rfl rfl)
theorem dX6_judge_65 : decode cX6_judge 65 = .ok (.getfield 220, 3) := dk_180 0 220 (dk_at dksX6_judge_2 18 rfl rfl)
theorem dX6_judge_68 : decode cX6_judge 68 = .ok (.bipush 60, 2) := dk_16 60 (dk_at dksX6_judge_2 21 rfl rfl)
theorem dX6_judge_70 : decode cX6_judge 70 = .ok (.iload_n 1, 1) := dk_27 (dk_at dksX6_judge_2 23 rfl rfl)
theorem dX6_judge_71 : decode cX6_judge 71 = .ok (.imul, 1) := dk_104 (dk_at dksX6_judge_3 0 rfl rfl)
theorem dX6_judge_72 : decode cX6_judge 72 = .ok (.iload_n 2, 1) := dk_28 (dk_at dksX6_judge_3 1 rfl rfl)
theorem dX6_judge_73 : decode cX6_judge 73 = .ok (.iadd, 1) := dk_96 (dk_at dksX6_judge_3 2 rfl rfl)
theorem dX6_judge_74 : decode cX6_judge 74 = .ok (.iload_n 3, 1) := dk_29 (dk_at dksX6_judge_3 3 rfl rfl)
theorem dX6_judge_75 : decode cX6_judge 75 = .ok (.iadd, 1) := dk_96 (dk_at dksX6_judge_3 4 rfl rfl)
theorem dX6_judge_76 : decode cX6_judge 76 = .ok (.laload, 1) := dk_47 (dk_at dksX6_judge_3 5 rfl rfl)
theorem dX6_judge_77 : decode cX6_judge 77 = .ok (.aload_n 0, 1) := dk_42 (dk_at dksX6_judge_3 6 rfl rfl)
theorem dX6_judge_78 : decode cX6_judge 78 = .ok (.getfield 35, 3) := dk_180 0 35 (dk_at dksX6_judge_3 7 rfl rfl)
theorem dX6_judge_81 : decode cX6_judge 81 = .ok (.iload_n 3, 1) := dk_29 (dk_at dksX6_judge_3 10 rfl rfl)
theorem dX6_judge_82 : decode cX6_judge 82 = .ok (.iaload, 1) := dk_46 (dk_at dksX6_judge_3 11 rfl rfl)
theorem dX6_judge_83 : decode cX6_judge 83 = .ok (.i2l, 1) := dk_133 (dk_at dksX6_judge_3 12 rfl rfl)
theorem dX6_judge_84 : decode cX6_judge 84 = .ok (.lcmp, 1) := dk_148 (dk_at dksX6_judge_3 13 rfl rfl)
theorem dX6_judge_85 : decode cX6_judge 85 = .ok (.ifCond .eq 5, 3) := dk_153 0 5 (dk_at dksX6_judge_3 14 rfl rfl)
theorem dX6_judge_88 : decode cX6_judge 88 = .ok (.iload_n 3, 1) := dk_29 (dk_at dksX6_judge_3 17 rfl rfl)
theorem dX6_judge_89 : decode cX6_judge 89 = .ok (.ireturn, 1) := dk_172 (dk_at dksX6_judge_3 18 rfl rfl)
theorem dX6_judge_90 : decode cX6_judge 90 = .ok (.iinc 3 1, 3) := dk_132 3 1 (dk_at dksX6_judge_3 19 rfl rfl)
theorem dX6_judge_93 : decode cX6_judge 93 = .ok (.goto (-69), 3) := dk_167 255 187 (dk_at dksX6_judge_4 0 rfl rfl)
theorem dX6_judge_96 : decode cX6_judge 96 = .ok (.bipush (-5), 2) := dk_16 251 (dk_at dksX6_judge_4 3 rfl rfl)
theorem dX6_judge_98 : decode cX6_judge 98 = .ok (.ireturn, 1) := dk_172 (dk_at dksX6_judge_4 5 rfl rfl)
abbrev cX6_isTape : ByteArray := prog_23_method_93_code
def yX6_isTape : MethodName := ⟨RX6, "isTape", "(I)Z"⟩
def dkwX6_isTape_0 : List UInt8 := [42, 27, 3, 8, 182, 0, 227, 172]
abbrev dktX6_isTape_0 : List UInt8 := dkwX6_isTape_0 ++ []
theorem dksX6_isTape_0 : cX6_isTape.data.toList.drop 0 = dktX6_isTape_0 := by decide +kernel
theorem dX6_isTape_0 : decode cX6_isTape 0 = .ok (.aload_n 0, 1) := dk_42 (dk_at dksX6_isTape_0 0 rfl rfl)
theorem dX6_isTape_1 : decode cX6_isTape 1 = .ok (.iload_n 1, 1) := dk_27 (dk_at dksX6_isTape_0 1 rfl rfl)
theorem dX6_isTape_2 : decode cX6_isTape 2 = .ok (.iconst 0, 1) := dk_3 (dk_at dksX6_isTape_0 2 rfl rfl)
theorem dX6_isTape_3 : decode cX6_isTape 3 = .ok (.iconst 5, 1) := dk_8 (dk_at dksX6_isTape_0 3 rfl rfl)
theorem dX6_isTape_4 : decode cX6_isTape 4 = .ok (.invokevirtual 227, 3) := dk_182 0 227 (dk_at dksX6_isTape_0 4 rfl rfl)
theorem dX6_isTape_7 : decode cX6_isTape 7 = .ok (.ireturn, 1) := dk_172 (dk_at dksX6_isTape_0 7 rfl rfl)
abbrev cX6_image : ByteArray := prog_23_method_79_code
def yX6_image : MethodName := ⟨RX6, "image", "()I"⟩
def dkwX6_image_11 : List UInt8 := [180, 0, 141, 27, 46, 79, 132, 1, 1, 167, 255, 223, 42, 180, 0, 7, 172]
abbrev dktX6_image_11 : List UInt8 := dkwX6_image_11 ++ []
def dkwX6_image_10 : List UInt8 := [27, 16, 8, 162, 0, 33, 42, 180, 0, 202, 27, 42, 180, 0, 138, 27, 46, 79, 42, 180, 0, 205, 27, 42]
abbrev dktX6_image_10 : List UInt8 := dkwX6_image_10 ++ dktX6_image_11
def dkwX6_image_9 : List UInt8 := [8, 162, 0, 21, 42, 180, 0, 199, 27, 42, 180, 0, 132, 27, 46, 79, 132, 1, 1, 167, 255, 236, 3, 60]
abbrev dktX6_image_9 : List UInt8 := dkwX6_image_9 ++ dktX6_image_10
def dkwX6_image_8 : List UInt8 := [27, 46, 79, 42, 180, 0, 196, 27, 42, 180, 0, 126, 27, 46, 79, 132, 1, 1, 167, 255, 224, 3, 60, 27]
abbrev dktX6_image_8 : List UInt8 := dkwX6_image_8 ++ dktX6_image_9
def dkwX6_image_7 : List UInt8 := [46, 79, 132, 1, 1, 167, 255, 235, 3, 60, 27, 7, 162, 0, 33, 42, 180, 0, 193, 27, 42, 180, 0, 123]
abbrev dktX6_image_7 : List UInt8 := dkwX6_image_7 ++ dktX6_image_8
def dkwX6_image_6 : List UInt8 := [132, 1, 1, 167, 255, 199, 3, 60, 27, 16, 24, 162, 0, 21, 42, 180, 0, 190, 27, 42, 180, 0, 41, 27]
abbrev dktX6_image_6 : List UInt8 := dkwX6_image_6 ++ dktX6_image_7
def dkwX6_image_5 : List UInt8 := [180, 0, 184, 27, 42, 180, 0, 35, 27, 46, 79, 42, 180, 0, 187, 27, 42, 180, 0, 38, 27, 46, 79]
abbrev dktX6_image_5 : List UInt8 := dkwX6_image_5 ++ dktX6_image_6
def dkwX6_image_4 : List UInt8 := [180, 0, 178, 27, 42, 180, 0, 28, 27, 46, 79, 42, 180, 0, 181, 27, 42, 180, 0, 32, 27, 46, 79, 42]
abbrev dktX6_image_4 : List UInt8 := dkwX6_image_4 ++ dktX6_image_5
def dkwX6_image_3 : List UInt8 := [180, 0, 129, 181, 0, 172, 42, 42, 180, 0, 135, 181, 0, 175, 3, 60, 27, 16, 6, 162, 0, 57, 42]
abbrev dktX6_image_3 : List UInt8 := dkwX6_image_3 ++ dktX6_image_4
def dkwX6_image_2 : List UInt8 := [180, 0, 22, 181, 0, 163, 42, 42, 180, 0, 25, 181, 0, 166, 42, 42, 180, 0, 120, 181, 0, 169, 42, 42]
abbrev dktX6_image_2 : List UInt8 := dkwX6_image_2 ++ dktX6_image_3
def dkwX6_image_1 : List UInt8 := [180, 0, 13, 181, 0, 154, 42, 42, 180, 0, 16, 181, 0, 157, 42, 42, 180, 0, 19, 181, 0, 160, 42, 42]
abbrev dktX6_image_1 : List UInt8 := dkwX6_image_1 ++ dktX6_image_2
def dkwX6_image_0 : List UInt8 := [42, 4, 181, 0, 144, 42, 42, 180, 0, 47, 181, 0, 148, 42, 42, 180, 0, 7, 181, 0, 151, 42, 42]
abbrev dktX6_image_0 : List UInt8 := dkwX6_image_0 ++ dktX6_image_1
theorem dksX6_image_0 : cX6_image.data.toList.drop 0 = dktX6_image_0 := by decide +kernel
theorem dksX6_image_1 : cX6_image.data.toList.drop 23 = dktX6_image_1 := dk_seg dksX6_image_0 23 rfl rfl
theorem dksX6_image_2 : cX6_image.data.toList.drop 47 = dktX6_image_2 := dk_seg dksX6_image_1 24 rfl rfl
theorem dksX6_image_3 : cX6_image.data.toList.drop 71 = dktX6_image_3 := dk_seg dksX6_image_2 24 rfl rfl
theorem dksX6_image_4 : cX6_image.data.toList.drop 94 = dktX6_image_4 := dk_seg dksX6_image_3 23 rfl rfl
theorem dksX6_image_5 : cX6_image.data.toList.drop 118 = dktX6_image_5 := dk_seg dksX6_image_4 24 rfl rfl
theorem dksX6_image_6 : cX6_image.data.toList.drop 141 = dktX6_image_6 := dk_seg dksX6_image_5 23 rfl rfl
theorem dksX6_image_7 : cX6_image.data.toList.drop 165 = dktX6_image_7 := dk_seg dksX6_image_6 24 rfl rfl
theorem dksX6_image_8 : cX6_image.data.toList.drop 189 = dktX6_image_8 := dk_seg dksX6_image_7 24 rfl rfl
theorem dksX6_image_9 : cX6_image.data.toList.drop 213 = dktX6_image_9 := dk_seg dksX6_image_8 24 rfl rfl
theorem dksX6_image_10 : cX6_image.data.toList.drop 237 = dktX6_image_10 := dk_seg dksX6_image_9 24 rfl rfl
theorem dksX6_image_11 : cX6_image.data.toList.drop 261 = dktX6_image_11 := dk_seg dksX6_image_10 24 rfl rfl
theorem dX6_image_0 : decode cX6_image 0 = .ok (.aload_n 0, 1) := dk_42 (dk_at dksX6_image_0 0 rfl rfl)
theorem dX6_image_1 : decode cX6_image 1 = .ok (.iconst 1, 1) := dk_4 (dk_at dksX6_image_0 1 rfl rfl)
theorem dX6_image_2 : decode cX6_image 2 = .ok (.putfield 144, 3) := dk_181 0 144 (dk_at dksX6_image_0 2 rfl rfl)
theorem dX6_image_5 : decode cX6_image 5 = .ok (.aload_n 0, 1) := dk_42 (dk_at dksX6_image_0 5 rfl rfl)
theorem dX6_image_6 : decode cX6_image 6 = .ok (.aload_n 0, 1) := dk_42 (dk_at dksX6_image_0 6 rfl rfl)
theorem dX6_image_7 : decode cX6_image 7 = .ok (.getfield 47, 3) := dk_180 0 47 (dk_at dksX6_image_0 7 rfl rfl)
theorem dX6_image_10 : decode cX6_image 10 = .ok (.putfield 148, 3) := dk_181 0 148 (dk_at dksX6_image_0 10 rfl rfl)
theorem dX6_image_13 : decode cX6_image 13 = .ok (.aload_n 0, 1) := dk_42 (dk_at dksX6_image_0 13 rfl rfl)
theorem dX6_image_14 : decode cX6_image 14 = .ok (.aload_n 0, 1) := dk_42 (dk_at dksX6_image_0 14 rfl rfl)
theorem dX6_image_15 : decode cX6_image 15 = .ok (.getfield 7, 3) := dk_180 0 7 (dk_at dksX6_image_0 15 rfl rfl)
theorem dX6_image_18 : decode cX6_image 18 = .ok (.putfield 151, 3) := dk_181 0 151 (dk_at dksX6_image_0 18 rfl rfl)
theorem dX6_image_21 : decode cX6_image 21 = .ok (.aload_n 0, 1) := dk_42 (dk_at dksX6_image_0 21 rfl rfl)
theorem dX6_image_22 : decode cX6_image 22 = .ok (.aload_n 0, 1) := dk_42 (dk_at dksX6_image_0 22 rfl rfl)
theorem dX6_image_23 : decode cX6_image 23 = .ok (.getfield 13, 3) := dk_180 0 13 (dk_at dksX6_image_1 0 rfl rfl)
theorem dX6_image_26 : decode cX6_image 26 = .ok (.putfield 154, 3) := dk_181 0 154 (dk_at dksX6_image_1 3 rfl rfl)
theorem dX6_image_29 : decode cX6_image 29 = .ok (.aload_n 0, 1) := dk_42 (dk_at dksX6_image_1 6 rfl rfl)
theorem dX6_image_30 : decode cX6_image 30 = .ok (.aload_n 0, 1) := dk_42 (dk_at dksX6_image_1 7 rfl rfl)
theorem dX6_image_31 : decode cX6_image 31 = .ok (.getfield 16, 3) := dk_180 0 16 (dk_at dksX6_image_1 8 rfl rfl)
theorem dX6_image_34 : decode cX6_image 34 = .ok (.putfield 157, 3) := dk_181 0 157 (dk_at dksX6_image_1 11 rfl rfl)
theorem dX6_image_37 : decode cX6_image 37 = .ok (.aload_n 0, 1) := dk_42 (dk_at dksX6_image_1 14 rfl rfl)
theorem dX6_image_38 : decode cX6_image 38 = .ok (.aload_n 0, 1) := dk_42 (dk_at dksX6_image_1 15 rfl rfl)
theorem dX6_image_39 : decode cX6_image 39 = .ok (.getfield 19, 3) := dk_180 0 19 (dk_at dksX6_image_1 16 rfl rfl)
theorem dX6_image_42 : decode cX6_image 42 = .ok (.putfield 160, 3) := dk_181 0 160 (dk_at dksX6_image_1 19 rfl rfl)
theorem dX6_image_45 : decode cX6_image 45 = .ok (.aload_n 0, 1) := dk_42 (dk_at dksX6_image_1 22 rfl rfl)
theorem dX6_image_46 : decode cX6_image 46 = .ok (.aload_n 0, 1) := dk_42 (dk_at dksX6_image_1 23 rfl rfl)
theorem dX6_image_47 : decode cX6_image 47 = .ok (.getfield 22, 3) := dk_180 0 22 (dk_at dksX6_image_2 0 rfl rfl)
theorem dX6_image_50 : decode cX6_image 50 = .ok (.putfield 163, 3) := dk_181 0 163 (dk_at dksX6_image_2 3 rfl rfl)
theorem dX6_image_53 : decode cX6_image 53 = .ok (.aload_n 0, 1) := dk_42 (dk_at dksX6_image_2 6 rfl rfl)
theorem dX6_image_54 : decode cX6_image 54 = .ok (.aload_n 0, 1) := dk_42 (dk_at dksX6_image_2 7 rfl rfl)
theorem dX6_image_55 : decode cX6_image 55 = .ok (.getfield 25, 3) := dk_180 0 25 (dk_at dksX6_image_2 8 rfl rfl)
theorem dX6_image_58 : decode cX6_image 58 = .ok (.putfield 166, 3) := dk_181 0 166 (dk_at dksX6_image_2 11 rfl rfl)
theorem dX6_image_61 : decode cX6_image 61 = .ok (.aload_n 0, 1) := dk_42 (dk_at dksX6_image_2 14 rfl rfl)
theorem dX6_image_62 : decode cX6_image 62 = .ok (.aload_n 0, 1) := dk_42 (dk_at dksX6_image_2 15 rfl rfl)
theorem dX6_image_63 : decode cX6_image 63 = .ok (.getfield 120, 3) := dk_180 0 120 (dk_at dksX6_image_2 16 rfl rfl)
theorem dX6_image_66 : decode cX6_image 66 = .ok (.putfield 169, 3) := dk_181 0 169 (dk_at dksX6_image_2 19 rfl rfl)
theorem dX6_image_69 : decode cX6_image 69 = .ok (.aload_n 0, 1) := dk_42 (dk_at dksX6_image_2 22 rfl rfl)
theorem dX6_image_70 : decode cX6_image 70 = .ok (.aload_n 0, 1) := dk_42 (dk_at dksX6_image_2 23 rfl rfl)
theorem dX6_image_71 : decode cX6_image 71 = .ok (.getfield 129, 3) := dk_180 0 129 (dk_at dksX6_image_3 0 rfl rfl)
theorem dX6_image_74 : decode cX6_image 74 = .ok (.putfield 172, 3) := dk_181 0 172 (dk_at dksX6_image_3 3 rfl rfl)
theorem dX6_image_77 : decode cX6_image 77 = .ok (.aload_n 0, 1) := dk_42 (dk_at dksX6_image_3 6 rfl rfl)
theorem dX6_image_78 : decode cX6_image 78 = .ok (.aload_n 0, 1) := dk_42 (dk_at dksX6_image_3 7 rfl rfl)
theorem dX6_image_79 : decode cX6_image 79 = .ok (.getfield 135, 3) := dk_180 0 135 (dk_at dksX6_image_3 8 rfl rfl)
theorem dX6_image_82 : decode cX6_image 82 = .ok (.putfield 175, 3) := dk_181 0 175 (dk_at dksX6_image_3 11 rfl rfl)
theorem dX6_image_85 : decode cX6_image 85 = .ok (.iconst 0, 1) := dk_3 (dk_at dksX6_image_3 14 rfl rfl)
theorem dX6_image_86 : decode cX6_image 86 = .ok (.istore_n 1, 1) := dk_60 (dk_at dksX6_image_3 15 rfl rfl)
theorem dX6_image_87 : decode cX6_image 87 = .ok (.iload_n 1, 1) := dk_27 (dk_at dksX6_image_3 16 rfl rfl)
theorem dX6_image_88 : decode cX6_image 88 = .ok (.bipush 6, 2) := dk_16 6 (dk_at dksX6_image_3 17 rfl rfl)
theorem dX6_image_90 : decode cX6_image 90 = .ok (.if_icmp .ge 57, 3) := dk_162 0 57 (dk_at dksX6_image_3 19 rfl rfl)
theorem dX6_image_93 : decode cX6_image 93 = .ok (.aload_n 0, 1) := dk_42 (dk_at dksX6_image_3 22 rfl rfl)
theorem dX6_image_94 : decode cX6_image 94 = .ok (.getfield 178, 3) := dk_180 0 178 (dk_at dksX6_image_4 0 rfl rfl)
theorem dX6_image_97 : decode cX6_image 97 = .ok (.iload_n 1, 1) := dk_27 (dk_at dksX6_image_4 3 rfl rfl)
theorem dX6_image_98 : decode cX6_image 98 = .ok (.aload_n 0, 1) := dk_42 (dk_at dksX6_image_4 4 rfl rfl)
theorem dX6_image_99 : decode cX6_image 99 = .ok (.getfield 28, 3) := dk_180 0 28 (dk_at dksX6_image_4 5 rfl rfl)
theorem dX6_image_102 : decode cX6_image 102 = .ok (.iload_n 1, 1) := dk_27 (dk_at dksX6_image_4 8 rfl rfl)
theorem dX6_image_103 : decode cX6_image 103 = .ok (.iaload, 1) := dk_46 (dk_at dksX6_image_4 9 rfl rfl)
theorem dX6_image_104 : decode cX6_image 104 = .ok (.iastore, 1) := dk_79 (dk_at dksX6_image_4 10 rfl rfl)
theorem dX6_image_105 : decode cX6_image 105 = .ok (.aload_n 0, 1) := dk_42 (dk_at dksX6_image_4 11 rfl rfl)
theorem dX6_image_106 : decode cX6_image 106 = .ok (.getfield 181, 3) := dk_180 0 181 (dk_at dksX6_image_4 12 rfl rfl)
theorem dX6_image_109 : decode cX6_image 109 = .ok (.iload_n 1, 1) := dk_27 (dk_at dksX6_image_4 15 rfl rfl)
theorem dX6_image_110 : decode cX6_image 110 = .ok (.aload_n 0, 1) := dk_42 (dk_at dksX6_image_4 16 rfl rfl)
theorem dX6_image_111 : decode cX6_image 111 = .ok (.getfield 32, 3) := dk_180 0 32 (dk_at dksX6_image_4 17 rfl rfl)
theorem dX6_image_114 : decode cX6_image 114 = .ok (.iload_n 1, 1) := dk_27 (dk_at dksX6_image_4 20 rfl rfl)
theorem dX6_image_115 : decode cX6_image 115 = .ok (.iaload, 1) := dk_46 (dk_at dksX6_image_4 21 rfl rfl)
theorem dX6_image_116 : decode cX6_image 116 = .ok (.iastore, 1) := dk_79 (dk_at dksX6_image_4 22 rfl rfl)
theorem dX6_image_117 : decode cX6_image 117 = .ok (.aload_n 0, 1) := dk_42 (dk_at dksX6_image_4 23 rfl rfl)
theorem dX6_image_118 : decode cX6_image 118 = .ok (.getfield 184, 3) := dk_180 0 184 (dk_at dksX6_image_5 0 rfl rfl)
theorem dX6_image_121 : decode cX6_image 121 = .ok (.iload_n 1, 1) := dk_27 (dk_at dksX6_image_5 3 rfl rfl)
theorem dX6_image_122 : decode cX6_image 122 = .ok (.aload_n 0, 1) := dk_42 (dk_at dksX6_image_5 4 rfl rfl)
theorem dX6_image_123 : decode cX6_image 123 = .ok (.getfield 35, 3) := dk_180 0 35 (dk_at dksX6_image_5 5 rfl rfl)
theorem dX6_image_126 : decode cX6_image 126 = .ok (.iload_n 1, 1) := dk_27 (dk_at dksX6_image_5 8 rfl rfl)
theorem dX6_image_127 : decode cX6_image 127 = .ok (.iaload, 1) := dk_46 (dk_at dksX6_image_5 9 rfl rfl)
theorem dX6_image_128 : decode cX6_image 128 = .ok (.iastore, 1) := dk_79 (dk_at dksX6_image_5 10 rfl rfl)
theorem dX6_image_129 : decode cX6_image 129 = .ok (.aload_n 0, 1) := dk_42 (dk_at dksX6_image_5 11 rfl rfl)
theorem dX6_image_130 : decode cX6_image 130 = .ok (.getfield 187, 3) := dk_180 0 187 (dk_at dksX6_image_5 12 rfl rfl)
theorem dX6_image_133 : decode cX6_image 133 = .ok (.iload_n 1, 1) := dk_27 (dk_at dksX6_image_5 15 rfl rfl)
theorem dX6_image_134 : decode cX6_image 134 = .ok (.aload_n 0, 1) := dk_42 (dk_at dksX6_image_5 16 rfl rfl)
theorem dX6_image_135 : decode cX6_image 135 = .ok (.getfield 38, 3) := dk_180 0 38 (dk_at dksX6_image_5 17 rfl rfl)
theorem dX6_image_138 : decode cX6_image 138 = .ok (.iload_n 1, 1) := dk_27 (dk_at dksX6_image_5 20 rfl rfl)
theorem dX6_image_139 : decode cX6_image 139 = .ok (.iaload, 1) := dk_46 (dk_at dksX6_image_5 21 rfl rfl)
theorem dX6_image_140 : decode cX6_image 140 = .ok (.iastore, 1) := dk_79 (dk_at dksX6_image_5 22 rfl rfl)
theorem dX6_image_141 : decode cX6_image 141 = .ok (.iinc 1 1, 3) := dk_132 1 1 (dk_at dksX6_image_6 0 rfl rfl)
theorem dX6_image_144 : decode cX6_image 144 = .ok (.goto (-57), 3) := dk_167 255 199 (dk_at dksX6_image_6 3 rfl rfl)
theorem dX6_image_147 : decode cX6_image 147 = .ok (.iconst 0, 1) := dk_3 (dk_at dksX6_image_6 6 rfl rfl)
theorem dX6_image_148 : decode cX6_image 148 = .ok (.istore_n 1, 1) := dk_60 (dk_at dksX6_image_6 7 rfl rfl)
theorem dX6_image_149 : decode cX6_image 149 = .ok (.iload_n 1, 1) := dk_27 (dk_at dksX6_image_6 8 rfl rfl)
theorem dX6_image_150 : decode cX6_image 150 = .ok (.bipush 24, 2) := dk_16 24 (dk_at dksX6_image_6 9 rfl rfl)
theorem dX6_image_152 : decode cX6_image 152 = .ok (.if_icmp .ge 21, 3) := dk_162 0 21 (dk_at dksX6_image_6 11 rfl rfl)
theorem dX6_image_155 : decode cX6_image 155 = .ok (.aload_n 0, 1) := dk_42 (dk_at dksX6_image_6 14 rfl rfl)
theorem dX6_image_156 : decode cX6_image 156 = .ok (.getfield 190, 3) := dk_180 0 190 (dk_at dksX6_image_6 15 rfl rfl)
theorem dX6_image_159 : decode cX6_image 159 = .ok (.iload_n 1, 1) := dk_27 (dk_at dksX6_image_6 18 rfl rfl)
theorem dX6_image_160 : decode cX6_image 160 = .ok (.aload_n 0, 1) := dk_42 (dk_at dksX6_image_6 19 rfl rfl)
theorem dX6_image_161 : decode cX6_image 161 = .ok (.getfield 41, 3) := dk_180 0 41 (dk_at dksX6_image_6 20 rfl rfl)
theorem dX6_image_164 : decode cX6_image 164 = .ok (.iload_n 1, 1) := dk_27 (dk_at dksX6_image_6 23 rfl rfl)
theorem dX6_image_165 : decode cX6_image 165 = .ok (.iaload, 1) := dk_46 (dk_at dksX6_image_7 0 rfl rfl)
theorem dX6_image_166 : decode cX6_image 166 = .ok (.iastore, 1) := dk_79 (dk_at dksX6_image_7 1 rfl rfl)
theorem dX6_image_167 : decode cX6_image 167 = .ok (.iinc 1 1, 3) := dk_132 1 1 (dk_at dksX6_image_7 2 rfl rfl)
theorem dX6_image_170 : decode cX6_image 170 = .ok (.goto (-21), 3) := dk_167 255 235 (dk_at dksX6_image_7 5 rfl rfl)
theorem dX6_image_173 : decode cX6_image 173 = .ok (.iconst 0, 1) := dk_3 (dk_at dksX6_image_7 8 rfl rfl)
theorem dX6_image_174 : decode cX6_image 174 = .ok (.istore_n 1, 1) := dk_60 (dk_at dksX6_image_7 9 rfl rfl)
theorem dX6_image_175 : decode cX6_image 175 = .ok (.iload_n 1, 1) := dk_27 (dk_at dksX6_image_7 10 rfl rfl)
theorem dX6_image_176 : decode cX6_image 176 = .ok (.iconst 4, 1) := dk_7 (dk_at dksX6_image_7 11 rfl rfl)
theorem dX6_image_177 : decode cX6_image 177 = .ok (.if_icmp .ge 33, 3) := dk_162 0 33 (dk_at dksX6_image_7 12 rfl rfl)
theorem dX6_image_180 : decode cX6_image 180 = .ok (.aload_n 0, 1) := dk_42 (dk_at dksX6_image_7 15 rfl rfl)
theorem dX6_image_181 : decode cX6_image 181 = .ok (.getfield 193, 3) := dk_180 0 193 (dk_at dksX6_image_7 16 rfl rfl)
theorem dX6_image_184 : decode cX6_image 184 = .ok (.iload_n 1, 1) := dk_27 (dk_at dksX6_image_7 19 rfl rfl)
theorem dX6_image_185 : decode cX6_image 185 = .ok (.aload_n 0, 1) := dk_42 (dk_at dksX6_image_7 20 rfl rfl)
theorem dX6_image_186 : decode cX6_image 186 = .ok (.getfield 123, 3) := dk_180 0 123 (dk_at dksX6_image_7 21 rfl rfl)
theorem dX6_image_189 : decode cX6_image 189 = .ok (.iload_n 1, 1) := dk_27 (dk_at dksX6_image_8 0 rfl rfl)
theorem dX6_image_190 : decode cX6_image 190 = .ok (.iaload, 1) := dk_46 (dk_at dksX6_image_8 1 rfl rfl)
theorem dX6_image_191 : decode cX6_image 191 = .ok (.iastore, 1) := dk_79 (dk_at dksX6_image_8 2 rfl rfl)
theorem dX6_image_192 : decode cX6_image 192 = .ok (.aload_n 0, 1) := dk_42 (dk_at dksX6_image_8 3 rfl rfl)
theorem dX6_image_193 : decode cX6_image 193 = .ok (.getfield 196, 3) := dk_180 0 196 (dk_at dksX6_image_8 4 rfl rfl)
theorem dX6_image_196 : decode cX6_image 196 = .ok (.iload_n 1, 1) := dk_27 (dk_at dksX6_image_8 7 rfl rfl)
theorem dX6_image_197 : decode cX6_image 197 = .ok (.aload_n 0, 1) := dk_42 (dk_at dksX6_image_8 8 rfl rfl)
theorem dX6_image_198 : decode cX6_image 198 = .ok (.getfield 126, 3) := dk_180 0 126 (dk_at dksX6_image_8 9 rfl rfl)
theorem dX6_image_201 : decode cX6_image 201 = .ok (.iload_n 1, 1) := dk_27 (dk_at dksX6_image_8 12 rfl rfl)
theorem dX6_image_202 : decode cX6_image 202 = .ok (.iaload, 1) := dk_46 (dk_at dksX6_image_8 13 rfl rfl)
theorem dX6_image_203 : decode cX6_image 203 = .ok (.iastore, 1) := dk_79 (dk_at dksX6_image_8 14 rfl rfl)
theorem dX6_image_204 : decode cX6_image 204 = .ok (.iinc 1 1, 3) := dk_132 1 1 (dk_at dksX6_image_8 15 rfl rfl)
theorem dX6_image_207 : decode cX6_image 207 = .ok (.goto (-32), 3) := dk_167 255 224 (dk_at dksX6_image_8 18 rfl rfl)
theorem dX6_image_210 : decode cX6_image 210 = .ok (.iconst 0, 1) := dk_3 (dk_at dksX6_image_8 21 rfl rfl)
theorem dX6_image_211 : decode cX6_image 211 = .ok (.istore_n 1, 1) := dk_60 (dk_at dksX6_image_8 22 rfl rfl)
theorem dX6_image_212 : decode cX6_image 212 = .ok (.iload_n 1, 1) := dk_27 (dk_at dksX6_image_8 23 rfl rfl)
theorem dX6_image_213 : decode cX6_image 213 = .ok (.iconst 5, 1) := dk_8 (dk_at dksX6_image_9 0 rfl rfl)
theorem dX6_image_214 : decode cX6_image 214 = .ok (.if_icmp .ge 21, 3) := dk_162 0 21 (dk_at dksX6_image_9 1 rfl rfl)
theorem dX6_image_217 : decode cX6_image 217 = .ok (.aload_n 0, 1) := dk_42 (dk_at dksX6_image_9 4 rfl rfl)
theorem dX6_image_218 : decode cX6_image 218 = .ok (.getfield 199, 3) := dk_180 0 199 (dk_at dksX6_image_9 5 rfl rfl)
theorem dX6_image_221 : decode cX6_image 221 = .ok (.iload_n 1, 1) := dk_27 (dk_at dksX6_image_9 8 rfl rfl)
theorem dX6_image_222 : decode cX6_image 222 = .ok (.aload_n 0, 1) := dk_42 (dk_at dksX6_image_9 9 rfl rfl)
theorem dX6_image_223 : decode cX6_image 223 = .ok (.getfield 132, 3) := dk_180 0 132 (dk_at dksX6_image_9 10 rfl rfl)
theorem dX6_image_226 : decode cX6_image 226 = .ok (.iload_n 1, 1) := dk_27 (dk_at dksX6_image_9 13 rfl rfl)
theorem dX6_image_227 : decode cX6_image 227 = .ok (.iaload, 1) := dk_46 (dk_at dksX6_image_9 14 rfl rfl)
theorem dX6_image_228 : decode cX6_image 228 = .ok (.iastore, 1) := dk_79 (dk_at dksX6_image_9 15 rfl rfl)
theorem dX6_image_229 : decode cX6_image 229 = .ok (.iinc 1 1, 3) := dk_132 1 1 (dk_at dksX6_image_9 16 rfl rfl)
theorem dX6_image_232 : decode cX6_image 232 = .ok (.goto (-20), 3) := dk_167 255 236 (dk_at dksX6_image_9 19 rfl rfl)
theorem dX6_image_235 : decode cX6_image 235 = .ok (.iconst 0, 1) := dk_3 (dk_at dksX6_image_9 22 rfl rfl)
theorem dX6_image_236 : decode cX6_image 236 = .ok (.istore_n 1, 1) := dk_60 (dk_at dksX6_image_9 23 rfl rfl)
theorem dX6_image_237 : decode cX6_image 237 = .ok (.iload_n 1, 1) := dk_27 (dk_at dksX6_image_10 0 rfl rfl)
theorem dX6_image_238 : decode cX6_image 238 = .ok (.bipush 8, 2) := dk_16 8 (dk_at dksX6_image_10 1 rfl rfl)
theorem dX6_image_240 : decode cX6_image 240 = .ok (.if_icmp .ge 33, 3) := dk_162 0 33 (dk_at dksX6_image_10 3 rfl rfl)
theorem dX6_image_243 : decode cX6_image 243 = .ok (.aload_n 0, 1) := dk_42 (dk_at dksX6_image_10 6 rfl rfl)
theorem dX6_image_244 : decode cX6_image 244 = .ok (.getfield 202, 3) := dk_180 0 202 (dk_at dksX6_image_10 7 rfl rfl)
theorem dX6_image_247 : decode cX6_image 247 = .ok (.iload_n 1, 1) := dk_27 (dk_at dksX6_image_10 10 rfl rfl)
theorem dX6_image_248 : decode cX6_image 248 = .ok (.aload_n 0, 1) := dk_42 (dk_at dksX6_image_10 11 rfl rfl)
theorem dX6_image_249 : decode cX6_image 249 = .ok (.getfield 138, 3) := dk_180 0 138 (dk_at dksX6_image_10 12 rfl rfl)
theorem dX6_image_252 : decode cX6_image 252 = .ok (.iload_n 1, 1) := dk_27 (dk_at dksX6_image_10 15 rfl rfl)
theorem dX6_image_253 : decode cX6_image 253 = .ok (.iaload, 1) := dk_46 (dk_at dksX6_image_10 16 rfl rfl)
theorem dX6_image_254 : decode cX6_image 254 = .ok (.iastore, 1) := dk_79 (dk_at dksX6_image_10 17 rfl rfl)
theorem dX6_image_255 : decode cX6_image 255 = .ok (.aload_n 0, 1) := dk_42 (dk_at dksX6_image_10 18 rfl rfl)
theorem dX6_image_256 : decode cX6_image 256 = .ok (.getfield 205, 3) := dk_180 0 205 (dk_at dksX6_image_10 19 rfl rfl)
theorem dX6_image_259 : decode cX6_image 259 = .ok (.iload_n 1, 1) := dk_27 (dk_at dksX6_image_10 22 rfl rfl)
theorem dX6_image_260 : decode cX6_image 260 = .ok (.aload_n 0, 1) := dk_42 (dk_at dksX6_image_10 23 rfl rfl)
theorem dX6_image_261 : decode cX6_image 261 = .ok (.getfield 141, 3) := dk_180 0 141 (dk_at dksX6_image_11 0 rfl rfl)
theorem dX6_image_264 : decode cX6_image 264 = .ok (.iload_n 1, 1) := dk_27 (dk_at dksX6_image_11 3 rfl rfl)
theorem dX6_image_265 : decode cX6_image 265 = .ok (.iaload, 1) := dk_46 (dk_at dksX6_image_11 4 rfl rfl)
theorem dX6_image_266 : decode cX6_image 266 = .ok (.iastore, 1) := dk_79 (dk_at dksX6_image_11 5 rfl rfl)
theorem dX6_image_267 : decode cX6_image 267 = .ok (.iinc 1 1, 3) := dk_132 1 1 (dk_at dksX6_image_11 6 rfl rfl)
theorem dX6_image_270 : decode cX6_image 270 = .ok (.goto (-33), 3) := dk_167 255 223 (dk_at dksX6_image_11 9 rfl rfl)
theorem dX6_image_273 : decode cX6_image 273 = .ok (.aload_n 0, 1) := dk_42 (dk_at dksX6_image_11 12 rfl rfl)
theorem dX6_image_274 : decode cX6_image 274 = .ok (.getfield 7, 3) := dk_180 0 7 (dk_at dksX6_image_11 13 rfl rfl)
theorem dX6_image_277 : decode cX6_image 277 = .ok (.ireturn, 1) := dk_172 (dk_at dksX6_image_11 16 rfl rfl)
abbrev cX6_undo : ByteArray := prog_23_method_80_code
def yX6_undo : MethodName := ⟨RX6, "undo", "()I"⟩
def dkwX6_undo_12 : List UInt8 := [172]
abbrev dktX6_undo_12 : List UInt8 := dkwX6_undo_12 ++ []
def dkwX6_undo_11 : List UInt8 := [46, 79, 42, 180, 0, 141, 27, 42, 180, 0, 205, 27, 46, 79, 132, 1, 1, 167, 255, 223, 42, 180, 0, 7]
abbrev dktX6_undo_11 : List UInt8 := dkwX6_undo_11 ++ dktX6_undo_12
def dkwX6_undo_10 : List UInt8 := [132, 1, 1, 167, 255, 236, 3, 60, 27, 16, 8, 162, 0, 33, 42, 180, 0, 138, 27, 42, 180, 0, 202, 27]
abbrev dktX6_undo_10 : List UInt8 := dkwX6_undo_10 ++ dktX6_undo_11
def dkwX6_undo_9 : List UInt8 := [167, 255, 224, 3, 60, 27, 8, 162, 0, 21, 42, 180, 0, 132, 27, 42, 180, 0, 199, 27, 46, 79]
abbrev dktX6_undo_9 : List UInt8 := dkwX6_undo_9 ++ dktX6_undo_10
def dkwX6_undo_8 : List UInt8 := [42, 180, 0, 193, 27, 46, 79, 42, 180, 0, 126, 27, 42, 180, 0, 196, 27, 46, 79, 132, 1, 1]
abbrev dktX6_undo_8 : List UInt8 := dkwX6_undo_8 ++ dktX6_undo_9
def dkwX6_undo_7 : List UInt8 := [180, 0, 190, 27, 46, 79, 132, 1, 1, 167, 255, 235, 3, 60, 27, 7, 162, 0, 33, 42, 180, 0, 123, 27]
abbrev dktX6_undo_7 : List UInt8 := dkwX6_undo_7 ++ dktX6_undo_8
def dkwX6_undo_6 : List UInt8 := [27, 46, 79, 132, 1, 1, 167, 255, 199, 3, 60, 27, 16, 24, 162, 0, 21, 42, 180, 0, 41, 27, 42]
abbrev dktX6_undo_6 : List UInt8 := dkwX6_undo_6 ++ dktX6_undo_7
def dkwX6_undo_5 : List UInt8 := [27, 46, 79, 42, 180, 0, 35, 27, 42, 180, 0, 184, 27, 46, 79, 42, 180, 0, 38, 27, 42, 180, 0, 187]
abbrev dktX6_undo_5 : List UInt8 := dkwX6_undo_5 ++ dktX6_undo_6
def dkwX6_undo_4 : List UInt8 := [162, 0, 57, 42, 180, 0, 28, 27, 42, 180, 0, 178, 27, 46, 79, 42, 180, 0, 32, 27, 42, 180, 0, 181]
abbrev dktX6_undo_4 : List UInt8 := dkwX6_undo_4 ++ dktX6_undo_5
def dkwX6_undo_3 : List UInt8 := [181, 0, 120, 42, 42, 180, 0, 172, 181, 0, 129, 42, 42, 180, 0, 175, 181, 0, 135, 3, 60, 27, 16, 6]
abbrev dktX6_undo_3 : List UInt8 := dkwX6_undo_3 ++ dktX6_undo_4
def dkwX6_undo_2 : List UInt8 := [181, 0, 19, 42, 42, 180, 0, 163, 181, 0, 22, 42, 42, 180, 0, 166, 181, 0, 25, 42, 42, 180, 0, 169]
abbrev dktX6_undo_2 : List UInt8 := dkwX6_undo_2 ++ dktX6_undo_3
def dkwX6_undo_1 : List UInt8 := [181, 0, 7, 42, 42, 180, 0, 154, 181, 0, 13, 42, 42, 180, 0, 157, 181, 0, 16, 42, 42, 180, 0, 160]
abbrev dktX6_undo_1 : List UInt8 := dkwX6_undo_1 ++ dktX6_undo_2
def dkwX6_undo_0 : List UInt8 := [42, 180, 0, 144, 154, 0, 6, 16, 253, 172, 42, 42, 180, 0, 148, 181, 0, 47, 42, 42, 180, 0, 151]
abbrev dktX6_undo_0 : List UInt8 := dkwX6_undo_0 ++ dktX6_undo_1
theorem dksX6_undo_0 : cX6_undo.data.toList.drop 0 = dktX6_undo_0 := by decide +kernel
theorem dksX6_undo_1 : cX6_undo.data.toList.drop 23 = dktX6_undo_1 := dk_seg dksX6_undo_0 23 rfl rfl
theorem dksX6_undo_2 : cX6_undo.data.toList.drop 47 = dktX6_undo_2 := dk_seg dksX6_undo_1 24 rfl rfl
theorem dksX6_undo_3 : cX6_undo.data.toList.drop 71 = dktX6_undo_3 := dk_seg dksX6_undo_2 24 rfl rfl
theorem dksX6_undo_4 : cX6_undo.data.toList.drop 95 = dktX6_undo_4 := dk_seg dksX6_undo_3 24 rfl rfl
theorem dksX6_undo_5 : cX6_undo.data.toList.drop 119 = dktX6_undo_5 := dk_seg dksX6_undo_4 24 rfl rfl
theorem dksX6_undo_6 : cX6_undo.data.toList.drop 143 = dktX6_undo_6 := dk_seg dksX6_undo_5 24 rfl rfl
theorem dksX6_undo_7 : cX6_undo.data.toList.drop 166 = dktX6_undo_7 := dk_seg dksX6_undo_6 23 rfl rfl
theorem dksX6_undo_8 : cX6_undo.data.toList.drop 190 = dktX6_undo_8 := dk_seg dksX6_undo_7 24 rfl rfl
theorem dksX6_undo_9 : cX6_undo.data.toList.drop 212 = dktX6_undo_9 := dk_seg dksX6_undo_8 22 rfl rfl
theorem dksX6_undo_10 : cX6_undo.data.toList.drop 234 = dktX6_undo_10 := dk_seg dksX6_undo_9 22 rfl rfl
theorem dksX6_undo_11 : cX6_undo.data.toList.drop 258 = dktX6_undo_11 := dk_seg dksX6_undo_10 24 rfl rfl
theorem dksX6_undo_12 : cX6_undo.data.toList.drop 282 = dktX6_undo_12 := dk_seg dksX6_undo_11 24 rfl rfl
theorem dX6_undo_0 : decode cX6_undo 0 = .ok (.aload_n 0, 1) := dk_42 (dk_at dksX6_undo_0 0 rfl rfl)
theorem dX6_undo_1 : decode cX6_undo 1 = .ok (.getfield 144, 3) := dk_180 0 144 (dk_at dksX6_undo_0 1 rfl rfl)
theorem dX6_undo_4 : decode cX6_undo 4 = .ok (.ifCond .ne 6, 3) := dk_154 0 6 (dk_at dksX6_undo_0 4 rfl rfl)
theorem dX6_undo_7 : decode cX6_undo 7 = .ok (.bipush (-3), 2) := dk_16 253 (dk_at dksX6_undo_0 7 rfl rfl)
theorem dX6_undo_9 : decode cX6_undo 9 = .ok (.ireturn, 1) := dk_172 (dk_at dksX6_undo_0 9 rfl rfl)
theorem dX6_undo_10 : decode cX6_undo 10 = .ok (.aload_n 0, 1) := dk_42 (dk_at dksX6_undo_0 10 rfl rfl)
theorem dX6_undo_11 : decode cX6_undo 11 = .ok (.aload_n 0, 1) := dk_42 (dk_at dksX6_undo_0 11 rfl rfl)
theorem dX6_undo_12 : decode cX6_undo 12 = .ok (.getfield 148, 3) := dk_180 0 148 (dk_at dksX6_undo_0 12 rfl rfl)
theorem dX6_undo_15 : decode cX6_undo 15 = .ok (.putfield 47, 3) := dk_181 0 47 (dk_at dksX6_undo_0 15 rfl rfl)
theorem dX6_undo_18 : decode cX6_undo 18 = .ok (.aload_n 0, 1) := dk_42 (dk_at dksX6_undo_0 18 rfl rfl)
theorem dX6_undo_19 : decode cX6_undo 19 = .ok (.aload_n 0, 1) := dk_42 (dk_at dksX6_undo_0 19 rfl rfl)
theorem dX6_undo_20 : decode cX6_undo 20 = .ok (.getfield 151, 3) := dk_180 0 151 (dk_at dksX6_undo_0 20 rfl rfl)
theorem dX6_undo_23 : decode cX6_undo 23 = .ok (.putfield 7, 3) := dk_181 0 7 (dk_at dksX6_undo_1 0 rfl rfl)
theorem dX6_undo_26 : decode cX6_undo 26 = .ok (.aload_n 0, 1) := dk_42 (dk_at dksX6_undo_1 3 rfl rfl)
theorem dX6_undo_27 : decode cX6_undo 27 = .ok (.aload_n 0, 1) := dk_42 (dk_at dksX6_undo_1 4 rfl rfl)
theorem dX6_undo_28 : decode cX6_undo 28 = .ok (.getfield 154, 3) := dk_180 0 154 (dk_at dksX6_undo_1 5 rfl rfl)
theorem dX6_undo_31 : decode cX6_undo 31 = .ok (.putfield 13, 3) := dk_181 0 13 (dk_at dksX6_undo_1 8 rfl rfl)
theorem dX6_undo_34 : decode cX6_undo 34 = .ok (.aload_n 0, 1) := dk_42 (dk_at dksX6_undo_1 11 rfl rfl)
theorem dX6_undo_35 : decode cX6_undo 35 = .ok (.aload_n 0, 1) := dk_42 (dk_at dksX6_undo_1 12 rfl rfl)
theorem dX6_undo_36 : decode cX6_undo 36 = .ok (.getfield 157, 3) := dk_180 0 157 (dk_at dksX6_undo_1 13 rfl rfl)
theorem dX6_undo_39 : decode cX6_undo 39 = .ok (.putfield 16, 3) := dk_181 0 16 (dk_at dksX6_undo_1 16 rfl rfl)
theorem dX6_undo_42 : decode cX6_undo 42 = .ok (.aload_n 0, 1) := dk_42 (dk_at dksX6_undo_1 19 rfl rfl)
theorem dX6_undo_43 : decode cX6_undo 43 = .ok (.aload_n 0, 1) := dk_42 (dk_at dksX6_undo_1 20 rfl rfl)
theorem dX6_undo_44 : decode cX6_undo 44 = .ok (.getfield 160, 3) := dk_180 0 160 (dk_at dksX6_undo_1 21 rfl rfl)
theorem dX6_undo_47 : decode cX6_undo 47 = .ok (.putfield 19, 3) := dk_181 0 19 (dk_at dksX6_undo_2 0 rfl rfl)
theorem dX6_undo_50 : decode cX6_undo 50 = .ok (.aload_n 0, 1) := dk_42 (dk_at dksX6_undo_2 3 rfl rfl)
theorem dX6_undo_51 : decode cX6_undo 51 = .ok (.aload_n 0, 1) := dk_42 (dk_at dksX6_undo_2 4 rfl rfl)
theorem dX6_undo_52 : decode cX6_undo 52 = .ok (.getfield 163, 3) := dk_180 0 163 (dk_at dksX6_undo_2 5 rfl rfl)
theorem dX6_undo_55 : decode cX6_undo 55 = .ok (.putfield 22, 3) := dk_181 0 22 (dk_at dksX6_undo_2 8 rfl rfl)
theorem dX6_undo_58 : decode cX6_undo 58 = .ok (.aload_n 0, 1) := dk_42 (dk_at dksX6_undo_2 11 rfl rfl)
theorem dX6_undo_59 : decode cX6_undo 59 = .ok (.aload_n 0, 1) := dk_42 (dk_at dksX6_undo_2 12 rfl rfl)
theorem dX6_undo_60 : decode cX6_undo 60 = .ok (.getfield 166, 3) := dk_180 0 166 (dk_at dksX6_undo_2 13 rfl rfl)
theorem dX6_undo_63 : decode cX6_undo 63 = .ok (.putfield 25, 3) := dk_181 0 25 (dk_at dksX6_undo_2 16 rfl rfl)
theorem dX6_undo_66 : decode cX6_undo 66 = .ok (.aload_n 0, 1) := dk_42 (dk_at dksX6_undo_2 19 rfl rfl)
theorem dX6_undo_67 : decode cX6_undo 67 = .ok (.aload_n 0, 1) := dk_42 (dk_at dksX6_undo_2 20 rfl rfl)
theorem dX6_undo_68 : decode cX6_undo 68 = .ok (.getfield 169, 3) := dk_180 0 169 (dk_at dksX6_undo_2 21 rfl rfl)
theorem dX6_undo_71 : decode cX6_undo 71 = .ok (.putfield 120, 3) := dk_181 0 120 (dk_at dksX6_undo_3 0 rfl rfl)
theorem dX6_undo_74 : decode cX6_undo 74 = .ok (.aload_n 0, 1) := dk_42 (dk_at dksX6_undo_3 3 rfl rfl)
theorem dX6_undo_75 : decode cX6_undo 75 = .ok (.aload_n 0, 1) := dk_42 (dk_at dksX6_undo_3 4 rfl rfl)
theorem dX6_undo_76 : decode cX6_undo 76 = .ok (.getfield 172, 3) := dk_180 0 172 (dk_at dksX6_undo_3 5 rfl rfl)
theorem dX6_undo_79 : decode cX6_undo 79 = .ok (.putfield 129, 3) := dk_181 0 129 (dk_at dksX6_undo_3 8 rfl rfl)
theorem dX6_undo_82 : decode cX6_undo 82 = .ok (.aload_n 0, 1) := dk_42 (dk_at dksX6_undo_3 11 rfl rfl)
theorem dX6_undo_83 : decode cX6_undo 83 = .ok (.aload_n 0, 1) := dk_42 (dk_at dksX6_undo_3 12 rfl rfl)
theorem dX6_undo_84 : decode cX6_undo 84 = .ok (.getfield 175, 3) := dk_180 0 175 (dk_at dksX6_undo_3 13 rfl rfl)
theorem dX6_undo_87 : decode cX6_undo 87 = .ok (.putfield 135, 3) := dk_181 0 135 (dk_at dksX6_undo_3 16 rfl rfl)
theorem dX6_undo_90 : decode cX6_undo 90 = .ok (.iconst 0, 1) := dk_3 (dk_at dksX6_undo_3 19 rfl rfl)
theorem dX6_undo_91 : decode cX6_undo 91 = .ok (.istore_n 1, 1) := dk_60 (dk_at dksX6_undo_3 20 rfl rfl)
theorem dX6_undo_92 : decode cX6_undo 92 = .ok (.iload_n 1, 1) := dk_27 (dk_at dksX6_undo_3 21 rfl rfl)
theorem dX6_undo_93 : decode cX6_undo 93 = .ok (.bipush 6, 2) := dk_16 6 (dk_at dksX6_undo_3 22 rfl rfl)
theorem dX6_undo_95 : decode cX6_undo 95 = .ok (.if_icmp .ge 57, 3) := dk_162 0 57 (dk_at dksX6_undo_4 0 rfl rfl)
theorem dX6_undo_98 : decode cX6_undo 98 = .ok (.aload_n 0, 1) := dk_42 (dk_at dksX6_undo_4 3 rfl rfl)
theorem dX6_undo_99 : decode cX6_undo 99 = .ok (.getfield 28, 3) := dk_180 0 28 (dk_at dksX6_undo_4 4 rfl rfl)
theorem dX6_undo_102 : decode cX6_undo 102 = .ok (.iload_n 1, 1) := dk_27 (dk_at dksX6_undo_4 7 rfl rfl)
theorem dX6_undo_103 : decode cX6_undo 103 = .ok (.aload_n 0, 1) := dk_42 (dk_at dksX6_undo_4 8 rfl rfl)
theorem dX6_undo_104 : decode cX6_undo 104 = .ok (.getfield 178, 3) := dk_180 0 178 (dk_at dksX6_undo_4 9 rfl rfl)
theorem dX6_undo_107 : decode cX6_undo 107 = .ok (.iload_n 1, 1) := dk_27 (dk_at dksX6_undo_4 12 rfl rfl)
theorem dX6_undo_108 : decode cX6_undo 108 = .ok (.iaload, 1) := dk_46 (dk_at dksX6_undo_4 13 rfl rfl)
theorem dX6_undo_109 : decode cX6_undo 109 = .ok (.iastore, 1) := dk_79 (dk_at dksX6_undo_4 14 rfl rfl)
theorem dX6_undo_110 : decode cX6_undo 110 = .ok (.aload_n 0, 1) := dk_42 (dk_at dksX6_undo_4 15 rfl rfl)
theorem dX6_undo_111 : decode cX6_undo 111 = .ok (.getfield 32, 3) := dk_180 0 32 (dk_at dksX6_undo_4 16 rfl rfl)
theorem dX6_undo_114 : decode cX6_undo 114 = .ok (.iload_n 1, 1) := dk_27 (dk_at dksX6_undo_4 19 rfl rfl)
theorem dX6_undo_115 : decode cX6_undo 115 = .ok (.aload_n 0, 1) := dk_42 (dk_at dksX6_undo_4 20 rfl rfl)
theorem dX6_undo_116 : decode cX6_undo 116 = .ok (.getfield 181, 3) := dk_180 0 181 (dk_at dksX6_undo_4 21 rfl rfl)
theorem dX6_undo_119 : decode cX6_undo 119 = .ok (.iload_n 1, 1) := dk_27 (dk_at dksX6_undo_5 0 rfl rfl)
theorem dX6_undo_120 : decode cX6_undo 120 = .ok (.iaload, 1) := dk_46 (dk_at dksX6_undo_5 1 rfl rfl)
theorem dX6_undo_121 : decode cX6_undo 121 = .ok (.iastore, 1) := dk_79 (dk_at dksX6_undo_5 2 rfl rfl)
theorem dX6_undo_122 : decode cX6_undo 122 = .ok (.aload_n 0, 1) := dk_42 (dk_at dksX6_undo_5 3 rfl rfl)
theorem dX6_undo_123 : decode cX6_undo 123 = .ok (.getfield 35, 3) := dk_180 0 35 (dk_at dksX6_undo_5 4 rfl rfl)
theorem dX6_undo_126 : decode cX6_undo 126 = .ok (.iload_n 1, 1) := dk_27 (dk_at dksX6_undo_5 7 rfl rfl)
theorem dX6_undo_127 : decode cX6_undo 127 = .ok (.aload_n 0, 1) := dk_42 (dk_at dksX6_undo_5 8 rfl rfl)
theorem dX6_undo_128 : decode cX6_undo 128 = .ok (.getfield 184, 3) := dk_180 0 184 (dk_at dksX6_undo_5 9 rfl rfl)
theorem dX6_undo_131 : decode cX6_undo 131 = .ok (.iload_n 1, 1) := dk_27 (dk_at dksX6_undo_5 12 rfl rfl)
theorem dX6_undo_132 : decode cX6_undo 132 = .ok (.iaload, 1) := dk_46 (dk_at dksX6_undo_5 13 rfl rfl)
theorem dX6_undo_133 : decode cX6_undo 133 = .ok (.iastore, 1) := dk_79 (dk_at dksX6_undo_5 14 rfl rfl)
theorem dX6_undo_134 : decode cX6_undo 134 = .ok (.aload_n 0, 1) := dk_42 (dk_at dksX6_undo_5 15 rfl rfl)
theorem dX6_undo_135 : decode cX6_undo 135 = .ok (.getfield 38, 3) := dk_180 0 38 (dk_at dksX6_undo_5 16 rfl rfl)
theorem dX6_undo_138 : decode cX6_undo 138 = .ok (.iload_n 1, 1) := dk_27 (dk_at dksX6_undo_5 19 rfl rfl)
theorem dX6_undo_139 : decode cX6_undo 139 = .ok (.aload_n 0, 1) := dk_42 (dk_at dksX6_undo_5 20 rfl rfl)
theorem dX6_undo_140 : decode cX6_undo 140 = .ok (.getfield 187, 3) := dk_180 0 187 (dk_at dksX6_undo_5 21 rfl rfl)
theorem dX6_undo_143 : decode cX6_undo 143 = .ok (.iload_n 1, 1) := dk_27 (dk_at dksX6_undo_6 0 rfl rfl)
theorem dX6_undo_144 : decode cX6_undo 144 = .ok (.iaload, 1) := dk_46 (dk_at dksX6_undo_6 1 rfl rfl)
theorem dX6_undo_145 : decode cX6_undo 145 = .ok (.iastore, 1) := dk_79 (dk_at dksX6_undo_6 2 rfl rfl)
theorem dX6_undo_146 : decode cX6_undo 146 = .ok (.iinc 1 1, 3) := dk_132 1 1 (dk_at dksX6_undo_6 3 rfl rfl)
theorem dX6_undo_149 : decode cX6_undo 149 = .ok (.goto (-57), 3) := dk_167 255 199 (dk_at dksX6_undo_6 6 rfl rfl)
theorem dX6_undo_152 : decode cX6_undo 152 = .ok (.iconst 0, 1) := dk_3 (dk_at dksX6_undo_6 9 rfl rfl)
theorem dX6_undo_153 : decode cX6_undo 153 = .ok (.istore_n 1, 1) := dk_60 (dk_at dksX6_undo_6 10 rfl rfl)
theorem dX6_undo_154 : decode cX6_undo 154 = .ok (.iload_n 1, 1) := dk_27 (dk_at dksX6_undo_6 11 rfl rfl)
theorem dX6_undo_155 : decode cX6_undo 155 = .ok (.bipush 24, 2) := dk_16 24 (dk_at dksX6_undo_6 12 rfl rfl)
theorem dX6_undo_157 : decode cX6_undo 157 = .ok (.if_icmp .ge 21, 3) := dk_162 0 21 (dk_at dksX6_undo_6 14 rfl rfl)
theorem dX6_undo_160 : decode cX6_undo 160 = .ok (.aload_n 0, 1) := dk_42 (dk_at dksX6_undo_6 17 rfl rfl)
theorem dX6_undo_161 : decode cX6_undo 161 = .ok (.getfield 41, 3) := dk_180 0 41 (dk_at dksX6_undo_6 18 rfl rfl)
theorem dX6_undo_164 : decode cX6_undo 164 = .ok (.iload_n 1, 1) := dk_27 (dk_at dksX6_undo_6 21 rfl rfl)
theorem dX6_undo_165 : decode cX6_undo 165 = .ok (.aload_n 0, 1) := dk_42 (dk_at dksX6_undo_6 22 rfl rfl)
theorem dX6_undo_166 : decode cX6_undo 166 = .ok (.getfield 190, 3) := dk_180 0 190 (dk_at dksX6_undo_7 0 rfl rfl)
theorem dX6_undo_169 : decode cX6_undo 169 = .ok (.iload_n 1, 1) := dk_27 (dk_at dksX6_undo_7 3 rfl rfl)
theorem dX6_undo_170 : decode cX6_undo 170 = .ok (.iaload, 1) := dk_46 (dk_at dksX6_undo_7 4 rfl rfl)
theorem dX6_undo_171 : decode cX6_undo 171 = .ok (.iastore, 1) := dk_79 (dk_at dksX6_undo_7 5 rfl rfl)
theorem dX6_undo_172 : decode cX6_undo 172 = .ok (.iinc 1 1, 3) := dk_132 1 1 (dk_at dksX6_undo_7 6 rfl rfl)
theorem dX6_undo_175 : decode cX6_undo 175 = .ok (.goto (-21), 3) := dk_167 255 235 (dk_at dksX6_undo_7 9 rfl rfl)
theorem dX6_undo_178 : decode cX6_undo 178 = .ok (.iconst 0, 1) := dk_3 (dk_at dksX6_undo_7 12 rfl rfl)
theorem dX6_undo_179 : decode cX6_undo 179 = .ok (.istore_n 1, 1) := dk_60 (dk_at dksX6_undo_7 13 rfl rfl)
theorem dX6_undo_180 : decode cX6_undo 180 = .ok (.iload_n 1, 1) := dk_27 (dk_at dksX6_undo_7 14 rfl rfl)
theorem dX6_undo_181 : decode cX6_undo 181 = .ok (.iconst 4, 1) := dk_7 (dk_at dksX6_undo_7 15 rfl rfl)
theorem dX6_undo_182 : decode cX6_undo 182 = .ok (.if_icmp .ge 33, 3) := dk_162 0 33 (dk_at dksX6_undo_7 16 rfl rfl)
theorem dX6_undo_185 : decode cX6_undo 185 = .ok (.aload_n 0, 1) := dk_42 (dk_at dksX6_undo_7 19 rfl rfl)
theorem dX6_undo_186 : decode cX6_undo 186 = .ok (.getfield 123, 3) := dk_180 0 123 (dk_at dksX6_undo_7 20 rfl rfl)
theorem dX6_undo_189 : decode cX6_undo 189 = .ok (.iload_n 1, 1) := dk_27 (dk_at dksX6_undo_7 23 rfl rfl)
theorem dX6_undo_190 : decode cX6_undo 190 = .ok (.aload_n 0, 1) := dk_42 (dk_at dksX6_undo_8 0 rfl rfl)
theorem dX6_undo_191 : decode cX6_undo 191 = .ok (.getfield 193, 3) := dk_180 0 193 (dk_at dksX6_undo_8 1 rfl rfl)
theorem dX6_undo_194 : decode cX6_undo 194 = .ok (.iload_n 1, 1) := dk_27 (dk_at dksX6_undo_8 4 rfl rfl)
theorem dX6_undo_195 : decode cX6_undo 195 = .ok (.iaload, 1) := dk_46 (dk_at dksX6_undo_8 5 rfl rfl)
theorem dX6_undo_196 : decode cX6_undo 196 = .ok (.iastore, 1) := dk_79 (dk_at dksX6_undo_8 6 rfl rfl)
theorem dX6_undo_197 : decode cX6_undo 197 = .ok (.aload_n 0, 1) := dk_42 (dk_at dksX6_undo_8 7 rfl rfl)
theorem dX6_undo_198 : decode cX6_undo 198 = .ok (.getfield 126, 3) := dk_180 0 126 (dk_at dksX6_undo_8 8 rfl rfl)
theorem dX6_undo_201 : decode cX6_undo 201 = .ok (.iload_n 1, 1) := dk_27 (dk_at dksX6_undo_8 11 rfl rfl)
theorem dX6_undo_202 : decode cX6_undo 202 = .ok (.aload_n 0, 1) := dk_42 (dk_at dksX6_undo_8 12 rfl rfl)
theorem dX6_undo_203 : decode cX6_undo 203 = .ok (.getfield 196, 3) := dk_180 0 196 (dk_at dksX6_undo_8 13 rfl rfl)
theorem dX6_undo_206 : decode cX6_undo 206 = .ok (.iload_n 1, 1) := dk_27 (dk_at dksX6_undo_8 16 rfl rfl)
theorem dX6_undo_207 : decode cX6_undo 207 = .ok (.iaload, 1) := dk_46 (dk_at dksX6_undo_8 17 rfl rfl)
theorem dX6_undo_208 : decode cX6_undo 208 = .ok (.iastore, 1) := dk_79 (dk_at dksX6_undo_8 18 rfl rfl)
theorem dX6_undo_209 : decode cX6_undo 209 = .ok (.iinc 1 1, 3) := dk_132 1 1 (dk_at dksX6_undo_8 19 rfl rfl)
theorem dX6_undo_212 : decode cX6_undo 212 = .ok (.goto (-32), 3) := dk_167 255 224 (dk_at dksX6_undo_9 0 rfl rfl)
theorem dX6_undo_215 : decode cX6_undo 215 = .ok (.iconst 0, 1) := dk_3 (dk_at dksX6_undo_9 3 rfl rfl)
theorem dX6_undo_216 : decode cX6_undo 216 = .ok (.istore_n 1, 1) := dk_60 (dk_at dksX6_undo_9 4 rfl rfl)
theorem dX6_undo_217 : decode cX6_undo 217 = .ok (.iload_n 1, 1) := dk_27 (dk_at dksX6_undo_9 5 rfl rfl)
theorem dX6_undo_218 : decode cX6_undo 218 = .ok (.iconst 5, 1) := dk_8 (dk_at dksX6_undo_9 6 rfl rfl)
theorem dX6_undo_219 : decode cX6_undo 219 = .ok (.if_icmp .ge 21, 3) := dk_162 0 21 (dk_at dksX6_undo_9 7 rfl rfl)
theorem dX6_undo_222 : decode cX6_undo 222 = .ok (.aload_n 0, 1) := dk_42 (dk_at dksX6_undo_9 10 rfl rfl)
theorem dX6_undo_223 : decode cX6_undo 223 = .ok (.getfield 132, 3) := dk_180 0 132 (dk_at dksX6_undo_9 11 rfl rfl)
theorem dX6_undo_226 : decode cX6_undo 226 = .ok (.iload_n 1, 1) := dk_27 (dk_at dksX6_undo_9 14 rfl rfl)
theorem dX6_undo_227 : decode cX6_undo 227 = .ok (.aload_n 0, 1) := dk_42 (dk_at dksX6_undo_9 15 rfl rfl)
theorem dX6_undo_228 : decode cX6_undo 228 = .ok (.getfield 199, 3) := dk_180 0 199 (dk_at dksX6_undo_9 16 rfl rfl)
theorem dX6_undo_231 : decode cX6_undo 231 = .ok (.iload_n 1, 1) := dk_27 (dk_at dksX6_undo_9 19 rfl rfl)
theorem dX6_undo_232 : decode cX6_undo 232 = .ok (.iaload, 1) := dk_46 (dk_at dksX6_undo_9 20 rfl rfl)
theorem dX6_undo_233 : decode cX6_undo 233 = .ok (.iastore, 1) := dk_79 (dk_at dksX6_undo_9 21 rfl rfl)
theorem dX6_undo_234 : decode cX6_undo 234 = .ok (.iinc 1 1, 3) := dk_132 1 1 (dk_at dksX6_undo_10 0 rfl rfl)
theorem dX6_undo_237 : decode cX6_undo 237 = .ok (.goto (-20), 3) := dk_167 255 236 (dk_at dksX6_undo_10 3 rfl rfl)
theorem dX6_undo_240 : decode cX6_undo 240 = .ok (.iconst 0, 1) := dk_3 (dk_at dksX6_undo_10 6 rfl rfl)
theorem dX6_undo_241 : decode cX6_undo 241 = .ok (.istore_n 1, 1) := dk_60 (dk_at dksX6_undo_10 7 rfl rfl)
theorem dX6_undo_242 : decode cX6_undo 242 = .ok (.iload_n 1, 1) := dk_27 (dk_at dksX6_undo_10 8 rfl rfl)
theorem dX6_undo_243 : decode cX6_undo 243 = .ok (.bipush 8, 2) := dk_16 8 (dk_at dksX6_undo_10 9 rfl rfl)
theorem dX6_undo_245 : decode cX6_undo 245 = .ok (.if_icmp .ge 33, 3) := dk_162 0 33 (dk_at dksX6_undo_10 11 rfl rfl)
theorem dX6_undo_248 : decode cX6_undo 248 = .ok (.aload_n 0, 1) := dk_42 (dk_at dksX6_undo_10 14 rfl rfl)
theorem dX6_undo_249 : decode cX6_undo 249 = .ok (.getfield 138, 3) := dk_180 0 138 (dk_at dksX6_undo_10 15 rfl rfl)
theorem dX6_undo_252 : decode cX6_undo 252 = .ok (.iload_n 1, 1) := dk_27 (dk_at dksX6_undo_10 18 rfl rfl)
theorem dX6_undo_253 : decode cX6_undo 253 = .ok (.aload_n 0, 1) := dk_42 (dk_at dksX6_undo_10 19 rfl rfl)
theorem dX6_undo_254 : decode cX6_undo 254 = .ok (.getfield 202, 3) := dk_180 0 202 (dk_at dksX6_undo_10 20 rfl rfl)
theorem dX6_undo_257 : decode cX6_undo 257 = .ok (.iload_n 1, 1) := dk_27 (dk_at dksX6_undo_10 23 rfl rfl)
theorem dX6_undo_258 : decode cX6_undo 258 = .ok (.iaload, 1) := dk_46 (dk_at dksX6_undo_11 0 rfl rfl)
theorem dX6_undo_259 : decode cX6_undo 259 = .ok (.iastore, 1) := dk_79 (dk_at dksX6_undo_11 1 rfl rfl)
theorem dX6_undo_260 : decode cX6_undo 260 = .ok (.aload_n 0, 1) := dk_42 (dk_at dksX6_undo_11 2 rfl rfl)
theorem dX6_undo_261 : decode cX6_undo 261 = .ok (.getfield 141, 3) := dk_180 0 141 (dk_at dksX6_undo_11 3 rfl rfl)
theorem dX6_undo_264 : decode cX6_undo 264 = .ok (.iload_n 1, 1) := dk_27 (dk_at dksX6_undo_11 6 rfl rfl)
theorem dX6_undo_265 : decode cX6_undo 265 = .ok (.aload_n 0, 1) := dk_42 (dk_at dksX6_undo_11 7 rfl rfl)
theorem dX6_undo_266 : decode cX6_undo 266 = .ok (.getfield 205, 3) := dk_180 0 205 (dk_at dksX6_undo_11 8 rfl rfl)
theorem dX6_undo_269 : decode cX6_undo 269 = .ok (.iload_n 1, 1) := dk_27 (dk_at dksX6_undo_11 11 rfl rfl)
theorem dX6_undo_270 : decode cX6_undo 270 = .ok (.iaload, 1) := dk_46 (dk_at dksX6_undo_11 12 rfl rfl)
theorem dX6_undo_271 : decode cX6_undo 271 = .ok (.iastore, 1) := dk_79 (dk_at dksX6_undo_11 13 rfl rfl)
theorem dX6_undo_272 : decode cX6_undo 272 = .ok (.iinc 1 1, 3) := dk_132 1 1 (dk_at dksX6_undo_11 14 rfl rfl)
theorem dX6_undo_275 : decode cX6_undo 275 = .ok (.goto (-33), 3) := dk_167 255 223 (dk_at dksX6_undo_11 17 rfl rfl)
theorem dX6_undo_278 : decode cX6_undo 278 = .ok (.aload_n 0, 1) := dk_42 (dk_at dksX6_undo_11 20 rfl rfl)
theorem dX6_undo_279 : decode cX6_undo 279 = .ok (.getfield 7, 3) := dk_180 0 7 (dk_at dksX6_undo_11 21 rfl rfl)
theorem dX6_undo_282 : decode cX6_undo 282 = .ok (.ireturn, 1) := dk_172 (dk_at dksX6_undo_12 0 rfl rfl)
abbrev cX6_act : ByteArray := prog_23_method_89_code
def yX6_act : MethodName := ⟨RX6, "act", "(III)I"⟩
def dkwX6_act_2 : List UInt8 := [182, 1, 135, 167, 0, 9, 42, 27, 29, 182, 1, 141, 172]
abbrev dktX6_act_2 : List UInt8 := dkwX6_act_2 ++ []
def dkwX6_act_1 : List UInt8 := [172, 28, 154, 0, 12, 42, 27, 29, 182, 1, 126, 167, 0, 23, 28, 4, 160, 0, 12, 42, 27, 29]
abbrev dktX6_act_1 : List UInt8 := dkwX6_act_1 ++ dktX6_act_2
def dkwX6_act_0 : List UInt8 := [42, 3, 181, 0, 208, 42, 27, 182, 0, 235, 153, 0, 13, 42, 28, 3, 5, 182, 0, 227, 154, 0, 5, 3]
abbrev dktX6_act_0 : List UInt8 := dkwX6_act_0 ++ dktX6_act_1
theorem dksX6_act_0 : cX6_act.data.toList.drop 0 = dktX6_act_0 := by decide +kernel
theorem dksX6_act_1 : cX6_act.data.toList.drop 24 = dktX6_act_1 := dk_seg dksX6_act_0 24 rfl rfl
theorem dksX6_act_2 : cX6_act.data.toList.drop 46 = dktX6_act_2 := dk_seg dksX6_act_1 22 rfl rfl
theorem dX6_act_0 : decode cX6_act 0 = .ok (.aload_n 0, 1) := dk_42 (dk_at dksX6_act_0 0 rfl rfl)
theorem dX6_act_1 : decode cX6_act 1 = .ok (.iconst 0, 1) := dk_3 (dk_at dksX6_act_0 1 rfl rfl)
theorem dX6_act_2 : decode cX6_act 2 = .ok (.putfield 208, 3) := dk_181 0 208 (dk_at dksX6_act_0 2 rfl rfl)
theorem dX6_act_5 : decode cX6_act 5 = .ok (.aload_n 0, 1) := dk_42 (dk_at dksX6_act_0 5 rfl rfl)
theorem dX6_act_6 : decode cX6_act 6 = .ok (.iload_n 1, 1) := dk_27 (dk_at dksX6_act_0 6 rfl rfl)
theorem dX6_act_7 : decode cX6_act 7 = .ok (.invokevirtual 235, 3) := dk_182 0 235 (dk_at dksX6_act_0 7 rfl rfl)
theorem dX6_act_10 : decode cX6_act 10 = .ok (.ifCond .eq 13, 3) := dk_153 0 13 (dk_at dksX6_act_0 10 rfl rfl)
theorem dX6_act_13 : decode cX6_act 13 = .ok (.aload_n 0, 1) := dk_42 (dk_at dksX6_act_0 13 rfl rfl)
theorem dX6_act_14 : decode cX6_act 14 = .ok (.iload_n 2, 1) := dk_28 (dk_at dksX6_act_0 14 rfl rfl)
theorem dX6_act_15 : decode cX6_act 15 = .ok (.iconst 0, 1) := dk_3 (dk_at dksX6_act_0 15 rfl rfl)
theorem dX6_act_16 : decode cX6_act 16 = .ok (.iconst 2, 1) := dk_5 (dk_at dksX6_act_0 16 rfl rfl)
theorem dX6_act_17 : decode cX6_act 17 = .ok (.invokevirtual 227, 3) := dk_182 0 227 (dk_at dksX6_act_0 17 rfl rfl)
theorem dX6_act_20 : decode cX6_act 20 = .ok (.ifCond .ne 5, 3) := dk_154 0 5 (dk_at dksX6_act_0 20 rfl rfl)
theorem dX6_act_23 : decode cX6_act 23 = .ok (.iconst 0, 1) := dk_3 (dk_at dksX6_act_0 23 rfl rfl)
theorem dX6_act_24 : decode cX6_act 24 = .ok (.ireturn, 1) := dk_172 (dk_at dksX6_act_1 0 rfl rfl)
theorem dX6_act_25 : decode cX6_act 25 = .ok (.iload_n 2, 1) := dk_28 (dk_at dksX6_act_1 1 rfl rfl)
theorem dX6_act_26 : decode cX6_act 26 = .ok (.ifCond .ne 12, 3) := dk_154 0 12 (dk_at dksX6_act_1 2 rfl rfl)
theorem dX6_act_29 : decode cX6_act 29 = .ok (.aload_n 0, 1) := dk_42 (dk_at dksX6_act_1 5 rfl rfl)
theorem dX6_act_30 : decode cX6_act 30 = .ok (.iload_n 1, 1) := dk_27 (dk_at dksX6_act_1 6 rfl rfl)
theorem dX6_act_31 : decode cX6_act 31 = .ok (.iload_n 3, 1) := dk_29 (dk_at dksX6_act_1 7 rfl rfl)
theorem dX6_act_32 : decode cX6_act 32 = .ok (.invokevirtual 382, 3) := dk_182 1 126 (dk_at dksX6_act_1 8 rfl rfl)
theorem dX6_act_35 : decode cX6_act 35 = .ok (.goto 23, 3) := dk_167 0 23 (dk_at dksX6_act_1 11 rfl rfl)
theorem dX6_act_38 : decode cX6_act 38 = .ok (.iload_n 2, 1) := dk_28 (dk_at dksX6_act_1 14 rfl rfl)
theorem dX6_act_39 : decode cX6_act 39 = .ok (.iconst 1, 1) := dk_4 (dk_at dksX6_act_1 15 rfl rfl)
theorem dX6_act_40 : decode cX6_act 40 = .ok (.if_icmp .ne 12, 3) := dk_160 0 12 (dk_at dksX6_act_1 16 rfl rfl)
theorem dX6_act_43 : decode cX6_act 43 = .ok (.aload_n 0, 1) := dk_42 (dk_at dksX6_act_1 19 rfl rfl)
theorem dX6_act_44 : decode cX6_act 44 = .ok (.iload_n 1, 1) := dk_27 (dk_at dksX6_act_1 20 rfl rfl)
theorem dX6_act_45 : decode cX6_act 45 = .ok (.iload_n 3, 1) := dk_29 (dk_at dksX6_act_1 21 rfl rfl)
theorem dX6_act_46 : decode cX6_act 46 = .ok (.invokevirtual 391, 3) := dk_182 1 135 (dk_at dksX6_act_2 0 rfl rfl)
theorem dX6_act_49 : decode cX6_act 49 = .ok (.goto 9, 3) := dk_167 0 9 (dk_at dksX6_act_2 3 rfl rfl)
theorem dX6_act_52 : decode cX6_act 52 = .ok (.aload_n 0, 1) := dk_42 (dk_at dksX6_act_2 6 rfl rfl)
theorem dX6_act_53 : decode cX6_act 53 = .ok (.iload_n 1, 1) := dk_27 (dk_at dksX6_act_2 7 rfl rfl)
theorem dX6_act_54 : decode cX6_act 54 = .ok (.iload_n 3, 1) := dk_29 (dk_at dksX6_act_2 8 rfl rfl)
theorem dX6_act_55 : decode cX6_act 55 = .ok (.invokevirtual 397, 3) := dk_182 1 141 (dk_at dksX6_act_2 9 rfl rfl)
theorem dX6_act_58 : decode cX6_act 58 = .ok (.ireturn, 1) := dk_172 (dk_at dksX6_act_2 12 rfl rfl)
abbrev cX6_turnsAct : ByteArray := prog_23_method_83_code
def yX6_turnsAct : MethodName := ⟨RX6, "turnsAct", "(II)I"⟩
def dkwX6_turnsAct_4 : List UInt8 := [172, 42, 27, 28, 182, 1, 123, 172]
abbrev dktX6_turnsAct_4 : List UInt8 := dkwX6_turnsAct_4 ++ []
def dkwX6_turnsAct_3 : List UInt8 := [182, 1, 123, 116, 172, 42, 16, 71, 182, 1, 120, 42, 27, 28, 182, 1, 123, 42, 180, 0, 32, 27, 46, 130]
abbrev dktX6_turnsAct_3 : List UInt8 := dkwX6_turnsAct_3 ++ dktX6_turnsAct_4
def dkwX6_turnsAct_2 : List UInt8 := [42, 16, 30, 182, 1, 120, 42, 27, 28, 6, 104, 182, 1, 123, 172, 42, 16, 50, 182, 1, 120, 42, 27, 28]
abbrev dktX6_turnsAct_2 : List UInt8 := dkwX6_turnsAct_2 ++ dktX6_turnsAct_3
def dkwX6_turnsAct_1 : List UInt8 := [170, 0, 0, 0, 0, 83, 0, 0, 0, 2, 0, 0, 0, 6, 0, 0, 0, 34, 0, 0, 0, 83, 0, 0, 0, 49, 0, 0, 0, 34, 0, 0, 0, 63]
abbrev dktX6_turnsAct_1 : List UInt8 := dkwX6_turnsAct_1 ++ dktX6_turnsAct_2
def dkwX6_turnsAct_0 : List UInt8 := [42, 180, 0, 28, 27, 46]
abbrev dktX6_turnsAct_0 : List UInt8 := dkwX6_turnsAct_0 ++ dktX6_turnsAct_1
theorem dksX6_turnsAct_0 : cX6_turnsAct.data.toList.drop 0 = dktX6_turnsAct_0 := by decide +kernel
theorem dksX6_turnsAct_1 : cX6_turnsAct.data.toList.drop 6 = dktX6_turnsAct_1 := dk_seg dksX6_turnsAct_0 6 rfl rfl
theorem dksX6_turnsAct_2 : cX6_turnsAct.data.toList.drop 40 = dktX6_turnsAct_2 := dk_seg dksX6_turnsAct_1 34 rfl rfl
theorem dksX6_turnsAct_3 : cX6_turnsAct.data.toList.drop 64 = dktX6_turnsAct_3 := dk_seg dksX6_turnsAct_2 24 rfl rfl
theorem dksX6_turnsAct_4 : cX6_turnsAct.data.toList.drop 88 = dktX6_turnsAct_4 := dk_seg dksX6_turnsAct_3 24 rfl rfl
theorem dX6_turnsAct_0 : decode cX6_turnsAct 0 = .ok (.aload_n 0, 1) := dk_42 (dk_at dksX6_turnsAct_0 0 rfl rfl)
theorem dX6_turnsAct_1 : decode cX6_turnsAct 1 = .ok (.getfield 28, 3) := dk_180 0 28 (dk_at dksX6_turnsAct_0 1 rfl rfl)
theorem dX6_turnsAct_4 : decode cX6_turnsAct 4 = .ok (.iload_n 1, 1) := dk_27 (dk_at dksX6_turnsAct_0 4 rfl rfl)
theorem dX6_turnsAct_5 : decode cX6_turnsAct 5 = .ok (.iaload, 1) := dk_46 (dk_at dksX6_turnsAct_0 5 rfl rfl)
theorem dX6_turnsAct_6 : decode cX6_turnsAct 6 = .ok (.tableswitch 83 2 6 #[34, 83, 49, 34, 63], 34) := by decide +kernel
theorem dX6_turnsAct_40 : decode cX6_turnsAct 40 = .ok (.aload_n 0, 1) := dk_42 (dk_at dksX6_turnsAct_2 0 rfl rfl)
theorem dX6_turnsAct_41 : decode cX6_turnsAct 41 = .ok (.bipush 30, 2) := dk_16 30 (dk_at dksX6_turnsAct_2 1 rfl rfl)
theorem dX6_turnsAct_43 : decode cX6_turnsAct 43 = .ok (.invokevirtual 376, 3) := dk_182 1 120 (dk_at dksX6_turnsAct_2 3 rfl rfl)
theorem dX6_turnsAct_46 : decode cX6_turnsAct 46 = .ok (.aload_n 0, 1) := dk_42 (dk_at dksX6_turnsAct_2 6 rfl rfl)
theorem dX6_turnsAct_47 : decode cX6_turnsAct 47 = .ok (.iload_n 1, 1) := dk_27 (dk_at dksX6_turnsAct_2 7 rfl rfl)
theorem dX6_turnsAct_48 : decode cX6_turnsAct 48 = .ok (.iload_n 2, 1) := dk_28 (dk_at dksX6_turnsAct_2 8 rfl rfl)
theorem dX6_turnsAct_49 : decode cX6_turnsAct 49 = .ok (.iconst 3, 1) := dk_6 (dk_at dksX6_turnsAct_2 9 rfl rfl)
theorem dX6_turnsAct_50 : decode cX6_turnsAct 50 = .ok (.imul, 1) := dk_104 (dk_at dksX6_turnsAct_2 10 rfl rfl)
theorem dX6_turnsAct_51 : decode cX6_turnsAct 51 = .ok (.invokevirtual 379, 3) := dk_182 1 123 (dk_at dksX6_turnsAct_2 11 rfl rfl)
theorem dX6_turnsAct_54 : decode cX6_turnsAct 54 = .ok (.ireturn, 1) := dk_172 (dk_at dksX6_turnsAct_2 14 rfl rfl)
theorem dX6_turnsAct_55 : decode cX6_turnsAct 55 = .ok (.aload_n 0, 1) := dk_42 (dk_at dksX6_turnsAct_2 15 rfl rfl)
theorem dX6_turnsAct_56 : decode cX6_turnsAct 56 = .ok (.bipush 50, 2) := dk_16 50 (dk_at dksX6_turnsAct_2 16 rfl rfl)
theorem dX6_turnsAct_58 : decode cX6_turnsAct 58 = .ok (.invokevirtual 376, 3) := dk_182 1 120 (dk_at dksX6_turnsAct_2 18 rfl rfl)
theorem dX6_turnsAct_61 : decode cX6_turnsAct 61 = .ok (.aload_n 0, 1) := dk_42 (dk_at dksX6_turnsAct_2 21 rfl rfl)
theorem dX6_turnsAct_62 : decode cX6_turnsAct 62 = .ok (.iload_n 1, 1) := dk_27 (dk_at dksX6_turnsAct_2 22 rfl rfl)
theorem dX6_turnsAct_63 : decode cX6_turnsAct 63 = .ok (.iload_n 2, 1) := dk_28 (dk_at dksX6_turnsAct_2 23 rfl rfl)
theorem dX6_turnsAct_64 : decode cX6_turnsAct 64 = .ok (.invokevirtual 379, 3) := dk_182 1 123 (dk_at dksX6_turnsAct_3 0 rfl rfl)
theorem dX6_turnsAct_67 : decode cX6_turnsAct 67 = .ok (.ineg, 1) := dk_116 (dk_at dksX6_turnsAct_3 3 rfl rfl)
theorem dX6_turnsAct_68 : decode cX6_turnsAct 68 = .ok (.ireturn, 1) := dk_172 (dk_at dksX6_turnsAct_3 4 rfl rfl)
theorem dX6_turnsAct_69 : decode cX6_turnsAct 69 = .ok (.aload_n 0, 1) := dk_42 (dk_at dksX6_turnsAct_3 5 rfl rfl)
theorem dX6_turnsAct_70 : decode cX6_turnsAct 70 = .ok (.bipush 71, 2) := dk_16 71 (dk_at dksX6_turnsAct_3 6 rfl rfl)
theorem dX6_turnsAct_72 : decode cX6_turnsAct 72 = .ok (.invokevirtual 376, 3) := dk_182 1 120 (dk_at dksX6_turnsAct_3 8 rfl rfl)
theorem dX6_turnsAct_75 : decode cX6_turnsAct 75 = .ok (.aload_n 0, 1) := dk_42 (dk_at dksX6_turnsAct_3 11 rfl rfl)
theorem dX6_turnsAct_76 : decode cX6_turnsAct 76 = .ok (.iload_n 1, 1) := dk_27 (dk_at dksX6_turnsAct_3 12 rfl rfl)
theorem dX6_turnsAct_77 : decode cX6_turnsAct 77 = .ok (.iload_n 2, 1) := dk_28 (dk_at dksX6_turnsAct_3 13 rfl rfl)
theorem dX6_turnsAct_78 : decode cX6_turnsAct 78 = .ok (.invokevirtual 379, 3) := dk_182 1 123 (dk_at dksX6_turnsAct_3 14 rfl rfl)
theorem dX6_turnsAct_81 : decode cX6_turnsAct 81 = .ok (.aload_n 0, 1) := dk_42 (dk_at dksX6_turnsAct_3 17 rfl rfl)
theorem dX6_turnsAct_82 : decode cX6_turnsAct 82 = .ok (.getfield 32, 3) := dk_180 0 32 (dk_at dksX6_turnsAct_3 18 rfl rfl)
theorem dX6_turnsAct_85 : decode cX6_turnsAct 85 = .ok (.iload_n 1, 1) := dk_27 (dk_at dksX6_turnsAct_3 21 rfl rfl)
theorem dX6_turnsAct_86 : decode cX6_turnsAct 86 = .ok (.iaload, 1) := dk_46 (dk_at dksX6_turnsAct_3 22 rfl rfl)
theorem dX6_turnsAct_87 : decode cX6_turnsAct 87 = .ok (.ixor, 1) := dk_130 (dk_at dksX6_turnsAct_3 23 rfl rfl)
theorem dX6_turnsAct_88 : decode cX6_turnsAct 88 = .ok (.ireturn, 1) := dk_172 (dk_at dksX6_turnsAct_4 0 rfl rfl)
theorem dX6_turnsAct_89 : decode cX6_turnsAct 89 = .ok (.aload_n 0, 1) := dk_42 (dk_at dksX6_turnsAct_4 1 rfl rfl)
theorem dX6_turnsAct_90 : decode cX6_turnsAct 90 = .ok (.iload_n 1, 1) := dk_27 (dk_at dksX6_turnsAct_4 2 rfl rfl)
theorem dX6_turnsAct_91 : decode cX6_turnsAct 91 = .ok (.iload_n 2, 1) := dk_28 (dk_at dksX6_turnsAct_4 3 rfl rfl)
theorem dX6_turnsAct_92 : decode cX6_turnsAct 92 = .ok (.invokevirtual 379, 3) := dk_182 1 123 (dk_at dksX6_turnsAct_4 4 rfl rfl)
theorem dX6_turnsAct_95 : decode cX6_turnsAct 95 = .ok (.ireturn, 1) := dk_172 (dk_at dksX6_turnsAct_4 7 rfl rfl)
abbrev cX6_body : ByteArray := prog_23_method_81_code
def yX6_body : MethodName := ⟨RX6, "body", "(I)V"⟩
def dkwX6_body_1 : List UInt8 := [4, 96, 181, 0, 208, 177]
abbrev dktX6_body_1 : List UInt8 := dkwX6_body_1 ++ []
def dkwX6_body_0 : List UInt8 := [42, 180, 0, 208, 16, 20, 162, 0, 13, 42, 180, 0, 211, 42, 180, 0, 208, 27, 79, 42, 89, 180, 0, 208]
abbrev dktX6_body_0 : List UInt8 := dkwX6_body_0 ++ dktX6_body_1
theorem dksX6_body_0 : cX6_body.data.toList.drop 0 = dktX6_body_0 := by decide +kernel
theorem dksX6_body_1 : cX6_body.data.toList.drop 24 = dktX6_body_1 := dk_seg dksX6_body_0 24 rfl rfl
theorem dX6_body_0 : decode cX6_body 0 = .ok (.aload_n 0, 1) := dk_42 (dk_at dksX6_body_0 0 rfl rfl)
theorem dX6_body_1 : decode cX6_body 1 = .ok (.getfield 208, 3) := dk_180 0 208 (dk_at dksX6_body_0 1 rfl rfl)
theorem dX6_body_4 : decode cX6_body 4 = .ok (.bipush 20, 2) := dk_16 20 (dk_at dksX6_body_0 4 rfl rfl)
theorem dX6_body_6 : decode cX6_body 6 = .ok (.if_icmp .ge 13, 3) := dk_162 0 13 (dk_at dksX6_body_0 6 rfl rfl)
theorem dX6_body_9 : decode cX6_body 9 = .ok (.aload_n 0, 1) := dk_42 (dk_at dksX6_body_0 9 rfl rfl)
theorem dX6_body_10 : decode cX6_body 10 = .ok (.getfield 211, 3) := dk_180 0 211 (dk_at dksX6_body_0 10 rfl rfl)
theorem dX6_body_13 : decode cX6_body 13 = .ok (.aload_n 0, 1) := dk_42 (dk_at dksX6_body_0 13 rfl rfl)
theorem dX6_body_14 : decode cX6_body 14 = .ok (.getfield 208, 3) := dk_180 0 208 (dk_at dksX6_body_0 14 rfl rfl)
theorem dX6_body_17 : decode cX6_body 17 = .ok (.iload_n 1, 1) := dk_27 (dk_at dksX6_body_0 17 rfl rfl)
theorem dX6_body_18 : decode cX6_body 18 = .ok (.iastore, 1) := dk_79 (dk_at dksX6_body_0 18 rfl rfl)
theorem dX6_body_19 : decode cX6_body 19 = .ok (.aload_n 0, 1) := dk_42 (dk_at dksX6_body_0 19 rfl rfl)
theorem dX6_body_20 : decode cX6_body 20 = .ok (.dup, 1) := dk_89 (dk_at dksX6_body_0 20 rfl rfl)
theorem dX6_body_21 : decode cX6_body 21 = .ok (.getfield 208, 3) := dk_180 0 208 (dk_at dksX6_body_0 21 rfl rfl)
theorem dX6_body_24 : decode cX6_body 24 = .ok (.iconst 1, 1) := dk_4 (dk_at dksX6_body_1 0 rfl rfl)
theorem dX6_body_25 : decode cX6_body 25 = .ok (.iadd, 1) := dk_96 (dk_at dksX6_body_1 1 rfl rfl)
theorem dX6_body_26 : decode cX6_body 26 = .ok (.putfield 208, 3) := dk_181 0 208 (dk_at dksX6_body_1 2 rfl rfl)
theorem dX6_body_29 : decode cX6_body 29 = .ok (.return_, 1) := dk_177 (dk_at dksX6_body_1 5 rfl rfl)
abbrev cX6_liftTurns : ByteArray := prog_23_method_82_code
def yX6_liftTurns : MethodName := ⟨RX6, "liftTurns", "(II)I"⟩
def dkwX6_liftTurns_0 : List UInt8 := [42, 16, 10, 182, 1, 120, 28, 27, 96, 172]
abbrev dktX6_liftTurns_0 : List UInt8 := dkwX6_liftTurns_0 ++ []
theorem dksX6_liftTurns_0 : cX6_liftTurns.data.toList.drop 0 = dktX6_liftTurns_0 := by decide +kernel
theorem dX6_liftTurns_0 : decode cX6_liftTurns 0 = .ok (.aload_n 0, 1) := dk_42 (dk_at dksX6_liftTurns_0 0 rfl rfl)
theorem dX6_liftTurns_1 : decode cX6_liftTurns 1 = .ok (.bipush 10, 2) := dk_16 10 (dk_at dksX6_liftTurns_0 1 rfl rfl)
theorem dX6_liftTurns_3 : decode cX6_liftTurns 3 = .ok (.invokevirtual 376, 3) := dk_182 1 120 (dk_at dksX6_liftTurns_0 3 rfl rfl)
theorem dX6_liftTurns_6 : decode cX6_liftTurns 6 = .ok (.iload_n 2, 1) := dk_28 (dk_at dksX6_liftTurns_0 6 rfl rfl)
theorem dX6_liftTurns_7 : decode cX6_liftTurns 7 = .ok (.iload_n 1, 1) := dk_27 (dk_at dksX6_liftTurns_0 7 rfl rfl)
theorem dX6_liftTurns_8 : decode cX6_liftTurns 8 = .ok (.iadd, 1) := dk_96 (dk_at dksX6_liftTurns_0 8 rfl rfl)
theorem dX6_liftTurns_9 : decode cX6_liftTurns 9 = .ok (.ireturn, 1) := dk_172 (dk_at dksX6_liftTurns_0 9 rfl rfl)
abbrev cX6_climbsAct : ByteArray := prog_23_method_86_code
def yX6_climbsAct : MethodName := ⟨RX6, "climbsAct", "(II)I"⟩
def dkwX6_climbsAct_4 : List UInt8 := [182, 1, 129, 172]
abbrev dktX6_climbsAct_4 : List UInt8 := dkwX6_climbsAct_4 ++ []
def dkwX6_climbsAct_3 : List UInt8 := [16, 70, 182, 1, 120, 42, 27, 28, 182, 1, 129, 62, 29, 42, 27, 5, 182, 1, 123, 96, 172, 42, 27, 28]
abbrev dktX6_climbsAct_3 : List UInt8 := dkwX6_climbsAct_3 ++ dktX6_climbsAct_4
def dkwX6_climbsAct_2 : List UInt8 := [42, 27, 28, 182, 1, 132, 172, 42, 16, 51, 182, 1, 120, 42, 27, 28, 4, 96, 182, 1, 132, 172, 42]
abbrev dktX6_climbsAct_2 : List UInt8 := dkwX6_climbsAct_2 ++ dktX6_climbsAct_3
def dkwX6_climbsAct_1 : List UInt8 := [171, 0, 0, 0, 0, 78, 0, 0, 0, 3, 0, 0, 0, 1, 0, 0, 0, 34, 0, 0, 0, 4, 0, 0, 0, 41, 0, 0, 0, 6, 0, 0, 0, 56]
abbrev dktX6_climbsAct_1 : List UInt8 := dkwX6_climbsAct_1 ++ dktX6_climbsAct_2
def dkwX6_climbsAct_0 : List UInt8 := [42, 180, 0, 28, 27, 46]
abbrev dktX6_climbsAct_0 : List UInt8 := dkwX6_climbsAct_0 ++ dktX6_climbsAct_1
theorem dksX6_climbsAct_0 : cX6_climbsAct.data.toList.drop 0 = dktX6_climbsAct_0 := by decide +kernel
theorem dksX6_climbsAct_1 : cX6_climbsAct.data.toList.drop 6 = dktX6_climbsAct_1 := dk_seg dksX6_climbsAct_0 6 rfl rfl
theorem dksX6_climbsAct_2 : cX6_climbsAct.data.toList.drop 40 = dktX6_climbsAct_2 := dk_seg dksX6_climbsAct_1 34 rfl rfl
theorem dksX6_climbsAct_3 : cX6_climbsAct.data.toList.drop 63 = dktX6_climbsAct_3 := dk_seg dksX6_climbsAct_2 23 rfl rfl
theorem dksX6_climbsAct_4 : cX6_climbsAct.data.toList.drop 87 = dktX6_climbsAct_4 := dk_seg dksX6_climbsAct_3 24 rfl rfl
theorem dX6_climbsAct_0 : decode cX6_climbsAct 0 = .ok (.aload_n 0, 1) := dk_42 (dk_at dksX6_climbsAct_0 0 rfl rfl)
theorem dX6_climbsAct_1 : decode cX6_climbsAct 1 = .ok (.getfield 28, 3) := dk_180 0 28 (dk_at dksX6_climbsAct_0 1 rfl rfl)
theorem dX6_climbsAct_4 : decode cX6_climbsAct 4 = .ok (.iload_n 1, 1) := dk_27 (dk_at dksX6_climbsAct_0 4 rfl rfl)
theorem dX6_climbsAct_5 : decode cX6_climbsAct 5 = .ok (.iaload, 1) := dk_46 (dk_at dksX6_climbsAct_0 5 rfl rfl)
theorem dX6_climbsAct_6 : decode cX6_climbsAct 6 = .ok (.lookupswitch 78 #[(1, 34), (4, 41), (6, 56)], 34) := by decide +kernel
theorem dX6_climbsAct_40 : decode cX6_climbsAct 40 = .ok (.aload_n 0, 1) := dk_42 (dk_at dksX6_climbsAct_2 0 rfl rfl)
theorem dX6_climbsAct_41 : decode cX6_climbsAct 41 = .ok (.iload_n 1, 1) := dk_27 (dk_at dksX6_climbsAct_2 1 rfl rfl)
theorem dX6_climbsAct_42 : decode cX6_climbsAct 42 = .ok (.iload_n 2, 1) := dk_28 (dk_at dksX6_climbsAct_2 2 rfl rfl)
theorem dX6_climbsAct_43 : decode cX6_climbsAct 43 = .ok (.invokevirtual 388, 3) := dk_182 1 132 (dk_at dksX6_climbsAct_2 3 rfl rfl)
theorem dX6_climbsAct_46 : decode cX6_climbsAct 46 = .ok (.ireturn, 1) := dk_172 (dk_at dksX6_climbsAct_2 6 rfl rfl)
theorem dX6_climbsAct_47 : decode cX6_climbsAct 47 = .ok (.aload_n 0, 1) := dk_42 (dk_at dksX6_climbsAct_2 7 rfl rfl)
theorem dX6_climbsAct_48 : decode cX6_climbsAct 48 = .ok (.bipush 51, 2) := dk_16 51 (dk_at dksX6_climbsAct_2 8 rfl rfl)
theorem dX6_climbsAct_50 : decode cX6_climbsAct 50 = .ok (.invokevirtual 376, 3) := dk_182 1 120 (dk_at dksX6_climbsAct_2 10 rfl rfl)
theorem dX6_climbsAct_53 : decode cX6_climbsAct 53 = .ok (.aload_n 0, 1) := dk_42 (dk_at dksX6_climbsAct_2 13 rfl rfl)
theorem dX6_climbsAct_54 : decode cX6_climbsAct 54 = .ok (.iload_n 1, 1) := dk_27 (dk_at dksX6_climbsAct_2 14 rfl rfl)
theorem dX6_climbsAct_55 : decode cX6_climbsAct 55 = .ok (.iload_n 2, 1) := dk_28 (dk_at dksX6_climbsAct_2 15 rfl rfl)
theorem dX6_climbsAct_56 : decode cX6_climbsAct 56 = .ok (.iconst 1, 1) := dk_4 (dk_at dksX6_climbsAct_2 16 rfl rfl)
theorem dX6_climbsAct_57 : decode cX6_climbsAct 57 = .ok (.iadd, 1) := dk_96 (dk_at dksX6_climbsAct_2 17 rfl rfl)
theorem dX6_climbsAct_58 : decode cX6_climbsAct 58 = .ok (.invokevirtual 388, 3) := dk_182 1 132 (dk_at dksX6_climbsAct_2 18 rfl rfl)
theorem dX6_climbsAct_61 : decode cX6_climbsAct 61 = .ok (.ireturn, 1) := dk_172 (dk_at dksX6_climbsAct_2 21 rfl rfl)
theorem dX6_climbsAct_62 : decode cX6_climbsAct 62 = .ok (.aload_n 0, 1) := dk_42 (dk_at dksX6_climbsAct_2 22 rfl rfl)
theorem dX6_climbsAct_63 : decode cX6_climbsAct 63 = .ok (.bipush 70, 2) := dk_16 70 (dk_at dksX6_climbsAct_3 0 rfl rfl)
theorem dX6_climbsAct_65 : decode cX6_climbsAct 65 = .ok (.invokevirtual 376, 3) := dk_182 1 120 (dk_at dksX6_climbsAct_3 2 rfl rfl)
theorem dX6_climbsAct_68 : decode cX6_climbsAct 68 = .ok (.aload_n 0, 1) := dk_42 (dk_at dksX6_climbsAct_3 5 rfl rfl)
theorem dX6_climbsAct_69 : decode cX6_climbsAct 69 = .ok (.iload_n 1, 1) := dk_27 (dk_at dksX6_climbsAct_3 6 rfl rfl)
theorem dX6_climbsAct_70 : decode cX6_climbsAct 70 = .ok (.iload_n 2, 1) := dk_28 (dk_at dksX6_climbsAct_3 7 rfl rfl)
theorem dX6_climbsAct_71 : decode cX6_climbsAct 71 = .ok (.invokevirtual 385, 3) := dk_182 1 129 (dk_at dksX6_climbsAct_3 8 rfl rfl)
theorem dX6_climbsAct_74 : decode cX6_climbsAct 74 = .ok (.istore_n 3, 1) := dk_62 (dk_at dksX6_climbsAct_3 11 rfl rfl)
theorem dX6_climbsAct_75 : decode cX6_climbsAct 75 = .ok (.iload_n 3, 1) := dk_29 (dk_at dksX6_climbsAct_3 12 rfl rfl)
theorem dX6_climbsAct_76 : decode cX6_climbsAct 76 = .ok (.aload_n 0, 1) := dk_42 (dk_at dksX6_climbsAct_3 13 rfl rfl)
theorem dX6_climbsAct_77 : decode cX6_climbsAct 77 = .ok (.iload_n 1, 1) := dk_27 (dk_at dksX6_climbsAct_3 14 rfl rfl)
theorem dX6_climbsAct_78 : decode cX6_climbsAct 78 = .ok (.iconst 2, 1) := dk_5 (dk_at dksX6_climbsAct_3 15 rfl rfl)
theorem dX6_climbsAct_79 : decode cX6_climbsAct 79 = .ok (.invokevirtual 379, 3) := dk_182 1 123 (dk_at dksX6_climbsAct_3 16 rfl rfl)
theorem dX6_climbsAct_82 : decode cX6_climbsAct 82 = .ok (.iadd, 1) := dk_96 (dk_at dksX6_climbsAct_3 19 rfl rfl)
theorem dX6_climbsAct_83 : decode cX6_climbsAct 83 = .ok (.ireturn, 1) := dk_172 (dk_at dksX6_climbsAct_3 20 rfl rfl)
theorem dX6_climbsAct_84 : decode cX6_climbsAct 84 = .ok (.aload_n 0, 1) := dk_42 (dk_at dksX6_climbsAct_3 21 rfl rfl)
theorem dX6_climbsAct_85 : decode cX6_climbsAct 85 = .ok (.iload_n 1, 1) := dk_27 (dk_at dksX6_climbsAct_3 22 rfl rfl)
theorem dX6_climbsAct_86 : decode cX6_climbsAct 86 = .ok (.iload_n 2, 1) := dk_28 (dk_at dksX6_climbsAct_3 23 rfl rfl)
theorem dX6_climbsAct_87 : decode cX6_climbsAct 87 = .ok (.invokevirtual 385, 3) := dk_182 1 129 (dk_at dksX6_climbsAct_4 0 rfl rfl)
theorem dX6_climbsAct_90 : decode cX6_climbsAct 90 = .ok (.ireturn, 1) := dk_172 (dk_at dksX6_climbsAct_4 3 rfl rfl)
abbrev cX6_strongClimbs : ByteArray := prog_23_method_85_code
def yX6_strongClimbs : MethodName := ⟨RX6, "strongClimbs", "(II)I"⟩
def dkwX6_strongClimbs_0 : List UInt8 := [42, 16, 20, 182, 1, 120, 42, 27, 28, 182, 1, 129, 16, 6, 130, 172]
abbrev dktX6_strongClimbs_0 : List UInt8 := dkwX6_strongClimbs_0 ++ []
theorem dksX6_strongClimbs_0 : cX6_strongClimbs.data.toList.drop 0 = dktX6_strongClimbs_0 := by decide +kernel
theorem dX6_strongClimbs_0 : decode cX6_strongClimbs 0 = .ok (.aload_n 0, 1) := dk_42 (dk_at dksX6_strongClimbs_0 0 rfl rfl)
theorem dX6_strongClimbs_1 : decode cX6_strongClimbs 1 = .ok (.bipush 20, 2) := dk_16 20 (dk_at dksX6_strongClimbs_0 1 rfl rfl)
theorem dX6_strongClimbs_3 : decode cX6_strongClimbs 3 = .ok (.invokevirtual 376, 3) := dk_182 1 120 (dk_at dksX6_strongClimbs_0 3 rfl rfl)
theorem dX6_strongClimbs_6 : decode cX6_strongClimbs 6 = .ok (.aload_n 0, 1) := dk_42 (dk_at dksX6_strongClimbs_0 6 rfl rfl)
theorem dX6_strongClimbs_7 : decode cX6_strongClimbs 7 = .ok (.iload_n 1, 1) := dk_27 (dk_at dksX6_strongClimbs_0 7 rfl rfl)
theorem dX6_strongClimbs_8 : decode cX6_strongClimbs 8 = .ok (.iload_n 2, 1) := dk_28 (dk_at dksX6_strongClimbs_0 8 rfl rfl)
theorem dX6_strongClimbs_9 : decode cX6_strongClimbs 9 = .ok (.invokevirtual 385, 3) := dk_182 1 129 (dk_at dksX6_strongClimbs_0 9 rfl rfl)
theorem dX6_strongClimbs_12 : decode cX6_strongClimbs 12 = .ok (.bipush 6, 2) := dk_16 6 (dk_at dksX6_strongClimbs_0 12 rfl rfl)
theorem dX6_strongClimbs_14 : decode cX6_strongClimbs 14 = .ok (.ixor, 1) := dk_130 (dk_at dksX6_strongClimbs_0 14 rfl rfl)
theorem dX6_strongClimbs_15 : decode cX6_strongClimbs 15 = .ok (.ireturn, 1) := dk_172 (dk_at dksX6_strongClimbs_0 15 rfl rfl)
abbrev cX6_liftClimbs : ByteArray := prog_23_method_84_code
def yX6_liftClimbs : MethodName := ⟨RX6, "liftClimbs", "(II)I"⟩
def dkwX6_liftClimbs_0 : List UInt8 := [42, 16, 11, 182, 1, 120, 42, 27, 28, 182, 1, 126, 42, 180, 0, 32, 27, 46, 100, 172]
abbrev dktX6_liftClimbs_0 : List UInt8 := dkwX6_liftClimbs_0 ++ []
theorem dksX6_liftClimbs_0 : cX6_liftClimbs.data.toList.drop 0 = dktX6_liftClimbs_0 := by decide +kernel
theorem dX6_liftClimbs_0 : decode cX6_liftClimbs 0 = .ok (.aload_n 0, 1) := dk_42 (dk_at dksX6_liftClimbs_0 0 rfl rfl)
theorem dX6_liftClimbs_1 : decode cX6_liftClimbs 1 = .ok (.bipush 11, 2) := dk_16 11 (dk_at dksX6_liftClimbs_0 1 rfl rfl)
theorem dX6_liftClimbs_3 : decode cX6_liftClimbs 3 = .ok (.invokevirtual 376, 3) := dk_182 1 120 (dk_at dksX6_liftClimbs_0 3 rfl rfl)
theorem dX6_liftClimbs_6 : decode cX6_liftClimbs 6 = .ok (.aload_n 0, 1) := dk_42 (dk_at dksX6_liftClimbs_0 6 rfl rfl)
theorem dX6_liftClimbs_7 : decode cX6_liftClimbs 7 = .ok (.iload_n 1, 1) := dk_27 (dk_at dksX6_liftClimbs_0 7 rfl rfl)
theorem dX6_liftClimbs_8 : decode cX6_liftClimbs 8 = .ok (.iload_n 2, 1) := dk_28 (dk_at dksX6_liftClimbs_0 8 rfl rfl)
theorem dX6_liftClimbs_9 : decode cX6_liftClimbs 9 = .ok (.invokevirtual 382, 3) := dk_182 1 126 (dk_at dksX6_liftClimbs_0 9 rfl rfl)
theorem dX6_liftClimbs_12 : decode cX6_liftClimbs 12 = .ok (.aload_n 0, 1) := dk_42 (dk_at dksX6_liftClimbs_0 12 rfl rfl)
theorem dX6_liftClimbs_13 : decode cX6_liftClimbs 13 = .ok (.getfield 32, 3) := dk_180 0 32 (dk_at dksX6_liftClimbs_0 13 rfl rfl)
theorem dX6_liftClimbs_16 : decode cX6_liftClimbs 16 = .ok (.iload_n 1, 1) := dk_27 (dk_at dksX6_liftClimbs_0 16 rfl rfl)
theorem dX6_liftClimbs_17 : decode cX6_liftClimbs 17 = .ok (.iaload, 1) := dk_46 (dk_at dksX6_liftClimbs_0 17 rfl rfl)
theorem dX6_liftClimbs_18 : decode cX6_liftClimbs 18 = .ok (.isub, 1) := dk_100 (dk_at dksX6_liftClimbs_0 18 rfl rfl)
theorem dX6_liftClimbs_19 : decode cX6_liftClimbs 19 = .ok (.ireturn, 1) := dk_172 (dk_at dksX6_liftClimbs_0 19 rfl rfl)
abbrev cX6_tellsAct : ByteArray := prog_23_method_88_code
def yX6_tellsAct : MethodName := ⟨RX6, "tellsAct", "(II)I"⟩
def dkwX6_tellsAct_3 : List UInt8 := [16, 60, 182, 1, 120, 42, 27, 28, 27, 100, 182, 1, 138, 172, 42, 27, 28, 182, 1, 138, 172]
abbrev dktX6_tellsAct_3 : List UInt8 := dkwX6_tellsAct_3 ++ []
def dkwX6_tellsAct_2 : List UInt8 := [42, 16, 40, 182, 1, 120, 42, 27, 28, 182, 1, 138, 62, 29, 42, 27, 4, 182, 1, 135, 96, 172, 42]
abbrev dktX6_tellsAct_2 : List UInt8 := dkwX6_tellsAct_2 ++ dktX6_tellsAct_3
def dkwX6_tellsAct_1 : List UInt8 := [170, 0, 0, 0, 0, 67, 0, 0, 0, 3, 0, 0, 0, 6, 0, 0, 0, 30, 0, 0, 0, 67, 0, 0, 0, 52, 0, 0, 0, 30]
abbrev dktX6_tellsAct_1 : List UInt8 := dkwX6_tellsAct_1 ++ dktX6_tellsAct_2
def dkwX6_tellsAct_0 : List UInt8 := [42, 180, 0, 28, 27, 46]
abbrev dktX6_tellsAct_0 : List UInt8 := dkwX6_tellsAct_0 ++ dktX6_tellsAct_1
theorem dksX6_tellsAct_0 : cX6_tellsAct.data.toList.drop 0 = dktX6_tellsAct_0 := by decide +kernel
theorem dksX6_tellsAct_1 : cX6_tellsAct.data.toList.drop 6 = dktX6_tellsAct_1 := dk_seg dksX6_tellsAct_0 6 rfl rfl
theorem dksX6_tellsAct_2 : cX6_tellsAct.data.toList.drop 36 = dktX6_tellsAct_2 := dk_seg dksX6_tellsAct_1 30 rfl rfl
theorem dksX6_tellsAct_3 : cX6_tellsAct.data.toList.drop 59 = dktX6_tellsAct_3 := dk_seg dksX6_tellsAct_2 23 rfl rfl
theorem dX6_tellsAct_0 : decode cX6_tellsAct 0 = .ok (.aload_n 0, 1) := dk_42 (dk_at dksX6_tellsAct_0 0 rfl rfl)
theorem dX6_tellsAct_1 : decode cX6_tellsAct 1 = .ok (.getfield 28, 3) := dk_180 0 28 (dk_at dksX6_tellsAct_0 1 rfl rfl)
theorem dX6_tellsAct_4 : decode cX6_tellsAct 4 = .ok (.iload_n 1, 1) := dk_27 (dk_at dksX6_tellsAct_0 4 rfl rfl)
theorem dX6_tellsAct_5 : decode cX6_tellsAct 5 = .ok (.iaload, 1) := dk_46 (dk_at dksX6_tellsAct_0 5 rfl rfl)
theorem dX6_tellsAct_6 : decode cX6_tellsAct 6 = .ok (.tableswitch 67 3 6 #[30, 67, 52, 30], 30) := by decide +kernel
theorem dX6_tellsAct_36 : decode cX6_tellsAct 36 = .ok (.aload_n 0, 1) := dk_42 (dk_at dksX6_tellsAct_2 0 rfl rfl)
theorem dX6_tellsAct_37 : decode cX6_tellsAct 37 = .ok (.bipush 40, 2) := dk_16 40 (dk_at dksX6_tellsAct_2 1 rfl rfl)
theorem dX6_tellsAct_39 : decode cX6_tellsAct 39 = .ok (.invokevirtual 376, 3) := dk_182 1 120 (dk_at dksX6_tellsAct_2 3 rfl rfl)
theorem dX6_tellsAct_42 : decode cX6_tellsAct 42 = .ok (.aload_n 0, 1) := dk_42 (dk_at dksX6_tellsAct_2 6 rfl rfl)
theorem dX6_tellsAct_43 : decode cX6_tellsAct 43 = .ok (.iload_n 1, 1) := dk_27 (dk_at dksX6_tellsAct_2 7 rfl rfl)
theorem dX6_tellsAct_44 : decode cX6_tellsAct 44 = .ok (.iload_n 2, 1) := dk_28 (dk_at dksX6_tellsAct_2 8 rfl rfl)
theorem dX6_tellsAct_45 : decode cX6_tellsAct 45 = .ok (.invokevirtual 394, 3) := dk_182 1 138 (dk_at dksX6_tellsAct_2 9 rfl rfl)
theorem dX6_tellsAct_48 : decode cX6_tellsAct 48 = .ok (.istore_n 3, 1) := dk_62 (dk_at dksX6_tellsAct_2 12 rfl rfl)
theorem dX6_tellsAct_49 : decode cX6_tellsAct 49 = .ok (.iload_n 3, 1) := dk_29 (dk_at dksX6_tellsAct_2 13 rfl rfl)
theorem dX6_tellsAct_50 : decode cX6_tellsAct 50 = .ok (.aload_n 0, 1) := dk_42 (dk_at dksX6_tellsAct_2 14 rfl rfl)
theorem dX6_tellsAct_51 : decode cX6_tellsAct 51 = .ok (.iload_n 1, 1) := dk_27 (dk_at dksX6_tellsAct_2 15 rfl rfl)
theorem dX6_tellsAct_52 : decode cX6_tellsAct 52 = .ok (.iconst 1, 1) := dk_4 (dk_at dksX6_tellsAct_2 16 rfl rfl)
theorem dX6_tellsAct_53 : decode cX6_tellsAct 53 = .ok (.invokevirtual 391, 3) := dk_182 1 135 (dk_at dksX6_tellsAct_2 17 rfl rfl)
theorem dX6_tellsAct_56 : decode cX6_tellsAct 56 = .ok (.iadd, 1) := dk_96 (dk_at dksX6_tellsAct_2 20 rfl rfl)
theorem dX6_tellsAct_57 : decode cX6_tellsAct 57 = .ok (.ireturn, 1) := dk_172 (dk_at dksX6_tellsAct_2 21 rfl rfl)
theorem dX6_tellsAct_58 : decode cX6_tellsAct 58 = .ok (.aload_n 0, 1) := dk_42 (dk_at dksX6_tellsAct_2 22 rfl rfl)
theorem dX6_tellsAct_59 : decode cX6_tellsAct 59 = .ok (.bipush 60, 2) := dk_16 60 (dk_at dksX6_tellsAct_3 0 rfl rfl)
theorem dX6_tellsAct_61 : decode cX6_tellsAct 61 = .ok (.invokevirtual 376, 3) := dk_182 1 120 (dk_at dksX6_tellsAct_3 2 rfl rfl)
theorem dX6_tellsAct_64 : decode cX6_tellsAct 64 = .ok (.aload_n 0, 1) := dk_42 (dk_at dksX6_tellsAct_3 5 rfl rfl)
theorem dX6_tellsAct_65 : decode cX6_tellsAct 65 = .ok (.iload_n 1, 1) := dk_27 (dk_at dksX6_tellsAct_3 6 rfl rfl)
theorem dX6_tellsAct_66 : decode cX6_tellsAct 66 = .ok (.iload_n 2, 1) := dk_28 (dk_at dksX6_tellsAct_3 7 rfl rfl)
theorem dX6_tellsAct_67 : decode cX6_tellsAct 67 = .ok (.iload_n 1, 1) := dk_27 (dk_at dksX6_tellsAct_3 8 rfl rfl)
theorem dX6_tellsAct_68 : decode cX6_tellsAct 68 = .ok (.isub, 1) := dk_100 (dk_at dksX6_tellsAct_3 9 rfl rfl)
theorem dX6_tellsAct_69 : decode cX6_tellsAct 69 = .ok (.invokevirtual 394, 3) := dk_182 1 138 (dk_at dksX6_tellsAct_3 10 rfl rfl)
theorem dX6_tellsAct_72 : decode cX6_tellsAct 72 = .ok (.ireturn, 1) := dk_172 (dk_at dksX6_tellsAct_3 13 rfl rfl)
theorem dX6_tellsAct_73 : decode cX6_tellsAct 73 = .ok (.aload_n 0, 1) := dk_42 (dk_at dksX6_tellsAct_3 14 rfl rfl)
theorem dX6_tellsAct_74 : decode cX6_tellsAct 74 = .ok (.iload_n 1, 1) := dk_27 (dk_at dksX6_tellsAct_3 15 rfl rfl)
theorem dX6_tellsAct_75 : decode cX6_tellsAct 75 = .ok (.iload_n 2, 1) := dk_28 (dk_at dksX6_tellsAct_3 16 rfl rfl)
theorem dX6_tellsAct_76 : decode cX6_tellsAct 76 = .ok (.invokevirtual 394, 3) := dk_182 1 138 (dk_at dksX6_tellsAct_3 17 rfl rfl)
theorem dX6_tellsAct_79 : decode cX6_tellsAct 79 = .ok (.ireturn, 1) := dk_172 (dk_at dksX6_tellsAct_3 20 rfl rfl)
abbrev cX6_liftTells : ByteArray := prog_23_method_87_code
def yX6_liftTells : MethodName := ⟨RX6, "liftTells", "(II)I"⟩
def dkwX6_liftTells_0 : List UInt8 := [42, 16, 12, 182, 1, 120, 42, 27, 28, 182, 1, 135, 5, 104, 172]
abbrev dktX6_liftTells_0 : List UInt8 := dkwX6_liftTells_0 ++ []
theorem dksX6_liftTells_0 : cX6_liftTells.data.toList.drop 0 = dktX6_liftTells_0 := by decide +kernel
theorem dX6_liftTells_0 : decode cX6_liftTells 0 = .ok (.aload_n 0, 1) := dk_42 (dk_at dksX6_liftTells_0 0 rfl rfl)
theorem dX6_liftTells_1 : decode cX6_liftTells 1 = .ok (.bipush 12, 2) := dk_16 12 (dk_at dksX6_liftTells_0 1 rfl rfl)
theorem dX6_liftTells_3 : decode cX6_liftTells 3 = .ok (.invokevirtual 376, 3) := dk_182 1 120 (dk_at dksX6_liftTells_0 3 rfl rfl)
theorem dX6_liftTells_6 : decode cX6_liftTells 6 = .ok (.aload_n 0, 1) := dk_42 (dk_at dksX6_liftTells_0 6 rfl rfl)
theorem dX6_liftTells_7 : decode cX6_liftTells 7 = .ok (.iload_n 1, 1) := dk_27 (dk_at dksX6_liftTells_0 7 rfl rfl)
theorem dX6_liftTells_8 : decode cX6_liftTells 8 = .ok (.iload_n 2, 1) := dk_28 (dk_at dksX6_liftTells_0 8 rfl rfl)
theorem dX6_liftTells_9 : decode cX6_liftTells 9 = .ok (.invokevirtual 391, 3) := dk_182 1 135 (dk_at dksX6_liftTells_0 9 rfl rfl)
theorem dX6_liftTells_12 : decode cX6_liftTells 12 = .ok (.iconst 2, 1) := dk_5 (dk_at dksX6_liftTells_0 12 rfl rfl)
theorem dX6_liftTells_13 : decode cX6_liftTells 13 = .ok (.imul, 1) := dk_104 (dk_at dksX6_liftTells_0 13 rfl rfl)
theorem dX6_liftTells_14 : decode cX6_liftTells 14 = .ok (.ireturn, 1) := dk_172 (dk_at dksX6_liftTells_0 14 rfl rfl)
abbrev cX6_trace : ByteArray := prog_23_method_90_code
def yX6_trace : MethodName := ⟨RX6, "trace", "(I)I"⟩
def dkwX6_trace_1 : List UInt8 := [46, 167, 0, 4, 2, 172]
abbrev dktX6_trace_1 : List UInt8 := dkwX6_trace_1 ++ []
def dkwX6_trace_0 : List UInt8 := [42, 27, 3, 16, 19, 182, 0, 227, 153, 0, 20, 27, 42, 180, 0, 208, 162, 0, 12, 42, 180, 0, 211, 27]
abbrev dktX6_trace_0 : List UInt8 := dkwX6_trace_0 ++ dktX6_trace_1
theorem dksX6_trace_0 : cX6_trace.data.toList.drop 0 = dktX6_trace_0 := by decide +kernel
theorem dksX6_trace_1 : cX6_trace.data.toList.drop 24 = dktX6_trace_1 := dk_seg dksX6_trace_0 24 rfl rfl
theorem dX6_trace_0 : decode cX6_trace 0 = .ok (.aload_n 0, 1) := dk_42 (dk_at dksX6_trace_0 0 rfl rfl)
theorem dX6_trace_1 : decode cX6_trace 1 = .ok (.iload_n 1, 1) := dk_27 (dk_at dksX6_trace_0 1 rfl rfl)
theorem dX6_trace_2 : decode cX6_trace 2 = .ok (.iconst 0, 1) := dk_3 (dk_at dksX6_trace_0 2 rfl rfl)
theorem dX6_trace_3 : decode cX6_trace 3 = .ok (.bipush 19, 2) := dk_16 19 (dk_at dksX6_trace_0 3 rfl rfl)
theorem dX6_trace_5 : decode cX6_trace 5 = .ok (.invokevirtual 227, 3) := dk_182 0 227 (dk_at dksX6_trace_0 5 rfl rfl)
theorem dX6_trace_8 : decode cX6_trace 8 = .ok (.ifCond .eq 20, 3) := dk_153 0 20 (dk_at dksX6_trace_0 8 rfl rfl)
theorem dX6_trace_11 : decode cX6_trace 11 = .ok (.iload_n 1, 1) := dk_27 (dk_at dksX6_trace_0 11 rfl rfl)
theorem dX6_trace_12 : decode cX6_trace 12 = .ok (.aload_n 0, 1) := dk_42 (dk_at dksX6_trace_0 12 rfl rfl)
theorem dX6_trace_13 : decode cX6_trace 13 = .ok (.getfield 208, 3) := dk_180 0 208 (dk_at dksX6_trace_0 13 rfl rfl)
theorem dX6_trace_16 : decode cX6_trace 16 = .ok (.if_icmp .ge 12, 3) := dk_162 0 12 (dk_at dksX6_trace_0 16 rfl rfl)
theorem dX6_trace_19 : decode cX6_trace 19 = .ok (.aload_n 0, 1) := dk_42 (dk_at dksX6_trace_0 19 rfl rfl)
theorem dX6_trace_20 : decode cX6_trace 20 = .ok (.getfield 211, 3) := dk_180 0 211 (dk_at dksX6_trace_0 20 rfl rfl)
theorem dX6_trace_23 : decode cX6_trace 23 = .ok (.iload_n 1, 1) := dk_27 (dk_at dksX6_trace_0 23 rfl rfl)
theorem dX6_trace_24 : decode cX6_trace 24 = .ok (.iaload, 1) := dk_46 (dk_at dksX6_trace_1 0 rfl rfl)
theorem dX6_trace_25 : decode cX6_trace 25 = .ok (.goto 4, 3) := dk_167 0 4 (dk_at dksX6_trace_1 1 rfl rfl)
theorem dX6_trace_28 : decode cX6_trace 28 = .ok (.iconst (-1), 1) := dk_2 (dk_at dksX6_trace_1 4 rfl rfl)
theorem dX6_trace_29 : decode cX6_trace 29 = .ok (.ireturn, 1) := dk_172 (dk_at dksX6_trace_1 5 rfl rfl)
abbrev cX6_taken : ByteArray := prog_23_method_91_code
def yX6_taken : MethodName := ⟨RX6, "taken", "(II)I"⟩
def dkwX6_taken_3 : List UInt8 := [29, 167, 0, 5, 16, 244, 172]
abbrev dktX6_taken_3 : List UInt8 := dkwX6_taken_3 ++ []
def dkwX6_taken_2 : List UInt8 := [159, 0, 24, 28, 5, 160, 0, 8, 29, 8, 159, 0, 14, 28, 6, 160, 0, 13, 29, 16, 6, 160, 0, 7]
abbrev dktX6_taken_2 : List UInt8 := dkwX6_taken_2 ++ dktX6_taken_3
def dkwX6_taken_1 : List UInt8 := [172, 42, 180, 0, 28, 27, 46, 62, 28, 153, 0, 39, 29, 28, 159, 0, 34, 28, 4, 160, 0, 8, 29, 7]
abbrev dktX6_taken_1 : List UInt8 := dkwX6_taken_1 ++ dktX6_taken_2
def dkwX6_taken_0 : List UInt8 := [42, 28, 3, 16, 6, 182, 0, 227, 154, 0, 6, 16, 254, 172, 42, 27, 182, 0, 235, 154, 0, 6, 16, 245]
abbrev dktX6_taken_0 : List UInt8 := dkwX6_taken_0 ++ dktX6_taken_1
theorem dksX6_taken_0 : cX6_taken.data.toList.drop 0 = dktX6_taken_0 := by decide +kernel
theorem dksX6_taken_1 : cX6_taken.data.toList.drop 24 = dktX6_taken_1 := dk_seg dksX6_taken_0 24 rfl rfl
theorem dksX6_taken_2 : cX6_taken.data.toList.drop 48 = dktX6_taken_2 := dk_seg dksX6_taken_1 24 rfl rfl
theorem dksX6_taken_3 : cX6_taken.data.toList.drop 72 = dktX6_taken_3 := dk_seg dksX6_taken_2 24 rfl rfl
theorem dX6_taken_0 : decode cX6_taken 0 = .ok (.aload_n 0, 1) := dk_42 (dk_at dksX6_taken_0 0 rfl rfl)
theorem dX6_taken_1 : decode cX6_taken 1 = .ok (.iload_n 2, 1) := dk_28 (dk_at dksX6_taken_0 1 rfl rfl)
theorem dX6_taken_2 : decode cX6_taken 2 = .ok (.iconst 0, 1) := dk_3 (dk_at dksX6_taken_0 2 rfl rfl)
theorem dX6_taken_3 : decode cX6_taken 3 = .ok (.bipush 6, 2) := dk_16 6 (dk_at dksX6_taken_0 3 rfl rfl)
theorem dX6_taken_5 : decode cX6_taken 5 = .ok (.invokevirtual 227, 3) := dk_182 0 227 (dk_at dksX6_taken_0 5 rfl rfl)
theorem dX6_taken_8 : decode cX6_taken 8 = .ok (.ifCond .ne 6, 3) := dk_154 0 6 (dk_at dksX6_taken_0 8 rfl rfl)
theorem dX6_taken_11 : decode cX6_taken 11 = .ok (.bipush (-2), 2) := dk_16 254 (dk_at dksX6_taken_0 11 rfl rfl)
theorem dX6_taken_13 : decode cX6_taken 13 = .ok (.ireturn, 1) := dk_172 (dk_at dksX6_taken_0 13 rfl rfl)
theorem dX6_taken_14 : decode cX6_taken 14 = .ok (.aload_n 0, 1) := dk_42 (dk_at dksX6_taken_0 14 rfl rfl)
theorem dX6_taken_15 : decode cX6_taken 15 = .ok (.iload_n 1, 1) := dk_27 (dk_at dksX6_taken_0 15 rfl rfl)
theorem dX6_taken_16 : decode cX6_taken 16 = .ok (.invokevirtual 235, 3) := dk_182 0 235 (dk_at dksX6_taken_0 16 rfl rfl)
theorem dX6_taken_19 : decode cX6_taken 19 = .ok (.ifCond .ne 6, 3) := dk_154 0 6 (dk_at dksX6_taken_0 19 rfl rfl)
theorem dX6_taken_22 : decode cX6_taken 22 = .ok (.bipush (-11), 2) := dk_16 245 (dk_at dksX6_taken_0 22 rfl rfl)
theorem dX6_taken_24 : decode cX6_taken 24 = .ok (.ireturn, 1) := dk_172 (dk_at dksX6_taken_1 0 rfl rfl)
theorem dX6_taken_25 : decode cX6_taken 25 = .ok (.aload_n 0, 1) := dk_42 (dk_at dksX6_taken_1 1 rfl rfl)
theorem dX6_taken_26 : decode cX6_taken 26 = .ok (.getfield 28, 3) := dk_180 0 28 (dk_at dksX6_taken_1 2 rfl rfl)
theorem dX6_taken_29 : decode cX6_taken 29 = .ok (.iload_n 1, 1) := dk_27 (dk_at dksX6_taken_1 5 rfl rfl)
theorem dX6_taken_30 : decode cX6_taken 30 = .ok (.iaload, 1) := dk_46 (dk_at dksX6_taken_1 6 rfl rfl)
theorem dX6_taken_31 : decode cX6_taken 31 = .ok (.istore_n 3, 1) := dk_62 (dk_at dksX6_taken_1 7 rfl rfl)
theorem dX6_taken_32 : decode cX6_taken 32 = .ok (.iload_n 2, 1) := dk_28 (dk_at dksX6_taken_1 8 rfl rfl)
theorem dX6_taken_33 : decode cX6_taken 33 = .ok (.ifCond .eq 39, 3) := dk_153 0 39 (dk_at dksX6_taken_1 9 rfl rfl)
theorem dX6_taken_36 : decode cX6_taken 36 = .ok (.iload_n 3, 1) := dk_29 (dk_at dksX6_taken_1 12 rfl rfl)
theorem dX6_taken_37 : decode cX6_taken 37 = .ok (.iload_n 2, 1) := dk_28 (dk_at dksX6_taken_1 13 rfl rfl)
theorem dX6_taken_38 : decode cX6_taken 38 = .ok (.if_icmp .eq 34, 3) := dk_159 0 34 (dk_at dksX6_taken_1 14 rfl rfl)
theorem dX6_taken_41 : decode cX6_taken 41 = .ok (.iload_n 2, 1) := dk_28 (dk_at dksX6_taken_1 17 rfl rfl)
theorem dX6_taken_42 : decode cX6_taken 42 = .ok (.iconst 1, 1) := dk_4 (dk_at dksX6_taken_1 18 rfl rfl)
theorem dX6_taken_43 : decode cX6_taken 43 = .ok (.if_icmp .ne 8, 3) := dk_160 0 8 (dk_at dksX6_taken_1 19 rfl rfl)
theorem dX6_taken_46 : decode cX6_taken 46 = .ok (.iload_n 3, 1) := dk_29 (dk_at dksX6_taken_1 22 rfl rfl)
theorem dX6_taken_47 : decode cX6_taken 47 = .ok (.iconst 4, 1) := dk_7 (dk_at dksX6_taken_1 23 rfl rfl)
theorem dX6_taken_48 : decode cX6_taken 48 = .ok (.if_icmp .eq 24, 3) := dk_159 0 24 (dk_at dksX6_taken_2 0 rfl rfl)
theorem dX6_taken_51 : decode cX6_taken 51 = .ok (.iload_n 2, 1) := dk_28 (dk_at dksX6_taken_2 3 rfl rfl)
theorem dX6_taken_52 : decode cX6_taken 52 = .ok (.iconst 2, 1) := dk_5 (dk_at dksX6_taken_2 4 rfl rfl)
theorem dX6_taken_53 : decode cX6_taken 53 = .ok (.if_icmp .ne 8, 3) := dk_160 0 8 (dk_at dksX6_taken_2 5 rfl rfl)
theorem dX6_taken_56 : decode cX6_taken 56 = .ok (.iload_n 3, 1) := dk_29 (dk_at dksX6_taken_2 8 rfl rfl)
theorem dX6_taken_57 : decode cX6_taken 57 = .ok (.iconst 5, 1) := dk_8 (dk_at dksX6_taken_2 9 rfl rfl)
theorem dX6_taken_58 : decode cX6_taken 58 = .ok (.if_icmp .eq 14, 3) := dk_159 0 14 (dk_at dksX6_taken_2 10 rfl rfl)
theorem dX6_taken_61 : decode cX6_taken 61 = .ok (.iload_n 2, 1) := dk_28 (dk_at dksX6_taken_2 13 rfl rfl)
theorem dX6_taken_62 : decode cX6_taken 62 = .ok (.iconst 3, 1) := dk_6 (dk_at dksX6_taken_2 14 rfl rfl)
theorem dX6_taken_63 : decode cX6_taken 63 = .ok (.if_icmp .ne 13, 3) := dk_160 0 13 (dk_at dksX6_taken_2 15 rfl rfl)
theorem dX6_taken_66 : decode cX6_taken 66 = .ok (.iload_n 3, 1) := dk_29 (dk_at dksX6_taken_2 18 rfl rfl)
theorem dX6_taken_67 : decode cX6_taken 67 = .ok (.bipush 6, 2) := dk_16 6 (dk_at dksX6_taken_2 19 rfl rfl)
theorem dX6_taken_69 : decode cX6_taken 69 = .ok (.if_icmp .ne 7, 3) := dk_160 0 7 (dk_at dksX6_taken_2 21 rfl rfl)
theorem dX6_taken_72 : decode cX6_taken 72 = .ok (.iload_n 3, 1) := dk_29 (dk_at dksX6_taken_3 0 rfl rfl)
theorem dX6_taken_73 : decode cX6_taken 73 = .ok (.goto 5, 3) := dk_167 0 5 (dk_at dksX6_taken_3 1 rfl rfl)
theorem dX6_taken_76 : decode cX6_taken 76 = .ok (.bipush (-12), 2) := dk_16 244 (dk_at dksX6_taken_3 4 rfl rfl)
theorem dX6_taken_78 : decode cX6_taken 78 = .ok (.ireturn, 1) := dk_172 (dk_at dksX6_taken_3 6 rfl rfl)
abbrev cX6_count : ByteArray := prog_23_method_92_code
def yX6_count : MethodName := ⟨RX6, "count", "(I)I"⟩
def dkwX6_count_3 : List UInt8 := [172, 42, 180, 0, 50, 172, 42, 180, 0, 208, 172, 16, 254, 172]
abbrev dktX6_count_3 : List UInt8 := dkwX6_count_3 ++ []
def dkwX6_count_2 : List UInt8 := [42, 180, 0, 7, 172, 42, 180, 0, 44, 172, 42, 180, 0, 120, 172, 42, 180, 0, 129, 172, 42, 180, 0, 135]
abbrev dktX6_count_2 : List UInt8 := dkwX6_count_2 ++ dktX6_count_3
def dkwX6_count_1 : List UInt8 := [170, 0, 0, 0, 0, 0, 78, 0, 0, 0, 0, 0, 0, 0, 6, 0, 0, 0, 43, 0, 0, 0, 48, 0, 0, 0, 53, 0, 0, 0, 58, 0, 0, 0, 63, 0, 0, 0, 68, 0, 0, 0, 73]
abbrev dktX6_count_1 : List UInt8 := dkwX6_count_1 ++ dktX6_count_2
def dkwX6_count_0 : List UInt8 := [27]
abbrev dktX6_count_0 : List UInt8 := dkwX6_count_0 ++ dktX6_count_1
theorem dksX6_count_0 : cX6_count.data.toList.drop 0 = dktX6_count_0 := by decide +kernel
theorem dksX6_count_1 : cX6_count.data.toList.drop 1 = dktX6_count_1 := dk_seg dksX6_count_0 1 rfl rfl
theorem dksX6_count_2 : cX6_count.data.toList.drop 44 = dktX6_count_2 := dk_seg dksX6_count_1 43 rfl rfl
theorem dksX6_count_3 : cX6_count.data.toList.drop 68 = dktX6_count_3 := dk_seg dksX6_count_2 24 rfl rfl
theorem dX6_count_0 : decode cX6_count 0 = .ok (.iload_n 1, 1) := dk_27 (dk_at dksX6_count_0 0 rfl rfl)
theorem dX6_count_1 : decode cX6_count 1 = .ok (.tableswitch 78 0 6 #[43, 48, 53, 58, 63, 68, 73], 43) := by decide +kernel
theorem dX6_count_44 : decode cX6_count 44 = .ok (.aload_n 0, 1) := dk_42 (dk_at dksX6_count_2 0 rfl rfl)
theorem dX6_count_45 : decode cX6_count 45 = .ok (.getfield 7, 3) := dk_180 0 7 (dk_at dksX6_count_2 1 rfl rfl)
theorem dX6_count_48 : decode cX6_count 48 = .ok (.ireturn, 1) := dk_172 (dk_at dksX6_count_2 4 rfl rfl)
theorem dX6_count_49 : decode cX6_count 49 = .ok (.aload_n 0, 1) := dk_42 (dk_at dksX6_count_2 5 rfl rfl)
theorem dX6_count_50 : decode cX6_count 50 = .ok (.getfield 44, 3) := dk_180 0 44 (dk_at dksX6_count_2 6 rfl rfl)
theorem dX6_count_53 : decode cX6_count 53 = .ok (.ireturn, 1) := dk_172 (dk_at dksX6_count_2 9 rfl rfl)
theorem dX6_count_54 : decode cX6_count 54 = .ok (.aload_n 0, 1) := dk_42 (dk_at dksX6_count_2 10 rfl rfl)
theorem dX6_count_55 : decode cX6_count 55 = .ok (.getfield 120, 3) := dk_180 0 120 (dk_at dksX6_count_2 11 rfl rfl)
theorem dX6_count_58 : decode cX6_count 58 = .ok (.ireturn, 1) := dk_172 (dk_at dksX6_count_2 14 rfl rfl)
theorem dX6_count_59 : decode cX6_count 59 = .ok (.aload_n 0, 1) := dk_42 (dk_at dksX6_count_2 15 rfl rfl)
theorem dX6_count_60 : decode cX6_count 60 = .ok (.getfield 129, 3) := dk_180 0 129 (dk_at dksX6_count_2 16 rfl rfl)
theorem dX6_count_63 : decode cX6_count 63 = .ok (.ireturn, 1) := dk_172 (dk_at dksX6_count_2 19 rfl rfl)
theorem dX6_count_64 : decode cX6_count 64 = .ok (.aload_n 0, 1) := dk_42 (dk_at dksX6_count_2 20 rfl rfl)
theorem dX6_count_65 : decode cX6_count 65 = .ok (.getfield 135, 3) := dk_180 0 135 (dk_at dksX6_count_2 21 rfl rfl)
theorem dX6_count_68 : decode cX6_count 68 = .ok (.ireturn, 1) := dk_172 (dk_at dksX6_count_3 0 rfl rfl)
theorem dX6_count_69 : decode cX6_count 69 = .ok (.aload_n 0, 1) := dk_42 (dk_at dksX6_count_3 1 rfl rfl)
theorem dX6_count_70 : decode cX6_count 70 = .ok (.getfield 50, 3) := dk_180 0 50 (dk_at dksX6_count_3 2 rfl rfl)
theorem dX6_count_73 : decode cX6_count 73 = .ok (.ireturn, 1) := dk_172 (dk_at dksX6_count_3 5 rfl rfl)
theorem dX6_count_74 : decode cX6_count 74 = .ok (.aload_n 0, 1) := dk_42 (dk_at dksX6_count_3 6 rfl rfl)
theorem dX6_count_75 : decode cX6_count 75 = .ok (.getfield 208, 3) := dk_180 0 208 (dk_at dksX6_count_3 7 rfl rfl)
theorem dX6_count_78 : decode cX6_count 78 = .ok (.ireturn, 1) := dk_172 (dk_at dksX6_count_3 10 rfl rfl)
theorem dX6_count_79 : decode cX6_count 79 = .ok (.bipush (-2), 2) := dk_16 254 (dk_at dksX6_count_3 11 rfl rfl)
theorem dX6_count_81 : decode cX6_count 81 = .ok (.ireturn, 1) := dk_172 (dk_at dksX6_count_3 13 rfl rfl)
abbrev cX6_tape : ByteArray := prog_23_method_94_code
def yX6_tape : MethodName := ⟨RX6, "tape", "(III)I"⟩
def dkwX6_tape_4 : List UInt8 := [4, 172]
abbrev dktX6_tape_4 : List UInt8 := dkwX6_tape_4 ++ []
def dkwX6_tape_3 : List UInt8 := [16, 60, 162, 0, 22, 42, 180, 0, 220, 16, 60, 27, 104, 21, 4, 96, 9, 80, 132, 4, 1, 167, 255, 233]
abbrev dktX6_tape_3 : List UInt8 := dkwX6_tape_3 ++ dktX6_tape_4
def dkwX6_tape_2 : List UInt8 := [27, 28, 79, 42, 180, 0, 217, 27, 28, 156, 0, 7, 3, 167, 0, 4, 29, 79, 3, 54, 4, 21, 4]
abbrev dktX6_tape_2 : List UInt8 := dkwX6_tape_2 ++ dktX6_tape_3
def dkwX6_tape_1 : List UInt8 := [29, 16, 60, 164, 0, 6, 16, 254, 172, 28, 155, 0, 10, 29, 156, 0, 6, 16, 242, 172, 42, 180, 0, 214]
abbrev dktX6_tape_1 : List UInt8 := dkwX6_tape_1 ++ dktX6_tape_2
def dkwX6_tape_0 : List UInt8 := [42, 27, 182, 1, 117, 154, 0, 5, 2, 172, 42, 28, 2, 7, 182, 0, 227, 153, 0, 13, 28, 155, 0, 12]
abbrev dktX6_tape_0 : List UInt8 := dkwX6_tape_0 ++ dktX6_tape_1
theorem dksX6_tape_0 : cX6_tape.data.toList.drop 0 = dktX6_tape_0 := by decide +kernel
theorem dksX6_tape_1 : cX6_tape.data.toList.drop 24 = dktX6_tape_1 := dk_seg dksX6_tape_0 24 rfl rfl
theorem dksX6_tape_2 : cX6_tape.data.toList.drop 48 = dktX6_tape_2 := dk_seg dksX6_tape_1 24 rfl rfl
theorem dksX6_tape_3 : cX6_tape.data.toList.drop 71 = dktX6_tape_3 := dk_seg dksX6_tape_2 23 rfl rfl
theorem dksX6_tape_4 : cX6_tape.data.toList.drop 95 = dktX6_tape_4 := dk_seg dksX6_tape_3 24 rfl rfl
theorem dX6_tape_0 : decode cX6_tape 0 = .ok (.aload_n 0, 1) := dk_42 (dk_at dksX6_tape_0 0 rfl rfl)
theorem dX6_tape_1 : decode cX6_tape 1 = .ok (.iload_n 1, 1) := dk_27 (dk_at dksX6_tape_0 1 rfl rfl)
theorem dX6_tape_2 : decode cX6_tape 2 = .ok (.invokevirtual 373, 3) := dk_182 1 117 (dk_at dksX6_tape_0 2 rfl rfl)
theorem dX6_tape_5 : decode cX6_tape 5 = .ok (.ifCond .ne 5, 3) := dk_154 0 5 (dk_at dksX6_tape_0 5 rfl rfl)
theorem dX6_tape_8 : decode cX6_tape 8 = .ok (.iconst (-1), 1) := dk_2 (dk_at dksX6_tape_0 8 rfl rfl)
theorem dX6_tape_9 : decode cX6_tape 9 = .ok (.ireturn, 1) := dk_172 (dk_at dksX6_tape_0 9 rfl rfl)
theorem dX6_tape_10 : decode cX6_tape 10 = .ok (.aload_n 0, 1) := dk_42 (dk_at dksX6_tape_0 10 rfl rfl)
theorem dX6_tape_11 : decode cX6_tape 11 = .ok (.iload_n 2, 1) := dk_28 (dk_at dksX6_tape_0 11 rfl rfl)
theorem dX6_tape_12 : decode cX6_tape 12 = .ok (.iconst (-1), 1) := dk_2 (dk_at dksX6_tape_0 12 rfl rfl)
theorem dX6_tape_13 : decode cX6_tape 13 = .ok (.iconst 4, 1) := dk_7 (dk_at dksX6_tape_0 13 rfl rfl)
theorem dX6_tape_14 : decode cX6_tape 14 = .ok (.invokevirtual 227, 3) := dk_182 0 227 (dk_at dksX6_tape_0 14 rfl rfl)
theorem dX6_tape_17 : decode cX6_tape 17 = .ok (.ifCond .eq 13, 3) := dk_153 0 13 (dk_at dksX6_tape_0 17 rfl rfl)
theorem dX6_tape_20 : decode cX6_tape 20 = .ok (.iload_n 2, 1) := dk_28 (dk_at dksX6_tape_0 20 rfl rfl)
theorem dX6_tape_21 : decode cX6_tape 21 = .ok (.ifCond .lt 12, 3) := dk_155 0 12 (dk_at dksX6_tape_0 21 rfl rfl)
theorem dX6_tape_24 : decode cX6_tape 24 = .ok (.iload_n 3, 1) := dk_29 (dk_at dksX6_tape_1 0 rfl rfl)
theorem dX6_tape_25 : decode cX6_tape 25 = .ok (.bipush 60, 2) := dk_16 60 (dk_at dksX6_tape_1 1 rfl rfl)
theorem dX6_tape_27 : decode cX6_tape 27 = .ok (.if_icmp .le 6, 3) := dk_164 0 6 (dk_at dksX6_tape_1 3 rfl rfl)
theorem dX6_tape_30 : decode cX6_tape 30 = .ok (.bipush (-2), 2) := dk_16 254 (dk_at dksX6_tape_1 6 rfl rfl)
theorem dX6_tape_32 : decode cX6_tape 32 = .ok (.ireturn, 1) := dk_172 (dk_at dksX6_tape_1 8 rfl rfl)
theorem dX6_tape_33 : decode cX6_tape 33 = .ok (.iload_n 2, 1) := dk_28 (dk_at dksX6_tape_1 9 rfl rfl)
theorem dX6_tape_34 : decode cX6_tape 34 = .ok (.ifCond .lt 10, 3) := dk_155 0 10 (dk_at dksX6_tape_1 10 rfl rfl)
theorem dX6_tape_37 : decode cX6_tape 37 = .ok (.iload_n 3, 1) := dk_29 (dk_at dksX6_tape_1 13 rfl rfl)
theorem dX6_tape_38 : decode cX6_tape 38 = .ok (.ifCond .ge 6, 3) := dk_156 0 6 (dk_at dksX6_tape_1 14 rfl rfl)
theorem dX6_tape_41 : decode cX6_tape 41 = .ok (.bipush (-14), 2) := dk_16 242 (dk_at dksX6_tape_1 17 rfl rfl)
theorem dX6_tape_43 : decode cX6_tape 43 = .ok (.ireturn, 1) := dk_172 (dk_at dksX6_tape_1 19 rfl rfl)
theorem dX6_tape_44 : decode cX6_tape 44 = .ok (.aload_n 0, 1) := dk_42 (dk_at dksX6_tape_1 20 rfl rfl)
theorem dX6_tape_45 : decode cX6_tape 45 = .ok (.getfield 214, 3) := dk_180 0 214 (dk_at dksX6_tape_1 21 rfl rfl)
theorem dX6_tape_48 : decode cX6_tape 48 = .ok (.iload_n 1, 1) := dk_27 (dk_at dksX6_tape_2 0 rfl rfl)
theorem dX6_tape_49 : decode cX6_tape 49 = .ok (.iload_n 2, 1) := dk_28 (dk_at dksX6_tape_2 1 rfl rfl)
theorem dX6_tape_50 : decode cX6_tape 50 = .ok (.iastore, 1) := dk_79 (dk_at dksX6_tape_2 2 rfl rfl)
theorem dX6_tape_51 : decode cX6_tape 51 = .ok (.aload_n 0, 1) := dk_42 (dk_at dksX6_tape_2 3 rfl rfl)
theorem dX6_tape_52 : decode cX6_tape 52 = .ok (.getfield 217, 3) := dk_180 0 217 (dk_at dksX6_tape_2 4 rfl rfl)
theorem dX6_tape_55 : decode cX6_tape 55 = .ok (.iload_n 1, 1) := dk_27 (dk_at dksX6_tape_2 7 rfl rfl)
theorem dX6_tape_56 : decode cX6_tape 56 = .ok (.iload_n 2, 1) := dk_28 (dk_at dksX6_tape_2 8 rfl rfl)
theorem dX6_tape_57 : decode cX6_tape 57 = .ok (.ifCond .ge 7, 3) := dk_156 0 7 (dk_at dksX6_tape_2 9 rfl rfl)
theorem dX6_tape_60 : decode cX6_tape 60 = .ok (.iconst 0, 1) := dk_3 (dk_at dksX6_tape_2 12 rfl rfl)
theorem dX6_tape_61 : decode cX6_tape 61 = .ok (.goto 4, 3) := dk_167 0 4 (dk_at dksX6_tape_2 13 rfl rfl)
theorem dX6_tape_64 : decode cX6_tape 64 = .ok (.iload_n 3, 1) := dk_29 (dk_at dksX6_tape_2 16 rfl rfl)
theorem dX6_tape_65 : decode cX6_tape 65 = .ok (.iastore, 1) := dk_79 (dk_at dksX6_tape_2 17 rfl rfl)
theorem dX6_tape_66 : decode cX6_tape 66 = .ok (.iconst 0, 1) := dk_3 (dk_at dksX6_tape_2 18 rfl rfl)
theorem dX6_tape_67 : decode cX6_tape 67 = .ok (.istore 4, 2) := dk_54 4 (dk_at dksX6_tape_2 19 rfl rfl)
theorem dX6_tape_69 : decode cX6_tape 69 = .ok (.iload 4, 2) := dk_21 4 (dk_at dksX6_tape_2 21 rfl rfl)
theorem dX6_tape_71 : decode cX6_tape 71 = .ok (.bipush 60, 2) := dk_16 60 (dk_at dksX6_tape_3 0 rfl rfl)
theorem dX6_tape_73 : decode cX6_tape 73 = .ok (.if_icmp .ge 22, 3) := dk_162 0 22 (dk_at dksX6_tape_3 2 rfl rfl)
theorem dX6_tape_76 : decode cX6_tape 76 = .ok (.aload_n 0, 1) := dk_42 (dk_at dksX6_tape_3 5 rfl rfl)
theorem dX6_tape_77 : decode cX6_tape 77 = .ok (.getfield 220, 3) := dk_180 0 220 (dk_at dksX6_tape_3 6 rfl rfl)
theorem dX6_tape_80 : decode cX6_tape 80 = .ok (.bipush 60, 2) := dk_16 60 (dk_at dksX6_tape_3 9 rfl rfl)
theorem dX6_tape_82 : decode cX6_tape 82 = .ok (.iload_n 1, 1) := dk_27 (dk_at dksX6_tape_3 11 rfl rfl)
theorem dX6_tape_83 : decode cX6_tape 83 = .ok (.imul, 1) := dk_104 (dk_at dksX6_tape_3 12 rfl rfl)
theorem dX6_tape_84 : decode cX6_tape 84 = .ok (.iload 4, 2) := dk_21 4 (dk_at dksX6_tape_3 13 rfl rfl)
theorem dX6_tape_86 : decode cX6_tape 86 = .ok (.iadd, 1) := dk_96 (dk_at dksX6_tape_3 15 rfl rfl)
theorem dX6_tape_87 : decode cX6_tape 87 = .ok (.lconst 0, 1) := dk_9 (dk_at dksX6_tape_3 16 rfl rfl)
theorem dX6_tape_88 : decode cX6_tape 88 = .ok (.lastore, 1) := dk_80 (dk_at dksX6_tape_3 17 rfl rfl)
theorem dX6_tape_89 : decode cX6_tape 89 = .ok (.iinc 4 1, 3) := dk_132 4 1 (dk_at dksX6_tape_3 18 rfl rfl)
theorem dX6_tape_92 : decode cX6_tape 92 = .ok (.goto (-23), 3) := dk_167 255 233 (dk_at dksX6_tape_3 21 rfl rfl)
theorem dX6_tape_95 : decode cX6_tape 95 = .ok (.iconst 1, 1) := dk_4 (dk_at dksX6_tape_4 0 rfl rfl)
theorem dX6_tape_96 : decode cX6_tape 96 = .ok (.ireturn, 1) := dk_172 (dk_at dksX6_tape_4 1 rfl rfl)
abbrev cX6_item : ByteArray := prog_23_method_96_code
def yX6_item : MethodName := ⟨RX6, "item", "(IIJ)I"⟩
def dkwX6_item_2 : List UInt8 := [27, 104, 28, 96, 42, 42, 180, 0, 214, 27, 46, 33, 182, 1, 144, 80, 4, 172]
abbrev dktX6_item_2 : List UInt8 := dkwX6_item_2 ++ []
def dkwX6_item_1 : List UInt8 := [3, 42, 180, 0, 217, 27, 46, 4, 100, 182, 0, 227, 154, 0, 6, 16, 243, 172, 42, 180, 0, 220, 16, 60]
abbrev dktX6_item_1 : List UInt8 := dkwX6_item_1 ++ dktX6_item_2
def dkwX6_item_0 : List UInt8 := [42, 27, 182, 1, 117, 154, 0, 5, 2, 172, 42, 180, 0, 214, 27, 46, 156, 0, 6, 16, 245, 172, 42, 28]
abbrev dktX6_item_0 : List UInt8 := dkwX6_item_0 ++ dktX6_item_1
theorem dksX6_item_0 : cX6_item.data.toList.drop 0 = dktX6_item_0 := by decide +kernel
theorem dksX6_item_1 : cX6_item.data.toList.drop 24 = dktX6_item_1 := dk_seg dksX6_item_0 24 rfl rfl
theorem dksX6_item_2 : cX6_item.data.toList.drop 48 = dktX6_item_2 := dk_seg dksX6_item_1 24 rfl rfl
theorem dX6_item_0 : decode cX6_item 0 = .ok (.aload_n 0, 1) := dk_42 (dk_at dksX6_item_0 0 rfl rfl)
theorem dX6_item_1 : decode cX6_item 1 = .ok (.iload_n 1, 1) := dk_27 (dk_at dksX6_item_0 1 rfl rfl)
theorem dX6_item_2 : decode cX6_item 2 = .ok (.invokevirtual 373, 3) := dk_182 1 117 (dk_at dksX6_item_0 2 rfl rfl)
theorem dX6_item_5 : decode cX6_item 5 = .ok (.ifCond .ne 5, 3) := dk_154 0 5 (dk_at dksX6_item_0 5 rfl rfl)
theorem dX6_item_8 : decode cX6_item 8 = .ok (.iconst (-1), 1) := dk_2 (dk_at dksX6_item_0 8 rfl rfl)
theorem dX6_item_9 : decode cX6_item 9 = .ok (.ireturn, 1) := dk_172 (dk_at dksX6_item_0 9 rfl rfl)
theorem dX6_item_10 : decode cX6_item 10 = .ok (.aload_n 0, 1) := dk_42 (dk_at dksX6_item_0 10 rfl rfl)
theorem dX6_item_11 : decode cX6_item 11 = .ok (.getfield 214, 3) := dk_180 0 214 (dk_at dksX6_item_0 11 rfl rfl)
theorem dX6_item_14 : decode cX6_item 14 = .ok (.iload_n 1, 1) := dk_27 (dk_at dksX6_item_0 14 rfl rfl)
theorem dX6_item_15 : decode cX6_item 15 = .ok (.iaload, 1) := dk_46 (dk_at dksX6_item_0 15 rfl rfl)
theorem dX6_item_16 : decode cX6_item 16 = .ok (.ifCond .ge 6, 3) := dk_156 0 6 (dk_at dksX6_item_0 16 rfl rfl)
theorem dX6_item_19 : decode cX6_item 19 = .ok (.bipush (-11), 2) := dk_16 245 (dk_at dksX6_item_0 19 rfl rfl)
theorem dX6_item_21 : decode cX6_item 21 = .ok (.ireturn, 1) := dk_172 (dk_at dksX6_item_0 21 rfl rfl)
theorem dX6_item_22 : decode cX6_item 22 = .ok (.aload_n 0, 1) := dk_42 (dk_at dksX6_item_0 22 rfl rfl)
theorem dX6_item_23 : decode cX6_item 23 = .ok (.iload_n 2, 1) := dk_28 (dk_at dksX6_item_0 23 rfl rfl)
theorem dX6_item_24 : decode cX6_item 24 = .ok (.iconst 0, 1) := dk_3 (dk_at dksX6_item_1 0 rfl rfl)
theorem dX6_item_25 : decode cX6_item 25 = .ok (.aload_n 0, 1) := dk_42 (dk_at dksX6_item_1 1 rfl rfl)
theorem dX6_item_26 : decode cX6_item 26 = .ok (.getfield 217, 3) := dk_180 0 217 (dk_at dksX6_item_1 2 rfl rfl)
theorem dX6_item_29 : decode cX6_item 29 = .ok (.iload_n 1, 1) := dk_27 (dk_at dksX6_item_1 5 rfl rfl)
theorem dX6_item_30 : decode cX6_item 30 = .ok (.iaload, 1) := dk_46 (dk_at dksX6_item_1 6 rfl rfl)
theorem dX6_item_31 : decode cX6_item 31 = .ok (.iconst 1, 1) := dk_4 (dk_at dksX6_item_1 7 rfl rfl)
theorem dX6_item_32 : decode cX6_item 32 = .ok (.isub, 1) := dk_100 (dk_at dksX6_item_1 8 rfl rfl)
theorem dX6_item_33 : decode cX6_item 33 = .ok (.invokevirtual 227, 3) := dk_182 0 227 (dk_at dksX6_item_1 9 rfl rfl)
theorem dX6_item_36 : decode cX6_item 36 = .ok (.ifCond .ne 6, 3) := dk_154 0 6 (dk_at dksX6_item_1 12 rfl rfl)
theorem dX6_item_39 : decode cX6_item 39 = .ok (.bipush (-13), 2) := dk_16 243 (dk_at dksX6_item_1 15 rfl rfl)
theorem dX6_item_41 : decode cX6_item 41 = .ok (.ireturn, 1) := dk_172 (dk_at dksX6_item_1 17 rfl rfl)
theorem dX6_item_42 : decode cX6_item 42 = .ok (.aload_n 0, 1) := dk_42 (dk_at dksX6_item_1 18 rfl rfl)
theorem dX6_item_43 : decode cX6_item 43 = .ok (.getfield 220, 3) := dk_180 0 220 (dk_at dksX6_item_1 19 rfl rfl)
theorem dX6_item_46 : decode cX6_item 46 = .ok (.bipush 60, 2) := dk_16 60 (dk_at dksX6_item_1 22 rfl rfl)
theorem dX6_item_48 : decode cX6_item 48 = .ok (.iload_n 1, 1) := dk_27 (dk_at dksX6_item_2 0 rfl rfl)
theorem dX6_item_49 : decode cX6_item 49 = .ok (.imul, 1) := dk_104 (dk_at dksX6_item_2 1 rfl rfl)
theorem dX6_item_50 : decode cX6_item 50 = .ok (.iload_n 2, 1) := dk_28 (dk_at dksX6_item_2 2 rfl rfl)
theorem dX6_item_51 : decode cX6_item 51 = .ok (.iadd, 1) := dk_96 (dk_at dksX6_item_2 3 rfl rfl)
theorem dX6_item_52 : decode cX6_item 52 = .ok (.aload_n 0, 1) := dk_42 (dk_at dksX6_item_2 4 rfl rfl)
theorem dX6_item_53 : decode cX6_item 53 = .ok (.aload_n 0, 1) := dk_42 (dk_at dksX6_item_2 5 rfl rfl)
theorem dX6_item_54 : decode cX6_item 54 = .ok (.getfield 214, 3) := dk_180 0 214 (dk_at dksX6_item_2 6 rfl rfl)
theorem dX6_item_57 : decode cX6_item 57 = .ok (.iload_n 1, 1) := dk_27 (dk_at dksX6_item_2 9 rfl rfl)
theorem dX6_item_58 : decode cX6_item 58 = .ok (.iaload, 1) := dk_46 (dk_at dksX6_item_2 10 rfl rfl)
theorem dX6_item_59 : decode cX6_item 59 = .ok (.lload_n 3, 1) := dk_33 (dk_at dksX6_item_2 11 rfl rfl)
theorem dX6_item_60 : decode cX6_item 60 = .ok (.invokevirtual 400, 3) := dk_182 1 144 (dk_at dksX6_item_2 12 rfl rfl)
theorem dX6_item_63 : decode cX6_item 63 = .ok (.lastore, 1) := dk_80 (dk_at dksX6_item_2 15 rfl rfl)
theorem dX6_item_64 : decode cX6_item 64 = .ok (.iconst 1, 1) := dk_4 (dk_at dksX6_item_2 16 rfl rfl)
theorem dX6_item_65 : decode cX6_item 65 = .ok (.ireturn, 1) := dk_172 (dk_at dksX6_item_2 17 rfl rfl)
abbrev cX6_narrow : ByteArray := prog_23_method_95_code
def yX6_narrow : MethodName := ⟨RX6, "narrow", "(IJ)J"⟩
def dkwX6_narrow_2 : List UInt8 := [167, 0, 8, 9, 167, 0, 4, 32, 173]
abbrev dktX6_narrow_2 : List UInt8 := dkwX6_narrow_2 ++ []
def dkwX6_narrow_1 : List UInt8 := [5, 160, 0, 9, 32, 136, 133, 167, 0, 23, 27, 7, 160, 0, 17, 32, 9, 148, 153, 0, 7, 10]
abbrev dktX6_narrow_1 : List UInt8 := dkwX6_narrow_1 ++ dktX6_narrow_2
def dkwX6_narrow_0 : List UInt8 := [27, 154, 0, 10, 32, 136, 145, 133, 167, 0, 46, 27, 4, 160, 0, 10, 32, 136, 147, 133, 167, 0, 34, 27]
abbrev dktX6_narrow_0 : List UInt8 := dkwX6_narrow_0 ++ dktX6_narrow_1
theorem dksX6_narrow_0 : cX6_narrow.data.toList.drop 0 = dktX6_narrow_0 := by decide +kernel
theorem dksX6_narrow_1 : cX6_narrow.data.toList.drop 24 = dktX6_narrow_1 := dk_seg dksX6_narrow_0 24 rfl rfl
theorem dksX6_narrow_2 : cX6_narrow.data.toList.drop 46 = dktX6_narrow_2 := dk_seg dksX6_narrow_1 22 rfl rfl
theorem dX6_narrow_0 : decode cX6_narrow 0 = .ok (.iload_n 1, 1) := dk_27 (dk_at dksX6_narrow_0 0 rfl rfl)
theorem dX6_narrow_1 : decode cX6_narrow 1 = .ok (.ifCond .ne 10, 3) := dk_154 0 10 (dk_at dksX6_narrow_0 1 rfl rfl)
theorem dX6_narrow_4 : decode cX6_narrow 4 = .ok (.lload_n 2, 1) := dk_32 (dk_at dksX6_narrow_0 4 rfl rfl)
theorem dX6_narrow_5 : decode cX6_narrow 5 = .ok (.l2i, 1) := dk_136 (dk_at dksX6_narrow_0 5 rfl rfl)
theorem dX6_narrow_6 : decode cX6_narrow 6 = .ok (.i2b, 1) := dk_145 (dk_at dksX6_narrow_0 6 rfl rfl)
theorem dX6_narrow_7 : decode cX6_narrow 7 = .ok (.i2l, 1) := dk_133 (dk_at dksX6_narrow_0 7 rfl rfl)
theorem dX6_narrow_8 : decode cX6_narrow 8 = .ok (.goto 46, 3) := dk_167 0 46 (dk_at dksX6_narrow_0 8 rfl rfl)
theorem dX6_narrow_11 : decode cX6_narrow 11 = .ok (.iload_n 1, 1) := dk_27 (dk_at dksX6_narrow_0 11 rfl rfl)
theorem dX6_narrow_12 : decode cX6_narrow 12 = .ok (.iconst 1, 1) := dk_4 (dk_at dksX6_narrow_0 12 rfl rfl)
theorem dX6_narrow_13 : decode cX6_narrow 13 = .ok (.if_icmp .ne 10, 3) := dk_160 0 10 (dk_at dksX6_narrow_0 13 rfl rfl)
theorem dX6_narrow_16 : decode cX6_narrow 16 = .ok (.lload_n 2, 1) := dk_32 (dk_at dksX6_narrow_0 16 rfl rfl)
theorem dX6_narrow_17 : decode cX6_narrow 17 = .ok (.l2i, 1) := dk_136 (dk_at dksX6_narrow_0 17 rfl rfl)
theorem dX6_narrow_18 : decode cX6_narrow 18 = .ok (.i2s, 1) := dk_147 (dk_at dksX6_narrow_0 18 rfl rfl)
theorem dX6_narrow_19 : decode cX6_narrow 19 = .ok (.i2l, 1) := dk_133 (dk_at dksX6_narrow_0 19 rfl rfl)
theorem dX6_narrow_20 : decode cX6_narrow 20 = .ok (.goto 34, 3) := dk_167 0 34 (dk_at dksX6_narrow_0 20 rfl rfl)
theorem dX6_narrow_23 : decode cX6_narrow 23 = .ok (.iload_n 1, 1) := dk_27 (dk_at dksX6_narrow_0 23 rfl rfl)
theorem dX6_narrow_24 : decode cX6_narrow 24 = .ok (.iconst 2, 1) := dk_5 (dk_at dksX6_narrow_1 0 rfl rfl)
theorem dX6_narrow_25 : decode cX6_narrow 25 = .ok (.if_icmp .ne 9, 3) := dk_160 0 9 (dk_at dksX6_narrow_1 1 rfl rfl)
theorem dX6_narrow_28 : decode cX6_narrow 28 = .ok (.lload_n 2, 1) := dk_32 (dk_at dksX6_narrow_1 4 rfl rfl)
theorem dX6_narrow_29 : decode cX6_narrow 29 = .ok (.l2i, 1) := dk_136 (dk_at dksX6_narrow_1 5 rfl rfl)
theorem dX6_narrow_30 : decode cX6_narrow 30 = .ok (.i2l, 1) := dk_133 (dk_at dksX6_narrow_1 6 rfl rfl)
theorem dX6_narrow_31 : decode cX6_narrow 31 = .ok (.goto 23, 3) := dk_167 0 23 (dk_at dksX6_narrow_1 7 rfl rfl)
theorem dX6_narrow_34 : decode cX6_narrow 34 = .ok (.iload_n 1, 1) := dk_27 (dk_at dksX6_narrow_1 10 rfl rfl)
theorem dX6_narrow_35 : decode cX6_narrow 35 = .ok (.iconst 4, 1) := dk_7 (dk_at dksX6_narrow_1 11 rfl rfl)
theorem dX6_narrow_36 : decode cX6_narrow 36 = .ok (.if_icmp .ne 17, 3) := dk_160 0 17 (dk_at dksX6_narrow_1 12 rfl rfl)
theorem dX6_narrow_39 : decode cX6_narrow 39 = .ok (.lload_n 2, 1) := dk_32 (dk_at dksX6_narrow_1 15 rfl rfl)
theorem dX6_narrow_40 : decode cX6_narrow 40 = .ok (.lconst 0, 1) := dk_9 (dk_at dksX6_narrow_1 16 rfl rfl)
theorem dX6_narrow_41 : decode cX6_narrow 41 = .ok (.lcmp, 1) := dk_148 (dk_at dksX6_narrow_1 17 rfl rfl)
theorem dX6_narrow_42 : decode cX6_narrow 42 = .ok (.ifCond .eq 7, 3) := dk_153 0 7 (dk_at dksX6_narrow_1 18 rfl rfl)
theorem dX6_narrow_45 : decode cX6_narrow 45 = .ok (.lconst 1, 1) := dk_10 (dk_at dksX6_narrow_1 21 rfl rfl)
theorem dX6_narrow_46 : decode cX6_narrow 46 = .ok (.goto 8, 3) := dk_167 0 8 (dk_at dksX6_narrow_2 0 rfl rfl)
theorem dX6_narrow_49 : decode cX6_narrow 49 = .ok (.lconst 0, 1) := dk_9 (dk_at dksX6_narrow_2 3 rfl rfl)
theorem dX6_narrow_50 : decode cX6_narrow 50 = .ok (.goto 4, 3) := dk_167 0 4 (dk_at dksX6_narrow_2 4 rfl rfl)
theorem dX6_narrow_53 : decode cX6_narrow 53 = .ok (.lload_n 2, 1) := dk_32 (dk_at dksX6_narrow_2 7 rfl rfl)
theorem dX6_narrow_54 : decode cX6_narrow 54 = .ok (.lreturn, 1) := dk_173 (dk_at dksX6_narrow_2 8 rfl rfl)
abbrev cX6_read : ByteArray := prog_23_method_97_code
def yX6_read : MethodName := ⟨RX6, "read", "(II)J"⟩
def dkwX6_read_2 : List UInt8 := [28, 96, 47, 173]
abbrev dktX6_read_2 : List UInt8 := dkwX6_read_2 ++ []
def dkwX6_read_1 : List UInt8 := [27, 46, 4, 100, 182, 0, 227, 154, 0, 9, 20, 1, 111, 167, 0, 14, 42, 180, 0, 220, 16, 60, 27, 104]
abbrev dktX6_read_1 : List UInt8 := dkwX6_read_1 ++ dktX6_read_2
def dkwX6_read_0 : List UInt8 := [42, 27, 182, 1, 117, 153, 0, 29, 42, 180, 0, 214, 27, 46, 155, 0, 20, 42, 28, 3, 42, 180, 0, 217]
abbrev dktX6_read_0 : List UInt8 := dkwX6_read_0 ++ dktX6_read_1
theorem dksX6_read_0 : cX6_read.data.toList.drop 0 = dktX6_read_0 := by decide +kernel
theorem dksX6_read_1 : cX6_read.data.toList.drop 24 = dktX6_read_1 := dk_seg dksX6_read_0 24 rfl rfl
theorem dksX6_read_2 : cX6_read.data.toList.drop 48 = dktX6_read_2 := dk_seg dksX6_read_1 24 rfl rfl
theorem dX6_read_0 : decode cX6_read 0 = .ok (.aload_n 0, 1) := dk_42 (dk_at dksX6_read_0 0 rfl rfl)
theorem dX6_read_1 : decode cX6_read 1 = .ok (.iload_n 1, 1) := dk_27 (dk_at dksX6_read_0 1 rfl rfl)
theorem dX6_read_2 : decode cX6_read 2 = .ok (.invokevirtual 373, 3) := dk_182 1 117 (dk_at dksX6_read_0 2 rfl rfl)
theorem dX6_read_5 : decode cX6_read 5 = .ok (.ifCond .eq 29, 3) := dk_153 0 29 (dk_at dksX6_read_0 5 rfl rfl)
theorem dX6_read_8 : decode cX6_read 8 = .ok (.aload_n 0, 1) := dk_42 (dk_at dksX6_read_0 8 rfl rfl)
theorem dX6_read_9 : decode cX6_read 9 = .ok (.getfield 214, 3) := dk_180 0 214 (dk_at dksX6_read_0 9 rfl rfl)
theorem dX6_read_12 : decode cX6_read 12 = .ok (.iload_n 1, 1) := dk_27 (dk_at dksX6_read_0 12 rfl rfl)
theorem dX6_read_13 : decode cX6_read 13 = .ok (.iaload, 1) := dk_46 (dk_at dksX6_read_0 13 rfl rfl)
theorem dX6_read_14 : decode cX6_read 14 = .ok (.ifCond .lt 20, 3) := dk_155 0 20 (dk_at dksX6_read_0 14 rfl rfl)
theorem dX6_read_17 : decode cX6_read 17 = .ok (.aload_n 0, 1) := dk_42 (dk_at dksX6_read_0 17 rfl rfl)
theorem dX6_read_18 : decode cX6_read 18 = .ok (.iload_n 2, 1) := dk_28 (dk_at dksX6_read_0 18 rfl rfl)
theorem dX6_read_19 : decode cX6_read 19 = .ok (.iconst 0, 1) := dk_3 (dk_at dksX6_read_0 19 rfl rfl)
theorem dX6_read_20 : decode cX6_read 20 = .ok (.aload_n 0, 1) := dk_42 (dk_at dksX6_read_0 20 rfl rfl)
theorem dX6_read_21 : decode cX6_read 21 = .ok (.getfield 217, 3) := dk_180 0 217 (dk_at dksX6_read_0 21 rfl rfl)
theorem dX6_read_24 : decode cX6_read 24 = .ok (.iload_n 1, 1) := dk_27 (dk_at dksX6_read_1 0 rfl rfl)
theorem dX6_read_25 : decode cX6_read 25 = .ok (.iaload, 1) := dk_46 (dk_at dksX6_read_1 1 rfl rfl)
theorem dX6_read_26 : decode cX6_read 26 = .ok (.iconst 1, 1) := dk_4 (dk_at dksX6_read_1 2 rfl rfl)
theorem dX6_read_27 : decode cX6_read 27 = .ok (.isub, 1) := dk_100 (dk_at dksX6_read_1 3 rfl rfl)
theorem dX6_read_28 : decode cX6_read 28 = .ok (.invokevirtual 227, 3) := dk_182 0 227 (dk_at dksX6_read_1 4 rfl rfl)
theorem dX6_read_31 : decode cX6_read 31 = .ok (.ifCond .ne 9, 3) := dk_154 0 9 (dk_at dksX6_read_1 7 rfl rfl)
theorem dX6_read_34 : decode cX6_read 34 = .ok (.ldc2_w 367, 3) := dk_20 1 111 (dk_at dksX6_read_1 10 rfl rfl)
theorem dX6_read_37 : decode cX6_read 37 = .ok (.goto 14, 3) := dk_167 0 14 (dk_at dksX6_read_1 13 rfl rfl)
theorem dX6_read_40 : decode cX6_read 40 = .ok (.aload_n 0, 1) := dk_42 (dk_at dksX6_read_1 16 rfl rfl)
theorem dX6_read_41 : decode cX6_read 41 = .ok (.getfield 220, 3) := dk_180 0 220 (dk_at dksX6_read_1 17 rfl rfl)
theorem dX6_read_44 : decode cX6_read 44 = .ok (.bipush 60, 2) := dk_16 60 (dk_at dksX6_read_1 20 rfl rfl)
theorem dX6_read_46 : decode cX6_read 46 = .ok (.iload_n 1, 1) := dk_27 (dk_at dksX6_read_1 22 rfl rfl)
theorem dX6_read_47 : decode cX6_read 47 = .ok (.imul, 1) := dk_104 (dk_at dksX6_read_1 23 rfl rfl)
theorem dX6_read_48 : decode cX6_read 48 = .ok (.iload_n 2, 1) := dk_28 (dk_at dksX6_read_2 0 rfl rfl)
theorem dX6_read_49 : decode cX6_read 49 = .ok (.iadd, 1) := dk_96 (dk_at dksX6_read_2 1 rfl rfl)
theorem dX6_read_50 : decode cX6_read 50 = .ok (.laload, 1) := dk_47 (dk_at dksX6_read_2 2 rfl rfl)
theorem dX6_read_51 : decode cX6_read 51 = .ok (.lreturn, 1) := dk_173 (dk_at dksX6_read_2 3 rfl rfl)
abbrev cX6_shift : ByteArray := prog_23_method_98_code
def yX6_shift : MethodName := ⟨RX6, "shift", "(IIIII)I"⟩
def dkwX6_shift_7 : List UInt8 := [180, 0, 224, 21, 6, 47, 80, 132, 6, 1, 167, 255, 224, 21, 5, 172]
abbrev dktX6_shift_7 : List UInt8 := dkwX6_shift_7 ++ []
def dkwX6_shift_6 : List UInt8 := [54, 6, 21, 6, 21, 5, 162, 0, 31, 42, 180, 0, 220, 16, 60, 29, 104, 21, 4, 96, 21, 6, 96, 42]
abbrev dktX6_shift_6 : List UInt8 := dkwX6_shift_6 ++ dktX6_shift_7
def dkwX6_shift_5 : List UInt8 := [21, 6, 42, 180, 0, 220, 16, 60, 27, 104, 28, 96, 21, 6, 96, 47, 80, 132, 6, 1, 167, 255, 225, 3]
abbrev dktX6_shift_5 : List UInt8 := dkwX6_shift_5 ++ dktX6_shift_6
def dkwX6_shift_4 : List UInt8 := [21, 5, 100, 164, 0, 6, 16, 243, 172, 3, 54, 6, 21, 6, 21, 5, 162, 0, 30, 42, 180, 0, 224]
abbrev dktX6_shift_4 : List UInt8 := dkwX6_shift_4 ++ dktX6_shift_5
def dkwX6_shift_3 : List UInt8 := [155, 0, 30, 28, 42, 180, 0, 217, 27, 46, 21, 5, 100, 163, 0, 17, 21, 4, 42, 180, 0, 217, 29, 46]
abbrev dktX6_shift_3 : List UInt8 := dkwX6_shift_3 ++ dktX6_shift_4
def dkwX6_shift_2 : List UInt8 := [180, 0, 214, 29, 46, 159, 0, 6, 16, 244, 172, 21, 5, 155, 0, 39, 28, 155, 0, 35, 21, 4]
abbrev dktX6_shift_2 : List UInt8 := dkwX6_shift_2 ++ dktX6_shift_3
def dkwX6_shift_1 : List UInt8 := [155, 0, 12, 42, 180, 0, 214, 29, 46, 156, 0, 6, 16, 245, 172, 42, 180, 0, 214, 27, 46, 42]
abbrev dktX6_shift_1 : List UInt8 := dkwX6_shift_1 ++ dktX6_shift_2
def dkwX6_shift_0 : List UInt8 := [42, 27, 182, 1, 117, 153, 0, 11, 42, 29, 182, 1, 117, 154, 0, 5, 2, 172, 42, 180, 0, 214, 27, 46]
abbrev dktX6_shift_0 : List UInt8 := dkwX6_shift_0 ++ dktX6_shift_1
theorem dksX6_shift_0 : cX6_shift.data.toList.drop 0 = dktX6_shift_0 := by decide +kernel
theorem dksX6_shift_1 : cX6_shift.data.toList.drop 24 = dktX6_shift_1 := dk_seg dksX6_shift_0 24 rfl rfl
theorem dksX6_shift_2 : cX6_shift.data.toList.drop 46 = dktX6_shift_2 := dk_seg dksX6_shift_1 22 rfl rfl
theorem dksX6_shift_3 : cX6_shift.data.toList.drop 68 = dktX6_shift_3 := dk_seg dksX6_shift_2 22 rfl rfl
theorem dksX6_shift_4 : cX6_shift.data.toList.drop 92 = dktX6_shift_4 := dk_seg dksX6_shift_3 24 rfl rfl
theorem dksX6_shift_5 : cX6_shift.data.toList.drop 115 = dktX6_shift_5 := dk_seg dksX6_shift_4 23 rfl rfl
theorem dksX6_shift_6 : cX6_shift.data.toList.drop 139 = dktX6_shift_6 := dk_seg dksX6_shift_5 24 rfl rfl
theorem dksX6_shift_7 : cX6_shift.data.toList.drop 163 = dktX6_shift_7 := dk_seg dksX6_shift_6 24 rfl rfl
theorem dX6_shift_0 : decode cX6_shift 0 = .ok (.aload_n 0, 1) := dk_42 (dk_at dksX6_shift_0 0 rfl rfl)
theorem dX6_shift_1 : decode cX6_shift 1 = .ok (.iload_n 1, 1) := dk_27 (dk_at dksX6_shift_0 1 rfl rfl)
theorem dX6_shift_2 : decode cX6_shift 2 = .ok (.invokevirtual 373, 3) := dk_182 1 117 (dk_at dksX6_shift_0 2 rfl rfl)
theorem dX6_shift_5 : decode cX6_shift 5 = .ok (.ifCond .eq 11, 3) := dk_153 0 11 (dk_at dksX6_shift_0 5 rfl rfl)
theorem dX6_shift_8 : decode cX6_shift 8 = .ok (.aload_n 0, 1) := dk_42 (dk_at dksX6_shift_0 8 rfl rfl)
theorem dX6_shift_9 : decode cX6_shift 9 = .ok (.iload_n 3, 1) := dk_29 (dk_at dksX6_shift_0 9 rfl rfl)
theorem dX6_shift_10 : decode cX6_shift 10 = .ok (.invokevirtual 373, 3) := dk_182 1 117 (dk_at dksX6_shift_0 10 rfl rfl)
theorem dX6_shift_13 : decode cX6_shift 13 = .ok (.ifCond .ne 5, 3) := dk_154 0 5 (dk_at dksX6_shift_0 13 rfl rfl)
theorem dX6_shift_16 : decode cX6_shift 16 = .ok (.iconst (-1), 1) := dk_2 (dk_at dksX6_shift_0 16 rfl rfl)
theorem dX6_shift_17 : decode cX6_shift 17 = .ok (.ireturn, 1) := dk_172 (dk_at dksX6_shift_0 17 rfl rfl)
theorem dX6_shift_18 : decode cX6_shift 18 = .ok (.aload_n 0, 1) := dk_42 (dk_at dksX6_shift_0 18 rfl rfl)
theorem dX6_shift_19 : decode cX6_shift 19 = .ok (.getfield 214, 3) := dk_180 0 214 (dk_at dksX6_shift_0 19 rfl rfl)
theorem dX6_shift_22 : decode cX6_shift 22 = .ok (.iload_n 1, 1) := dk_27 (dk_at dksX6_shift_0 22 rfl rfl)
theorem dX6_shift_23 : decode cX6_shift 23 = .ok (.iaload, 1) := dk_46 (dk_at dksX6_shift_0 23 rfl rfl)
theorem dX6_shift_24 : decode cX6_shift 24 = .ok (.ifCond .lt 12, 3) := dk_155 0 12 (dk_at dksX6_shift_1 0 rfl rfl)
theorem dX6_shift_27 : decode cX6_shift 27 = .ok (.aload_n 0, 1) := dk_42 (dk_at dksX6_shift_1 3 rfl rfl)
theorem dX6_shift_28 : decode cX6_shift 28 = .ok (.getfield 214, 3) := dk_180 0 214 (dk_at dksX6_shift_1 4 rfl rfl)
theorem dX6_shift_31 : decode cX6_shift 31 = .ok (.iload_n 3, 1) := dk_29 (dk_at dksX6_shift_1 7 rfl rfl)
theorem dX6_shift_32 : decode cX6_shift 32 = .ok (.iaload, 1) := dk_46 (dk_at dksX6_shift_1 8 rfl rfl)
theorem dX6_shift_33 : decode cX6_shift 33 = .ok (.ifCond .ge 6, 3) := dk_156 0 6 (dk_at dksX6_shift_1 9 rfl rfl)
theorem dX6_shift_36 : decode cX6_shift 36 = .ok (.bipush (-11), 2) := dk_16 245 (dk_at dksX6_shift_1 12 rfl rfl)
theorem dX6_shift_38 : decode cX6_shift 38 = .ok (.ireturn, 1) := dk_172 (dk_at dksX6_shift_1 14 rfl rfl)
theorem dX6_shift_39 : decode cX6_shift 39 = .ok (.aload_n 0, 1) := dk_42 (dk_at dksX6_shift_1 15 rfl rfl)
theorem dX6_shift_40 : decode cX6_shift 40 = .ok (.getfield 214, 3) := dk_180 0 214 (dk_at dksX6_shift_1 16 rfl rfl)
theorem dX6_shift_43 : decode cX6_shift 43 = .ok (.iload_n 1, 1) := dk_27 (dk_at dksX6_shift_1 19 rfl rfl)
theorem dX6_shift_44 : decode cX6_shift 44 = .ok (.iaload, 1) := dk_46 (dk_at dksX6_shift_1 20 rfl rfl)
theorem dX6_shift_45 : decode cX6_shift 45 = .ok (.aload_n 0, 1) := dk_42 (dk_at dksX6_shift_1 21 rfl rfl)
theorem dX6_shift_46 : decode cX6_shift 46 = .ok (.getfield 214, 3) := dk_180 0 214 (dk_at dksX6_shift_2 0 rfl rfl)
theorem dX6_shift_49 : decode cX6_shift 49 = .ok (.iload_n 3, 1) := dk_29 (dk_at dksX6_shift_2 3 rfl rfl)
theorem dX6_shift_50 : decode cX6_shift 50 = .ok (.iaload, 1) := dk_46 (dk_at dksX6_shift_2 4 rfl rfl)
theorem dX6_shift_51 : decode cX6_shift 51 = .ok (.if_icmp .eq 6, 3) := dk_159 0 6 (dk_at dksX6_shift_2 5 rfl rfl)
theorem dX6_shift_54 : decode cX6_shift 54 = .ok (.bipush (-12), 2) := dk_16 244 (dk_at dksX6_shift_2 8 rfl rfl)
theorem dX6_shift_56 : decode cX6_shift 56 = .ok (.ireturn, 1) := dk_172 (dk_at dksX6_shift_2 10 rfl rfl)
theorem dX6_shift_57 : decode cX6_shift 57 = .ok (.iload 5, 2) := dk_21 5 (dk_at dksX6_shift_2 11 rfl rfl)
theorem dX6_shift_59 : decode cX6_shift 59 = .ok (.ifCond .lt 39, 3) := dk_155 0 39 (dk_at dksX6_shift_2 13 rfl rfl)
theorem dX6_shift_62 : decode cX6_shift 62 = .ok (.iload_n 2, 1) := dk_28 (dk_at dksX6_shift_2 16 rfl rfl)
theorem dX6_shift_63 : decode cX6_shift 63 = .ok (.ifCond .lt 35, 3) := dk_155 0 35 (dk_at dksX6_shift_2 17 rfl rfl)
theorem dX6_shift_66 : decode cX6_shift 66 = .ok (.iload 4, 2) := dk_21 4 (dk_at dksX6_shift_2 20 rfl rfl)
theorem dX6_shift_68 : decode cX6_shift 68 = .ok (.ifCond .lt 30, 3) := dk_155 0 30 (dk_at dksX6_shift_3 0 rfl rfl)
theorem dX6_shift_71 : decode cX6_shift 71 = .ok (.iload_n 2, 1) := dk_28 (dk_at dksX6_shift_3 3 rfl rfl)
theorem dX6_shift_72 : decode cX6_shift 72 = .ok (.aload_n 0, 1) := dk_42 (dk_at dksX6_shift_3 4 rfl rfl)
theorem dX6_shift_73 : decode cX6_shift 73 = .ok (.getfield 217, 3) := dk_180 0 217 (dk_at dksX6_shift_3 5 rfl rfl)
theorem dX6_shift_76 : decode cX6_shift 76 = .ok (.iload_n 1, 1) := dk_27 (dk_at dksX6_shift_3 8 rfl rfl)
theorem dX6_shift_77 : decode cX6_shift 77 = .ok (.iaload, 1) := dk_46 (dk_at dksX6_shift_3 9 rfl rfl)
theorem dX6_shift_78 : decode cX6_shift 78 = .ok (.iload 5, 2) := dk_21 5 (dk_at dksX6_shift_3 10 rfl rfl)
theorem dX6_shift_80 : decode cX6_shift 80 = .ok (.isub, 1) := dk_100 (dk_at dksX6_shift_3 12 rfl rfl)
theorem dX6_shift_81 : decode cX6_shift 81 = .ok (.if_icmp .gt 17, 3) := dk_163 0 17 (dk_at dksX6_shift_3 13 rfl rfl)
theorem dX6_shift_84 : decode cX6_shift 84 = .ok (.iload 4, 2) := dk_21 4 (dk_at dksX6_shift_3 16 rfl rfl)
theorem dX6_shift_86 : decode cX6_shift 86 = .ok (.aload_n 0, 1) := dk_42 (dk_at dksX6_shift_3 18 rfl rfl)
theorem dX6_shift_87 : decode cX6_shift 87 = .ok (.getfield 217, 3) := dk_180 0 217 (dk_at dksX6_shift_3 19 rfl rfl)
theorem dX6_shift_90 : decode cX6_shift 90 = .ok (.iload_n 3, 1) := dk_29 (dk_at dksX6_shift_3 22 rfl rfl)
theorem dX6_shift_91 : decode cX6_shift 91 = .ok (.iaload, 1) := dk_46 (dk_at dksX6_shift_3 23 rfl rfl)
theorem dX6_shift_92 : decode cX6_shift 92 = .ok (.iload 5, 2) := dk_21 5 (dk_at dksX6_shift_4 0 rfl rfl)
theorem dX6_shift_94 : decode cX6_shift 94 = .ok (.isub, 1) := dk_100 (dk_at dksX6_shift_4 2 rfl rfl)
theorem dX6_shift_95 : decode cX6_shift 95 = .ok (.if_icmp .le 6, 3) := dk_164 0 6 (dk_at dksX6_shift_4 3 rfl rfl)
theorem dX6_shift_98 : decode cX6_shift 98 = .ok (.bipush (-13), 2) := dk_16 243 (dk_at dksX6_shift_4 6 rfl rfl)
theorem dX6_shift_100 : decode cX6_shift 100 = .ok (.ireturn, 1) := dk_172 (dk_at dksX6_shift_4 8 rfl rfl)
theorem dX6_shift_101 : decode cX6_shift 101 = .ok (.iconst 0, 1) := dk_3 (dk_at dksX6_shift_4 9 rfl rfl)
theorem dX6_shift_102 : decode cX6_shift 102 = .ok (.istore 6, 2) := dk_54 6 (dk_at dksX6_shift_4 10 rfl rfl)
theorem dX6_shift_104 : decode cX6_shift 104 = .ok (.iload 6, 2) := dk_21 6 (dk_at dksX6_shift_4 12 rfl rfl)
theorem dX6_shift_106 : decode cX6_shift 106 = .ok (.iload 5, 2) := dk_21 5 (dk_at dksX6_shift_4 14 rfl rfl)
theorem dX6_shift_108 : decode cX6_shift 108 = .ok (.if_icmp .ge 30, 3) := dk_162 0 30 (dk_at dksX6_shift_4 16 rfl rfl)
theorem dX6_shift_111 : decode cX6_shift 111 = .ok (.aload_n 0, 1) := dk_42 (dk_at dksX6_shift_4 19 rfl rfl)
theorem dX6_shift_112 : decode cX6_shift 112 = .ok (.getfield 224, 3) := dk_180 0 224 (dk_at dksX6_shift_4 20 rfl rfl)
theorem dX6_shift_115 : decode cX6_shift 115 = .ok (.iload 6, 2) := dk_21 6 (dk_at dksX6_shift_5 0 rfl rfl)
theorem dX6_shift_117 : decode cX6_shift 117 = .ok (.aload_n 0, 1) := dk_42 (dk_at dksX6_shift_5 2 rfl rfl)
theorem dX6_shift_118 : decode cX6_shift 118 = .ok (.getfield 220, 3) := dk_180 0 220 (dk_at dksX6_shift_5 3 rfl rfl)
theorem dX6_shift_121 : decode cX6_shift 121 = .ok (.bipush 60, 2) := dk_16 60 (dk_at dksX6_shift_5 6 rfl rfl)
theorem dX6_shift_123 : decode cX6_shift 123 = .ok (.iload_n 1, 1) := dk_27 (dk_at dksX6_shift_5 8 rfl rfl)
theorem dX6_shift_124 : decode cX6_shift 124 = .ok (.imul, 1) := dk_104 (dk_at dksX6_shift_5 9 rfl rfl)
theorem dX6_shift_125 : decode cX6_shift 125 = .ok (.iload_n 2, 1) := dk_28 (dk_at dksX6_shift_5 10 rfl rfl)
theorem dX6_shift_126 : decode cX6_shift 126 = .ok (.iadd, 1) := dk_96 (dk_at dksX6_shift_5 11 rfl rfl)
theorem dX6_shift_127 : decode cX6_shift 127 = .ok (.iload 6, 2) := dk_21 6 (dk_at dksX6_shift_5 12 rfl rfl)
theorem dX6_shift_129 : decode cX6_shift 129 = .ok (.iadd, 1) := dk_96 (dk_at dksX6_shift_5 14 rfl rfl)
theorem dX6_shift_130 : decode cX6_shift 130 = .ok (.laload, 1) := dk_47 (dk_at dksX6_shift_5 15 rfl rfl)
theorem dX6_shift_131 : decode cX6_shift 131 = .ok (.lastore, 1) := dk_80 (dk_at dksX6_shift_5 16 rfl rfl)
theorem dX6_shift_132 : decode cX6_shift 132 = .ok (.iinc 6 1, 3) := dk_132 6 1 (dk_at dksX6_shift_5 17 rfl rfl)
theorem dX6_shift_135 : decode cX6_shift 135 = .ok (.goto (-31), 3) := dk_167 255 225 (dk_at dksX6_shift_5 20 rfl rfl)
theorem dX6_shift_138 : decode cX6_shift 138 = .ok (.iconst 0, 1) := dk_3 (dk_at dksX6_shift_5 23 rfl rfl)
theorem dX6_shift_139 : decode cX6_shift 139 = .ok (.istore 6, 2) := dk_54 6 (dk_at dksX6_shift_6 0 rfl rfl)
theorem dX6_shift_141 : decode cX6_shift 141 = .ok (.iload 6, 2) := dk_21 6 (dk_at dksX6_shift_6 2 rfl rfl)
theorem dX6_shift_143 : decode cX6_shift 143 = .ok (.iload 5, 2) := dk_21 5 (dk_at dksX6_shift_6 4 rfl rfl)
theorem dX6_shift_145 : decode cX6_shift 145 = .ok (.if_icmp .ge 31, 3) := dk_162 0 31 (dk_at dksX6_shift_6 6 rfl rfl)
theorem dX6_shift_148 : decode cX6_shift 148 = .ok (.aload_n 0, 1) := dk_42 (dk_at dksX6_shift_6 9 rfl rfl)
theorem dX6_shift_149 : decode cX6_shift 149 = .ok (.getfield 220, 3) := dk_180 0 220 (dk_at dksX6_shift_6 10 rfl rfl)
theorem dX6_shift_152 : decode cX6_shift 152 = .ok (.bipush 60, 2) := dk_16 60 (dk_at dksX6_shift_6 13 rfl rfl)
theorem dX6_shift_154 : decode cX6_shift 154 = .ok (.iload_n 3, 1) := dk_29 (dk_at dksX6_shift_6 15 rfl rfl)
theorem dX6_shift_155 : decode cX6_shift 155 = .ok (.imul, 1) := dk_104 (dk_at dksX6_shift_6 16 rfl rfl)
theorem dX6_shift_156 : decode cX6_shift 156 = .ok (.iload 4, 2) := dk_21 4 (dk_at dksX6_shift_6 17 rfl rfl)
theorem dX6_shift_158 : decode cX6_shift 158 = .ok (.iadd, 1) := dk_96 (dk_at dksX6_shift_6 19 rfl rfl)
theorem dX6_shift_159 : decode cX6_shift 159 = .ok (.iload 6, 2) := dk_21 6 (dk_at dksX6_shift_6 20 rfl rfl)
theorem dX6_shift_161 : decode cX6_shift 161 = .ok (.iadd, 1) := dk_96 (dk_at dksX6_shift_6 22 rfl rfl)
theorem dX6_shift_162 : decode cX6_shift 162 = .ok (.aload_n 0, 1) := dk_42 (dk_at dksX6_shift_6 23 rfl rfl)
theorem dX6_shift_163 : decode cX6_shift 163 = .ok (.getfield 224, 3) := dk_180 0 224 (dk_at dksX6_shift_7 0 rfl rfl)
theorem dX6_shift_166 : decode cX6_shift 166 = .ok (.iload 6, 2) := dk_21 6 (dk_at dksX6_shift_7 3 rfl rfl)
theorem dX6_shift_168 : decode cX6_shift 168 = .ok (.laload, 1) := dk_47 (dk_at dksX6_shift_7 5 rfl rfl)
theorem dX6_shift_169 : decode cX6_shift 169 = .ok (.lastore, 1) := dk_80 (dk_at dksX6_shift_7 6 rfl rfl)
theorem dX6_shift_170 : decode cX6_shift 170 = .ok (.iinc 6 1, 3) := dk_132 6 1 (dk_at dksX6_shift_7 7 rfl rfl)
theorem dX6_shift_173 : decode cX6_shift 173 = .ok (.goto (-32), 3) := dk_167 255 224 (dk_at dksX6_shift_7 10 rfl rfl)
theorem dX6_shift_176 : decode cX6_shift 176 = .ok (.iload 5, 2) := dk_21 5 (dk_at dksX6_shift_7 13 rfl rfl)
theorem dX6_shift_178 : decode cX6_shift 178 = .ok (.ireturn, 1) := dk_172 (dk_at dksX6_shift_7 15 rfl rfl)
theorem q96 : (Jvm.Cond.initialized "SomebodysLiftModel") ∈ lw_all := lw_g (lw_at lw_m1 10 rfl) rfl
theorem q952 : (Jvm.Cond.selects "SomebodysLiftModel" ({ cls := "java/lang/Object", name := "getClass", desc := "()Ljava/lang/Class;" } : Jvm.MethodName) ({ cls := "java/lang/Object", name := "getClass", desc := "()Ljava/lang/Class;" } : Jvm.MethodName)) ∈ lw_all := lw_g (lw_at lw_m4 146 rfl) rfl
theorem q1439 : (Jvm.Cond.instantiable "SomebodysLiftModel" (71 : Nat)) ∈ lw_all := lw_g (lw_at lw_m6 153 rfl) rfl
theorem q1441 : (Jvm.Cond.instanceMethod ({ cls := "SomebodysLiftModel", name := "<init>", desc := "()V" } : Jvm.MethodName)) ∈ lw_all := lw_g (lw_at lw_m6 155 rfl) rfl
theorem q1442 : (Jvm.Cond.code ({ cls := "SomebodysLiftModel", name := "<init>", desc := "()V" } : Jvm.MethodName) prog_23_method_1_code (1 : Nat) (Option.none : Option Jvm.ClassFile.FieldType)) ∈ lw_all := lw_g (lw_at lw_m6 156 rfl) rfl
theorem q1443 : (Jvm.Cond.methodLink "SomebodysLiftModel" (1 : Nat) ({ cls := "java/lang/Object", name := "<init>", desc := "()V" } : Jvm.MethodName)) ∈ lw_all := lw_g (lw_at lw_m6 157 rfl) rfl
theorem q1444 : (Jvm.Cond.fieldLink "SomebodysLiftModel" (7 : Nat) "SomebodysLiftModel" "lifts" "I") ∈ lw_all := lw_g (lw_at lw_m6 158 rfl) rfl
theorem q1445 : (Jvm.Cond.fieldLink "SomebodysLiftModel" (13 : Nat) "SomebodysLiftModel" "minutes" "I") ∈ lw_all := lw_g (lw_at lw_m6 159 rfl) rfl
theorem q1446 : (Jvm.Cond.fieldLink "SomebodysLiftModel" (16 : Nat) "SomebodysLiftModel" "mile" "I") ∈ lw_all := lw_g (lw_at lw_m6 160 rfl) rfl
theorem q1447 : (Jvm.Cond.fieldLink "SomebodysLiftModel" (19 : Nat) "SomebodysLiftModel" "high" "I") ∈ lw_all := lw_g (lw_at lw_m6 161 rfl) rfl
theorem q1448 : (Jvm.Cond.fieldLink "SomebodysLiftModel" (22 : Nat) "SomebodysLiftModel" "inside" "I") ∈ lw_all := lw_g (lw_at lw_m6 162 rfl) rfl
theorem q1449 : (Jvm.Cond.fieldLink "SomebodysLiftModel" (25 : Nat) "SomebodysLiftModel" "homeAt" "I") ∈ lw_all := lw_g (lw_at lw_m6 163 rfl) rfl
theorem q1450 : (Jvm.Cond.fieldLink "SomebodysLiftModel" (28 : Nat) "SomebodysLiftModel" "kind" "[I") ∈ lw_all := lw_g (lw_at lw_m6 164 rfl) rfl
theorem q1451 : (Jvm.Cond.fieldLink "SomebodysLiftModel" (32 : Nat) "SomebodysLiftModel" "v" "[I") ∈ lw_all := lw_g (lw_at lw_m6 165 rfl) rfl
theorem q1452 : (Jvm.Cond.fieldLink "SomebodysLiftModel" (35 : Nat) "SomebodysLiftModel" "where" "[I") ∈ lw_all := lw_g (lw_at lw_m6 166 rfl) rfl
theorem q1453 : (Jvm.Cond.fieldLink "SomebodysLiftModel" (38 : Nat) "SomebodysLiftModel" "pulls" "[I") ∈ lw_all := lw_g (lw_at lw_m6 167 rfl) rfl
theorem q1454 : (Jvm.Cond.fieldLink "SomebodysLiftModel" (41 : Nat) "SomebodysLiftModel" "rows" "[I") ∈ lw_all := lw_g (lw_at lw_m6 168 rfl) rfl
theorem q1455 : (Jvm.Cond.fieldLink "SomebodysLiftModel" (44 : Nat) "SomebodysLiftModel" "airs" "I") ∈ lw_all := lw_g (lw_at lw_m6 169 rfl) rfl
theorem q1456 : (Jvm.Cond.fieldLink "SomebodysLiftModel" (47 : Nat) "SomebodysLiftModel" "the" "I") ∈ lw_all := lw_g (lw_at lw_m6 170 rfl) rfl
theorem q1457 : (Jvm.Cond.fieldLink "SomebodysLiftModel" (50 : Nat) "SomebodysLiftModel" "fed" "I") ∈ lw_all := lw_g (lw_at lw_m6 171 rfl) rfl
theorem q1458 : (Jvm.Cond.fieldLink "SomebodysLiftModel" (53 : Nat) "SomebodysLiftModel" "at" "I") ∈ lw_all := lw_g (lw_at lw_m6 172 rfl) rfl
theorem q1459 : (Jvm.Cond.fieldLink "SomebodysLiftModel" (56 : Nat) "SomebodysLiftModel" "digits" "I") ∈ lw_all := lw_g (lw_at lw_m6 173 rfl) rfl
theorem q1460 : (Jvm.Cond.fieldLink "SomebodysLiftModel" (59 : Nat) "SomebodysLiftModel" "text" "[I") ∈ lw_all := lw_g (lw_at lw_m6 174 rfl) rfl
theorem q1461 : (Jvm.Cond.fieldLink "SomebodysLiftModel" (62 : Nat) "SomebodysLiftModel" "clauses" "[I") ∈ lw_all := lw_g (lw_at lw_m6 175 rfl) rfl
theorem q1462 : (Jvm.Cond.fieldLink "SomebodysLiftModel" (65 : Nat) "SomebodysLiftModel" "word" "[I") ∈ lw_all := lw_g (lw_at lw_m6 176 rfl) rfl
theorem q1463 : (Jvm.Cond.fieldLink "SomebodysLiftModel" (68 : Nat) "SomebodysLiftModel" "number" "[I") ∈ lw_all := lw_g (lw_at lw_m6 177 rfl) rfl
theorem q1464 : (Jvm.Cond.fieldLink "SomebodysLiftModel" (71 : Nat) "SomebodysLiftModel" "from" "[I") ∈ lw_all := lw_g (lw_at lw_m6 178 rfl) rfl
theorem q1465 : (Jvm.Cond.fieldLink "SomebodysLiftModel" (74 : Nat) "SomebodysLiftModel" "to" "[I") ∈ lw_all := lw_g (lw_at lw_m6 179 rfl) rfl
theorem q1466 : (Jvm.Cond.fieldLink "SomebodysLiftModel" (77 : Nat) "SomebodysLiftModel" "sign" "[I") ∈ lw_all := lw_g (lw_at lw_m6 180 rfl) rfl
theorem q1467 : (Jvm.Cond.fieldLink "SomebodysLiftModel" (80 : Nat) "SomebodysLiftModel" "waits" "[I") ∈ lw_all := lw_g (lw_at lw_m6 181 rfl) rfl
theorem q1468 : (Jvm.Cond.fieldLink "SomebodysLiftModel" (83 : Nat) "SomebodysLiftModel" "signs" "I") ∈ lw_all := lw_g (lw_at lw_m6 182 rfl) rfl
theorem q1469 : (Jvm.Cond.fieldLink "SomebodysLiftModel" (86 : Nat) "SomebodysLiftModel" "waiting" "I") ∈ lw_all := lw_g (lw_at lw_m6 183 rfl) rfl
theorem q1470 : (Jvm.Cond.fieldLink "SomebodysLiftModel" (89 : Nat) "SomebodysLiftModel" "open" "I") ∈ lw_all := lw_g (lw_at lw_m6 184 rfl) rfl
theorem q1471 : (Jvm.Cond.fieldLink "SomebodysLiftModel" (92 : Nat) "SomebodysLiftModel" "letters" "[I") ∈ lw_all := lw_g (lw_at lw_m6 185 rfl) rfl
theorem q1472 : (Jvm.Cond.fieldLink "SomebodysLiftModel" (95 : Nat) "SomebodysLiftModel" "pile" "[Z") ∈ lw_all := lw_g (lw_at lw_m6 186 rfl) rfl
theorem q1473 : (Jvm.Cond.fieldLink "SomebodysLiftModel" (99 : Nat) "SomebodysLiftModel" "keptMinutes" "I") ∈ lw_all := lw_g (lw_at lw_m6 187 rfl) rfl
theorem q1474 : (Jvm.Cond.fieldLink "SomebodysLiftModel" (102 : Nat) "SomebodysLiftModel" "keptMile" "I") ∈ lw_all := lw_g (lw_at lw_m6 188 rfl) rfl
theorem q1475 : (Jvm.Cond.fieldLink "SomebodysLiftModel" (105 : Nat) "SomebodysLiftModel" "keptHigh" "I") ∈ lw_all := lw_g (lw_at lw_m6 189 rfl) rfl
theorem q1476 : (Jvm.Cond.fieldLink "SomebodysLiftModel" (108 : Nat) "SomebodysLiftModel" "leftHigh" "I") ∈ lw_all := lw_g (lw_at lw_m6 190 rfl) rfl
theorem q1477 : (Jvm.Cond.fieldLink "SomebodysLiftModel" (111 : Nat) "SomebodysLiftModel" "bestWhich" "I") ∈ lw_all := lw_g (lw_at lw_m6 191 rfl) rfl
theorem q1478 : (Jvm.Cond.fieldLink "SomebodysLiftModel" (114 : Nat) "SomebodysLiftModel" "bestPace" "I") ∈ lw_all := lw_g (lw_at lw_m6 192 rfl) rfl
theorem q1479 : (Jvm.Cond.fieldLink "SomebodysLiftModel" (117 : Nat) "SomebodysLiftModel" "bestMany" "I") ∈ lw_all := lw_g (lw_at lw_m6 193 rfl) rfl
theorem q1480 : (Jvm.Cond.fieldLink "SomebodysLiftModel" (120 : Nat) "SomebodysLiftModel" "legs" "I") ∈ lw_all := lw_g (lw_at lw_m6 194 rfl) rfl
theorem q1481 : (Jvm.Cond.fieldLink "SomebodysLiftModel" (123 : Nat) "SomebodysLiftModel" "legWhat" "[I") ∈ lw_all := lw_g (lw_at lw_m6 195 rfl) rfl
theorem q1482 : (Jvm.Cond.fieldLink "SomebodysLiftModel" (126 : Nat) "SomebodysLiftModel" "legLong" "[I") ∈ lw_all := lw_g (lw_at lw_m6 196 rfl) rfl
theorem q1483 : (Jvm.Cond.fieldLink "SomebodysLiftModel" (129 : Nat) "SomebodysLiftModel" "seen" "I") ∈ lw_all := lw_g (lw_at lw_m6 197 rfl) rfl
theorem q1484 : (Jvm.Cond.fieldLink "SomebodysLiftModel" (132 : Nat) "SomebodysLiftModel" "seenMore" "[I") ∈ lw_all := lw_g (lw_at lw_m6 198 rfl) rfl
theorem q1485 : (Jvm.Cond.fieldLink "SomebodysLiftModel" (135 : Nat) "SomebodysLiftModel" "books" "I") ∈ lw_all := lw_g (lw_at lw_m6 199 rfl) rfl
theorem q1486 : (Jvm.Cond.fieldLink "SomebodysLiftModel" (138 : Nat) "SomebodysLiftModel" "bookWhat" "[I") ∈ lw_all := lw_g (lw_at lw_m6 200 rfl) rfl
theorem q1487 : (Jvm.Cond.fieldLink "SomebodysLiftModel" (141 : Nat) "SomebodysLiftModel" "bookClimb" "[I") ∈ lw_all := lw_g (lw_at lw_m6 201 rfl) rfl
theorem q1488 : (Jvm.Cond.fieldLink "SomebodysLiftModel" (144 : Nat) "SomebodysLiftModel" "hasImage" "Z") ∈ lw_all := lw_g (lw_at lw_m6 202 rfl) rfl
theorem q1489 : (Jvm.Cond.fieldLink "SomebodysLiftModel" (148 : Nat) "SomebodysLiftModel" "imageThe" "I") ∈ lw_all := lw_g (lw_at lw_m6 203 rfl) rfl
theorem q1490 : (Jvm.Cond.fieldLink "SomebodysLiftModel" (151 : Nat) "SomebodysLiftModel" "imageLifts" "I") ∈ lw_all := lw_g (lw_at lw_m6 204 rfl) rfl
theorem q1491 : (Jvm.Cond.fieldLink "SomebodysLiftModel" (154 : Nat) "SomebodysLiftModel" "imageMinutes" "I") ∈ lw_all := lw_g (lw_at lw_m6 205 rfl) rfl
theorem q1492 : (Jvm.Cond.fieldLink "SomebodysLiftModel" (157 : Nat) "SomebodysLiftModel" "imageMile" "I") ∈ lw_all := lw_g (lw_at lw_m6 206 rfl) rfl
theorem q1493 : (Jvm.Cond.fieldLink "SomebodysLiftModel" (160 : Nat) "SomebodysLiftModel" "imageHigh" "I") ∈ lw_all := lw_g (lw_at lw_m6 207 rfl) rfl
theorem q1494 : (Jvm.Cond.fieldLink "SomebodysLiftModel" (163 : Nat) "SomebodysLiftModel" "imageInside" "I") ∈ lw_all := lw_g (lw_at lw_m6 208 rfl) rfl
theorem q1495 : (Jvm.Cond.fieldLink "SomebodysLiftModel" (166 : Nat) "SomebodysLiftModel" "imageHome" "I") ∈ lw_all := lw_g (lw_at lw_m6 209 rfl) rfl
theorem q1496 : (Jvm.Cond.fieldLink "SomebodysLiftModel" (169 : Nat) "SomebodysLiftModel" "imageLegs" "I") ∈ lw_all := lw_g (lw_at lw_m6 210 rfl) rfl
theorem q1497 : (Jvm.Cond.fieldLink "SomebodysLiftModel" (172 : Nat) "SomebodysLiftModel" "imageSeen" "I") ∈ lw_all := lw_g (lw_at lw_m6 211 rfl) rfl
theorem q1498 : (Jvm.Cond.fieldLink "SomebodysLiftModel" (175 : Nat) "SomebodysLiftModel" "imageBooks" "I") ∈ lw_all := lw_g (lw_at lw_m6 212 rfl) rfl
theorem q1499 : (Jvm.Cond.fieldLink "SomebodysLiftModel" (178 : Nat) "SomebodysLiftModel" "imageKind" "[I") ∈ lw_all := lw_g (lw_at lw_m6 213 rfl) rfl
theorem q1500 : (Jvm.Cond.fieldLink "SomebodysLiftModel" (181 : Nat) "SomebodysLiftModel" "imageV" "[I") ∈ lw_all := lw_g (lw_at lw_m6 214 rfl) rfl
theorem q1501 : (Jvm.Cond.fieldLink "SomebodysLiftModel" (184 : Nat) "SomebodysLiftModel" "imageWhere" "[I") ∈ lw_all := lw_g (lw_at lw_m6 215 rfl) rfl
theorem q1502 : (Jvm.Cond.fieldLink "SomebodysLiftModel" (187 : Nat) "SomebodysLiftModel" "imagePulls" "[I") ∈ lw_all := lw_g (lw_at lw_m6 216 rfl) rfl
theorem q1503 : (Jvm.Cond.fieldLink "SomebodysLiftModel" (190 : Nat) "SomebodysLiftModel" "imageRows" "[I") ∈ lw_all := lw_g (lw_at lw_m6 217 rfl) rfl
theorem q1504 : (Jvm.Cond.fieldLink "SomebodysLiftModel" (193 : Nat) "SomebodysLiftModel" "imageWhat" "[I") ∈ lw_all := lw_g (lw_at lw_m6 218 rfl) rfl
theorem q1505 : (Jvm.Cond.fieldLink "SomebodysLiftModel" (196 : Nat) "SomebodysLiftModel" "imageLong" "[I") ∈ lw_all := lw_g (lw_at lw_m6 219 rfl) rfl
theorem q1506 : (Jvm.Cond.fieldLink "SomebodysLiftModel" (199 : Nat) "SomebodysLiftModel" "imageMore" "[I") ∈ lw_all := lw_g (lw_at lw_m6 220 rfl) rfl
theorem q1507 : (Jvm.Cond.fieldLink "SomebodysLiftModel" (202 : Nat) "SomebodysLiftModel" "imageBookWhat" "[I") ∈ lw_all := lw_g (lw_at lw_m6 221 rfl) rfl
theorem q1508 : (Jvm.Cond.fieldLink "SomebodysLiftModel" (205 : Nat) "SomebodysLiftModel" "imageClimb" "[I") ∈ lw_all := lw_g (lw_at lw_m6 222 rfl) rfl
theorem q1509 : (Jvm.Cond.fieldLink "SomebodysLiftModel" (208 : Nat) "SomebodysLiftModel" "ran" "I") ∈ lw_all := lw_g (lw_at lw_m6 223 rfl) rfl
theorem q1510 : (Jvm.Cond.fieldLink "SomebodysLiftModel" (211 : Nat) "SomebodysLiftModel" "bodies" "[I") ∈ lw_all := lw_g (lw_at lw_m6 224 rfl) rfl
theorem q1511 : (Jvm.Cond.fieldLink "SomebodysLiftModel" (214 : Nat) "SomebodysLiftModel" "sort" "[I") ∈ lw_all := lw_g (lw_at lw_m6 225 rfl) rfl
theorem q1512 : (Jvm.Cond.fieldLink "SomebodysLiftModel" (217 : Nat) "SomebodysLiftModel" "length" "[I") ∈ lw_all := lw_g (lw_at lw_m6 226 rfl) rfl
theorem q1513 : (Jvm.Cond.fieldLink "SomebodysLiftModel" (220 : Nat) "SomebodysLiftModel" "item" "[J") ∈ lw_all := lw_g (lw_at lw_m6 227 rfl) rfl
theorem q1514 : (Jvm.Cond.fieldLink "SomebodysLiftModel" (224 : Nat) "SomebodysLiftModel" "aside" "[J") ∈ lw_all := lw_g (lw_at lw_m6 228 rfl) rfl
theorem q1515 : (Jvm.Cond.lays "SomebodysLiftModel" "SomebodysLiftModel" "lifts" "I") ∈ lw_all := lw_g (lw_at lw_m6 229 rfl) rfl
theorem q1516 : (Jvm.Cond.soleField "SomebodysLiftModel" "lifts") ∈ lw_all := lw_g (lw_at lw_m6 230 rfl) rfl
theorem q1517 : (Jvm.Cond.lays "SomebodysLiftModel" "SomebodysLiftModel" "minutes" "I") ∈ lw_all := lw_g (lw_at lw_m6 231 rfl) rfl
theorem q1518 : (Jvm.Cond.soleField "SomebodysLiftModel" "minutes") ∈ lw_all := lw_g (lw_at lw_m6 232 rfl) rfl
theorem q1519 : (Jvm.Cond.lays "SomebodysLiftModel" "SomebodysLiftModel" "mile" "I") ∈ lw_all := lw_g (lw_at lw_m6 233 rfl) rfl
theorem q1520 : (Jvm.Cond.soleField "SomebodysLiftModel" "mile") ∈ lw_all := lw_g (lw_at lw_m6 234 rfl) rfl
theorem q1521 : (Jvm.Cond.lays "SomebodysLiftModel" "SomebodysLiftModel" "high" "I") ∈ lw_all := lw_g (lw_at lw_m6 235 rfl) rfl
theorem q1522 : (Jvm.Cond.soleField "SomebodysLiftModel" "high") ∈ lw_all := lw_g (lw_at lw_m6 236 rfl) rfl
theorem q1523 : (Jvm.Cond.lays "SomebodysLiftModel" "SomebodysLiftModel" "inside" "I") ∈ lw_all := lw_g (lw_at lw_m6 237 rfl) rfl
theorem q1524 : (Jvm.Cond.soleField "SomebodysLiftModel" "inside") ∈ lw_all := lw_g (lw_at lw_m6 238 rfl) rfl
theorem q1525 : (Jvm.Cond.lays "SomebodysLiftModel" "SomebodysLiftModel" "homeAt" "I") ∈ lw_all := lw_g (lw_at lw_m6 239 rfl) rfl
theorem q1526 : (Jvm.Cond.soleField "SomebodysLiftModel" "homeAt") ∈ lw_all := lw_g (lw_at lw_m7 0 rfl) rfl
theorem q1527 : (Jvm.Cond.laysFinal "SomebodysLiftModel" "SomebodysLiftModel" "kind" "[I") ∈ lw_all := lw_g (lw_at lw_m7 1 rfl) rfl
theorem q1528 : (Jvm.Cond.soleField "SomebodysLiftModel" "kind") ∈ lw_all := lw_g (lw_at lw_m7 2 rfl) rfl
theorem q1529 : (Jvm.Cond.laysFinal "SomebodysLiftModel" "SomebodysLiftModel" "v" "[I") ∈ lw_all := lw_g (lw_at lw_m7 3 rfl) rfl
theorem q1530 : (Jvm.Cond.soleField "SomebodysLiftModel" "v") ∈ lw_all := lw_g (lw_at lw_m7 4 rfl) rfl
theorem q1531 : (Jvm.Cond.laysFinal "SomebodysLiftModel" "SomebodysLiftModel" "where" "[I") ∈ lw_all := lw_g (lw_at lw_m7 5 rfl) rfl
theorem q1532 : (Jvm.Cond.soleField "SomebodysLiftModel" "where") ∈ lw_all := lw_g (lw_at lw_m7 6 rfl) rfl
theorem q1533 : (Jvm.Cond.laysFinal "SomebodysLiftModel" "SomebodysLiftModel" "pulls" "[I") ∈ lw_all := lw_g (lw_at lw_m7 7 rfl) rfl
theorem q1534 : (Jvm.Cond.soleField "SomebodysLiftModel" "pulls") ∈ lw_all := lw_g (lw_at lw_m7 8 rfl) rfl
theorem q1535 : (Jvm.Cond.laysFinal "SomebodysLiftModel" "SomebodysLiftModel" "rows" "[I") ∈ lw_all := lw_g (lw_at lw_m7 9 rfl) rfl
theorem q1536 : (Jvm.Cond.soleField "SomebodysLiftModel" "rows") ∈ lw_all := lw_g (lw_at lw_m7 10 rfl) rfl
theorem q1537 : (Jvm.Cond.lays "SomebodysLiftModel" "SomebodysLiftModel" "airs" "I") ∈ lw_all := lw_g (lw_at lw_m7 11 rfl) rfl
theorem q1538 : (Jvm.Cond.soleField "SomebodysLiftModel" "airs") ∈ lw_all := lw_g (lw_at lw_m7 12 rfl) rfl
theorem q1539 : (Jvm.Cond.lays "SomebodysLiftModel" "SomebodysLiftModel" "the" "I") ∈ lw_all := lw_g (lw_at lw_m7 13 rfl) rfl
theorem q1540 : (Jvm.Cond.soleField "SomebodysLiftModel" "the") ∈ lw_all := lw_g (lw_at lw_m7 14 rfl) rfl
theorem q1541 : (Jvm.Cond.lays "SomebodysLiftModel" "SomebodysLiftModel" "fed" "I") ∈ lw_all := lw_g (lw_at lw_m7 15 rfl) rfl
theorem q1542 : (Jvm.Cond.soleField "SomebodysLiftModel" "fed") ∈ lw_all := lw_g (lw_at lw_m7 16 rfl) rfl
theorem q1543 : (Jvm.Cond.lays "SomebodysLiftModel" "SomebodysLiftModel" "at" "I") ∈ lw_all := lw_g (lw_at lw_m7 17 rfl) rfl
theorem q1544 : (Jvm.Cond.soleField "SomebodysLiftModel" "at") ∈ lw_all := lw_g (lw_at lw_m7 18 rfl) rfl
theorem q1545 : (Jvm.Cond.lays "SomebodysLiftModel" "SomebodysLiftModel" "digits" "I") ∈ lw_all := lw_g (lw_at lw_m7 19 rfl) rfl
theorem q1546 : (Jvm.Cond.soleField "SomebodysLiftModel" "digits") ∈ lw_all := lw_g (lw_at lw_m7 20 rfl) rfl
theorem q1547 : (Jvm.Cond.laysFinal "SomebodysLiftModel" "SomebodysLiftModel" "text" "[I") ∈ lw_all := lw_g (lw_at lw_m7 21 rfl) rfl
theorem q1548 : (Jvm.Cond.soleField "SomebodysLiftModel" "text") ∈ lw_all := lw_g (lw_at lw_m7 22 rfl) rfl
theorem q1549 : (Jvm.Cond.laysFinal "SomebodysLiftModel" "SomebodysLiftModel" "clauses" "[I") ∈ lw_all := lw_g (lw_at lw_m7 23 rfl) rfl
theorem q1550 : (Jvm.Cond.soleField "SomebodysLiftModel" "clauses") ∈ lw_all := lw_g (lw_at lw_m7 24 rfl) rfl
theorem q1551 : (Jvm.Cond.laysFinal "SomebodysLiftModel" "SomebodysLiftModel" "word" "[I") ∈ lw_all := lw_g (lw_at lw_m7 25 rfl) rfl
theorem q1552 : (Jvm.Cond.soleField "SomebodysLiftModel" "word") ∈ lw_all := lw_g (lw_at lw_m7 26 rfl) rfl
theorem q1553 : (Jvm.Cond.laysFinal "SomebodysLiftModel" "SomebodysLiftModel" "number" "[I") ∈ lw_all := lw_g (lw_at lw_m7 27 rfl) rfl
theorem q1554 : (Jvm.Cond.soleField "SomebodysLiftModel" "number") ∈ lw_all := lw_g (lw_at lw_m7 28 rfl) rfl
theorem q1555 : (Jvm.Cond.laysFinal "SomebodysLiftModel" "SomebodysLiftModel" "from" "[I") ∈ lw_all := lw_g (lw_at lw_m7 29 rfl) rfl
theorem q1556 : (Jvm.Cond.soleField "SomebodysLiftModel" "from") ∈ lw_all := lw_g (lw_at lw_m7 30 rfl) rfl
theorem q1557 : (Jvm.Cond.laysFinal "SomebodysLiftModel" "SomebodysLiftModel" "to" "[I") ∈ lw_all := lw_g (lw_at lw_m7 31 rfl) rfl
theorem q1558 : (Jvm.Cond.soleField "SomebodysLiftModel" "to") ∈ lw_all := lw_g (lw_at lw_m7 32 rfl) rfl
theorem q1559 : (Jvm.Cond.laysFinal "SomebodysLiftModel" "SomebodysLiftModel" "sign" "[I") ∈ lw_all := lw_g (lw_at lw_m7 33 rfl) rfl
theorem q1560 : (Jvm.Cond.soleField "SomebodysLiftModel" "sign") ∈ lw_all := lw_g (lw_at lw_m7 34 rfl) rfl
theorem q1561 : (Jvm.Cond.laysFinal "SomebodysLiftModel" "SomebodysLiftModel" "waits" "[I") ∈ lw_all := lw_g (lw_at lw_m7 35 rfl) rfl
theorem q1562 : (Jvm.Cond.soleField "SomebodysLiftModel" "waits") ∈ lw_all := lw_g (lw_at lw_m7 36 rfl) rfl
theorem q1563 : (Jvm.Cond.lays "SomebodysLiftModel" "SomebodysLiftModel" "signs" "I") ∈ lw_all := lw_g (lw_at lw_m7 37 rfl) rfl
theorem q1564 : (Jvm.Cond.soleField "SomebodysLiftModel" "signs") ∈ lw_all := lw_g (lw_at lw_m7 38 rfl) rfl
theorem q1565 : (Jvm.Cond.lays "SomebodysLiftModel" "SomebodysLiftModel" "waiting" "I") ∈ lw_all := lw_g (lw_at lw_m7 39 rfl) rfl
theorem q1566 : (Jvm.Cond.soleField "SomebodysLiftModel" "waiting") ∈ lw_all := lw_g (lw_at lw_m7 40 rfl) rfl
theorem q1567 : (Jvm.Cond.lays "SomebodysLiftModel" "SomebodysLiftModel" "open" "I") ∈ lw_all := lw_g (lw_at lw_m7 41 rfl) rfl
theorem q1568 : (Jvm.Cond.soleField "SomebodysLiftModel" "open") ∈ lw_all := lw_g (lw_at lw_m7 42 rfl) rfl
theorem q1569 : (Jvm.Cond.laysFinal "SomebodysLiftModel" "SomebodysLiftModel" "letters" "[I") ∈ lw_all := lw_g (lw_at lw_m7 43 rfl) rfl
theorem q1570 : (Jvm.Cond.soleField "SomebodysLiftModel" "letters") ∈ lw_all := lw_g (lw_at lw_m7 44 rfl) rfl
theorem q1571 : (Jvm.Cond.laysFinal "SomebodysLiftModel" "SomebodysLiftModel" "pile" "[Z") ∈ lw_all := lw_g (lw_at lw_m7 45 rfl) rfl
theorem q1572 : (Jvm.Cond.soleField "SomebodysLiftModel" "pile") ∈ lw_all := lw_g (lw_at lw_m7 46 rfl) rfl
theorem q1573 : (Jvm.Cond.lays "SomebodysLiftModel" "SomebodysLiftModel" "keptMinutes" "I") ∈ lw_all := lw_g (lw_at lw_m7 47 rfl) rfl
theorem q1574 : (Jvm.Cond.soleField "SomebodysLiftModel" "keptMinutes") ∈ lw_all := lw_g (lw_at lw_m7 48 rfl) rfl
theorem q1575 : (Jvm.Cond.lays "SomebodysLiftModel" "SomebodysLiftModel" "keptMile" "I") ∈ lw_all := lw_g (lw_at lw_m7 49 rfl) rfl
theorem q1576 : (Jvm.Cond.soleField "SomebodysLiftModel" "keptMile") ∈ lw_all := lw_g (lw_at lw_m7 50 rfl) rfl
theorem q1577 : (Jvm.Cond.lays "SomebodysLiftModel" "SomebodysLiftModel" "keptHigh" "I") ∈ lw_all := lw_g (lw_at lw_m7 51 rfl) rfl
theorem q1578 : (Jvm.Cond.soleField "SomebodysLiftModel" "keptHigh") ∈ lw_all := lw_g (lw_at lw_m7 52 rfl) rfl
theorem q1579 : (Jvm.Cond.lays "SomebodysLiftModel" "SomebodysLiftModel" "leftHigh" "I") ∈ lw_all := lw_g (lw_at lw_m7 53 rfl) rfl
theorem q1580 : (Jvm.Cond.soleField "SomebodysLiftModel" "leftHigh") ∈ lw_all := lw_g (lw_at lw_m7 54 rfl) rfl
theorem q1581 : (Jvm.Cond.lays "SomebodysLiftModel" "SomebodysLiftModel" "bestWhich" "I") ∈ lw_all := lw_g (lw_at lw_m7 55 rfl) rfl
theorem q1582 : (Jvm.Cond.soleField "SomebodysLiftModel" "bestWhich") ∈ lw_all := lw_g (lw_at lw_m7 56 rfl) rfl
theorem q1583 : (Jvm.Cond.lays "SomebodysLiftModel" "SomebodysLiftModel" "bestPace" "I") ∈ lw_all := lw_g (lw_at lw_m7 57 rfl) rfl
theorem q1584 : (Jvm.Cond.soleField "SomebodysLiftModel" "bestPace") ∈ lw_all := lw_g (lw_at lw_m7 58 rfl) rfl
theorem q1585 : (Jvm.Cond.lays "SomebodysLiftModel" "SomebodysLiftModel" "bestMany" "I") ∈ lw_all := lw_g (lw_at lw_m7 59 rfl) rfl
theorem q1586 : (Jvm.Cond.soleField "SomebodysLiftModel" "bestMany") ∈ lw_all := lw_g (lw_at lw_m7 60 rfl) rfl
theorem q1587 : (Jvm.Cond.lays "SomebodysLiftModel" "SomebodysLiftModel" "legs" "I") ∈ lw_all := lw_g (lw_at lw_m7 61 rfl) rfl
theorem q1588 : (Jvm.Cond.soleField "SomebodysLiftModel" "legs") ∈ lw_all := lw_g (lw_at lw_m7 62 rfl) rfl
theorem q1589 : (Jvm.Cond.laysFinal "SomebodysLiftModel" "SomebodysLiftModel" "legWhat" "[I") ∈ lw_all := lw_g (lw_at lw_m7 63 rfl) rfl
theorem q1590 : (Jvm.Cond.soleField "SomebodysLiftModel" "legWhat") ∈ lw_all := lw_g (lw_at lw_m7 64 rfl) rfl
theorem q1591 : (Jvm.Cond.laysFinal "SomebodysLiftModel" "SomebodysLiftModel" "legLong" "[I") ∈ lw_all := lw_g (lw_at lw_m7 65 rfl) rfl
theorem q1592 : (Jvm.Cond.soleField "SomebodysLiftModel" "legLong") ∈ lw_all := lw_g (lw_at lw_m7 66 rfl) rfl
theorem q1593 : (Jvm.Cond.lays "SomebodysLiftModel" "SomebodysLiftModel" "seen" "I") ∈ lw_all := lw_g (lw_at lw_m7 67 rfl) rfl
theorem q1594 : (Jvm.Cond.soleField "SomebodysLiftModel" "seen") ∈ lw_all := lw_g (lw_at lw_m7 68 rfl) rfl
theorem q1595 : (Jvm.Cond.laysFinal "SomebodysLiftModel" "SomebodysLiftModel" "seenMore" "[I") ∈ lw_all := lw_g (lw_at lw_m7 69 rfl) rfl
theorem q1596 : (Jvm.Cond.soleField "SomebodysLiftModel" "seenMore") ∈ lw_all := lw_g (lw_at lw_m7 70 rfl) rfl
theorem q1597 : (Jvm.Cond.lays "SomebodysLiftModel" "SomebodysLiftModel" "books" "I") ∈ lw_all := lw_g (lw_at lw_m7 71 rfl) rfl
theorem q1598 : (Jvm.Cond.soleField "SomebodysLiftModel" "books") ∈ lw_all := lw_g (lw_at lw_m7 72 rfl) rfl
theorem q1599 : (Jvm.Cond.laysFinal "SomebodysLiftModel" "SomebodysLiftModel" "bookWhat" "[I") ∈ lw_all := lw_g (lw_at lw_m7 73 rfl) rfl
theorem q1600 : (Jvm.Cond.soleField "SomebodysLiftModel" "bookWhat") ∈ lw_all := lw_g (lw_at lw_m7 74 rfl) rfl
theorem q1601 : (Jvm.Cond.laysFinal "SomebodysLiftModel" "SomebodysLiftModel" "bookClimb" "[I") ∈ lw_all := lw_g (lw_at lw_m7 75 rfl) rfl
theorem q1602 : (Jvm.Cond.soleField "SomebodysLiftModel" "bookClimb") ∈ lw_all := lw_g (lw_at lw_m7 76 rfl) rfl
theorem q1603 : (Jvm.Cond.lays "SomebodysLiftModel" "SomebodysLiftModel" "hasImage" "Z") ∈ lw_all := lw_g (lw_at lw_m7 77 rfl) rfl
theorem q1604 : (Jvm.Cond.soleField "SomebodysLiftModel" "hasImage") ∈ lw_all := lw_g (lw_at lw_m7 78 rfl) rfl
theorem q1605 : (Jvm.Cond.lays "SomebodysLiftModel" "SomebodysLiftModel" "imageThe" "I") ∈ lw_all := lw_g (lw_at lw_m7 79 rfl) rfl
theorem q1606 : (Jvm.Cond.soleField "SomebodysLiftModel" "imageThe") ∈ lw_all := lw_g (lw_at lw_m7 80 rfl) rfl
theorem q1607 : (Jvm.Cond.lays "SomebodysLiftModel" "SomebodysLiftModel" "imageLifts" "I") ∈ lw_all := lw_g (lw_at lw_m7 81 rfl) rfl
theorem q1608 : (Jvm.Cond.soleField "SomebodysLiftModel" "imageLifts") ∈ lw_all := lw_g (lw_at lw_m7 82 rfl) rfl
theorem q1609 : (Jvm.Cond.lays "SomebodysLiftModel" "SomebodysLiftModel" "imageMinutes" "I") ∈ lw_all := lw_g (lw_at lw_m7 83 rfl) rfl
theorem q1610 : (Jvm.Cond.soleField "SomebodysLiftModel" "imageMinutes") ∈ lw_all := lw_g (lw_at lw_m7 84 rfl) rfl
theorem q1611 : (Jvm.Cond.lays "SomebodysLiftModel" "SomebodysLiftModel" "imageMile" "I") ∈ lw_all := lw_g (lw_at lw_m7 85 rfl) rfl
theorem q1612 : (Jvm.Cond.soleField "SomebodysLiftModel" "imageMile") ∈ lw_all := lw_g (lw_at lw_m7 86 rfl) rfl
theorem q1613 : (Jvm.Cond.lays "SomebodysLiftModel" "SomebodysLiftModel" "imageHigh" "I") ∈ lw_all := lw_g (lw_at lw_m7 87 rfl) rfl
theorem q1614 : (Jvm.Cond.soleField "SomebodysLiftModel" "imageHigh") ∈ lw_all := lw_g (lw_at lw_m7 88 rfl) rfl
theorem q1615 : (Jvm.Cond.lays "SomebodysLiftModel" "SomebodysLiftModel" "imageInside" "I") ∈ lw_all := lw_g (lw_at lw_m7 89 rfl) rfl
theorem q1616 : (Jvm.Cond.soleField "SomebodysLiftModel" "imageInside") ∈ lw_all := lw_g (lw_at lw_m7 90 rfl) rfl
theorem q1617 : (Jvm.Cond.lays "SomebodysLiftModel" "SomebodysLiftModel" "imageHome" "I") ∈ lw_all := lw_g (lw_at lw_m7 91 rfl) rfl
theorem q1618 : (Jvm.Cond.soleField "SomebodysLiftModel" "imageHome") ∈ lw_all := lw_g (lw_at lw_m7 92 rfl) rfl
theorem q1619 : (Jvm.Cond.lays "SomebodysLiftModel" "SomebodysLiftModel" "imageLegs" "I") ∈ lw_all := lw_g (lw_at lw_m7 93 rfl) rfl
theorem q1620 : (Jvm.Cond.soleField "SomebodysLiftModel" "imageLegs") ∈ lw_all := lw_g (lw_at lw_m7 94 rfl) rfl
theorem q1621 : (Jvm.Cond.lays "SomebodysLiftModel" "SomebodysLiftModel" "imageSeen" "I") ∈ lw_all := lw_g (lw_at lw_m7 95 rfl) rfl
theorem q1622 : (Jvm.Cond.soleField "SomebodysLiftModel" "imageSeen") ∈ lw_all := lw_g (lw_at lw_m7 96 rfl) rfl
theorem q1623 : (Jvm.Cond.lays "SomebodysLiftModel" "SomebodysLiftModel" "imageBooks" "I") ∈ lw_all := lw_g (lw_at lw_m7 97 rfl) rfl
theorem q1624 : (Jvm.Cond.soleField "SomebodysLiftModel" "imageBooks") ∈ lw_all := lw_g (lw_at lw_m7 98 rfl) rfl
theorem q1625 : (Jvm.Cond.laysFinal "SomebodysLiftModel" "SomebodysLiftModel" "imageKind" "[I") ∈ lw_all := lw_g (lw_at lw_m7 99 rfl) rfl
theorem q1626 : (Jvm.Cond.soleField "SomebodysLiftModel" "imageKind") ∈ lw_all := lw_g (lw_at lw_m7 100 rfl) rfl
theorem q1627 : (Jvm.Cond.laysFinal "SomebodysLiftModel" "SomebodysLiftModel" "imageV" "[I") ∈ lw_all := lw_g (lw_at lw_m7 101 rfl) rfl
theorem q1628 : (Jvm.Cond.soleField "SomebodysLiftModel" "imageV") ∈ lw_all := lw_g (lw_at lw_m7 102 rfl) rfl
theorem q1629 : (Jvm.Cond.laysFinal "SomebodysLiftModel" "SomebodysLiftModel" "imageWhere" "[I") ∈ lw_all := lw_g (lw_at lw_m7 103 rfl) rfl
theorem q1630 : (Jvm.Cond.soleField "SomebodysLiftModel" "imageWhere") ∈ lw_all := lw_g (lw_at lw_m7 104 rfl) rfl
theorem q1631 : (Jvm.Cond.laysFinal "SomebodysLiftModel" "SomebodysLiftModel" "imagePulls" "[I") ∈ lw_all := lw_g (lw_at lw_m7 105 rfl) rfl
theorem q1632 : (Jvm.Cond.soleField "SomebodysLiftModel" "imagePulls") ∈ lw_all := lw_g (lw_at lw_m7 106 rfl) rfl
theorem q1633 : (Jvm.Cond.laysFinal "SomebodysLiftModel" "SomebodysLiftModel" "imageRows" "[I") ∈ lw_all := lw_g (lw_at lw_m7 107 rfl) rfl
theorem q1634 : (Jvm.Cond.soleField "SomebodysLiftModel" "imageRows") ∈ lw_all := lw_g (lw_at lw_m7 108 rfl) rfl
theorem q1635 : (Jvm.Cond.laysFinal "SomebodysLiftModel" "SomebodysLiftModel" "imageWhat" "[I") ∈ lw_all := lw_g (lw_at lw_m7 109 rfl) rfl
theorem q1636 : (Jvm.Cond.soleField "SomebodysLiftModel" "imageWhat") ∈ lw_all := lw_g (lw_at lw_m7 110 rfl) rfl
theorem q1637 : (Jvm.Cond.laysFinal "SomebodysLiftModel" "SomebodysLiftModel" "imageLong" "[I") ∈ lw_all := lw_g (lw_at lw_m7 111 rfl) rfl
theorem q1638 : (Jvm.Cond.soleField "SomebodysLiftModel" "imageLong") ∈ lw_all := lw_g (lw_at lw_m7 112 rfl) rfl
theorem q1639 : (Jvm.Cond.laysFinal "SomebodysLiftModel" "SomebodysLiftModel" "imageMore" "[I") ∈ lw_all := lw_g (lw_at lw_m7 113 rfl) rfl
theorem q1640 : (Jvm.Cond.soleField "SomebodysLiftModel" "imageMore") ∈ lw_all := lw_g (lw_at lw_m7 114 rfl) rfl
theorem q1641 : (Jvm.Cond.laysFinal "SomebodysLiftModel" "SomebodysLiftModel" "imageBookWhat" "[I") ∈ lw_all := lw_g (lw_at lw_m7 115 rfl) rfl
theorem q1642 : (Jvm.Cond.soleField "SomebodysLiftModel" "imageBookWhat") ∈ lw_all := lw_g (lw_at lw_m7 116 rfl) rfl
theorem q1643 : (Jvm.Cond.laysFinal "SomebodysLiftModel" "SomebodysLiftModel" "imageClimb" "[I") ∈ lw_all := lw_g (lw_at lw_m7 117 rfl) rfl
theorem q1644 : (Jvm.Cond.soleField "SomebodysLiftModel" "imageClimb") ∈ lw_all := lw_g (lw_at lw_m7 118 rfl) rfl
theorem q1645 : (Jvm.Cond.lays "SomebodysLiftModel" "SomebodysLiftModel" "ran" "I") ∈ lw_all := lw_g (lw_at lw_m7 119 rfl) rfl
theorem q1646 : (Jvm.Cond.soleField "SomebodysLiftModel" "ran") ∈ lw_all := lw_g (lw_at lw_m7 120 rfl) rfl
theorem q1647 : (Jvm.Cond.laysFinal "SomebodysLiftModel" "SomebodysLiftModel" "bodies" "[I") ∈ lw_all := lw_g (lw_at lw_m7 121 rfl) rfl
theorem q1648 : (Jvm.Cond.soleField "SomebodysLiftModel" "bodies") ∈ lw_all := lw_g (lw_at lw_m7 122 rfl) rfl
theorem q1649 : (Jvm.Cond.laysFinal "SomebodysLiftModel" "SomebodysLiftModel" "sort" "[I") ∈ lw_all := lw_g (lw_at lw_m7 123 rfl) rfl
theorem q1650 : (Jvm.Cond.soleField "SomebodysLiftModel" "sort") ∈ lw_all := lw_g (lw_at lw_m7 124 rfl) rfl
theorem q1651 : (Jvm.Cond.laysFinal "SomebodysLiftModel" "SomebodysLiftModel" "length" "[I") ∈ lw_all := lw_g (lw_at lw_m7 125 rfl) rfl
theorem q1652 : (Jvm.Cond.soleField "SomebodysLiftModel" "length") ∈ lw_all := lw_g (lw_at lw_m7 126 rfl) rfl
theorem q1653 : (Jvm.Cond.laysFinal "SomebodysLiftModel" "SomebodysLiftModel" "item" "[J") ∈ lw_all := lw_g (lw_at lw_m7 127 rfl) rfl
theorem q1654 : (Jvm.Cond.soleField "SomebodysLiftModel" "item") ∈ lw_all := lw_g (lw_at lw_m7 128 rfl) rfl
theorem q1655 : (Jvm.Cond.laysFinal "SomebodysLiftModel" "SomebodysLiftModel" "aside" "[J") ∈ lw_all := lw_g (lw_at lw_m7 129 rfl) rfl
theorem q1656 : (Jvm.Cond.soleField "SomebodysLiftModel" "aside") ∈ lw_all := lw_g (lw_at lw_m7 130 rfl) rfl
theorem q1657 : (Jvm.Cond.superclass "SomebodysLiftModel" "java/lang/Object") ∈ lw_all := lw_g (lw_at lw_m7 131 rfl) rfl
theorem q1659 : (Jvm.Cond.instanceMethod ({ cls := "SomebodysLiftModel", name := "lift", desc := "(IIII)I" } : Jvm.MethodName)) ∈ lw_all := lw_g (lw_at lw_m7 133 rfl) rfl
theorem q1660 : (Jvm.Cond.selects "SomebodysLiftModel" ({ cls := "SomebodysLiftModel", name := "lift", desc := "(IIII)I" } : Jvm.MethodName) ({ cls := "SomebodysLiftModel", name := "lift", desc := "(IIII)I" } : Jvm.MethodName)) ∈ lw_all := lw_g (lw_at lw_m7 134 rfl) rfl
theorem q1661 : (Jvm.Cond.code ({ cls := "SomebodysLiftModel", name := "lift", desc := "(IIII)I" } : Jvm.MethodName) prog_23_method_8_code (6 : Nat) (Option.some Jvm.ClassFile.FieldType.int)) ∈ lw_all := lw_g (lw_at lw_m7 135 rfl) rfl
theorem q1662 : (Jvm.Cond.methodLink "SomebodysLiftModel" (227 : Nat) ({ cls := "SomebodysLiftModel", name := "in", desc := "(III)Z" } : Jvm.MethodName)) ∈ lw_all := lw_g (lw_at lw_m7 136 rfl) rfl
theorem q1663 : (Jvm.Cond.privateMethod ({ cls := "SomebodysLiftModel", name := "in", desc := "(III)Z" } : Jvm.MethodName)) ∈ lw_tbl := lw_at lw_m7 137 rfl
theorem q1664 : (Jvm.Cond.instanceMethod ({ cls := "SomebodysLiftModel", name := "in", desc := "(III)Z" } : Jvm.MethodName)) ∈ lw_all := lw_g (lw_at lw_m7 138 rfl) rfl
theorem q1665 : (Jvm.Cond.code ({ cls := "SomebodysLiftModel", name := "in", desc := "(III)Z" } : Jvm.MethodName) prog_23_method_2_code (4 : Nat) (Option.some Jvm.ClassFile.FieldType.boolean)) ∈ lw_all := lw_g (lw_at lw_m7 139 rfl) rfl
theorem q1666 : (Jvm.Cond.methodLink "SomebodysLiftModel" (231 : Nat) ({ cls := "SomebodysLiftModel", name := "isMile", desc := "(I)Z" } : Jvm.MethodName)) ∈ lw_all := lw_g (lw_at lw_m7 140 rfl) rfl
theorem q1667 : (Jvm.Cond.privateMethod ({ cls := "SomebodysLiftModel", name := "isMile", desc := "(I)Z" } : Jvm.MethodName)) ∈ lw_tbl := lw_at lw_m7 141 rfl
theorem q1668 : (Jvm.Cond.instanceMethod ({ cls := "SomebodysLiftModel", name := "isMile", desc := "(I)Z" } : Jvm.MethodName)) ∈ lw_all := lw_g (lw_at lw_m7 142 rfl) rfl
theorem q1669 : (Jvm.Cond.code ({ cls := "SomebodysLiftModel", name := "isMile", desc := "(I)Z" } : Jvm.MethodName) prog_23_method_5_code (2 : Nat) (Option.some Jvm.ClassFile.FieldType.boolean)) ∈ lw_all := lw_g (lw_at lw_m7 143 rfl) rfl
theorem q1671 : (Jvm.Cond.instanceMethod ({ cls := "SomebodysLiftModel", name := "pull", desc := "(II)I" } : Jvm.MethodName)) ∈ lw_all := lw_g (lw_at lw_m7 145 rfl) rfl
theorem q1672 : (Jvm.Cond.selects "SomebodysLiftModel" ({ cls := "SomebodysLiftModel", name := "pull", desc := "(II)I" } : Jvm.MethodName) ({ cls := "SomebodysLiftModel", name := "pull", desc := "(II)I" } : Jvm.MethodName)) ∈ lw_all := lw_g (lw_at lw_m7 146 rfl) rfl
theorem q1673 : (Jvm.Cond.code ({ cls := "SomebodysLiftModel", name := "pull", desc := "(II)I" } : Jvm.MethodName) prog_23_method_9_code (4 : Nat) (Option.some Jvm.ClassFile.FieldType.int)) ∈ lw_all := lw_g (lw_at lw_m7 147 rfl) rfl
theorem q1674 : (Jvm.Cond.methodLink "SomebodysLiftModel" (235 : Nat) ({ cls := "SomebodysLiftModel", name := "isLift", desc := "(I)Z" } : Jvm.MethodName)) ∈ lw_all := lw_g (lw_at lw_m7 148 rfl) rfl
theorem q1675 : (Jvm.Cond.privateMethod ({ cls := "SomebodysLiftModel", name := "isLift", desc := "(I)Z" } : Jvm.MethodName)) ∈ lw_tbl := lw_at lw_m7 149 rfl
theorem q1676 : (Jvm.Cond.instanceMethod ({ cls := "SomebodysLiftModel", name := "isLift", desc := "(I)Z" } : Jvm.MethodName)) ∈ lw_all := lw_g (lw_at lw_m7 150 rfl) rfl
theorem q1677 : (Jvm.Cond.code ({ cls := "SomebodysLiftModel", name := "isLift", desc := "(I)Z" } : Jvm.MethodName) prog_23_method_4_code (2 : Nat) (Option.some Jvm.ClassFile.FieldType.boolean)) ∈ lw_all := lw_g (lw_at lw_m7 151 rfl) rfl
theorem q1679 : (Jvm.Cond.instanceMethod ({ cls := "SomebodysLiftModel", name := "row", desc := "(III)I" } : Jvm.MethodName)) ∈ lw_all := lw_g (lw_at lw_m7 153 rfl) rfl
theorem q1680 : (Jvm.Cond.selects "SomebodysLiftModel" ({ cls := "SomebodysLiftModel", name := "row", desc := "(III)I" } : Jvm.MethodName) ({ cls := "SomebodysLiftModel", name := "row", desc := "(III)I" } : Jvm.MethodName)) ∈ lw_all := lw_g (lw_at lw_m7 154 rfl) rfl
theorem q1681 : (Jvm.Cond.code ({ cls := "SomebodysLiftModel", name := "row", desc := "(III)I" } : Jvm.MethodName) prog_23_method_10_code (5 : Nat) (Option.some Jvm.ClassFile.FieldType.int)) ∈ lw_all := lw_g (lw_at lw_m7 155 rfl) rfl
theorem q1683 : (Jvm.Cond.instanceMethod ({ cls := "SomebodysLiftModel", name := "home", desc := "(I)I" } : Jvm.MethodName)) ∈ lw_all := lw_g (lw_at lw_m7 157 rfl) rfl
theorem q1684 : (Jvm.Cond.selects "SomebodysLiftModel" ({ cls := "SomebodysLiftModel", name := "home", desc := "(I)I" } : Jvm.MethodName) ({ cls := "SomebodysLiftModel", name := "home", desc := "(I)I" } : Jvm.MethodName)) ∈ lw_all := lw_g (lw_at lw_m7 158 rfl) rfl
theorem q1685 : (Jvm.Cond.code ({ cls := "SomebodysLiftModel", name := "home", desc := "(I)I" } : Jvm.MethodName) prog_23_method_11_code (3 : Nat) (Option.some Jvm.ClassFile.FieldType.int)) ∈ lw_all := lw_g (lw_at lw_m7 159 rfl) rfl
theorem q1687 : (Jvm.Cond.instanceMethod ({ cls := "SomebodysLiftModel", name := "height", desc := "(I)I" } : Jvm.MethodName)) ∈ lw_all := lw_g (lw_at lw_m7 161 rfl) rfl
theorem q1688 : (Jvm.Cond.selects "SomebodysLiftModel" ({ cls := "SomebodysLiftModel", name := "height", desc := "(I)I" } : Jvm.MethodName) ({ cls := "SomebodysLiftModel", name := "height", desc := "(I)I" } : Jvm.MethodName)) ∈ lw_all := lw_g (lw_at lw_m7 162 rfl) rfl
theorem q1689 : (Jvm.Cond.code ({ cls := "SomebodysLiftModel", name := "height", desc := "(I)I" } : Jvm.MethodName) prog_23_method_12_code (3 : Nat) (Option.some Jvm.ClassFile.FieldType.int)) ∈ lw_all := lw_g (lw_at lw_m7 163 rfl) rfl
theorem q1691 : (Jvm.Cond.instanceMethod ({ cls := "SomebodysLiftModel", name := "feed", desc := "(I)I" } : Jvm.MethodName)) ∈ lw_all := lw_g (lw_at lw_m7 165 rfl) rfl
theorem q1692 : (Jvm.Cond.selects "SomebodysLiftModel" ({ cls := "SomebodysLiftModel", name := "feed", desc := "(I)I" } : Jvm.MethodName) ({ cls := "SomebodysLiftModel", name := "feed", desc := "(I)I" } : Jvm.MethodName)) ∈ lw_all := lw_g (lw_at lw_m7 166 rfl) rfl
theorem q1693 : (Jvm.Cond.code ({ cls := "SomebodysLiftModel", name := "feed", desc := "(I)I" } : Jvm.MethodName) prog_23_method_13_code (2 : Nat) (Option.some Jvm.ClassFile.FieldType.int)) ∈ lw_all := lw_g (lw_at lw_m7 167 rfl) rfl
theorem q1695 : (Jvm.Cond.instanceMethod ({ cls := "SomebodysLiftModel", name := "air", desc := "()I" } : Jvm.MethodName)) ∈ lw_all := lw_g (lw_at lw_m7 169 rfl) rfl
theorem q1696 : (Jvm.Cond.selects "SomebodysLiftModel" ({ cls := "SomebodysLiftModel", name := "air", desc := "()I" } : Jvm.MethodName) ({ cls := "SomebodysLiftModel", name := "air", desc := "()I" } : Jvm.MethodName)) ∈ lw_all := lw_g (lw_at lw_m7 170 rfl) rfl
theorem q1697 : (Jvm.Cond.code ({ cls := "SomebodysLiftModel", name := "air", desc := "()I" } : Jvm.MethodName) prog_23_method_28_code (2 : Nat) (Option.some Jvm.ClassFile.FieldType.int)) ∈ lw_all := lw_g (lw_at lw_m7 171 rfl) rfl
theorem q1698 : (Jvm.Cond.methodLink "SomebodysLiftModel" (282 : Nat) ({ cls := "SomebodysLiftModel", name := "goesText", desc := "(I)Z" } : Jvm.MethodName)) ∈ lw_all := lw_g (lw_at lw_m7 172 rfl) rfl
theorem q1699 : (Jvm.Cond.privateMethod ({ cls := "SomebodysLiftModel", name := "goesText", desc := "(I)Z" } : Jvm.MethodName)) ∈ lw_tbl := lw_at lw_m7 173 rfl
theorem q1700 : (Jvm.Cond.instanceMethod ({ cls := "SomebodysLiftModel", name := "goesText", desc := "(I)Z" } : Jvm.MethodName)) ∈ lw_all := lw_g (lw_at lw_m7 174 rfl) rfl
theorem q1701 : (Jvm.Cond.code ({ cls := "SomebodysLiftModel", name := "goesText", desc := "(I)Z" } : Jvm.MethodName) prog_23_method_27_code (3 : Nat) (Option.some Jvm.ClassFile.FieldType.boolean)) ∈ lw_all := lw_g (lw_at lw_m7 175 rfl) rfl
theorem q1702 : (Jvm.Cond.methodLink "SomebodysLiftModel" (279 : Nat) ({ cls := "SomebodysLiftModel", name := "takesClause", desc := "(I)Z" } : Jvm.MethodName)) ∈ lw_all := lw_g (lw_at lw_m7 176 rfl) rfl
theorem q1703 : (Jvm.Cond.privateMethod ({ cls := "SomebodysLiftModel", name := "takesClause", desc := "(I)Z" } : Jvm.MethodName)) ∈ lw_tbl := lw_at lw_m7 177 rfl
theorem q1704 : (Jvm.Cond.instanceMethod ({ cls := "SomebodysLiftModel", name := "takesClause", desc := "(I)Z" } : Jvm.MethodName)) ∈ lw_all := lw_g (lw_at lw_m7 178 rfl) rfl
theorem q1705 : (Jvm.Cond.code ({ cls := "SomebodysLiftModel", name := "takesClause", desc := "(I)Z" } : Jvm.MethodName) prog_23_method_26_code (2 : Nat) (Option.some Jvm.ClassFile.FieldType.boolean)) ∈ lw_all := lw_g (lw_at lw_m7 179 rfl) rfl
theorem q1706 : (Jvm.Cond.methodLink "SomebodysLiftModel" (273 : Nat) ({ cls := "SomebodysLiftModel", name := "takesHead", desc := "(I)Z" } : Jvm.MethodName)) ∈ lw_all := lw_g (lw_at lw_m7 180 rfl) rfl
theorem q1707 : (Jvm.Cond.privateMethod ({ cls := "SomebodysLiftModel", name := "takesHead", desc := "(I)Z" } : Jvm.MethodName)) ∈ lw_tbl := lw_at lw_m7 181 rfl
theorem q1708 : (Jvm.Cond.instanceMethod ({ cls := "SomebodysLiftModel", name := "takesHead", desc := "(I)Z" } : Jvm.MethodName)) ∈ lw_all := lw_g (lw_at lw_m7 182 rfl) rfl
theorem q1709 : (Jvm.Cond.code ({ cls := "SomebodysLiftModel", name := "takesHead", desc := "(I)Z" } : Jvm.MethodName) prog_23_method_25_code (2 : Nat) (Option.some Jvm.ClassFile.FieldType.boolean)) ∈ lw_all := lw_g (lw_at lw_m7 183 rfl) rfl
theorem q1710 : (Jvm.Cond.methodLink "SomebodysLiftModel" (238 : Nat) ({ cls := "SomebodysLiftModel", name := "peek", desc := "()I" } : Jvm.MethodName)) ∈ lw_all := lw_g (lw_at lw_m7 184 rfl) rfl
theorem q1711 : (Jvm.Cond.privateMethod ({ cls := "SomebodysLiftModel", name := "peek", desc := "()I" } : Jvm.MethodName)) ∈ lw_tbl := lw_at lw_m7 185 rfl
theorem q1712 : (Jvm.Cond.instanceMethod ({ cls := "SomebodysLiftModel", name := "peek", desc := "()I" } : Jvm.MethodName)) ∈ lw_all := lw_g (lw_at lw_m7 186 rfl) rfl
theorem q1713 : (Jvm.Cond.code ({ cls := "SomebodysLiftModel", name := "peek", desc := "()I" } : Jvm.MethodName) prog_23_method_14_code (1 : Nat) (Option.some Jvm.ClassFile.FieldType.int)) ∈ lw_all := lw_g (lw_at lw_m7 187 rfl) rfl
theorem q1714 : (Jvm.Cond.methodLink "SomebodysLiftModel" (269 : Nat) ({ cls := "SomebodysLiftModel", name := "takesWord", desc := "(II)Z" } : Jvm.MethodName)) ∈ lw_all := lw_g (lw_at lw_m7 188 rfl) rfl
theorem q1715 : (Jvm.Cond.privateMethod ({ cls := "SomebodysLiftModel", name := "takesWord", desc := "(II)Z" } : Jvm.MethodName)) ∈ lw_tbl := lw_at lw_m7 189 rfl
theorem q1716 : (Jvm.Cond.instanceMethod ({ cls := "SomebodysLiftModel", name := "takesWord", desc := "(II)Z" } : Jvm.MethodName)) ∈ lw_all := lw_g (lw_at lw_m7 190 rfl) rfl
theorem q1717 : (Jvm.Cond.code ({ cls := "SomebodysLiftModel", name := "takesWord", desc := "(II)Z" } : Jvm.MethodName) prog_23_method_16_code (4 : Nat) (Option.some Jvm.ClassFile.FieldType.boolean)) ∈ lw_all := lw_g (lw_at lw_m7 191 rfl) rfl
theorem q1718 : (Jvm.Cond.methodLink "SomebodysLiftModel" (242 : Nat) ({ cls := "SomebodysLiftModel", name := "takes", desc := "(I)Z" } : Jvm.MethodName)) ∈ lw_all := lw_g (lw_at lw_m7 192 rfl) rfl
theorem q1719 : (Jvm.Cond.privateMethod ({ cls := "SomebodysLiftModel", name := "takes", desc := "(I)Z" } : Jvm.MethodName)) ∈ lw_tbl := lw_at lw_m7 193 rfl
theorem q1720 : (Jvm.Cond.instanceMethod ({ cls := "SomebodysLiftModel", name := "takes", desc := "(I)Z" } : Jvm.MethodName)) ∈ lw_all := lw_g (lw_at lw_m7 194 rfl) rfl
theorem q1721 : (Jvm.Cond.code ({ cls := "SomebodysLiftModel", name := "takes", desc := "(I)Z" } : Jvm.MethodName) prog_23_method_15_code (2 : Nat) (Option.some Jvm.ClassFile.FieldType.boolean)) ∈ lw_all := lw_g (lw_at lw_m7 195 rfl) rfl
theorem q1722 : (Jvm.Cond.methodLink "SomebodysLiftModel" (257 : Nat) ({ cls := "SomebodysLiftModel", name := "takesNumber", desc := "()Z" } : Jvm.MethodName)) ∈ lw_all := lw_g (lw_at lw_m7 196 rfl) rfl
theorem q1723 : (Jvm.Cond.privateMethod ({ cls := "SomebodysLiftModel", name := "takesNumber", desc := "()Z" } : Jvm.MethodName)) ∈ lw_tbl := lw_at lw_m7 197 rfl
theorem q1724 : (Jvm.Cond.instanceMethod ({ cls := "SomebodysLiftModel", name := "takesNumber", desc := "()Z" } : Jvm.MethodName)) ∈ lw_all := lw_g (lw_at lw_m7 198 rfl) rfl
theorem q1725 : (Jvm.Cond.code ({ cls := "SomebodysLiftModel", name := "takesNumber", desc := "()Z" } : Jvm.MethodName) prog_23_method_18_code (2 : Nat) (Option.some Jvm.ClassFile.FieldType.boolean)) ∈ lw_all := lw_g (lw_at lw_m7 199 rfl) rfl
theorem q1726 : (Jvm.Cond.methodLink "SomebodysLiftModel" (245 : Nat) ({ cls := "SomebodysLiftModel", name := "isDigit", desc := "()Z" } : Jvm.MethodName)) ∈ lw_all := lw_g (lw_at lw_m7 200 rfl) rfl
theorem q1727 : (Jvm.Cond.privateMethod ({ cls := "SomebodysLiftModel", name := "isDigit", desc := "()Z" } : Jvm.MethodName)) ∈ lw_tbl := lw_at lw_m7 201 rfl
theorem q1728 : (Jvm.Cond.instanceMethod ({ cls := "SomebodysLiftModel", name := "isDigit", desc := "()Z" } : Jvm.MethodName)) ∈ lw_all := lw_g (lw_at lw_m7 202 rfl) rfl
theorem q1729 : (Jvm.Cond.code ({ cls := "SomebodysLiftModel", name := "isDigit", desc := "()Z" } : Jvm.MethodName) prog_23_method_17_code (1 : Nat) (Option.some Jvm.ClassFile.FieldType.boolean)) ∈ lw_all := lw_g (lw_at lw_m7 203 rfl) rfl
theorem q1730 : (Jvm.Cond.methodLink "SomebodysLiftModel" (276 : Nat) ({ cls := "SomebodysLiftModel", name := "takesE", desc := "(I)Z" } : Jvm.MethodName)) ∈ lw_all := lw_g (lw_at lw_m7 204 rfl) rfl
theorem q1731 : (Jvm.Cond.privateMethod ({ cls := "SomebodysLiftModel", name := "takesE", desc := "(I)Z" } : Jvm.MethodName)) ∈ lw_tbl := lw_at lw_m7 205 rfl
theorem q1732 : (Jvm.Cond.instanceMethod ({ cls := "SomebodysLiftModel", name := "takesE", desc := "(I)Z" } : Jvm.MethodName)) ∈ lw_all := lw_g (lw_at lw_m7 206 rfl) rfl
theorem q1733 : (Jvm.Cond.code ({ cls := "SomebodysLiftModel", name := "takesE", desc := "(I)Z" } : Jvm.MethodName) prog_23_method_24_code (4 : Nat) (Option.some Jvm.ClassFile.FieldType.boolean)) ∈ lw_all := lw_g (lw_at lw_m7 207 rfl) rfl
theorem q1734 : (Jvm.Cond.methodLink "SomebodysLiftModel" (263 : Nat) ({ cls := "SomebodysLiftModel", name := "takesTest", desc := "()Z" } : Jvm.MethodName)) ∈ lw_all := lw_g (lw_at lw_m7 208 rfl) rfl
theorem q1735 : (Jvm.Cond.privateMethod ({ cls := "SomebodysLiftModel", name := "takesTest", desc := "()Z" } : Jvm.MethodName)) ∈ lw_tbl := lw_at lw_m7 209 rfl
theorem q1736 : (Jvm.Cond.instanceMethod ({ cls := "SomebodysLiftModel", name := "takesTest", desc := "()Z" } : Jvm.MethodName)) ∈ lw_all := lw_g (lw_at lw_m7 210 rfl) rfl
theorem q1737 : (Jvm.Cond.code ({ cls := "SomebodysLiftModel", name := "takesTest", desc := "()Z" } : Jvm.MethodName) prog_23_method_23_code (3 : Nat) (Option.some Jvm.ClassFile.FieldType.boolean)) ∈ lw_all := lw_g (lw_at lw_m7 211 rfl) rfl
theorem q1738 : (Jvm.Cond.methodLink "SomebodysLiftModel" (253 : Nat) ({ cls := "SomebodysLiftModel", name := "place", desc := "(I)I" } : Jvm.MethodName)) ∈ lw_all := lw_g (lw_at lw_m7 212 rfl) rfl
theorem q1739 : (Jvm.Cond.privateMethod ({ cls := "SomebodysLiftModel", name := "place", desc := "(I)I" } : Jvm.MethodName)) ∈ lw_tbl := lw_at lw_m7 213 rfl
theorem q1740 : (Jvm.Cond.instanceMethod ({ cls := "SomebodysLiftModel", name := "place", desc := "(I)I" } : Jvm.MethodName)) ∈ lw_all := lw_g (lw_at lw_m7 214 rfl) rfl
theorem q1741 : (Jvm.Cond.code ({ cls := "SomebodysLiftModel", name := "place", desc := "(I)I" } : Jvm.MethodName) prog_23_method_22_code (2 : Nat) (Option.some Jvm.ClassFile.FieldType.int)) ∈ lw_all := lw_g (lw_at lw_m7 215 rfl) rfl
theorem q1742 : (Jvm.Cond.methodLink "SomebodysLiftModel" (249 : Nat) ({ cls := "SomebodysLiftModel", name := "emits", desc := "(I)V" } : Jvm.MethodName)) ∈ lw_all := lw_g (lw_at lw_m7 216 rfl) rfl
theorem q1743 : (Jvm.Cond.privateMethod ({ cls := "SomebodysLiftModel", name := "emits", desc := "(I)V" } : Jvm.MethodName)) ∈ lw_tbl := lw_at lw_m7 217 rfl
theorem q1744 : (Jvm.Cond.instanceMethod ({ cls := "SomebodysLiftModel", name := "emits", desc := "(I)V" } : Jvm.MethodName)) ∈ lw_all := lw_g (lw_at lw_m7 218 rfl) rfl
theorem q1745 : (Jvm.Cond.code ({ cls := "SomebodysLiftModel", name := "emits", desc := "(I)V" } : Jvm.MethodName) prog_23_method_19_code (2 : Nat) (Option.none : Option Jvm.ClassFile.FieldType)) ∈ lw_all := lw_g (lw_at lw_m7 219 rfl) rfl
theorem q1746 : (Jvm.Cond.methodLink "SomebodysLiftModel" (260 : Nat) ({ cls := "SomebodysLiftModel", name := "whole", desc := "()V" } : Jvm.MethodName)) ∈ lw_all := lw_g (lw_at lw_m7 220 rfl) rfl
theorem q1747 : (Jvm.Cond.privateMethod ({ cls := "SomebodysLiftModel", name := "whole", desc := "()V" } : Jvm.MethodName)) ∈ lw_tbl := lw_at lw_m7 221 rfl
theorem q1748 : (Jvm.Cond.instanceMethod ({ cls := "SomebodysLiftModel", name := "whole", desc := "()V" } : Jvm.MethodName)) ∈ lw_all := lw_g (lw_at lw_m7 222 rfl) rfl
theorem q1749 : (Jvm.Cond.code ({ cls := "SomebodysLiftModel", name := "whole", desc := "()V" } : Jvm.MethodName) prog_23_method_20_code (1 : Nat) (Option.none : Option Jvm.ClassFile.FieldType)) ∈ lw_all := lw_g (lw_at lw_m7 223 rfl) rfl
theorem q1750 : (Jvm.Cond.methodLink "SomebodysLiftModel" (266 : Nat) ({ cls := "SomebodysLiftModel", name := "settle", desc := "(I)V" } : Jvm.MethodName)) ∈ lw_all := lw_g (lw_at lw_m7 224 rfl) rfl
theorem q1751 : (Jvm.Cond.privateMethod ({ cls := "SomebodysLiftModel", name := "settle", desc := "(I)V" } : Jvm.MethodName)) ∈ lw_tbl := lw_at lw_m7 225 rfl
theorem q1752 : (Jvm.Cond.instanceMethod ({ cls := "SomebodysLiftModel", name := "settle", desc := "(I)V" } : Jvm.MethodName)) ∈ lw_all := lw_g (lw_at lw_m7 226 rfl) rfl
theorem q1753 : (Jvm.Cond.code ({ cls := "SomebodysLiftModel", name := "settle", desc := "(I)V" } : Jvm.MethodName) prog_23_method_21_code (2 : Nat) (Option.none : Option Jvm.ClassFile.FieldType)) ∈ lw_all := lw_g (lw_at lw_m7 227 rfl) rfl
theorem q1755 : (Jvm.Cond.instanceMethod ({ cls := "SomebodysLiftModel", name := "of", desc := "(II)I" } : Jvm.MethodName)) ∈ lw_all := lw_g (lw_at lw_m7 229 rfl) rfl
theorem q1756 : (Jvm.Cond.selects "SomebodysLiftModel" ({ cls := "SomebodysLiftModel", name := "of", desc := "(II)I" } : Jvm.MethodName) ({ cls := "SomebodysLiftModel", name := "of", desc := "(II)I" } : Jvm.MethodName)) ∈ lw_all := lw_g (lw_at lw_m7 230 rfl) rfl
theorem q1757 : (Jvm.Cond.code ({ cls := "SomebodysLiftModel", name := "of", desc := "(II)I" } : Jvm.MethodName) prog_23_method_38_code (3 : Nat) (Option.some Jvm.ClassFile.FieldType.int)) ∈ lw_all := lw_g (lw_at lw_m7 231 rfl) rfl
theorem q1758 : (Jvm.Cond.methodLink "SomebodysLiftModel" (301 : Nat) ({ cls := "SomebodysLiftModel", name := "gain", desc := "(I)I" } : Jvm.MethodName)) ∈ lw_all := lw_g (lw_at lw_m7 232 rfl) rfl
theorem q1759 : (Jvm.Cond.privateMethod ({ cls := "SomebodysLiftModel", name := "gain", desc := "(I)I" } : Jvm.MethodName)) ∈ lw_tbl := lw_at lw_m7 233 rfl
theorem q1760 : (Jvm.Cond.instanceMethod ({ cls := "SomebodysLiftModel", name := "gain", desc := "(I)I" } : Jvm.MethodName)) ∈ lw_all := lw_g (lw_at lw_m7 234 rfl) rfl
theorem q1761 : (Jvm.Cond.code ({ cls := "SomebodysLiftModel", name := "gain", desc := "(I)I" } : Jvm.MethodName) prog_23_method_36_code (4 : Nat) (Option.some Jvm.ClassFile.FieldType.int)) ∈ lw_all := lw_g (lw_at lw_m7 235 rfl) rfl
theorem q1762 : (Jvm.Cond.methodLink "SomebodysLiftModel" (285 : Nat) ({ cls := "SomebodysLiftModel", name := "begin", desc := "()I" } : Jvm.MethodName)) ∈ lw_all := lw_g (lw_at lw_m7 236 rfl) rfl
theorem q1763 : (Jvm.Cond.privateMethod ({ cls := "SomebodysLiftModel", name := "begin", desc := "()I" } : Jvm.MethodName)) ∈ lw_tbl := lw_at lw_m7 237 rfl
theorem q1764 : (Jvm.Cond.instanceMethod ({ cls := "SomebodysLiftModel", name := "begin", desc := "()I" } : Jvm.MethodName)) ∈ lw_all := lw_g (lw_at lw_m7 238 rfl) rfl
theorem q1765 : (Jvm.Cond.code ({ cls := "SomebodysLiftModel", name := "begin", desc := "()I" } : Jvm.MethodName) prog_23_method_29_code (1 : Nat) (Option.some Jvm.ClassFile.FieldType.int)) ∈ lw_all := lw_g (lw_at lw_m7 239 rfl) rfl
theorem q1766 : (Jvm.Cond.methodLink "SomebodysLiftModel" (288 : Nat) ({ cls := "SomebodysLiftModel", name := "behind", desc := "()I" } : Jvm.MethodName)) ∈ lw_all := lw_g (lw_at lw_m8 0 rfl) rfl
theorem q1767 : (Jvm.Cond.privateMethod ({ cls := "SomebodysLiftModel", name := "behind", desc := "()I" } : Jvm.MethodName)) ∈ lw_tbl := lw_at lw_m8 1 rfl
theorem q1768 : (Jvm.Cond.instanceMethod ({ cls := "SomebodysLiftModel", name := "behind", desc := "()I" } : Jvm.MethodName)) ∈ lw_all := lw_g (lw_at lw_m8 2 rfl) rfl
theorem q1769 : (Jvm.Cond.code ({ cls := "SomebodysLiftModel", name := "behind", desc := "()I" } : Jvm.MethodName) prog_23_method_30_code (1 : Nat) (Option.some Jvm.ClassFile.FieldType.int)) ∈ lw_all := lw_g (lw_at lw_m8 3 rfl) rfl
theorem q1770 : (Jvm.Cond.methodLink "SomebodysLiftModel" (298 : Nat) ({ cls := "SomebodysLiftModel", name := "holds", desc := "(II)Z" } : Jvm.MethodName)) ∈ lw_all := lw_g (lw_at lw_m8 4 rfl) rfl
theorem q1771 : (Jvm.Cond.privateMethod ({ cls := "SomebodysLiftModel", name := "holds", desc := "(II)Z" } : Jvm.MethodName)) ∈ lw_tbl := lw_at lw_m8 5 rfl
theorem q1772 : (Jvm.Cond.instanceMethod ({ cls := "SomebodysLiftModel", name := "holds", desc := "(II)Z" } : Jvm.MethodName)) ∈ lw_all := lw_g (lw_at lw_m8 6 rfl) rfl
theorem q1773 : (Jvm.Cond.code ({ cls := "SomebodysLiftModel", name := "holds", desc := "(II)Z" } : Jvm.MethodName) prog_23_method_35_code (8 : Nat) (Option.some Jvm.ClassFile.FieldType.boolean)) ∈ lw_all := lw_g (lw_at lw_m8 7 rfl) rfl
theorem q1774 : (Jvm.Cond.methodLink "SomebodysLiftModel" (295 : Nat) ({ cls := "SomebodysLiftModel", name := "factOf", desc := "(II)I" } : Jvm.MethodName)) ∈ lw_all := lw_g (lw_at lw_m8 8 rfl) rfl
theorem q1775 : (Jvm.Cond.privateMethod ({ cls := "SomebodysLiftModel", name := "factOf", desc := "(II)I" } : Jvm.MethodName)) ∈ lw_tbl := lw_at lw_m8 9 rfl
theorem q1776 : (Jvm.Cond.instanceMethod ({ cls := "SomebodysLiftModel", name := "factOf", desc := "(II)I" } : Jvm.MethodName)) ∈ lw_all := lw_g (lw_at lw_m8 10 rfl) rfl
theorem q1777 : (Jvm.Cond.code ({ cls := "SomebodysLiftModel", name := "factOf", desc := "(II)I" } : Jvm.MethodName) prog_23_method_34_code (3 : Nat) (Option.some Jvm.ClassFile.FieldType.int)) ∈ lw_all := lw_g (lw_at lw_m8 11 rfl) rfl
theorem q1778 : (Jvm.Cond.methodLink "SomebodysLiftModel" (304 : Nat) ({ cls := "SomebodysLiftModel", name := "climb", desc := "(I)I" } : Jvm.MethodName)) ∈ lw_all := lw_g (lw_at lw_m8 12 rfl) rfl
theorem q1779 : (Jvm.Cond.privateMethod ({ cls := "SomebodysLiftModel", name := "climb", desc := "(I)I" } : Jvm.MethodName)) ∈ lw_tbl := lw_at lw_m8 13 rfl
theorem q1780 : (Jvm.Cond.instanceMethod ({ cls := "SomebodysLiftModel", name := "climb", desc := "(I)I" } : Jvm.MethodName)) ∈ lw_all := lw_g (lw_at lw_m8 14 rfl) rfl
theorem q1781 : (Jvm.Cond.code ({ cls := "SomebodysLiftModel", name := "climb", desc := "(I)I" } : Jvm.MethodName) prog_23_method_37_code (3 : Nat) (Option.some Jvm.ClassFile.FieldType.int)) ∈ lw_all := lw_g (lw_at lw_m8 15 rfl) rfl
theorem q1783 : (Jvm.Cond.instanceMethod ({ cls := "SomebodysLiftModel", name := "told", desc := "(I)I" } : Jvm.MethodName)) ∈ lw_all := lw_g (lw_at lw_m8 17 rfl) rfl
theorem q1784 : (Jvm.Cond.selects "SomebodysLiftModel" ({ cls := "SomebodysLiftModel", name := "told", desc := "(I)I" } : Jvm.MethodName) ({ cls := "SomebodysLiftModel", name := "told", desc := "(I)I" } : Jvm.MethodName)) ∈ lw_all := lw_g (lw_at lw_m8 18 rfl) rfl
theorem q1785 : (Jvm.Cond.code ({ cls := "SomebodysLiftModel", name := "told", desc := "(I)I" } : Jvm.MethodName) prog_23_method_39_code (2 : Nat) (Option.some Jvm.ClassFile.FieldType.int)) ∈ lw_all := lw_g (lw_at lw_m8 19 rfl) rfl
theorem q1786 : (Jvm.Cond.methodLink "SomebodysLiftModel" (307 : Nat) ({ cls := "SomebodysLiftModel", name := "base", desc := "()I" } : Jvm.MethodName)) ∈ lw_all := lw_g (lw_at lw_m8 20 rfl) rfl
theorem q1787 : (Jvm.Cond.privateMethod ({ cls := "SomebodysLiftModel", name := "base", desc := "()I" } : Jvm.MethodName)) ∈ lw_tbl := lw_at lw_m8 21 rfl
theorem q1788 : (Jvm.Cond.instanceMethod ({ cls := "SomebodysLiftModel", name := "base", desc := "()I" } : Jvm.MethodName)) ∈ lw_all := lw_g (lw_at lw_m8 22 rfl) rfl
theorem q1789 : (Jvm.Cond.code ({ cls := "SomebodysLiftModel", name := "base", desc := "()I" } : Jvm.MethodName) prog_23_method_32_code (2 : Nat) (Option.some Jvm.ClassFile.FieldType.int)) ∈ lw_all := lw_g (lw_at lw_m8 23 rfl) rfl
theorem q1790 : (Jvm.Cond.methodLink "SomebodysLiftModel" (291 : Nat) ({ cls := "SomebodysLiftModel", name := "lastOf", desc := "(II)I" } : Jvm.MethodName)) ∈ lw_all := lw_g (lw_at lw_m8 24 rfl) rfl
theorem q1791 : (Jvm.Cond.privateMethod ({ cls := "SomebodysLiftModel", name := "lastOf", desc := "(II)I" } : Jvm.MethodName)) ∈ lw_tbl := lw_at lw_m8 25 rfl
theorem q1792 : (Jvm.Cond.instanceMethod ({ cls := "SomebodysLiftModel", name := "lastOf", desc := "(II)I" } : Jvm.MethodName)) ∈ lw_all := lw_g (lw_at lw_m8 26 rfl) rfl
theorem q1793 : (Jvm.Cond.code ({ cls := "SomebodysLiftModel", name := "lastOf", desc := "(II)I" } : Jvm.MethodName) prog_23_method_31_code (5 : Nat) (Option.some Jvm.ClassFile.FieldType.int)) ∈ lw_all := lw_g (lw_at lw_m8 27 rfl) rfl
theorem q1794 : (Jvm.Cond.methodLink "SomebodysLiftModel" (310 : Nat) ({ cls := "SomebodysLiftModel", name := "safe", desc := "()I" } : Jvm.MethodName)) ∈ lw_all := lw_g (lw_at lw_m8 28 rfl) rfl
theorem q1795 : (Jvm.Cond.privateMethod ({ cls := "SomebodysLiftModel", name := "safe", desc := "()I" } : Jvm.MethodName)) ∈ lw_tbl := lw_at lw_m8 29 rfl
theorem q1796 : (Jvm.Cond.instanceMethod ({ cls := "SomebodysLiftModel", name := "safe", desc := "()I" } : Jvm.MethodName)) ∈ lw_all := lw_g (lw_at lw_m8 30 rfl) rfl
theorem q1797 : (Jvm.Cond.code ({ cls := "SomebodysLiftModel", name := "safe", desc := "()I" } : Jvm.MethodName) prog_23_method_33_code (1 : Nat) (Option.some Jvm.ClassFile.FieldType.int)) ∈ lw_all := lw_g (lw_at lw_m8 31 rfl) rfl
theorem q1799 : (Jvm.Cond.instanceMethod ({ cls := "SomebodysLiftModel", name := "enter", desc := "(I)I" } : Jvm.MethodName)) ∈ lw_all := lw_g (lw_at lw_m8 33 rfl) rfl
theorem q1800 : (Jvm.Cond.selects "SomebodysLiftModel" ({ cls := "SomebodysLiftModel", name := "enter", desc := "(I)I" } : Jvm.MethodName) ({ cls := "SomebodysLiftModel", name := "enter", desc := "(I)I" } : Jvm.MethodName)) ∈ lw_all := lw_g (lw_at lw_m8 34 rfl) rfl
theorem q1801 : (Jvm.Cond.code ({ cls := "SomebodysLiftModel", name := "enter", desc := "(I)I" } : Jvm.MethodName) prog_23_method_43_code (2 : Nat) (Option.some Jvm.ClassFile.FieldType.int)) ∈ lw_all := lw_g (lw_at lw_m8 35 rfl) rfl
theorem q1803 : (Jvm.Cond.instanceMethod ({ cls := "SomebodysLiftModel", name := "turn", desc := "(I)I" } : Jvm.MethodName)) ∈ lw_all := lw_g (lw_at lw_m8 37 rfl) rfl
theorem q1804 : (Jvm.Cond.selects "SomebodysLiftModel" ({ cls := "SomebodysLiftModel", name := "turn", desc := "(I)I" } : Jvm.MethodName) ({ cls := "SomebodysLiftModel", name := "turn", desc := "(I)I" } : Jvm.MethodName)) ∈ lw_all := lw_g (lw_at lw_m8 38 rfl) rfl
theorem q1805 : (Jvm.Cond.code ({ cls := "SomebodysLiftModel", name := "turn", desc := "(I)I" } : Jvm.MethodName) prog_23_method_44_code (3 : Nat) (Option.some Jvm.ClassFile.FieldType.int)) ∈ lw_all := lw_g (lw_at lw_m8 39 rfl) rfl
theorem q1806 : (Jvm.Cond.methodLink "SomebodysLiftModel" (320 : Nat) ({ cls := "SomebodysLiftModel", name := "isTime", desc := "(I)Z" } : Jvm.MethodName)) ∈ lw_all := lw_g (lw_at lw_m8 40 rfl) rfl
theorem q1807 : (Jvm.Cond.privateMethod ({ cls := "SomebodysLiftModel", name := "isTime", desc := "(I)Z" } : Jvm.MethodName)) ∈ lw_tbl := lw_at lw_m8 41 rfl
theorem q1808 : (Jvm.Cond.instanceMethod ({ cls := "SomebodysLiftModel", name := "isTime", desc := "(I)Z" } : Jvm.MethodName)) ∈ lw_all := lw_g (lw_at lw_m8 42 rfl) rfl
theorem q1809 : (Jvm.Cond.code ({ cls := "SomebodysLiftModel", name := "isTime", desc := "(I)Z" } : Jvm.MethodName) prog_23_method_7_code (2 : Nat) (Option.some Jvm.ClassFile.FieldType.boolean)) ∈ lw_all := lw_g (lw_at lw_m8 43 rfl) rfl
theorem q1810 : (Jvm.Cond.methodLink "SomebodysLiftModel" (323 : Nat) ({ cls := "SomebodysLiftModel", name := "goMinute", desc := "(I)V" } : Jvm.MethodName)) ∈ lw_all := lw_g (lw_at lw_m8 44 rfl) rfl
theorem q1811 : (Jvm.Cond.privateMethod ({ cls := "SomebodysLiftModel", name := "goMinute", desc := "(I)V" } : Jvm.MethodName)) ∈ lw_tbl := lw_at lw_m8 45 rfl
theorem q1812 : (Jvm.Cond.instanceMethod ({ cls := "SomebodysLiftModel", name := "goMinute", desc := "(I)V" } : Jvm.MethodName)) ∈ lw_all := lw_g (lw_at lw_m8 46 rfl) rfl
theorem q1813 : (Jvm.Cond.code ({ cls := "SomebodysLiftModel", name := "goMinute", desc := "(I)V" } : Jvm.MethodName) prog_23_method_40_code (5 : Nat) (Option.none : Option Jvm.ClassFile.FieldType)) ∈ lw_all := lw_g (lw_at lw_m8 47 rfl) rfl
theorem q1815 : (Jvm.Cond.instanceMethod ({ cls := "SomebodysLiftModel", name := "glide", desc := "(II)I" } : Jvm.MethodName)) ∈ lw_all := lw_g (lw_at lw_m8 49 rfl) rfl
theorem q1816 : (Jvm.Cond.selects "SomebodysLiftModel" ({ cls := "SomebodysLiftModel", name := "glide", desc := "(II)I" } : Jvm.MethodName) ({ cls := "SomebodysLiftModel", name := "glide", desc := "(II)I" } : Jvm.MethodName)) ∈ lw_all := lw_g (lw_at lw_m8 50 rfl) rfl
theorem q1817 : (Jvm.Cond.code ({ cls := "SomebodysLiftModel", name := "glide", desc := "(II)I" } : Jvm.MethodName) prog_23_method_45_code (3 : Nat) (Option.some Jvm.ClassFile.FieldType.int)) ∈ lw_all := lw_g (lw_at lw_m8 51 rfl) rfl
theorem q1818 : (Jvm.Cond.methodLink "SomebodysLiftModel" (326 : Nat) ({ cls := "SomebodysLiftModel", name := "isPace", desc := "(I)Z" } : Jvm.MethodName)) ∈ lw_all := lw_g (lw_at lw_m8 52 rfl) rfl
theorem q1819 : (Jvm.Cond.privateMethod ({ cls := "SomebodysLiftModel", name := "isPace", desc := "(I)Z" } : Jvm.MethodName)) ∈ lw_tbl := lw_at lw_m8 53 rfl
theorem q1820 : (Jvm.Cond.instanceMethod ({ cls := "SomebodysLiftModel", name := "isPace", desc := "(I)Z" } : Jvm.MethodName)) ∈ lw_all := lw_g (lw_at lw_m8 54 rfl) rfl
theorem q1821 : (Jvm.Cond.code ({ cls := "SomebodysLiftModel", name := "isPace", desc := "(I)Z" } : Jvm.MethodName) prog_23_method_6_code (2 : Nat) (Option.some Jvm.ClassFile.FieldType.boolean)) ∈ lw_all := lw_g (lw_at lw_m8 55 rfl) rfl
theorem q1822 : (Jvm.Cond.methodLink "SomebodysLiftModel" (313 : Nat) ({ cls := "SomebodysLiftModel", name := "apart", desc := "(II)I" } : Jvm.MethodName)) ∈ lw_all := lw_g (lw_at lw_m8 56 rfl) rfl
theorem q1823 : (Jvm.Cond.privateMethod ({ cls := "SomebodysLiftModel", name := "apart", desc := "(II)I" } : Jvm.MethodName)) ∈ lw_tbl := lw_at lw_m8 57 rfl
theorem q1824 : (Jvm.Cond.instanceMethod ({ cls := "SomebodysLiftModel", name := "apart", desc := "(II)I" } : Jvm.MethodName)) ∈ lw_all := lw_g (lw_at lw_m8 58 rfl) rfl
theorem q1825 : (Jvm.Cond.code ({ cls := "SomebodysLiftModel", name := "apart", desc := "(II)I" } : Jvm.MethodName) prog_23_method_3_code (3 : Nat) (Option.some Jvm.ClassFile.FieldType.int)) ∈ lw_all := lw_g (lw_at lw_m8 59 rfl) rfl
theorem q1826 : (Jvm.Cond.methodLink "SomebodysLiftModel" (329 : Nat) ({ cls := "SomebodysLiftModel", name := "goGlide", desc := "(II)Z" } : Jvm.MethodName)) ∈ lw_all := lw_g (lw_at lw_m8 60 rfl) rfl
theorem q1827 : (Jvm.Cond.privateMethod ({ cls := "SomebodysLiftModel", name := "goGlide", desc := "(II)Z" } : Jvm.MethodName)) ∈ lw_tbl := lw_at lw_m8 61 rfl
theorem q1828 : (Jvm.Cond.instanceMethod ({ cls := "SomebodysLiftModel", name := "goGlide", desc := "(II)Z" } : Jvm.MethodName)) ∈ lw_all := lw_g (lw_at lw_m8 62 rfl) rfl
theorem q1829 : (Jvm.Cond.code ({ cls := "SomebodysLiftModel", name := "goGlide", desc := "(II)Z" } : Jvm.MethodName) prog_23_method_42_code (3 : Nat) (Option.some Jvm.ClassFile.FieldType.boolean)) ∈ lw_all := lw_g (lw_at lw_m8 63 rfl) rfl
theorem q1830 : (Jvm.Cond.methodLink "SomebodysLiftModel" (316 : Nat) ({ cls := "SomebodysLiftModel", name := "falls", desc := "(III)I" } : Jvm.MethodName)) ∈ lw_all := lw_g (lw_at lw_m8 64 rfl) rfl
theorem q1831 : (Jvm.Cond.privateMethod ({ cls := "SomebodysLiftModel", name := "falls", desc := "(III)I" } : Jvm.MethodName)) ∈ lw_tbl := lw_at lw_m8 65 rfl
theorem q1832 : (Jvm.Cond.instanceMethod ({ cls := "SomebodysLiftModel", name := "falls", desc := "(III)I" } : Jvm.MethodName)) ∈ lw_all := lw_g (lw_at lw_m8 66 rfl) rfl
theorem q1833 : (Jvm.Cond.code ({ cls := "SomebodysLiftModel", name := "falls", desc := "(III)I" } : Jvm.MethodName) prog_23_method_41_code (4 : Nat) (Option.some Jvm.ClassFile.FieldType.int)) ∈ lw_all := lw_g (lw_at lw_m8 67 rfl) rfl
theorem q1835 : (Jvm.Cond.instanceMethod ({ cls := "SomebodysLiftModel", name := "up", desc := "(II)I" } : Jvm.MethodName)) ∈ lw_all := lw_g (lw_at lw_m8 69 rfl) rfl
theorem q1836 : (Jvm.Cond.selects "SomebodysLiftModel" ({ cls := "SomebodysLiftModel", name := "up", desc := "(II)I" } : Jvm.MethodName) ({ cls := "SomebodysLiftModel", name := "up", desc := "(II)I" } : Jvm.MethodName)) ∈ lw_all := lw_g (lw_at lw_m8 70 rfl) rfl
theorem q1837 : (Jvm.Cond.code ({ cls := "SomebodysLiftModel", name := "up", desc := "(II)I" } : Jvm.MethodName) prog_23_method_49_code (3 : Nat) (Option.some Jvm.ClassFile.FieldType.int)) ∈ lw_all := lw_g (lw_at lw_m8 71 rfl) rfl
theorem q1838 : (Jvm.Cond.methodLink "SomebodysLiftModel" (338 : Nat) ({ cls := "SomebodysLiftModel", name := "upOf", desc := "(II)I" } : Jvm.MethodName)) ∈ lw_all := lw_g (lw_at lw_m8 72 rfl) rfl
theorem q1839 : (Jvm.Cond.privateMethod ({ cls := "SomebodysLiftModel", name := "upOf", desc := "(II)I" } : Jvm.MethodName)) ∈ lw_tbl := lw_at lw_m8 73 rfl
theorem q1840 : (Jvm.Cond.instanceMethod ({ cls := "SomebodysLiftModel", name := "upOf", desc := "(II)I" } : Jvm.MethodName)) ∈ lw_all := lw_g (lw_at lw_m8 74 rfl) rfl
theorem q1841 : (Jvm.Cond.code ({ cls := "SomebodysLiftModel", name := "upOf", desc := "(II)I" } : Jvm.MethodName) prog_23_method_48_code (4 : Nat) (Option.some Jvm.ClassFile.FieldType.int)) ∈ lw_all := lw_g (lw_at lw_m8 75 rfl) rfl
theorem q1842 : (Jvm.Cond.methodLink "SomebodysLiftModel" (332 : Nat) ({ cls := "SomebodysLiftModel", name := "save", desc := "()V" } : Jvm.MethodName)) ∈ lw_all := lw_g (lw_at lw_m8 76 rfl) rfl
theorem q1843 : (Jvm.Cond.privateMethod ({ cls := "SomebodysLiftModel", name := "save", desc := "()V" } : Jvm.MethodName)) ∈ lw_tbl := lw_at lw_m8 77 rfl
theorem q1844 : (Jvm.Cond.instanceMethod ({ cls := "SomebodysLiftModel", name := "save", desc := "()V" } : Jvm.MethodName)) ∈ lw_all := lw_g (lw_at lw_m8 78 rfl) rfl
theorem q1845 : (Jvm.Cond.code ({ cls := "SomebodysLiftModel", name := "save", desc := "()V" } : Jvm.MethodName) prog_23_method_46_code (1 : Nat) (Option.none : Option Jvm.ClassFile.FieldType)) ∈ lw_all := lw_g (lw_at lw_m8 79 rfl) rfl
theorem q1846 : (Jvm.Cond.methodLink "SomebodysLiftModel" (335 : Nat) ({ cls := "SomebodysLiftModel", name := "putBack", desc := "()V" } : Jvm.MethodName)) ∈ lw_all := lw_g (lw_at lw_m8 80 rfl) rfl
theorem q1847 : (Jvm.Cond.privateMethod ({ cls := "SomebodysLiftModel", name := "putBack", desc := "()V" } : Jvm.MethodName)) ∈ lw_tbl := lw_at lw_m8 81 rfl
theorem q1848 : (Jvm.Cond.instanceMethod ({ cls := "SomebodysLiftModel", name := "putBack", desc := "()V" } : Jvm.MethodName)) ∈ lw_all := lw_g (lw_at lw_m8 82 rfl) rfl
theorem q1849 : (Jvm.Cond.code ({ cls := "SomebodysLiftModel", name := "putBack", desc := "()V" } : Jvm.MethodName) prog_23_method_47_code (1 : Nat) (Option.none : Option Jvm.ClassFile.FieldType)) ∈ lw_all := lw_g (lw_at lw_m8 83 rfl) rfl
theorem q1851 : (Jvm.Cond.instanceMethod ({ cls := "SomebodysLiftModel", name := "top", desc := "(II)I" } : Jvm.MethodName)) ∈ lw_all := lw_g (lw_at lw_m8 85 rfl) rfl
theorem q1852 : (Jvm.Cond.selects "SomebodysLiftModel" ({ cls := "SomebodysLiftModel", name := "top", desc := "(II)I" } : Jvm.MethodName) ({ cls := "SomebodysLiftModel", name := "top", desc := "(II)I" } : Jvm.MethodName)) ∈ lw_all := lw_g (lw_at lw_m8 86 rfl) rfl
theorem q1853 : (Jvm.Cond.code ({ cls := "SomebodysLiftModel", name := "top", desc := "(II)I" } : Jvm.MethodName) prog_23_method_50_code (6 : Nat) (Option.some Jvm.ClassFile.FieldType.int)) ∈ lw_all := lw_g (lw_at lw_m8 87 rfl) rfl
theorem q1855 : (Jvm.Cond.instanceMethod ({ cls := "SomebodysLiftModel", name := "arrives", desc := "(II)I" } : Jvm.MethodName)) ∈ lw_all := lw_g (lw_at lw_m8 89 rfl) rfl
theorem q1856 : (Jvm.Cond.selects "SomebodysLiftModel" ({ cls := "SomebodysLiftModel", name := "arrives", desc := "(II)I" } : Jvm.MethodName) ({ cls := "SomebodysLiftModel", name := "arrives", desc := "(II)I" } : Jvm.MethodName)) ∈ lw_all := lw_g (lw_at lw_m8 90 rfl) rfl
theorem q1857 : (Jvm.Cond.code ({ cls := "SomebodysLiftModel", name := "arrives", desc := "(II)I" } : Jvm.MethodName) prog_23_method_51_code (4 : Nat) (Option.some Jvm.ClassFile.FieldType.int)) ∈ lw_all := lw_g (lw_at lw_m8 91 rfl) rfl
theorem q1859 : (Jvm.Cond.instanceMethod ({ cls := "SomebodysLiftModel", name := "outed", desc := "(II)I" } : Jvm.MethodName)) ∈ lw_all := lw_g (lw_at lw_m8 93 rfl) rfl
theorem q1860 : (Jvm.Cond.selects "SomebodysLiftModel" ({ cls := "SomebodysLiftModel", name := "outed", desc := "(II)I" } : Jvm.MethodName) ({ cls := "SomebodysLiftModel", name := "outed", desc := "(II)I" } : Jvm.MethodName)) ∈ lw_all := lw_g (lw_at lw_m8 94 rfl) rfl
theorem q1861 : (Jvm.Cond.code ({ cls := "SomebodysLiftModel", name := "outed", desc := "(II)I" } : Jvm.MethodName) prog_23_method_52_code (4 : Nat) (Option.some Jvm.ClassFile.FieldType.int)) ∈ lw_all := lw_g (lw_at lw_m8 95 rfl) rfl
theorem q1863 : (Jvm.Cond.instanceMethod ({ cls := "SomebodysLiftModel", name := "reach", desc := "(I)I" } : Jvm.MethodName)) ∈ lw_all := lw_g (lw_at lw_m8 97 rfl) rfl
theorem q1864 : (Jvm.Cond.selects "SomebodysLiftModel" ({ cls := "SomebodysLiftModel", name := "reach", desc := "(I)I" } : Jvm.MethodName) ({ cls := "SomebodysLiftModel", name := "reach", desc := "(I)I" } : Jvm.MethodName)) ∈ lw_all := lw_g (lw_at lw_m8 98 rfl) rfl
theorem q1865 : (Jvm.Cond.code ({ cls := "SomebodysLiftModel", name := "reach", desc := "(I)I" } : Jvm.MethodName) prog_23_method_54_code (4 : Nat) (Option.some Jvm.ClassFile.FieldType.int)) ∈ lw_all := lw_g (lw_at lw_m8 99 rfl) rfl
theorem q1866 : (Jvm.Cond.methodLink "SomebodysLiftModel" (341 : Nat) ({ cls := "SomebodysLiftModel", name := "canReach", desc := "(II)Z" } : Jvm.MethodName)) ∈ lw_all := lw_g (lw_at lw_m8 100 rfl) rfl
theorem q1867 : (Jvm.Cond.privateMethod ({ cls := "SomebodysLiftModel", name := "canReach", desc := "(II)Z" } : Jvm.MethodName)) ∈ lw_tbl := lw_at lw_m8 101 rfl
theorem q1868 : (Jvm.Cond.instanceMethod ({ cls := "SomebodysLiftModel", name := "canReach", desc := "(II)Z" } : Jvm.MethodName)) ∈ lw_all := lw_g (lw_at lw_m8 102 rfl) rfl
theorem q1869 : (Jvm.Cond.code ({ cls := "SomebodysLiftModel", name := "canReach", desc := "(II)Z" } : Jvm.MethodName) prog_23_method_53_code (4 : Nat) (Option.some Jvm.ClassFile.FieldType.boolean)) ∈ lw_all := lw_g (lw_at lw_m8 103 rfl) rfl
theorem q1871 : (Jvm.Cond.instanceMethod ({ cls := "SomebodysLiftModel", name := "next", desc := "(I)I" } : Jvm.MethodName)) ∈ lw_all := lw_g (lw_at lw_m8 105 rfl) rfl
theorem q1872 : (Jvm.Cond.selects "SomebodysLiftModel" ({ cls := "SomebodysLiftModel", name := "next", desc := "(I)I" } : Jvm.MethodName) ({ cls := "SomebodysLiftModel", name := "next", desc := "(I)I" } : Jvm.MethodName)) ∈ lw_all := lw_g (lw_at lw_m8 106 rfl) rfl
theorem q1873 : (Jvm.Cond.code ({ cls := "SomebodysLiftModel", name := "next", desc := "(I)I" } : Jvm.MethodName) prog_23_method_55_code (7 : Nat) (Option.some Jvm.ClassFile.FieldType.int)) ∈ lw_all := lw_g (lw_at lw_m8 107 rfl) rfl
theorem q1875 : (Jvm.Cond.instanceMethod ({ cls := "SomebodysLiftModel", name := "lowest", desc := "(II)I" } : Jvm.MethodName)) ∈ lw_all := lw_g (lw_at lw_m8 109 rfl) rfl
theorem q1876 : (Jvm.Cond.selects "SomebodysLiftModel" ({ cls := "SomebodysLiftModel", name := "lowest", desc := "(II)I" } : Jvm.MethodName) ({ cls := "SomebodysLiftModel", name := "lowest", desc := "(II)I" } : Jvm.MethodName)) ∈ lw_all := lw_g (lw_at lw_m8 110 rfl) rfl
theorem q1877 : (Jvm.Cond.code ({ cls := "SomebodysLiftModel", name := "lowest", desc := "(II)I" } : Jvm.MethodName) prog_23_method_56_code (4 : Nat) (Option.some Jvm.ClassFile.FieldType.int)) ∈ lw_all := lw_g (lw_at lw_m8 111 rfl) rfl
theorem q1879 : (Jvm.Cond.instanceMethod ({ cls := "SomebodysLiftModel", name := "by", desc := "(III)I" } : Jvm.MethodName)) ∈ lw_all := lw_g (lw_at lw_m8 113 rfl) rfl
theorem q1880 : (Jvm.Cond.selects "SomebodysLiftModel" ({ cls := "SomebodysLiftModel", name := "by", desc := "(III)I" } : Jvm.MethodName) ({ cls := "SomebodysLiftModel", name := "by", desc := "(III)I" } : Jvm.MethodName)) ∈ lw_all := lw_g (lw_at lw_m8 114 rfl) rfl
theorem q1881 : (Jvm.Cond.code ({ cls := "SomebodysLiftModel", name := "by", desc := "(III)I" } : Jvm.MethodName) prog_23_method_59_code (5 : Nat) (Option.some Jvm.ClassFile.FieldType.int)) ∈ lw_all := lw_g (lw_at lw_m8 115 rfl) rfl
theorem q1882 : (Jvm.Cond.methodLink "SomebodysLiftModel" (348 : Nat) ({ cls := "SomebodysLiftModel", name := "byOf", desc := "(III)I" } : Jvm.MethodName)) ∈ lw_all := lw_g (lw_at lw_m8 116 rfl) rfl
theorem q1883 : (Jvm.Cond.privateMethod ({ cls := "SomebodysLiftModel", name := "byOf", desc := "(III)I" } : Jvm.MethodName)) ∈ lw_tbl := lw_at lw_m8 117 rfl
theorem q1884 : (Jvm.Cond.instanceMethod ({ cls := "SomebodysLiftModel", name := "byOf", desc := "(III)I" } : Jvm.MethodName)) ∈ lw_all := lw_g (lw_at lw_m8 118 rfl) rfl
theorem q1885 : (Jvm.Cond.code ({ cls := "SomebodysLiftModel", name := "byOf", desc := "(III)I" } : Jvm.MethodName) prog_23_method_58_code (6 : Nat) (Option.some Jvm.ClassFile.FieldType.int)) ∈ lw_all := lw_g (lw_at lw_m8 119 rfl) rfl
theorem q1886 : (Jvm.Cond.methodLink "SomebodysLiftModel" (344 : Nat) ({ cls := "SomebodysLiftModel", name := "rises", desc := "(IIII)Z" } : Jvm.MethodName)) ∈ lw_all := lw_g (lw_at lw_m8 120 rfl) rfl
theorem q1887 : (Jvm.Cond.privateMethod ({ cls := "SomebodysLiftModel", name := "rises", desc := "(IIII)Z" } : Jvm.MethodName)) ∈ lw_tbl := lw_at lw_m8 121 rfl
theorem q1888 : (Jvm.Cond.instanceMethod ({ cls := "SomebodysLiftModel", name := "rises", desc := "(IIII)Z" } : Jvm.MethodName)) ∈ lw_all := lw_g (lw_at lw_m8 122 rfl) rfl
theorem q1889 : (Jvm.Cond.code ({ cls := "SomebodysLiftModel", name := "rises", desc := "(IIII)Z" } : Jvm.MethodName) prog_23_method_57_code (7 : Nat) (Option.some Jvm.ClassFile.FieldType.boolean)) ∈ lw_all := lw_g (lw_at lw_m8 123 rfl) rfl
theorem q1891 : (Jvm.Cond.instanceMethod ({ cls := "SomebodysLiftModel", name := "straight", desc := "(I)I" } : Jvm.MethodName)) ∈ lw_all := lw_g (lw_at lw_m8 125 rfl) rfl
theorem q1892 : (Jvm.Cond.selects "SomebodysLiftModel" ({ cls := "SomebodysLiftModel", name := "straight", desc := "(I)I" } : Jvm.MethodName) ({ cls := "SomebodysLiftModel", name := "straight", desc := "(I)I" } : Jvm.MethodName)) ∈ lw_all := lw_g (lw_at lw_m8 126 rfl) rfl
theorem q1893 : (Jvm.Cond.code ({ cls := "SomebodysLiftModel", name := "straight", desc := "(I)I" } : Jvm.MethodName) prog_23_method_61_code (2 : Nat) (Option.some Jvm.ClassFile.FieldType.int)) ∈ lw_all := lw_g (lw_at lw_m8 127 rfl) rfl
theorem q1894 : (Jvm.Cond.methodLink "SomebodysLiftModel" (351 : Nat) ({ cls := "SomebodysLiftModel", name := "straightOf", desc := "(I)I" } : Jvm.MethodName)) ∈ lw_all := lw_g (lw_at lw_m8 128 rfl) rfl
theorem q1895 : (Jvm.Cond.privateMethod ({ cls := "SomebodysLiftModel", name := "straightOf", desc := "(I)I" } : Jvm.MethodName)) ∈ lw_tbl := lw_at lw_m8 129 rfl
theorem q1896 : (Jvm.Cond.instanceMethod ({ cls := "SomebodysLiftModel", name := "straightOf", desc := "(I)I" } : Jvm.MethodName)) ∈ lw_all := lw_g (lw_at lw_m8 130 rfl) rfl
theorem q1897 : (Jvm.Cond.code ({ cls := "SomebodysLiftModel", name := "straightOf", desc := "(I)I" } : Jvm.MethodName) prog_23_method_60_code (3 : Nat) (Option.some Jvm.ClassFile.FieldType.int)) ∈ lw_all := lw_g (lw_at lw_m8 131 rfl) rfl
theorem q1899 : (Jvm.Cond.instanceMethod ({ cls := "SomebodysLiftModel", name := "best", desc := "(I)I" } : Jvm.MethodName)) ∈ lw_all := lw_g (lw_at lw_m8 133 rfl) rfl
theorem q1900 : (Jvm.Cond.selects "SomebodysLiftModel" ({ cls := "SomebodysLiftModel", name := "best", desc := "(I)I" } : Jvm.MethodName) ({ cls := "SomebodysLiftModel", name := "best", desc := "(I)I" } : Jvm.MethodName)) ∈ lw_all := lw_g (lw_at lw_m8 134 rfl) rfl
theorem q1901 : (Jvm.Cond.code ({ cls := "SomebodysLiftModel", name := "best", desc := "(I)I" } : Jvm.MethodName) prog_23_method_64_code (2 : Nat) (Option.some Jvm.ClassFile.FieldType.int)) ∈ lw_all := lw_g (lw_at lw_m8 135 rfl) rfl
theorem q1902 : (Jvm.Cond.methodLink "SomebodysLiftModel" (358 : Nat) ({ cls := "SomebodysLiftModel", name := "layBest", desc := "(I)V" } : Jvm.MethodName)) ∈ lw_all := lw_g (lw_at lw_m8 136 rfl) rfl
theorem q1903 : (Jvm.Cond.privateMethod ({ cls := "SomebodysLiftModel", name := "layBest", desc := "(I)V" } : Jvm.MethodName)) ∈ lw_tbl := lw_at lw_m8 137 rfl
theorem q1904 : (Jvm.Cond.instanceMethod ({ cls := "SomebodysLiftModel", name := "layBest", desc := "(I)V" } : Jvm.MethodName)) ∈ lw_all := lw_g (lw_at lw_m8 138 rfl) rfl
theorem q1905 : (Jvm.Cond.code ({ cls := "SomebodysLiftModel", name := "layBest", desc := "(I)V" } : Jvm.MethodName) prog_23_method_63_code (4 : Nat) (Option.none : Option Jvm.ClassFile.FieldType)) ∈ lw_all := lw_g (lw_at lw_m8 139 rfl) rfl
theorem q1906 : (Jvm.Cond.methodLink "SomebodysLiftModel" (354 : Nat) ({ cls := "SomebodysLiftModel", name := "takesBest", desc := "(III)V" } : Jvm.MethodName)) ∈ lw_all := lw_g (lw_at lw_m8 140 rfl) rfl
theorem q1907 : (Jvm.Cond.privateMethod ({ cls := "SomebodysLiftModel", name := "takesBest", desc := "(III)V" } : Jvm.MethodName)) ∈ lw_tbl := lw_at lw_m8 141 rfl
theorem q1908 : (Jvm.Cond.instanceMethod ({ cls := "SomebodysLiftModel", name := "takesBest", desc := "(III)V" } : Jvm.MethodName)) ∈ lw_all := lw_g (lw_at lw_m8 142 rfl) rfl
theorem q1909 : (Jvm.Cond.code ({ cls := "SomebodysLiftModel", name := "takesBest", desc := "(III)V" } : Jvm.MethodName) prog_23_method_62_code (4 : Nat) (Option.none : Option Jvm.ClassFile.FieldType)) ∈ lw_all := lw_g (lw_at lw_m8 143 rfl) rfl
theorem q1911 : (Jvm.Cond.instanceMethod ({ cls := "SomebodysLiftModel", name := "two", desc := "(II)I" } : Jvm.MethodName)) ∈ lw_all := lw_g (lw_at lw_m8 145 rfl) rfl
theorem q1912 : (Jvm.Cond.selects "SomebodysLiftModel" ({ cls := "SomebodysLiftModel", name := "two", desc := "(II)I" } : Jvm.MethodName) ({ cls := "SomebodysLiftModel", name := "two", desc := "(II)I" } : Jvm.MethodName)) ∈ lw_all := lw_g (lw_at lw_m8 146 rfl) rfl
theorem q1913 : (Jvm.Cond.code ({ cls := "SomebodysLiftModel", name := "two", desc := "(II)I" } : Jvm.MethodName) prog_23_method_65_code (8 : Nat) (Option.some Jvm.ClassFile.FieldType.int)) ∈ lw_all := lw_g (lw_at lw_m8 147 rfl) rfl
theorem q1915 : (Jvm.Cond.instanceMethod ({ cls := "SomebodysLiftModel", name := "worth", desc := "(I)I" } : Jvm.MethodName)) ∈ lw_all := lw_g (lw_at lw_m8 149 rfl) rfl
theorem q1916 : (Jvm.Cond.selects "SomebodysLiftModel" ({ cls := "SomebodysLiftModel", name := "worth", desc := "(I)I" } : Jvm.MethodName) ({ cls := "SomebodysLiftModel", name := "worth", desc := "(I)I" } : Jvm.MethodName)) ∈ lw_all := lw_g (lw_at lw_m8 150 rfl) rfl
theorem q1917 : (Jvm.Cond.code ({ cls := "SomebodysLiftModel", name := "worth", desc := "(I)I" } : Jvm.MethodName) prog_23_method_66_code (3 : Nat) (Option.some Jvm.ClassFile.FieldType.int)) ∈ lw_all := lw_g (lw_at lw_m8 151 rfl) rfl
theorem q1919 : (Jvm.Cond.instanceMethod ({ cls := "SomebodysLiftModel", name := "leg", desc := "(II)I" } : Jvm.MethodName)) ∈ lw_all := lw_g (lw_at lw_m8 153 rfl) rfl
theorem q1920 : (Jvm.Cond.selects "SomebodysLiftModel" ({ cls := "SomebodysLiftModel", name := "leg", desc := "(II)I" } : Jvm.MethodName) ({ cls := "SomebodysLiftModel", name := "leg", desc := "(II)I" } : Jvm.MethodName)) ∈ lw_all := lw_g (lw_at lw_m8 154 rfl) rfl
theorem q1921 : (Jvm.Cond.code ({ cls := "SomebodysLiftModel", name := "leg", desc := "(II)I" } : Jvm.MethodName) prog_23_method_67_code (3 : Nat) (Option.some Jvm.ClassFile.FieldType.int)) ∈ lw_all := lw_g (lw_at lw_m8 155 rfl) rfl
theorem q1923 : (Jvm.Cond.instanceMethod ({ cls := "SomebodysLiftModel", name := "flown", desc := "(II)I" } : Jvm.MethodName)) ∈ lw_all := lw_g (lw_at lw_m8 157 rfl) rfl
theorem q1924 : (Jvm.Cond.selects "SomebodysLiftModel" ({ cls := "SomebodysLiftModel", name := "flown", desc := "(II)I" } : Jvm.MethodName) ({ cls := "SomebodysLiftModel", name := "flown", desc := "(II)I" } : Jvm.MethodName)) ∈ lw_all := lw_g (lw_at lw_m8 158 rfl) rfl
theorem q1925 : (Jvm.Cond.code ({ cls := "SomebodysLiftModel", name := "flown", desc := "(II)I" } : Jvm.MethodName) prog_23_method_68_code (6 : Nat) (Option.some Jvm.ClassFile.FieldType.int)) ∈ lw_all := lw_g (lw_at lw_m8 159 rfl) rfl
theorem q1927 : (Jvm.Cond.instanceMethod ({ cls := "SomebodysLiftModel", name := "see", desc := "(I)I" } : Jvm.MethodName)) ∈ lw_all := lw_g (lw_at lw_m8 161 rfl) rfl
theorem q1928 : (Jvm.Cond.selects "SomebodysLiftModel" ({ cls := "SomebodysLiftModel", name := "see", desc := "(I)I" } : Jvm.MethodName) ({ cls := "SomebodysLiftModel", name := "see", desc := "(I)I" } : Jvm.MethodName)) ∈ lw_all := lw_g (lw_at lw_m8 162 rfl) rfl
theorem q1929 : (Jvm.Cond.code ({ cls := "SomebodysLiftModel", name := "see", desc := "(I)I" } : Jvm.MethodName) prog_23_method_69_code (2 : Nat) (Option.some Jvm.ClassFile.FieldType.int)) ∈ lw_all := lw_g (lw_at lw_m8 163 rfl) rfl
theorem q1931 : (Jvm.Cond.instanceMethod ({ cls := "SomebodysLiftModel", name := "who", desc := "()I" } : Jvm.MethodName)) ∈ lw_all := lw_g (lw_at lw_m8 165 rfl) rfl
theorem q1932 : (Jvm.Cond.selects "SomebodysLiftModel" ({ cls := "SomebodysLiftModel", name := "who", desc := "()I" } : Jvm.MethodName) ({ cls := "SomebodysLiftModel", name := "who", desc := "()I" } : Jvm.MethodName)) ∈ lw_all := lw_g (lw_at lw_m8 166 rfl) rfl
theorem q1933 : (Jvm.Cond.code ({ cls := "SomebodysLiftModel", name := "who", desc := "()I" } : Jvm.MethodName) prog_23_method_71_code (3 : Nat) (Option.some Jvm.ClassFile.FieldType.int)) ∈ lw_all := lw_g (lw_at lw_m8 167 rfl) rfl
theorem q1934 : (Jvm.Cond.methodLink "SomebodysLiftModel" (361 : Nat) ({ cls := "SomebodysLiftModel", name := "isSeen", desc := "(I)Z" } : Jvm.MethodName)) ∈ lw_all := lw_g (lw_at lw_m8 168 rfl) rfl
theorem q1935 : (Jvm.Cond.privateMethod ({ cls := "SomebodysLiftModel", name := "isSeen", desc := "(I)Z" } : Jvm.MethodName)) ∈ lw_tbl := lw_at lw_m8 169 rfl
theorem q1936 : (Jvm.Cond.instanceMethod ({ cls := "SomebodysLiftModel", name := "isSeen", desc := "(I)Z" } : Jvm.MethodName)) ∈ lw_all := lw_g (lw_at lw_m8 170 rfl) rfl
theorem q1937 : (Jvm.Cond.code ({ cls := "SomebodysLiftModel", name := "isSeen", desc := "(I)Z" } : Jvm.MethodName) prog_23_method_70_code (5 : Nat) (Option.some Jvm.ClassFile.FieldType.boolean)) ∈ lw_all := lw_g (lw_at lw_m8 171 rfl) rfl
theorem q1939 : (Jvm.Cond.instanceMethod ({ cls := "SomebodysLiftModel", name := "odds", desc := "(III)J" } : Jvm.MethodName)) ∈ lw_all := lw_g (lw_at lw_m8 173 rfl) rfl
theorem q1940 : (Jvm.Cond.selects "SomebodysLiftModel" ({ cls := "SomebodysLiftModel", name := "odds", desc := "(III)J" } : Jvm.MethodName) ({ cls := "SomebodysLiftModel", name := "odds", desc := "(III)J" } : Jvm.MethodName)) ∈ lw_all := lw_g (lw_at lw_m8 174 rfl) rfl
theorem q1941 : (Jvm.Cond.code ({ cls := "SomebodysLiftModel", name := "odds", desc := "(III)J" } : Jvm.MethodName) prog_23_method_74_code (6 : Nat) (Option.some Jvm.ClassFile.FieldType.long)) ∈ lw_all := lw_g (lw_at lw_m8 175 rfl) rfl
theorem q1942 : (Jvm.Cond.constantLong "SomebodysLiftModel" (367 : Nat) (-9223372036854775808 : Int64)) ∈ lw_all := lw_g (lw_at lw_m8 176 rfl) rfl
theorem q1943 : (Jvm.Cond.methodLink "SomebodysLiftModel" (369 : Nat) ({ cls := "SomebodysLiftModel", name := "lowestTerms", desc := "(III)J" } : Jvm.MethodName)) ∈ lw_all := lw_g (lw_at lw_m8 177 rfl) rfl
theorem q1944 : (Jvm.Cond.privateMethod ({ cls := "SomebodysLiftModel", name := "lowestTerms", desc := "(III)J" } : Jvm.MethodName)) ∈ lw_tbl := lw_at lw_m8 178 rfl
theorem q1945 : (Jvm.Cond.instanceMethod ({ cls := "SomebodysLiftModel", name := "lowestTerms", desc := "(III)J" } : Jvm.MethodName)) ∈ lw_all := lw_g (lw_at lw_m8 179 rfl) rfl
theorem q1946 : (Jvm.Cond.code ({ cls := "SomebodysLiftModel", name := "lowestTerms", desc := "(III)J" } : Jvm.MethodName) prog_23_method_73_code (5 : Nat) (Option.some Jvm.ClassFile.FieldType.long)) ∈ lw_all := lw_g (lw_at lw_m8 180 rfl) rfl
theorem q1947 : (Jvm.Cond.methodLink "SomebodysLiftModel" (364 : Nat) ({ cls := "SomebodysLiftModel", name := "divisor", desc := "(II)I" } : Jvm.MethodName)) ∈ lw_all := lw_g (lw_at lw_m8 181 rfl) rfl
theorem q1948 : (Jvm.Cond.privateMethod ({ cls := "SomebodysLiftModel", name := "divisor", desc := "(II)I" } : Jvm.MethodName)) ∈ lw_tbl := lw_at lw_m8 182 rfl
theorem q1949 : (Jvm.Cond.instanceMethod ({ cls := "SomebodysLiftModel", name := "divisor", desc := "(II)I" } : Jvm.MethodName)) ∈ lw_all := lw_g (lw_at lw_m8 183 rfl) rfl
theorem q1950 : (Jvm.Cond.code ({ cls := "SomebodysLiftModel", name := "divisor", desc := "(II)I" } : Jvm.MethodName) prog_23_method_72_code (6 : Nat) (Option.some Jvm.ClassFile.FieldType.int)) ∈ lw_all := lw_g (lw_at lw_m8 184 rfl) rfl
theorem q1952 : (Jvm.Cond.instanceMethod ({ cls := "SomebodysLiftModel", name := "mean", desc := "(II)J" } : Jvm.MethodName)) ∈ lw_all := lw_g (lw_at lw_m8 186 rfl) rfl
theorem q1953 : (Jvm.Cond.selects "SomebodysLiftModel" ({ cls := "SomebodysLiftModel", name := "mean", desc := "(II)J" } : Jvm.MethodName) ({ cls := "SomebodysLiftModel", name := "mean", desc := "(II)J" } : Jvm.MethodName)) ∈ lw_all := lw_g (lw_at lw_m8 187 rfl) rfl
theorem q1954 : (Jvm.Cond.code ({ cls := "SomebodysLiftModel", name := "mean", desc := "(II)J" } : Jvm.MethodName) prog_23_method_75_code (5 : Nat) (Option.some Jvm.ClassFile.FieldType.long)) ∈ lw_all := lw_g (lw_at lw_m8 188 rfl) rfl
theorem q1956 : (Jvm.Cond.instanceMethod ({ cls := "SomebodysLiftModel", name := "book", desc := "(II)I" } : Jvm.MethodName)) ∈ lw_all := lw_g (lw_at lw_m8 190 rfl) rfl
theorem q1957 : (Jvm.Cond.selects "SomebodysLiftModel" ({ cls := "SomebodysLiftModel", name := "book", desc := "(II)I" } : Jvm.MethodName) ({ cls := "SomebodysLiftModel", name := "book", desc := "(II)I" } : Jvm.MethodName)) ∈ lw_all := lw_g (lw_at lw_m8 191 rfl) rfl
theorem q1958 : (Jvm.Cond.code ({ cls := "SomebodysLiftModel", name := "book", desc := "(II)I" } : Jvm.MethodName) prog_23_method_76_code (3 : Nat) (Option.some Jvm.ClassFile.FieldType.int)) ∈ lw_all := lw_g (lw_at lw_m8 192 rfl) rfl
theorem q1960 : (Jvm.Cond.instanceMethod ({ cls := "SomebodysLiftModel", name := "looked", desc := "()I" } : Jvm.MethodName)) ∈ lw_all := lw_g (lw_at lw_m8 194 rfl) rfl
theorem q1961 : (Jvm.Cond.selects "SomebodysLiftModel" ({ cls := "SomebodysLiftModel", name := "looked", desc := "()I" } : Jvm.MethodName) ({ cls := "SomebodysLiftModel", name := "looked", desc := "()I" } : Jvm.MethodName)) ∈ lw_all := lw_g (lw_at lw_m8 195 rfl) rfl
theorem q1962 : (Jvm.Cond.code ({ cls := "SomebodysLiftModel", name := "looked", desc := "()I" } : Jvm.MethodName) prog_23_method_77_code (2 : Nat) (Option.some Jvm.ClassFile.FieldType.int)) ∈ lw_all := lw_g (lw_at lw_m8 196 rfl) rfl
theorem q1964 : (Jvm.Cond.instanceMethod ({ cls := "SomebodysLiftModel", name := "judge", desc := "(II)I" } : Jvm.MethodName)) ∈ lw_all := lw_g (lw_at lw_m8 198 rfl) rfl
theorem q1965 : (Jvm.Cond.selects "SomebodysLiftModel" ({ cls := "SomebodysLiftModel", name := "judge", desc := "(II)I" } : Jvm.MethodName) ({ cls := "SomebodysLiftModel", name := "judge", desc := "(II)I" } : Jvm.MethodName)) ∈ lw_all := lw_g (lw_at lw_m8 199 rfl) rfl
theorem q1966 : (Jvm.Cond.code ({ cls := "SomebodysLiftModel", name := "judge", desc := "(II)I" } : Jvm.MethodName) prog_23_method_78_code (4 : Nat) (Option.some Jvm.ClassFile.FieldType.int)) ∈ lw_all := lw_g (lw_at lw_m8 200 rfl) rfl
theorem q1967 : (Jvm.Cond.methodLink "SomebodysLiftModel" (373 : Nat) ({ cls := "SomebodysLiftModel", name := "isTape", desc := "(I)Z" } : Jvm.MethodName)) ∈ lw_all := lw_g (lw_at lw_m8 201 rfl) rfl
theorem q1968 : (Jvm.Cond.privateMethod ({ cls := "SomebodysLiftModel", name := "isTape", desc := "(I)Z" } : Jvm.MethodName)) ∈ lw_tbl := lw_at lw_m8 202 rfl
theorem q1969 : (Jvm.Cond.instanceMethod ({ cls := "SomebodysLiftModel", name := "isTape", desc := "(I)Z" } : Jvm.MethodName)) ∈ lw_all := lw_g (lw_at lw_m8 203 rfl) rfl
theorem q1970 : (Jvm.Cond.code ({ cls := "SomebodysLiftModel", name := "isTape", desc := "(I)Z" } : Jvm.MethodName) prog_23_method_93_code (2 : Nat) (Option.some Jvm.ClassFile.FieldType.boolean)) ∈ lw_all := lw_g (lw_at lw_m8 204 rfl) rfl
theorem q1972 : (Jvm.Cond.instanceMethod ({ cls := "SomebodysLiftModel", name := "image", desc := "()I" } : Jvm.MethodName)) ∈ lw_all := lw_g (lw_at lw_m8 206 rfl) rfl
theorem q1973 : (Jvm.Cond.selects "SomebodysLiftModel" ({ cls := "SomebodysLiftModel", name := "image", desc := "()I" } : Jvm.MethodName) ({ cls := "SomebodysLiftModel", name := "image", desc := "()I" } : Jvm.MethodName)) ∈ lw_all := lw_g (lw_at lw_m8 207 rfl) rfl
theorem q1974 : (Jvm.Cond.code ({ cls := "SomebodysLiftModel", name := "image", desc := "()I" } : Jvm.MethodName) prog_23_method_79_code (2 : Nat) (Option.some Jvm.ClassFile.FieldType.int)) ∈ lw_all := lw_g (lw_at lw_m8 208 rfl) rfl
theorem q1976 : (Jvm.Cond.instanceMethod ({ cls := "SomebodysLiftModel", name := "undo", desc := "()I" } : Jvm.MethodName)) ∈ lw_all := lw_g (lw_at lw_m8 210 rfl) rfl
theorem q1977 : (Jvm.Cond.selects "SomebodysLiftModel" ({ cls := "SomebodysLiftModel", name := "undo", desc := "()I" } : Jvm.MethodName) ({ cls := "SomebodysLiftModel", name := "undo", desc := "()I" } : Jvm.MethodName)) ∈ lw_all := lw_g (lw_at lw_m8 211 rfl) rfl
theorem q1978 : (Jvm.Cond.code ({ cls := "SomebodysLiftModel", name := "undo", desc := "()I" } : Jvm.MethodName) prog_23_method_80_code (2 : Nat) (Option.some Jvm.ClassFile.FieldType.int)) ∈ lw_all := lw_g (lw_at lw_m8 212 rfl) rfl
theorem q1980 : (Jvm.Cond.instanceMethod ({ cls := "SomebodysLiftModel", name := "act", desc := "(III)I" } : Jvm.MethodName)) ∈ lw_all := lw_g (lw_at lw_m8 214 rfl) rfl
theorem q1981 : (Jvm.Cond.selects "SomebodysLiftModel" ({ cls := "SomebodysLiftModel", name := "act", desc := "(III)I" } : Jvm.MethodName) ({ cls := "SomebodysLiftModel", name := "act", desc := "(III)I" } : Jvm.MethodName)) ∈ lw_all := lw_g (lw_at lw_m8 215 rfl) rfl
theorem q1982 : (Jvm.Cond.code ({ cls := "SomebodysLiftModel", name := "act", desc := "(III)I" } : Jvm.MethodName) prog_23_method_89_code (4 : Nat) (Option.some Jvm.ClassFile.FieldType.int)) ∈ lw_all := lw_g (lw_at lw_m8 216 rfl) rfl
theorem q1983 : (Jvm.Cond.methodLink "SomebodysLiftModel" (382 : Nat) ({ cls := "SomebodysLiftModel", name := "turnsAct", desc := "(II)I" } : Jvm.MethodName)) ∈ lw_all := lw_g (lw_at lw_m8 217 rfl) rfl
theorem q1984 : (Jvm.Cond.privateMethod ({ cls := "SomebodysLiftModel", name := "turnsAct", desc := "(II)I" } : Jvm.MethodName)) ∈ lw_tbl := lw_at lw_m8 218 rfl
theorem q1985 : (Jvm.Cond.instanceMethod ({ cls := "SomebodysLiftModel", name := "turnsAct", desc := "(II)I" } : Jvm.MethodName)) ∈ lw_all := lw_g (lw_at lw_m8 219 rfl) rfl
theorem q1986 : (Jvm.Cond.code ({ cls := "SomebodysLiftModel", name := "turnsAct", desc := "(II)I" } : Jvm.MethodName) prog_23_method_83_code (3 : Nat) (Option.some Jvm.ClassFile.FieldType.int)) ∈ lw_all := lw_g (lw_at lw_m8 220 rfl) rfl
theorem q1987 : (Jvm.Cond.methodLink "SomebodysLiftModel" (376 : Nat) ({ cls := "SomebodysLiftModel", name := "body", desc := "(I)V" } : Jvm.MethodName)) ∈ lw_all := lw_g (lw_at lw_m8 221 rfl) rfl
theorem q1988 : (Jvm.Cond.privateMethod ({ cls := "SomebodysLiftModel", name := "body", desc := "(I)V" } : Jvm.MethodName)) ∈ lw_tbl := lw_at lw_m8 222 rfl
theorem q1989 : (Jvm.Cond.instanceMethod ({ cls := "SomebodysLiftModel", name := "body", desc := "(I)V" } : Jvm.MethodName)) ∈ lw_all := lw_g (lw_at lw_m8 223 rfl) rfl
theorem q1990 : (Jvm.Cond.code ({ cls := "SomebodysLiftModel", name := "body", desc := "(I)V" } : Jvm.MethodName) prog_23_method_81_code (2 : Nat) (Option.none : Option Jvm.ClassFile.FieldType)) ∈ lw_all := lw_g (lw_at lw_m8 224 rfl) rfl
theorem q1991 : (Jvm.Cond.methodLink "SomebodysLiftModel" (379 : Nat) ({ cls := "SomebodysLiftModel", name := "liftTurns", desc := "(II)I" } : Jvm.MethodName)) ∈ lw_all := lw_g (lw_at lw_m8 225 rfl) rfl
theorem q1992 : (Jvm.Cond.privateMethod ({ cls := "SomebodysLiftModel", name := "liftTurns", desc := "(II)I" } : Jvm.MethodName)) ∈ lw_tbl := lw_at lw_m8 226 rfl
theorem q1993 : (Jvm.Cond.instanceMethod ({ cls := "SomebodysLiftModel", name := "liftTurns", desc := "(II)I" } : Jvm.MethodName)) ∈ lw_all := lw_g (lw_at lw_m8 227 rfl) rfl
theorem q1994 : (Jvm.Cond.code ({ cls := "SomebodysLiftModel", name := "liftTurns", desc := "(II)I" } : Jvm.MethodName) prog_23_method_82_code (3 : Nat) (Option.some Jvm.ClassFile.FieldType.int)) ∈ lw_all := lw_g (lw_at lw_m8 228 rfl) rfl
theorem q1995 : (Jvm.Cond.methodLink "SomebodysLiftModel" (391 : Nat) ({ cls := "SomebodysLiftModel", name := "climbsAct", desc := "(II)I" } : Jvm.MethodName)) ∈ lw_all := lw_g (lw_at lw_m8 229 rfl) rfl
theorem q1996 : (Jvm.Cond.privateMethod ({ cls := "SomebodysLiftModel", name := "climbsAct", desc := "(II)I" } : Jvm.MethodName)) ∈ lw_tbl := lw_at lw_m8 230 rfl
theorem q1997 : (Jvm.Cond.instanceMethod ({ cls := "SomebodysLiftModel", name := "climbsAct", desc := "(II)I" } : Jvm.MethodName)) ∈ lw_all := lw_g (lw_at lw_m8 231 rfl) rfl
theorem q1998 : (Jvm.Cond.code ({ cls := "SomebodysLiftModel", name := "climbsAct", desc := "(II)I" } : Jvm.MethodName) prog_23_method_86_code (4 : Nat) (Option.some Jvm.ClassFile.FieldType.int)) ∈ lw_all := lw_g (lw_at lw_m8 232 rfl) rfl
theorem q1999 : (Jvm.Cond.methodLink "SomebodysLiftModel" (388 : Nat) ({ cls := "SomebodysLiftModel", name := "strongClimbs", desc := "(II)I" } : Jvm.MethodName)) ∈ lw_all := lw_g (lw_at lw_m8 233 rfl) rfl
theorem q2000 : (Jvm.Cond.privateMethod ({ cls := "SomebodysLiftModel", name := "strongClimbs", desc := "(II)I" } : Jvm.MethodName)) ∈ lw_tbl := lw_at lw_m8 234 rfl
theorem q2001 : (Jvm.Cond.instanceMethod ({ cls := "SomebodysLiftModel", name := "strongClimbs", desc := "(II)I" } : Jvm.MethodName)) ∈ lw_all := lw_g (lw_at lw_m8 235 rfl) rfl
theorem q2002 : (Jvm.Cond.code ({ cls := "SomebodysLiftModel", name := "strongClimbs", desc := "(II)I" } : Jvm.MethodName) prog_23_method_85_code (3 : Nat) (Option.some Jvm.ClassFile.FieldType.int)) ∈ lw_all := lw_g (lw_at lw_m8 236 rfl) rfl
theorem q2003 : (Jvm.Cond.methodLink "SomebodysLiftModel" (385 : Nat) ({ cls := "SomebodysLiftModel", name := "liftClimbs", desc := "(II)I" } : Jvm.MethodName)) ∈ lw_all := lw_g (lw_at lw_m8 237 rfl) rfl
theorem q2004 : (Jvm.Cond.privateMethod ({ cls := "SomebodysLiftModel", name := "liftClimbs", desc := "(II)I" } : Jvm.MethodName)) ∈ lw_tbl := lw_at lw_m8 238 rfl
theorem q2005 : (Jvm.Cond.instanceMethod ({ cls := "SomebodysLiftModel", name := "liftClimbs", desc := "(II)I" } : Jvm.MethodName)) ∈ lw_all := lw_g (lw_at lw_m8 239 rfl) rfl
theorem q2006 : (Jvm.Cond.code ({ cls := "SomebodysLiftModel", name := "liftClimbs", desc := "(II)I" } : Jvm.MethodName) prog_23_method_84_code (3 : Nat) (Option.some Jvm.ClassFile.FieldType.int)) ∈ lw_all := lw_g (lw_at lw_m9 0 rfl) rfl
theorem q2007 : (Jvm.Cond.methodLink "SomebodysLiftModel" (397 : Nat) ({ cls := "SomebodysLiftModel", name := "tellsAct", desc := "(II)I" } : Jvm.MethodName)) ∈ lw_all := lw_g (lw_at lw_m9 1 rfl) rfl
theorem q2008 : (Jvm.Cond.privateMethod ({ cls := "SomebodysLiftModel", name := "tellsAct", desc := "(II)I" } : Jvm.MethodName)) ∈ lw_tbl := lw_at lw_m9 2 rfl
theorem q2009 : (Jvm.Cond.instanceMethod ({ cls := "SomebodysLiftModel", name := "tellsAct", desc := "(II)I" } : Jvm.MethodName)) ∈ lw_all := lw_g (lw_at lw_m9 3 rfl) rfl
theorem q2010 : (Jvm.Cond.code ({ cls := "SomebodysLiftModel", name := "tellsAct", desc := "(II)I" } : Jvm.MethodName) prog_23_method_88_code (4 : Nat) (Option.some Jvm.ClassFile.FieldType.int)) ∈ lw_all := lw_g (lw_at lw_m9 4 rfl) rfl
theorem q2011 : (Jvm.Cond.methodLink "SomebodysLiftModel" (394 : Nat) ({ cls := "SomebodysLiftModel", name := "liftTells", desc := "(II)I" } : Jvm.MethodName)) ∈ lw_all := lw_g (lw_at lw_m9 5 rfl) rfl
theorem q2012 : (Jvm.Cond.privateMethod ({ cls := "SomebodysLiftModel", name := "liftTells", desc := "(II)I" } : Jvm.MethodName)) ∈ lw_tbl := lw_at lw_m9 6 rfl
theorem q2013 : (Jvm.Cond.instanceMethod ({ cls := "SomebodysLiftModel", name := "liftTells", desc := "(II)I" } : Jvm.MethodName)) ∈ lw_all := lw_g (lw_at lw_m9 7 rfl) rfl
theorem q2014 : (Jvm.Cond.code ({ cls := "SomebodysLiftModel", name := "liftTells", desc := "(II)I" } : Jvm.MethodName) prog_23_method_87_code (3 : Nat) (Option.some Jvm.ClassFile.FieldType.int)) ∈ lw_all := lw_g (lw_at lw_m9 8 rfl) rfl
theorem q2016 : (Jvm.Cond.instanceMethod ({ cls := "SomebodysLiftModel", name := "trace", desc := "(I)I" } : Jvm.MethodName)) ∈ lw_all := lw_g (lw_at lw_m9 10 rfl) rfl
theorem q2017 : (Jvm.Cond.selects "SomebodysLiftModel" ({ cls := "SomebodysLiftModel", name := "trace", desc := "(I)I" } : Jvm.MethodName) ({ cls := "SomebodysLiftModel", name := "trace", desc := "(I)I" } : Jvm.MethodName)) ∈ lw_all := lw_g (lw_at lw_m9 11 rfl) rfl
theorem q2018 : (Jvm.Cond.code ({ cls := "SomebodysLiftModel", name := "trace", desc := "(I)I" } : Jvm.MethodName) prog_23_method_90_code (2 : Nat) (Option.some Jvm.ClassFile.FieldType.int)) ∈ lw_all := lw_g (lw_at lw_m9 12 rfl) rfl
theorem q2020 : (Jvm.Cond.instanceMethod ({ cls := "SomebodysLiftModel", name := "taken", desc := "(II)I" } : Jvm.MethodName)) ∈ lw_all := lw_g (lw_at lw_m9 14 rfl) rfl
theorem q2021 : (Jvm.Cond.selects "SomebodysLiftModel" ({ cls := "SomebodysLiftModel", name := "taken", desc := "(II)I" } : Jvm.MethodName) ({ cls := "SomebodysLiftModel", name := "taken", desc := "(II)I" } : Jvm.MethodName)) ∈ lw_all := lw_g (lw_at lw_m9 15 rfl) rfl
theorem q2022 : (Jvm.Cond.code ({ cls := "SomebodysLiftModel", name := "taken", desc := "(II)I" } : Jvm.MethodName) prog_23_method_91_code (4 : Nat) (Option.some Jvm.ClassFile.FieldType.int)) ∈ lw_all := lw_g (lw_at lw_m9 16 rfl) rfl
theorem q2024 : (Jvm.Cond.instanceMethod ({ cls := "SomebodysLiftModel", name := "count", desc := "(I)I" } : Jvm.MethodName)) ∈ lw_all := lw_g (lw_at lw_m9 18 rfl) rfl
theorem q2025 : (Jvm.Cond.selects "SomebodysLiftModel" ({ cls := "SomebodysLiftModel", name := "count", desc := "(I)I" } : Jvm.MethodName) ({ cls := "SomebodysLiftModel", name := "count", desc := "(I)I" } : Jvm.MethodName)) ∈ lw_all := lw_g (lw_at lw_m9 19 rfl) rfl
theorem q2026 : (Jvm.Cond.code ({ cls := "SomebodysLiftModel", name := "count", desc := "(I)I" } : Jvm.MethodName) prog_23_method_92_code (2 : Nat) (Option.some Jvm.ClassFile.FieldType.int)) ∈ lw_all := lw_g (lw_at lw_m9 20 rfl) rfl
theorem q2028 : (Jvm.Cond.instanceMethod ({ cls := "SomebodysLiftModel", name := "tape", desc := "(III)I" } : Jvm.MethodName)) ∈ lw_all := lw_g (lw_at lw_m9 22 rfl) rfl
theorem q2029 : (Jvm.Cond.selects "SomebodysLiftModel" ({ cls := "SomebodysLiftModel", name := "tape", desc := "(III)I" } : Jvm.MethodName) ({ cls := "SomebodysLiftModel", name := "tape", desc := "(III)I" } : Jvm.MethodName)) ∈ lw_all := lw_g (lw_at lw_m9 23 rfl) rfl
theorem q2030 : (Jvm.Cond.code ({ cls := "SomebodysLiftModel", name := "tape", desc := "(III)I" } : Jvm.MethodName) prog_23_method_94_code (5 : Nat) (Option.some Jvm.ClassFile.FieldType.int)) ∈ lw_all := lw_g (lw_at lw_m9 24 rfl) rfl
theorem q2032 : (Jvm.Cond.instanceMethod ({ cls := "SomebodysLiftModel", name := "item", desc := "(IIJ)I" } : Jvm.MethodName)) ∈ lw_all := lw_g (lw_at lw_m9 26 rfl) rfl
theorem q2033 : (Jvm.Cond.selects "SomebodysLiftModel" ({ cls := "SomebodysLiftModel", name := "item", desc := "(IIJ)I" } : Jvm.MethodName) ({ cls := "SomebodysLiftModel", name := "item", desc := "(IIJ)I" } : Jvm.MethodName)) ∈ lw_all := lw_g (lw_at lw_m9 27 rfl) rfl
theorem q2034 : (Jvm.Cond.code ({ cls := "SomebodysLiftModel", name := "item", desc := "(IIJ)I" } : Jvm.MethodName) prog_23_method_96_code (5 : Nat) (Option.some Jvm.ClassFile.FieldType.int)) ∈ lw_all := lw_g (lw_at lw_m9 28 rfl) rfl
theorem q2035 : (Jvm.Cond.methodLink "SomebodysLiftModel" (400 : Nat) ({ cls := "SomebodysLiftModel", name := "narrow", desc := "(IJ)J" } : Jvm.MethodName)) ∈ lw_all := lw_g (lw_at lw_m9 29 rfl) rfl
theorem q2036 : (Jvm.Cond.privateMethod ({ cls := "SomebodysLiftModel", name := "narrow", desc := "(IJ)J" } : Jvm.MethodName)) ∈ lw_tbl := lw_at lw_m9 30 rfl
theorem q2037 : (Jvm.Cond.instanceMethod ({ cls := "SomebodysLiftModel", name := "narrow", desc := "(IJ)J" } : Jvm.MethodName)) ∈ lw_all := lw_g (lw_at lw_m9 31 rfl) rfl
theorem q2038 : (Jvm.Cond.code ({ cls := "SomebodysLiftModel", name := "narrow", desc := "(IJ)J" } : Jvm.MethodName) prog_23_method_95_code (4 : Nat) (Option.some Jvm.ClassFile.FieldType.long)) ∈ lw_all := lw_g (lw_at lw_m9 32 rfl) rfl
theorem q2040 : (Jvm.Cond.instanceMethod ({ cls := "SomebodysLiftModel", name := "read", desc := "(II)J" } : Jvm.MethodName)) ∈ lw_all := lw_g (lw_at lw_m9 34 rfl) rfl
theorem q2041 : (Jvm.Cond.selects "SomebodysLiftModel" ({ cls := "SomebodysLiftModel", name := "read", desc := "(II)J" } : Jvm.MethodName) ({ cls := "SomebodysLiftModel", name := "read", desc := "(II)J" } : Jvm.MethodName)) ∈ lw_all := lw_g (lw_at lw_m9 35 rfl) rfl
theorem q2042 : (Jvm.Cond.code ({ cls := "SomebodysLiftModel", name := "read", desc := "(II)J" } : Jvm.MethodName) prog_23_method_97_code (3 : Nat) (Option.some Jvm.ClassFile.FieldType.long)) ∈ lw_all := lw_g (lw_at lw_m9 36 rfl) rfl
theorem q2044 : (Jvm.Cond.instanceMethod ({ cls := "SomebodysLiftModel", name := "shift", desc := "(IIIII)I" } : Jvm.MethodName)) ∈ lw_all := lw_g (lw_at lw_m9 38 rfl) rfl
theorem q2045 : (Jvm.Cond.selects "SomebodysLiftModel" ({ cls := "SomebodysLiftModel", name := "shift", desc := "(IIIII)I" } : Jvm.MethodName) ({ cls := "SomebodysLiftModel", name := "shift", desc := "(IIIII)I" } : Jvm.MethodName)) ∈ lw_all := lw_g (lw_at lw_m9 39 rfl) rfl
theorem q2046 : (Jvm.Cond.code ({ cls := "SomebodysLiftModel", name := "shift", desc := "(IIIII)I" } : Jvm.MethodName) prog_23_method_98_code (7 : Nat) (Option.some Jvm.ClassFile.FieldType.int)) ∈ lw_all := lw_g (lw_at lw_m9 40 rfl) rfl
theorem q2074 : (Jvm.Cond.castable "SomebodysLiftModel" "java/lang/Object") ∈ lw_tbl := lw_at lw_m9 68 rfl
theorem in_X6 : ∀ w ∈ wsX60, w ∈ lw_all := lw_in wsX60 [1515, 1517, 1519, 1521, 1523, 1525, 1527, 1529, 1531, 1533, 1535, 1537, 1539, 1541, 1543, 1545, 1547, 1549, 1551, 1553, 1555, 1557, 1559, 1561, 1563, 1565, 1567, 1569, 1571, 1573, 1575, 1577, 1579, 1581, 1583, 1585, 1587, 1589, 1591, 1593, 1595, 1597, 1599, 1601, 1603, 1605, 1607, 1609, 1611, 1613, 1615, 1617, 1619, 1621, 1623, 1625, 1627, 1629, 1631, 1633, 1635, 1637, 1639, 1641, 1643, 1645, 1647, 1649, 1651, 1653, 1655] (by decide +kernel) (by decide +kernel)
