/-! OverTheHeads -/
set_option maxRecDepth 100000
def RX0 : String := "OverTheHeads"
def TX0 : u_T := fun k => match k with
  | 0 => ("OverTheHeads", "eye", "[I", true)
  | 1 => ("OverTheHeads", "head", "[I", true)
  | 2 => ("OverTheHeads", "weight", "[I", true)
  | 3 => ("OverTheHeads", "rows", "Ljava/util/ArrayList;", true)
  | 4 => ("OverTheHeads", "rise", "[I", true)
  | 5 => ("OverTheHeads", "shifted", "[I", true)
  | 6 => ("OverTheHeads", "side", "[I", true)
  | 7 => ("OverTheHeads", "high", "[I", true)
  | 8 => ("OverTheHeads", "value", "[I", true)
  | 9 => ("OverTheHeads", "points", "I", false)
  | 10 => ("OverTheHeads", "postSide", "[I", true)
  | 11 => ("OverTheHeads", "postFar", "[I", true)
  | 12 => ("OverTheHeads", "posts", "I", false)
  | 13 => ("OverTheHeads", "names", "[I", true)
  | 14 => ("OverTheHeads", "law", "I", false)
  | 15 => ("OverTheHeads", "riseWas", "[I", true)
  | 16 => ("OverTheHeads", "ways", "J", false)
  | 17 => ("OverTheHeads", "heads", "I", false)
  | 18 => ("OverTheHeads", "sitsWas", "[B", true)
  | 19 => ("OverTheHeads", "tried", "I", false)
  | 20 => ("OverTheHeads", "triedWorth", "I", false)
  | 21 => ("OverTheHeads", "shiftWas", "[I", true)
  | 22 => ("OverTheHeads", "highWas", "[I", true)
  | 23 => ("OverTheHeads", "changeBest", "I", false)
  | 24 => ("OverTheHeads", "changeGain", "I", false)
  | 25 => ("OverTheHeads", "hatRow", "I", false)
  | 26 => ("OverTheHeads", "hatSeat", "I", false)
  | 27 => ("OverTheHeads", "hat", "I", false)
  | 28 => ("OverTheHeads", "pricesNow", "[I", true)
  | 29 => ("OverTheHeads", "keptRise", "[I", true)
  | 30 => ("OverTheHeads", "keptSorts", "[I", true)
  | 31 => ("OverTheHeads", "keptPosts", "[I", true)
  | 32 => ("OverTheHeads", "keptSits", "[B", true)
  | 33 => ("OverTheHeads", "keptRows", "I", false)
  | 34 => ("OverTheHeads", "keptPostMany", "I", false)
  | 35 => ("OverTheHeads", "keptLaw", "I", false)
  | 36 => ("OverTheHeads", "texts", "[[LOverTheHeads$Node;", true)
  | 37 => ("OverTheHeads", "textCount", "I", false)
  | 38 => ("OverTheHeads", "tape", "[B", true)
  | 39 => ("OverTheHeads", "taped", "I", false)
  | _ => ("OverTheHeads", "sheets", "[LOverTheHeads$Sheet;", true)
def tyX0 : Nat → FieldType := fun k => match k with
  | 0 => .array .int
  | 1 => .array .int
  | 2 => .array .int
  | 3 => .object "java/util/ArrayList"
  | 4 => .array .int
  | 5 => .array .int
  | 6 => .array .int
  | 7 => .array .int
  | 8 => .array .int
  | 9 => .int
  | 10 => .array .int
  | 11 => .array .int
  | 12 => .int
  | 13 => .array .int
  | 14 => .int
  | 15 => .array .int
  | 16 => .long
  | 17 => .int
  | 18 => .array .byte
  | 19 => .int
  | 20 => .int
  | 21 => .array .int
  | 22 => .array .int
  | 23 => .int
  | 24 => .int
  | 25 => .int
  | 26 => .int
  | 27 => .int
  | 28 => .array .int
  | 29 => .array .int
  | 30 => .array .int
  | 31 => .array .int
  | 32 => .array .byte
  | 33 => .int
  | 34 => .int
  | 35 => .int
  | 36 => .array (.array (.object "OverTheHeads$Node"))
  | 37 => .int
  | 38 => .array .byte
  | 39 => .int
  | _ => .array (.object "OverTheHeads$Sheet")
abbrev wsX00 : List Cond := u_ws RX0 TX0 41
set_option maxRecDepth 100000 in
theorem nmX0 : ∀ a, a < 41 → ∀ b, b < 41 → a ≠ b → (TX0 a).2.1 ≠ (TX0 b).2.1 := by decide +kernel
set_option maxRecDepth 100000 in
theorem tyX0_ok : ∀ k, k < 41 → parseFieldDescriptor (TX0 k).2.2.1 = some (tyX0 k) := by decide +kernel
abbrev cX0_init : ByteArray := prog_1_method_2_code
def yX0_init : MethodName := ⟨RX0, "<init>", "()V"⟩
def dkwX0_init_13 : List UInt8 := [184, 0, 103, 83, 42, 4, 181, 0, 107, 177]
abbrev dktX0_init_13 : List UInt8 := dkwX0_init_13 ++ []
def dkwX0_init_12 : List UInt8 := [183, 0, 96, 83, 89, 6, 187, 0, 94, 89, 183, 0, 96, 83, 181, 0, 97, 42, 180, 0, 87, 3, 18, 101]
abbrev dktX0_init_12 : List UInt8 := dkwX0_init_12 ++ dktX0_init_13
def dkwX0_init_11 : List UInt8 := [187, 0, 94, 89, 183, 0, 96, 83, 89, 4, 187, 0, 94, 89, 183, 0, 96, 83, 89, 5, 187, 0, 94, 89]
abbrev dktX0_init_11 : List UInt8 := dkwX0_init_11 ++ dktX0_init_12
def dkwX0_init_10 : List UInt8 := [189, 0, 85, 181, 0, 87, 42, 17, 0, 160, 188, 8, 181, 0, 91, 42, 7, 189, 0, 94, 89, 3]
abbrev dktX0_init_10 : List UInt8 := dkwX0_init_10 ++ dktX0_init_11
def dkwX0_init_9 : List UInt8 := [42, 16, 8, 188, 10, 181, 0, 76, 42, 16, 48, 188, 8, 181, 0, 79, 42, 2, 181, 0, 82, 42, 16, 6]
abbrev dktX0_init_9 : List UInt8 := dkwX0_init_9 ++ dktX0_init_10
def dkwX0_init_8 : List UInt8 := [42, 16, 48, 188, 10, 181, 0, 67, 42, 16, 12, 188, 10, 181, 0, 70, 42, 16, 12, 188, 10, 181, 0, 73]
abbrev dktX0_init_8 : List UInt8 := dkwX0_init_8 ++ dktX0_init_9
def dkwX0_init_7 : List UInt8 := [181, 0, 53, 42, 16, 6, 188, 10, 181, 0, 57, 42, 16, 6, 188, 10, 181, 0, 60, 42, 2, 181, 0, 63]
abbrev dktX0_init_7 : List UInt8 := dkwX0_init_7 ++ dktX0_init_8
def dkwX0_init_6 : List UInt8 := [181, 0, 44, 42, 16, 6, 188, 10, 181, 0, 47, 42, 16, 6, 188, 10, 181, 0, 50, 42, 16, 48, 188, 8]
abbrev dktX0_init_6 : List UInt8 := dkwX0_init_6 ++ dktX0_init_7
def dkwX0_init_5 : List UInt8 := [188, 10, 181, 0, 35, 42, 16, 6, 188, 10, 181, 0, 38, 42, 7, 188, 10, 181, 0, 41, 42, 7, 188, 10]
abbrev dktX0_init_5 : List UInt8 := dkwX0_init_5 ++ dktX0_init_6
def dkwX0_init_4 : List UInt8 := [188, 10, 181, 0, 26, 42, 16, 6, 188, 10, 181, 0, 29, 42, 16, 6, 188, 10, 181, 0, 32, 42, 16, 6]
abbrev dktX0_init_4 : List UInt8 := dkwX0_init_4 ++ dktX0_init_5
def dkwX0_init_3 : List UInt8 := [5, 4, 79, 89, 6, 4, 79, 181, 0, 16, 42, 187, 0, 19, 89, 183, 0, 21, 181, 0, 22, 42, 16, 6]
abbrev dktX0_init_3 : List UInt8 := dkwX0_init_3 ++ dktX0_init_4
def dkwX0_init_2 : List UInt8 := [16, 19, 79, 89, 6, 16, 9, 79, 181, 0, 13, 42, 7, 188, 10, 89, 3, 4, 79, 89, 4, 4, 79, 89]
abbrev dktX0_init_2 : List UInt8 := dkwX0_init_2 ++ dktX0_init_3
def dkwX0_init_1 : List UInt8 := [6, 16, 7, 79, 181, 0, 7, 42, 7, 188, 10, 89, 3, 16, 14, 79, 89, 4, 16, 16, 79, 89, 5]
abbrev dktX0_init_1 : List UInt8 := dkwX0_init_1 ++ dktX0_init_2
def dkwX0_init_0 : List UInt8 := [42, 183, 0, 1, 42, 7, 188, 10, 89, 3, 16, 10, 79, 89, 4, 16, 12, 79, 89, 5, 16, 14, 79, 89]
abbrev dktX0_init_0 : List UInt8 := dkwX0_init_0 ++ dktX0_init_1
theorem dksX0_init_0 : cX0_init.data.toList.drop 0 = dktX0_init_0 := by decide +kernel
theorem dksX0_init_1 : cX0_init.data.toList.drop 24 = dktX0_init_1 := dk_seg dksX0_init_0 24 rfl rfl
theorem dksX0_init_2 : cX0_init.data.toList.drop 47 = dktX0_init_2 := dk_seg dksX0_init_1 23 rfl rfl
theorem dksX0_init_3 : cX0_init.data.toList.drop 71 = dktX0_init_3 := dk_seg dksX0_init_2 24 rfl rfl
theorem dksX0_init_4 : cX0_init.data.toList.drop 95 = dktX0_init_4 := dk_seg dksX0_init_3 24 rfl rfl
theorem dksX0_init_5 : cX0_init.data.toList.drop 119 = dktX0_init_5 := dk_seg dksX0_init_4 24 rfl rfl
theorem dksX0_init_6 : cX0_init.data.toList.drop 143 = dktX0_init_6 := dk_seg dksX0_init_5 24 rfl rfl
theorem dksX0_init_7 : cX0_init.data.toList.drop 167 = dktX0_init_7 := dk_seg dksX0_init_6 24 rfl rfl
theorem dksX0_init_8 : cX0_init.data.toList.drop 191 = dktX0_init_8 := dk_seg dksX0_init_7 24 rfl rfl
theorem dksX0_init_9 : cX0_init.data.toList.drop 215 = dktX0_init_9 := dk_seg dksX0_init_8 24 rfl rfl
theorem dksX0_init_10 : cX0_init.data.toList.drop 239 = dktX0_init_10 := dk_seg dksX0_init_9 24 rfl rfl
theorem dksX0_init_11 : cX0_init.data.toList.drop 261 = dktX0_init_11 := dk_seg dksX0_init_10 22 rfl rfl
theorem dksX0_init_12 : cX0_init.data.toList.drop 285 = dktX0_init_12 := dk_seg dksX0_init_11 24 rfl rfl
theorem dksX0_init_13 : cX0_init.data.toList.drop 309 = dktX0_init_13 := dk_seg dksX0_init_12 24 rfl rfl
theorem dX0_init_0 : decode cX0_init 0 = .ok (.aload_n 0, 1) := dk_42 (dk_at dksX0_init_0 0 rfl rfl)
theorem dX0_init_1 : decode cX0_init 1 = .ok (.invokespecial 1, 3) := dk_183 0 1 (dk_at dksX0_init_0 1 rfl rfl)
theorem dX0_init_4 : decode cX0_init 4 = .ok (.aload_n 0, 1) := dk_42 (dk_at dksX0_init_0 4 rfl rfl)
theorem dX0_init_5 : decode cX0_init 5 = .ok (.iconst 4, 1) := dk_7 (dk_at dksX0_init_0 5 rfl rfl)
theorem dX0_init_6 : decode cX0_init 6 = .ok (.newarray .int, 2) := dk_188_10 (dk_at dksX0_init_0 6 rfl rfl)
theorem dX0_init_8 : decode cX0_init 8 = .ok (.dup, 1) := dk_89 (dk_at dksX0_init_0 8 rfl rfl)
theorem dX0_init_9 : decode cX0_init 9 = .ok (.iconst 0, 1) := dk_3 (dk_at dksX0_init_0 9 rfl rfl)
theorem dX0_init_10 : decode cX0_init 10 = .ok (.bipush 10, 2) := dk_16 10 (dk_at dksX0_init_0 10 rfl rfl)
theorem dX0_init_12 : decode cX0_init 12 = .ok (.iastore, 1) := dk_79 (dk_at dksX0_init_0 12 rfl rfl)
theorem dX0_init_13 : decode cX0_init 13 = .ok (.dup, 1) := dk_89 (dk_at dksX0_init_0 13 rfl rfl)
theorem dX0_init_14 : decode cX0_init 14 = .ok (.iconst 1, 1) := dk_4 (dk_at dksX0_init_0 14 rfl rfl)
theorem dX0_init_15 : decode cX0_init 15 = .ok (.bipush 12, 2) := dk_16 12 (dk_at dksX0_init_0 15 rfl rfl)
theorem dX0_init_17 : decode cX0_init 17 = .ok (.iastore, 1) := dk_79 (dk_at dksX0_init_0 17 rfl rfl)
theorem dX0_init_18 : decode cX0_init 18 = .ok (.dup, 1) := dk_89 (dk_at dksX0_init_0 18 rfl rfl)
theorem dX0_init_19 : decode cX0_init 19 = .ok (.iconst 2, 1) := dk_5 (dk_at dksX0_init_0 19 rfl rfl)
theorem dX0_init_20 : decode cX0_init 20 = .ok (.bipush 14, 2) := dk_16 14 (dk_at dksX0_init_0 20 rfl rfl)
theorem dX0_init_22 : decode cX0_init 22 = .ok (.iastore, 1) := dk_79 (dk_at dksX0_init_0 22 rfl rfl)
theorem dX0_init_23 : decode cX0_init 23 = .ok (.dup, 1) := dk_89 (dk_at dksX0_init_0 23 rfl rfl)
theorem dX0_init_24 : decode cX0_init 24 = .ok (.iconst 3, 1) := dk_6 (dk_at dksX0_init_1 0 rfl rfl)
theorem dX0_init_25 : decode cX0_init 25 = .ok (.bipush 7, 2) := dk_16 7 (dk_at dksX0_init_1 1 rfl rfl)
theorem dX0_init_27 : decode cX0_init 27 = .ok (.iastore, 1) := dk_79 (dk_at dksX0_init_1 3 rfl rfl)
theorem dX0_init_28 : decode cX0_init 28 = .ok (.putfield 7, 3) := dk_181 0 7 (dk_at dksX0_init_1 4 rfl rfl)
theorem dX0_init_31 : decode cX0_init 31 = .ok (.aload_n 0, 1) := dk_42 (dk_at dksX0_init_1 7 rfl rfl)
theorem dX0_init_32 : decode cX0_init 32 = .ok (.iconst 4, 1) := dk_7 (dk_at dksX0_init_1 8 rfl rfl)
theorem dX0_init_33 : decode cX0_init 33 = .ok (.newarray .int, 2) := dk_188_10 (dk_at dksX0_init_1 9 rfl rfl)
theorem dX0_init_35 : decode cX0_init 35 = .ok (.dup, 1) := dk_89 (dk_at dksX0_init_1 11 rfl rfl)
theorem dX0_init_36 : decode cX0_init 36 = .ok (.iconst 0, 1) := dk_3 (dk_at dksX0_init_1 12 rfl rfl)
theorem dX0_init_37 : decode cX0_init 37 = .ok (.bipush 14, 2) := dk_16 14 (dk_at dksX0_init_1 13 rfl rfl)
theorem dX0_init_39 : decode cX0_init 39 = .ok (.iastore, 1) := dk_79 (dk_at dksX0_init_1 15 rfl rfl)
theorem dX0_init_40 : decode cX0_init 40 = .ok (.dup, 1) := dk_89 (dk_at dksX0_init_1 16 rfl rfl)
theorem dX0_init_41 : decode cX0_init 41 = .ok (.iconst 1, 1) := dk_4 (dk_at dksX0_init_1 17 rfl rfl)
theorem dX0_init_42 : decode cX0_init 42 = .ok (.bipush 16, 2) := dk_16 16 (dk_at dksX0_init_1 18 rfl rfl)
theorem dX0_init_44 : decode cX0_init 44 = .ok (.iastore, 1) := dk_79 (dk_at dksX0_init_1 20 rfl rfl)
theorem dX0_init_45 : decode cX0_init 45 = .ok (.dup, 1) := dk_89 (dk_at dksX0_init_1 21 rfl rfl)
theorem dX0_init_46 : decode cX0_init 46 = .ok (.iconst 2, 1) := dk_5 (dk_at dksX0_init_1 22 rfl rfl)
theorem dX0_init_47 : decode cX0_init 47 = .ok (.bipush 19, 2) := dk_16 19 (dk_at dksX0_init_2 0 rfl rfl)
theorem dX0_init_49 : decode cX0_init 49 = .ok (.iastore, 1) := dk_79 (dk_at dksX0_init_2 2 rfl rfl)
theorem dX0_init_50 : decode cX0_init 50 = .ok (.dup, 1) := dk_89 (dk_at dksX0_init_2 3 rfl rfl)
theorem dX0_init_51 : decode cX0_init 51 = .ok (.iconst 3, 1) := dk_6 (dk_at dksX0_init_2 4 rfl rfl)
theorem dX0_init_52 : decode cX0_init 52 = .ok (.bipush 9, 2) := dk_16 9 (dk_at dksX0_init_2 5 rfl rfl)
theorem dX0_init_54 : decode cX0_init 54 = .ok (.iastore, 1) := dk_79 (dk_at dksX0_init_2 7 rfl rfl)
theorem dX0_init_55 : decode cX0_init 55 = .ok (.putfield 13, 3) := dk_181 0 13 (dk_at dksX0_init_2 8 rfl rfl)
theorem dX0_init_58 : decode cX0_init 58 = .ok (.aload_n 0, 1) := dk_42 (dk_at dksX0_init_2 11 rfl rfl)
theorem dX0_init_59 : decode cX0_init 59 = .ok (.iconst 4, 1) := dk_7 (dk_at dksX0_init_2 12 rfl rfl)
theorem dX0_init_60 : decode cX0_init 60 = .ok (.newarray .int, 2) := dk_188_10 (dk_at dksX0_init_2 13 rfl rfl)
theorem dX0_init_62 : decode cX0_init 62 = .ok (.dup, 1) := dk_89 (dk_at dksX0_init_2 15 rfl rfl)
theorem dX0_init_63 : decode cX0_init 63 = .ok (.iconst 0, 1) := dk_3 (dk_at dksX0_init_2 16 rfl rfl)
theorem dX0_init_64 : decode cX0_init 64 = .ok (.iconst 1, 1) := dk_4 (dk_at dksX0_init_2 17 rfl rfl)
theorem dX0_init_65 : decode cX0_init 65 = .ok (.iastore, 1) := dk_79 (dk_at dksX0_init_2 18 rfl rfl)
theorem dX0_init_66 : decode cX0_init 66 = .ok (.dup, 1) := dk_89 (dk_at dksX0_init_2 19 rfl rfl)
theorem dX0_init_67 : decode cX0_init 67 = .ok (.iconst 1, 1) := dk_4 (dk_at dksX0_init_2 20 rfl rfl)
theorem dX0_init_68 : decode cX0_init 68 = .ok (.iconst 1, 1) := dk_4 (dk_at dksX0_init_2 21 rfl rfl)
theorem dX0_init_69 : decode cX0_init 69 = .ok (.iastore, 1) := dk_79 (dk_at dksX0_init_2 22 rfl rfl)
theorem dX0_init_70 : decode cX0_init 70 = .ok (.dup, 1) := dk_89 (dk_at dksX0_init_2 23 rfl rfl)
theorem dX0_init_71 : decode cX0_init 71 = .ok (.iconst 2, 1) := dk_5 (dk_at dksX0_init_3 0 rfl rfl)
theorem dX0_init_72 : decode cX0_init 72 = .ok (.iconst 1, 1) := dk_4 (dk_at dksX0_init_3 1 rfl rfl)
theorem dX0_init_73 : decode cX0_init 73 = .ok (.iastore, 1) := dk_79 (dk_at dksX0_init_3 2 rfl rfl)
theorem dX0_init_74 : decode cX0_init 74 = .ok (.dup, 1) := dk_89 (dk_at dksX0_init_3 3 rfl rfl)
theorem dX0_init_75 : decode cX0_init 75 = .ok (.iconst 3, 1) := dk_6 (dk_at dksX0_init_3 4 rfl rfl)
theorem dX0_init_76 : decode cX0_init 76 = .ok (.iconst 1, 1) := dk_4 (dk_at dksX0_init_3 5 rfl rfl)
theorem dX0_init_77 : decode cX0_init 77 = .ok (.iastore, 1) := dk_79 (dk_at dksX0_init_3 6 rfl rfl)
theorem dX0_init_78 : decode cX0_init 78 = .ok (.putfield 16, 3) := dk_181 0 16 (dk_at dksX0_init_3 7 rfl rfl)
theorem dX0_init_81 : decode cX0_init 81 = .ok (.aload_n 0, 1) := dk_42 (dk_at dksX0_init_3 10 rfl rfl)
theorem dX0_init_82 : decode cX0_init 82 = .ok (.new 19, 3) := dk_187 0 19 (dk_at dksX0_init_3 11 rfl rfl)
theorem dX0_init_85 : decode cX0_init 85 = .ok (.dup, 1) := dk_89 (dk_at dksX0_init_3 14 rfl rfl)
theorem dX0_init_86 : decode cX0_init 86 = .ok (.invokespecial 21, 3) := dk_183 0 21 (dk_at dksX0_init_3 15 rfl rfl)
theorem dX0_init_89 : decode cX0_init 89 = .ok (.putfield 22, 3) := dk_181 0 22 (dk_at dksX0_init_3 18 rfl rfl)
theorem dX0_init_92 : decode cX0_init 92 = .ok (.aload_n 0, 1) := dk_42 (dk_at dksX0_init_3 21 rfl rfl)
theorem dX0_init_93 : decode cX0_init 93 = .ok (.bipush 6, 2) := dk_16 6 (dk_at dksX0_init_3 22 rfl rfl)
theorem dX0_init_95 : decode cX0_init 95 = .ok (.newarray .int, 2) := dk_188_10 (dk_at dksX0_init_4 0 rfl rfl)
theorem dX0_init_97 : decode cX0_init 97 = .ok (.putfield 26, 3) := dk_181 0 26 (dk_at dksX0_init_4 2 rfl rfl)
theorem dX0_init_100 : decode cX0_init 100 = .ok (.aload_n 0, 1) := dk_42 (dk_at dksX0_init_4 5 rfl rfl)
theorem dX0_init_101 : decode cX0_init 101 = .ok (.bipush 6, 2) := dk_16 6 (dk_at dksX0_init_4 6 rfl rfl)
theorem dX0_init_103 : decode cX0_init 103 = .ok (.newarray .int, 2) := dk_188_10 (dk_at dksX0_init_4 8 rfl rfl)
theorem dX0_init_105 : decode cX0_init 105 = .ok (.putfield 29, 3) := dk_181 0 29 (dk_at dksX0_init_4 10 rfl rfl)
theorem dX0_init_108 : decode cX0_init 108 = .ok (.aload_n 0, 1) := dk_42 (dk_at dksX0_init_4 13 rfl rfl)
theorem dX0_init_109 : decode cX0_init 109 = .ok (.bipush 6, 2) := dk_16 6 (dk_at dksX0_init_4 14 rfl rfl)
theorem dX0_init_111 : decode cX0_init 111 = .ok (.newarray .int, 2) := dk_188_10 (dk_at dksX0_init_4 16 rfl rfl)
theorem dX0_init_113 : decode cX0_init 113 = .ok (.putfield 32, 3) := dk_181 0 32 (dk_at dksX0_init_4 18 rfl rfl)
theorem dX0_init_116 : decode cX0_init 116 = .ok (.aload_n 0, 1) := dk_42 (dk_at dksX0_init_4 21 rfl rfl)
theorem dX0_init_117 : decode cX0_init 117 = .ok (.bipush 6, 2) := dk_16 6 (dk_at dksX0_init_4 22 rfl rfl)
theorem dX0_init_119 : decode cX0_init 119 = .ok (.newarray .int, 2) := dk_188_10 (dk_at dksX0_init_5 0 rfl rfl)
theorem dX0_init_121 : decode cX0_init 121 = .ok (.putfield 35, 3) := dk_181 0 35 (dk_at dksX0_init_5 2 rfl rfl)
theorem dX0_init_124 : decode cX0_init 124 = .ok (.aload_n 0, 1) := dk_42 (dk_at dksX0_init_5 5 rfl rfl)
theorem dX0_init_125 : decode cX0_init 125 = .ok (.bipush 6, 2) := dk_16 6 (dk_at dksX0_init_5 6 rfl rfl)
theorem dX0_init_127 : decode cX0_init 127 = .ok (.newarray .int, 2) := dk_188_10 (dk_at dksX0_init_5 8 rfl rfl)
theorem dX0_init_129 : decode cX0_init 129 = .ok (.putfield 38, 3) := dk_181 0 38 (dk_at dksX0_init_5 10 rfl rfl)
theorem dX0_init_132 : decode cX0_init 132 = .ok (.aload_n 0, 1) := dk_42 (dk_at dksX0_init_5 13 rfl rfl)
theorem dX0_init_133 : decode cX0_init 133 = .ok (.iconst 4, 1) := dk_7 (dk_at dksX0_init_5 14 rfl rfl)
theorem dX0_init_134 : decode cX0_init 134 = .ok (.newarray .int, 2) := dk_188_10 (dk_at dksX0_init_5 15 rfl rfl)
theorem dX0_init_136 : decode cX0_init 136 = .ok (.putfield 41, 3) := dk_181 0 41 (dk_at dksX0_init_5 17 rfl rfl)
theorem dX0_init_139 : decode cX0_init 139 = .ok (.aload_n 0, 1) := dk_42 (dk_at dksX0_init_5 20 rfl rfl)
theorem dX0_init_140 : decode cX0_init 140 = .ok (.iconst 4, 1) := dk_7 (dk_at dksX0_init_5 21 rfl rfl)
theorem dX0_init_141 : decode cX0_init 141 = .ok (.newarray .int, 2) := dk_188_10 (dk_at dksX0_init_5 22 rfl rfl)
theorem dX0_init_143 : decode cX0_init 143 = .ok (.putfield 44, 3) := dk_181 0 44 (dk_at dksX0_init_6 0 rfl rfl)
theorem dX0_init_146 : decode cX0_init 146 = .ok (.aload_n 0, 1) := dk_42 (dk_at dksX0_init_6 3 rfl rfl)
theorem dX0_init_147 : decode cX0_init 147 = .ok (.bipush 6, 2) := dk_16 6 (dk_at dksX0_init_6 4 rfl rfl)
theorem dX0_init_149 : decode cX0_init 149 = .ok (.newarray .int, 2) := dk_188_10 (dk_at dksX0_init_6 6 rfl rfl)
theorem dX0_init_151 : decode cX0_init 151 = .ok (.putfield 47, 3) := dk_181 0 47 (dk_at dksX0_init_6 8 rfl rfl)
theorem dX0_init_154 : decode cX0_init 154 = .ok (.aload_n 0, 1) := dk_42 (dk_at dksX0_init_6 11 rfl rfl)
theorem dX0_init_155 : decode cX0_init 155 = .ok (.bipush 6, 2) := dk_16 6 (dk_at dksX0_init_6 12 rfl rfl)
theorem dX0_init_157 : decode cX0_init 157 = .ok (.newarray .int, 2) := dk_188_10 (dk_at dksX0_init_6 14 rfl rfl)
theorem dX0_init_159 : decode cX0_init 159 = .ok (.putfield 50, 3) := dk_181 0 50 (dk_at dksX0_init_6 16 rfl rfl)
theorem dX0_init_162 : decode cX0_init 162 = .ok (.aload_n 0, 1) := dk_42 (dk_at dksX0_init_6 19 rfl rfl)
theorem dX0_init_163 : decode cX0_init 163 = .ok (.bipush 48, 2) := dk_16 48 (dk_at dksX0_init_6 20 rfl rfl)
theorem dX0_init_165 : decode cX0_init 165 = .ok (.newarray .byte, 2) := dk_188_8 (dk_at dksX0_init_6 22 rfl rfl)
theorem dX0_init_167 : decode cX0_init 167 = .ok (.putfield 53, 3) := dk_181 0 53 (dk_at dksX0_init_7 0 rfl rfl)
theorem dX0_init_170 : decode cX0_init 170 = .ok (.aload_n 0, 1) := dk_42 (dk_at dksX0_init_7 3 rfl rfl)
theorem dX0_init_171 : decode cX0_init 171 = .ok (.bipush 6, 2) := dk_16 6 (dk_at dksX0_init_7 4 rfl rfl)
theorem dX0_init_173 : decode cX0_init 173 = .ok (.newarray .int, 2) := dk_188_10 (dk_at dksX0_init_7 6 rfl rfl)
theorem dX0_init_175 : decode cX0_init 175 = .ok (.putfield 57, 3) := dk_181 0 57 (dk_at dksX0_init_7 8 rfl rfl)
theorem dX0_init_178 : decode cX0_init 178 = .ok (.aload_n 0, 1) := dk_42 (dk_at dksX0_init_7 11 rfl rfl)
theorem dX0_init_179 : decode cX0_init 179 = .ok (.bipush 6, 2) := dk_16 6 (dk_at dksX0_init_7 12 rfl rfl)
theorem dX0_init_181 : decode cX0_init 181 = .ok (.newarray .int, 2) := dk_188_10 (dk_at dksX0_init_7 14 rfl rfl)
theorem dX0_init_183 : decode cX0_init 183 = .ok (.putfield 60, 3) := dk_181 0 60 (dk_at dksX0_init_7 16 rfl rfl)
theorem dX0_init_186 : decode cX0_init 186 = .ok (.aload_n 0, 1) := dk_42 (dk_at dksX0_init_7 19 rfl rfl)
theorem dX0_init_187 : decode cX0_init 187 = .ok (.iconst (-1), 1) := dk_2 (dk_at dksX0_init_7 20 rfl rfl)
theorem dX0_init_188 : decode cX0_init 188 = .ok (.putfield 63, 3) := dk_181 0 63 (dk_at dksX0_init_7 21 rfl rfl)
theorem dX0_init_191 : decode cX0_init 191 = .ok (.aload_n 0, 1) := dk_42 (dk_at dksX0_init_8 0 rfl rfl)
theorem dX0_init_192 : decode cX0_init 192 = .ok (.bipush 48, 2) := dk_16 48 (dk_at dksX0_init_8 1 rfl rfl)
theorem dX0_init_194 : decode cX0_init 194 = .ok (.newarray .int, 2) := dk_188_10 (dk_at dksX0_init_8 3 rfl rfl)
theorem dX0_init_196 : decode cX0_init 196 = .ok (.putfield 67, 3) := dk_181 0 67 (dk_at dksX0_init_8 5 rfl rfl)
theorem dX0_init_199 : decode cX0_init 199 = .ok (.aload_n 0, 1) := dk_42 (dk_at dksX0_init_8 8 rfl rfl)
theorem dX0_init_200 : decode cX0_init 200 = .ok (.bipush 12, 2) := dk_16 12 (dk_at dksX0_init_8 9 rfl rfl)
theorem dX0_init_202 : decode cX0_init 202 = .ok (.newarray .int, 2) := dk_188_10 (dk_at dksX0_init_8 11 rfl rfl)
theorem dX0_init_204 : decode cX0_init 204 = .ok (.putfield 70, 3) := dk_181 0 70 (dk_at dksX0_init_8 13 rfl rfl)
theorem dX0_init_207 : decode cX0_init 207 = .ok (.aload_n 0, 1) := dk_42 (dk_at dksX0_init_8 16 rfl rfl)
theorem dX0_init_208 : decode cX0_init 208 = .ok (.bipush 12, 2) := dk_16 12 (dk_at dksX0_init_8 17 rfl rfl)
theorem dX0_init_210 : decode cX0_init 210 = .ok (.newarray .int, 2) := dk_188_10 (dk_at dksX0_init_8 19 rfl rfl)
theorem dX0_init_212 : decode cX0_init 212 = .ok (.putfield 73, 3) := dk_181 0 73 (dk_at dksX0_init_8 21 rfl rfl)
theorem dX0_init_215 : decode cX0_init 215 = .ok (.aload_n 0, 1) := dk_42 (dk_at dksX0_init_9 0 rfl rfl)
theorem dX0_init_216 : decode cX0_init 216 = .ok (.bipush 8, 2) := dk_16 8 (dk_at dksX0_init_9 1 rfl rfl)
theorem dX0_init_218 : decode cX0_init 218 = .ok (.newarray .int, 2) := dk_188_10 (dk_at dksX0_init_9 3 rfl rfl)
theorem dX0_init_220 : decode cX0_init 220 = .ok (.putfield 76, 3) := dk_181 0 76 (dk_at dksX0_init_9 5 rfl rfl)
theorem dX0_init_223 : decode cX0_init 223 = .ok (.aload_n 0, 1) := dk_42 (dk_at dksX0_init_9 8 rfl rfl)
theorem dX0_init_224 : decode cX0_init 224 = .ok (.bipush 48, 2) := dk_16 48 (dk_at dksX0_init_9 9 rfl rfl)
theorem dX0_init_226 : decode cX0_init 226 = .ok (.newarray .byte, 2) := dk_188_8 (dk_at dksX0_init_9 11 rfl rfl)
theorem dX0_init_228 : decode cX0_init 228 = .ok (.putfield 79, 3) := dk_181 0 79 (dk_at dksX0_init_9 13 rfl rfl)
theorem dX0_init_231 : decode cX0_init 231 = .ok (.aload_n 0, 1) := dk_42 (dk_at dksX0_init_9 16 rfl rfl)
theorem dX0_init_232 : decode cX0_init 232 = .ok (.iconst (-1), 1) := dk_2 (dk_at dksX0_init_9 17 rfl rfl)
theorem dX0_init_233 : decode cX0_init 233 = .ok (.putfield 82, 3) := dk_181 0 82 (dk_at dksX0_init_9 18 rfl rfl)
theorem dX0_init_236 : decode cX0_init 236 = .ok (.aload_n 0, 1) := dk_42 (dk_at dksX0_init_9 21 rfl rfl)
theorem dX0_init_237 : decode cX0_init 237 = .ok (.bipush 6, 2) := dk_16 6 (dk_at dksX0_init_9 22 rfl rfl)
theorem dX0_init_239 : decode cX0_init 239 = .ok (.anewarray 85, 3) := dk_189 0 85 (dk_at dksX0_init_10 0 rfl rfl)
theorem dX0_init_242 : decode cX0_init 242 = .ok (.putfield 87, 3) := dk_181 0 87 (dk_at dksX0_init_10 3 rfl rfl)
theorem dX0_init_245 : decode cX0_init 245 = .ok (.aload_n 0, 1) := dk_42 (dk_at dksX0_init_10 6 rfl rfl)
theorem dX0_init_246 : decode cX0_init 246 = .ok (.sipush 160, 3) := dk_17 0 160 (dk_at dksX0_init_10 7 rfl rfl)
theorem dX0_init_249 : decode cX0_init 249 = .ok (.newarray .byte, 2) := dk_188_8 (dk_at dksX0_init_10 10 rfl rfl)
theorem dX0_init_251 : decode cX0_init 251 = .ok (.putfield 91, 3) := dk_181 0 91 (dk_at dksX0_init_10 12 rfl rfl)
theorem dX0_init_254 : decode cX0_init 254 = .ok (.aload_n 0, 1) := dk_42 (dk_at dksX0_init_10 15 rfl rfl)
theorem dX0_init_255 : decode cX0_init 255 = .ok (.iconst 4, 1) := dk_7 (dk_at dksX0_init_10 16 rfl rfl)
theorem dX0_init_256 : decode cX0_init 256 = .ok (.anewarray 94, 3) := dk_189 0 94 (dk_at dksX0_init_10 17 rfl rfl)
theorem dX0_init_259 : decode cX0_init 259 = .ok (.dup, 1) := dk_89 (dk_at dksX0_init_10 20 rfl rfl)
theorem dX0_init_260 : decode cX0_init 260 = .ok (.iconst 0, 1) := dk_3 (dk_at dksX0_init_10 21 rfl rfl)
theorem dX0_init_261 : decode cX0_init 261 = .ok (.new 94, 3) := dk_187 0 94 (dk_at dksX0_init_11 0 rfl rfl)
theorem dX0_init_264 : decode cX0_init 264 = .ok (.dup, 1) := dk_89 (dk_at dksX0_init_11 3 rfl rfl)
theorem dX0_init_265 : decode cX0_init 265 = .ok (.invokespecial 96, 3) := dk_183 0 96 (dk_at dksX0_init_11 4 rfl rfl)
theorem dX0_init_268 : decode cX0_init 268 = .ok (.aastore, 1) := dk_83 (dk_at dksX0_init_11 7 rfl rfl)
theorem dX0_init_269 : decode cX0_init 269 = .ok (.dup, 1) := dk_89 (dk_at dksX0_init_11 8 rfl rfl)
theorem dX0_init_270 : decode cX0_init 270 = .ok (.iconst 1, 1) := dk_4 (dk_at dksX0_init_11 9 rfl rfl)
theorem dX0_init_271 : decode cX0_init 271 = .ok (.new 94, 3) := dk_187 0 94 (dk_at dksX0_init_11 10 rfl rfl)
theorem dX0_init_274 : decode cX0_init 274 = .ok (.dup, 1) := dk_89 (dk_at dksX0_init_11 13 rfl rfl)
theorem dX0_init_275 : decode cX0_init 275 = .ok (.invokespecial 96, 3) := dk_183 0 96 (dk_at dksX0_init_11 14 rfl rfl)
theorem dX0_init_278 : decode cX0_init 278 = .ok (.aastore, 1) := dk_83 (dk_at dksX0_init_11 17 rfl rfl)
theorem dX0_init_279 : decode cX0_init 279 = .ok (.dup, 1) := dk_89 (dk_at dksX0_init_11 18 rfl rfl)
theorem dX0_init_280 : decode cX0_init 280 = .ok (.iconst 2, 1) := dk_5 (dk_at dksX0_init_11 19 rfl rfl)
theorem dX0_init_281 : decode cX0_init 281 = .ok (.new 94, 3) := dk_187 0 94 (dk_at dksX0_init_11 20 rfl rfl)
theorem dX0_init_284 : decode cX0_init 284 = .ok (.dup, 1) := dk_89 (dk_at dksX0_init_11 23 rfl rfl)
theorem dX0_init_285 : decode cX0_init 285 = .ok (.invokespecial 96, 3) := dk_183 0 96 (dk_at dksX0_init_12 0 rfl rfl)
theorem dX0_init_288 : decode cX0_init 288 = .ok (.aastore, 1) := dk_83 (dk_at dksX0_init_12 3 rfl rfl)
theorem dX0_init_289 : decode cX0_init 289 = .ok (.dup, 1) := dk_89 (dk_at dksX0_init_12 4 rfl rfl)
theorem dX0_init_290 : decode cX0_init 290 = .ok (.iconst 3, 1) := dk_6 (dk_at dksX0_init_12 5 rfl rfl)
theorem dX0_init_291 : decode cX0_init 291 = .ok (.new 94, 3) := dk_187 0 94 (dk_at dksX0_init_12 6 rfl rfl)
theorem dX0_init_294 : decode cX0_init 294 = .ok (.dup, 1) := dk_89 (dk_at dksX0_init_12 9 rfl rfl)
theorem dX0_init_295 : decode cX0_init 295 = .ok (.invokespecial 96, 3) := dk_183 0 96 (dk_at dksX0_init_12 10 rfl rfl)
theorem dX0_init_298 : decode cX0_init 298 = .ok (.aastore, 1) := dk_83 (dk_at dksX0_init_12 13 rfl rfl)
theorem dX0_init_299 : decode cX0_init 299 = .ok (.putfield 97, 3) := dk_181 0 97 (dk_at dksX0_init_12 14 rfl rfl)
theorem dX0_init_302 : decode cX0_init 302 = .ok (.aload_n 0, 1) := dk_42 (dk_at dksX0_init_12 17 rfl rfl)
theorem dX0_init_303 : decode cX0_init 303 = .ok (.getfield 87, 3) := dk_180 0 87 (dk_at dksX0_init_12 18 rfl rfl)
theorem dX0_init_306 : decode cX0_init 306 = .ok (.iconst 0, 1) := dk_3 (dk_at dksX0_init_12 21 rfl rfl)
theorem dX0_init_307 : decode cX0_init 307 = .ok (.ldc 101, 2) := dk_18 101 (dk_at dksX0_init_12 22 rfl rfl)
theorem dX0_init_309 : decode cX0_init 309 = .ok (.invokestatic 103, 3) := dk_184 0 103 (dk_at dksX0_init_13 0 rfl rfl)
theorem dX0_init_312 : decode cX0_init 312 = .ok (.aastore, 1) := dk_83 (dk_at dksX0_init_13 3 rfl rfl)
theorem dX0_init_313 : decode cX0_init 313 = .ok (.aload_n 0, 1) := dk_42 (dk_at dksX0_init_13 4 rfl rfl)
theorem dX0_init_314 : decode cX0_init 314 = .ok (.iconst 1, 1) := dk_4 (dk_at dksX0_init_13 5 rfl rfl)
theorem dX0_init_315 : decode cX0_init 315 = .ok (.putfield 107, 3) := dk_181 0 107 (dk_at dksX0_init_13 6 rfl rfl)
theorem dX0_init_318 : decode cX0_init 318 = .ok (.return_, 1) := dk_177 (dk_at dksX0_init_13 9 rfl rfl)
abbrev cX0_read : ByteArray := prog_1_method_72_code
def yX0_read : MethodName := ⟨RX0, "read", "(Ljava/lang/String;)[LOverTheHeads$Node;"⟩
def dkwX0_read_1 : List UInt8 := [132, 2, 1, 167, 255, 238, 187, 1, 162, 89, 43, 43, 190, 183, 1, 164, 182, 1, 167, 176]
abbrev dktX0_read_1 : List UInt8 := dkwX0_read_1 ++ []
def dkwX0_read_0 : List UInt8 := [42, 182, 1, 153, 188, 8, 76, 3, 61, 28, 43, 190, 162, 0, 18, 43, 28, 42, 28, 182, 1, 158, 145, 84]
abbrev dktX0_read_0 : List UInt8 := dkwX0_read_0 ++ dktX0_read_1
theorem dksX0_read_0 : cX0_read.data.toList.drop 0 = dktX0_read_0 := by decide +kernel
theorem dksX0_read_1 : cX0_read.data.toList.drop 24 = dktX0_read_1 := dk_seg dksX0_read_0 24 rfl rfl
theorem dX0_read_0 : decode cX0_read 0 = .ok (.aload_n 0, 1) := dk_42 (dk_at dksX0_read_0 0 rfl rfl)
theorem dX0_read_1 : decode cX0_read 1 = .ok (.invokevirtual 409, 3) := dk_182 1 153 (dk_at dksX0_read_0 1 rfl rfl)
theorem dX0_read_4 : decode cX0_read 4 = .ok (.newarray .byte, 2) := dk_188_8 (dk_at dksX0_read_0 4 rfl rfl)
theorem dX0_read_6 : decode cX0_read 6 = .ok (.astore_n 1, 1) := dk_76 (dk_at dksX0_read_0 6 rfl rfl)
theorem dX0_read_7 : decode cX0_read 7 = .ok (.iconst 0, 1) := dk_3 (dk_at dksX0_read_0 7 rfl rfl)
theorem dX0_read_8 : decode cX0_read 8 = .ok (.istore_n 2, 1) := dk_61 (dk_at dksX0_read_0 8 rfl rfl)
theorem dX0_read_9 : decode cX0_read 9 = .ok (.iload_n 2, 1) := dk_28 (dk_at dksX0_read_0 9 rfl rfl)
theorem dX0_read_10 : decode cX0_read 10 = .ok (.aload_n 1, 1) := dk_43 (dk_at dksX0_read_0 10 rfl rfl)
theorem dX0_read_11 : decode cX0_read 11 = .ok (.arraylength, 1) := dk_190 (dk_at dksX0_read_0 11 rfl rfl)
theorem dX0_read_12 : decode cX0_read 12 = .ok (.if_icmp .ge 18, 3) := dk_162 0 18 (dk_at dksX0_read_0 12 rfl rfl)
theorem dX0_read_15 : decode cX0_read 15 = .ok (.aload_n 1, 1) := dk_43 (dk_at dksX0_read_0 15 rfl rfl)
theorem dX0_read_16 : decode cX0_read 16 = .ok (.iload_n 2, 1) := dk_28 (dk_at dksX0_read_0 16 rfl rfl)
theorem dX0_read_17 : decode cX0_read 17 = .ok (.aload_n 0, 1) := dk_42 (dk_at dksX0_read_0 17 rfl rfl)
theorem dX0_read_18 : decode cX0_read 18 = .ok (.iload_n 2, 1) := dk_28 (dk_at dksX0_read_0 18 rfl rfl)
theorem dX0_read_19 : decode cX0_read 19 = .ok (.invokevirtual 414, 3) := dk_182 1 158 (dk_at dksX0_read_0 19 rfl rfl)
theorem dX0_read_22 : decode cX0_read 22 = .ok (.i2b, 1) := dk_145 (dk_at dksX0_read_0 22 rfl rfl)
theorem dX0_read_23 : decode cX0_read 23 = .ok (.bastore, 1) := dk_84 (dk_at dksX0_read_0 23 rfl rfl)
theorem dX0_read_24 : decode cX0_read 24 = .ok (.iinc 2 1, 3) := dk_132 2 1 (dk_at dksX0_read_1 0 rfl rfl)
theorem dX0_read_27 : decode cX0_read 27 = .ok (.goto (-18), 3) := dk_167 255 238 (dk_at dksX0_read_1 3 rfl rfl)
theorem dX0_read_30 : decode cX0_read 30 = .ok (.new 418, 3) := dk_187 1 162 (dk_at dksX0_read_1 6 rfl rfl)
theorem dX0_read_33 : decode cX0_read 33 = .ok (.dup, 1) := dk_89 (dk_at dksX0_read_1 9 rfl rfl)
theorem dX0_read_34 : decode cX0_read 34 = .ok (.aload_n 1, 1) := dk_43 (dk_at dksX0_read_1 10 rfl rfl)
theorem dX0_read_35 : decode cX0_read 35 = .ok (.aload_n 1, 1) := dk_43 (dk_at dksX0_read_1 11 rfl rfl)
theorem dX0_read_36 : decode cX0_read 36 = .ok (.arraylength, 1) := dk_190 (dk_at dksX0_read_1 12 rfl rfl)
theorem dX0_read_37 : decode cX0_read 37 = .ok (.invokespecial 420, 3) := dk_183 1 164 (dk_at dksX0_read_1 13 rfl rfl)
theorem dX0_read_40 : decode cX0_read 40 = .ok (.invokevirtual 423, 3) := dk_182 1 167 (dk_at dksX0_read_1 16 rfl rfl)
theorem dX0_read_43 : decode cX0_read 43 = .ok (.areturn, 1) := dk_176 (dk_at dksX0_read_1 19 rfl rfl)
abbrev cX0_in : ByteArray := prog_1_method_1_code
def yX0_in : MethodName := ⟨RX0, "in", "(JJJ)Z"⟩
def dkwX0_in_0 : List UInt8 := [30, 32, 148, 155, 0, 14, 30, 22, 4, 148, 157, 0, 7, 4, 167, 0, 4, 3, 172]
abbrev dktX0_in_0 : List UInt8 := dkwX0_in_0 ++ []
theorem dksX0_in_0 : cX0_in.data.toList.drop 0 = dktX0_in_0 := by decide +kernel
theorem dX0_in_0 : decode cX0_in 0 = .ok (.lload_n 0, 1) := dk_30 (dk_at dksX0_in_0 0 rfl rfl)
theorem dX0_in_1 : decode cX0_in 1 = .ok (.lload_n 2, 1) := dk_32 (dk_at dksX0_in_0 1 rfl rfl)
theorem dX0_in_2 : decode cX0_in 2 = .ok (.lcmp, 1) := dk_148 (dk_at dksX0_in_0 2 rfl rfl)
theorem dX0_in_3 : decode cX0_in 3 = .ok (.ifCond .lt 14, 3) := dk_155 0 14 (dk_at dksX0_in_0 3 rfl rfl)
theorem dX0_in_6 : decode cX0_in 6 = .ok (.lload_n 0, 1) := dk_30 (dk_at dksX0_in_0 6 rfl rfl)
theorem dX0_in_7 : decode cX0_in 7 = .ok (.lload 4, 2) := dk_22 4 (dk_at dksX0_in_0 7 rfl rfl)
theorem dX0_in_9 : decode cX0_in 9 = .ok (.lcmp, 1) := dk_148 (dk_at dksX0_in_0 9 rfl rfl)
theorem dX0_in_10 : decode cX0_in 10 = .ok (.ifCond .gt 7, 3) := dk_157 0 7 (dk_at dksX0_in_0 10 rfl rfl)
theorem dX0_in_13 : decode cX0_in 13 = .ok (.iconst 1, 1) := dk_4 (dk_at dksX0_in_0 13 rfl rfl)
theorem dX0_in_14 : decode cX0_in 14 = .ok (.goto 4, 3) := dk_167 0 4 (dk_at dksX0_in_0 14 rfl rfl)
theorem dX0_in_17 : decode cX0_in 17 = .ok (.iconst 0, 1) := dk_3 (dk_at dksX0_in_0 17 rfl rfl)
theorem dX0_in_18 : decode cX0_in 18 = .ok (.ireturn, 1) := dk_172 (dk_at dksX0_in_0 18 rfl rfl)
abbrev cX0_sort : ByteArray := prog_1_method_3_code
def yX0_sort : MethodName := ⟨RX0, "sort", "(III)I"⟩
def dkwX0_sort_4 : List UInt8 := [21, 5, 172]
abbrev dktX0_sort_4 : List UInt8 := dkwX0_sort_4 ++ []
def dkwX0_sort_3 : List UInt8 := [180, 0, 13, 167, 0, 7, 42, 180, 0, 16, 58, 4, 25, 4, 27, 46, 54, 5, 25, 4, 27, 29, 79]
abbrev dktX0_sort_3 : List UInt8 := dkwX0_sort_3 ++ dktX0_sort_4
def dkwX0_sort_2 : List UInt8 := [154, 0, 6, 16, 254, 172, 28, 154, 0, 10, 42, 180, 0, 7, 167, 0, 19, 28, 4, 160, 0, 10, 42]
abbrev dktX0_sort_2 : List UInt8 := dkwX0_sort_2 ++ dktX0_sort_3
def dkwX0_sort_1 : List UInt8 := [153, 0, 26, 29, 133, 9, 28, 5, 160, 0, 9, 20, 0, 118, 167, 0, 6, 20, 0, 120, 184, 0, 112]
abbrev dktX0_sort_1 : List UInt8 := dkwX0_sort_1 ++ dktX0_sort_2
def dkwX0_sort_0 : List UInt8 := [27, 133, 9, 20, 0, 110, 184, 0, 112, 154, 0, 5, 2, 172, 28, 133, 9, 20, 0, 116, 184, 0, 112]
abbrev dktX0_sort_0 : List UInt8 := dkwX0_sort_0 ++ dktX0_sort_1
theorem dksX0_sort_0 : cX0_sort.data.toList.drop 0 = dktX0_sort_0 := by decide +kernel
theorem dksX0_sort_1 : cX0_sort.data.toList.drop 23 = dktX0_sort_1 := dk_seg dksX0_sort_0 23 rfl rfl
theorem dksX0_sort_2 : cX0_sort.data.toList.drop 46 = dktX0_sort_2 := dk_seg dksX0_sort_1 23 rfl rfl
theorem dksX0_sort_3 : cX0_sort.data.toList.drop 69 = dktX0_sort_3 := dk_seg dksX0_sort_2 23 rfl rfl
theorem dksX0_sort_4 : cX0_sort.data.toList.drop 92 = dktX0_sort_4 := dk_seg dksX0_sort_3 23 rfl rfl
theorem dX0_sort_0 : decode cX0_sort 0 = .ok (.iload_n 1, 1) := dk_27 (dk_at dksX0_sort_0 0 rfl rfl)
theorem dX0_sort_1 : decode cX0_sort 1 = .ok (.i2l, 1) := dk_133 (dk_at dksX0_sort_0 1 rfl rfl)
theorem dX0_sort_2 : decode cX0_sort 2 = .ok (.lconst 0, 1) := dk_9 (dk_at dksX0_sort_0 2 rfl rfl)
theorem dX0_sort_3 : decode cX0_sort 3 = .ok (.ldc2_w 110, 3) := dk_20 0 110 (dk_at dksX0_sort_0 3 rfl rfl)
theorem dX0_sort_6 : decode cX0_sort 6 = .ok (.invokestatic 112, 3) := dk_184 0 112 (dk_at dksX0_sort_0 6 rfl rfl)
theorem dX0_sort_9 : decode cX0_sort 9 = .ok (.ifCond .ne 5, 3) := dk_154 0 5 (dk_at dksX0_sort_0 9 rfl rfl)
theorem dX0_sort_12 : decode cX0_sort 12 = .ok (.iconst (-1), 1) := dk_2 (dk_at dksX0_sort_0 12 rfl rfl)
theorem dX0_sort_13 : decode cX0_sort 13 = .ok (.ireturn, 1) := dk_172 (dk_at dksX0_sort_0 13 rfl rfl)
theorem dX0_sort_14 : decode cX0_sort 14 = .ok (.iload_n 2, 1) := dk_28 (dk_at dksX0_sort_0 14 rfl rfl)
theorem dX0_sort_15 : decode cX0_sort 15 = .ok (.i2l, 1) := dk_133 (dk_at dksX0_sort_0 15 rfl rfl)
theorem dX0_sort_16 : decode cX0_sort 16 = .ok (.lconst 0, 1) := dk_9 (dk_at dksX0_sort_0 16 rfl rfl)
theorem dX0_sort_17 : decode cX0_sort 17 = .ok (.ldc2_w 116, 3) := dk_20 0 116 (dk_at dksX0_sort_0 17 rfl rfl)
theorem dX0_sort_20 : decode cX0_sort 20 = .ok (.invokestatic 112, 3) := dk_184 0 112 (dk_at dksX0_sort_0 20 rfl rfl)
theorem dX0_sort_23 : decode cX0_sort 23 = .ok (.ifCond .eq 26, 3) := dk_153 0 26 (dk_at dksX0_sort_1 0 rfl rfl)
theorem dX0_sort_26 : decode cX0_sort 26 = .ok (.iload_n 3, 1) := dk_29 (dk_at dksX0_sort_1 3 rfl rfl)
theorem dX0_sort_27 : decode cX0_sort 27 = .ok (.i2l, 1) := dk_133 (dk_at dksX0_sort_1 4 rfl rfl)
theorem dX0_sort_28 : decode cX0_sort 28 = .ok (.lconst 0, 1) := dk_9 (dk_at dksX0_sort_1 5 rfl rfl)
theorem dX0_sort_29 : decode cX0_sort 29 = .ok (.iload_n 2, 1) := dk_28 (dk_at dksX0_sort_1 6 rfl rfl)
theorem dX0_sort_30 : decode cX0_sort 30 = .ok (.iconst 2, 1) := dk_5 (dk_at dksX0_sort_1 7 rfl rfl)
theorem dX0_sort_31 : decode cX0_sort 31 = .ok (.if_icmp .ne 9, 3) := dk_160 0 9 (dk_at dksX0_sort_1 8 rfl rfl)
theorem dX0_sort_34 : decode cX0_sort 34 = .ok (.ldc2_w 118, 3) := dk_20 0 118 (dk_at dksX0_sort_1 11 rfl rfl)
theorem dX0_sort_37 : decode cX0_sort 37 = .ok (.goto 6, 3) := dk_167 0 6 (dk_at dksX0_sort_1 14 rfl rfl)
theorem dX0_sort_40 : decode cX0_sort 40 = .ok (.ldc2_w 120, 3) := dk_20 0 120 (dk_at dksX0_sort_1 17 rfl rfl)
theorem dX0_sort_43 : decode cX0_sort 43 = .ok (.invokestatic 112, 3) := dk_184 0 112 (dk_at dksX0_sort_1 20 rfl rfl)
theorem dX0_sort_46 : decode cX0_sort 46 = .ok (.ifCond .ne 6, 3) := dk_154 0 6 (dk_at dksX0_sort_2 0 rfl rfl)
theorem dX0_sort_49 : decode cX0_sort 49 = .ok (.bipush (-2), 2) := dk_16 254 (dk_at dksX0_sort_2 3 rfl rfl)
theorem dX0_sort_51 : decode cX0_sort 51 = .ok (.ireturn, 1) := dk_172 (dk_at dksX0_sort_2 5 rfl rfl)
theorem dX0_sort_52 : decode cX0_sort 52 = .ok (.iload_n 2, 1) := dk_28 (dk_at dksX0_sort_2 6 rfl rfl)
theorem dX0_sort_53 : decode cX0_sort 53 = .ok (.ifCond .ne 10, 3) := dk_154 0 10 (dk_at dksX0_sort_2 7 rfl rfl)
theorem dX0_sort_56 : decode cX0_sort 56 = .ok (.aload_n 0, 1) := dk_42 (dk_at dksX0_sort_2 10 rfl rfl)
theorem dX0_sort_57 : decode cX0_sort 57 = .ok (.getfield 7, 3) := dk_180 0 7 (dk_at dksX0_sort_2 11 rfl rfl)
theorem dX0_sort_60 : decode cX0_sort 60 = .ok (.goto 19, 3) := dk_167 0 19 (dk_at dksX0_sort_2 14 rfl rfl)
theorem dX0_sort_63 : decode cX0_sort 63 = .ok (.iload_n 2, 1) := dk_28 (dk_at dksX0_sort_2 17 rfl rfl)
theorem dX0_sort_64 : decode cX0_sort 64 = .ok (.iconst 1, 1) := dk_4 (dk_at dksX0_sort_2 18 rfl rfl)
theorem dX0_sort_65 : decode cX0_sort 65 = .ok (.if_icmp .ne 10, 3) := dk_160 0 10 (dk_at dksX0_sort_2 19 rfl rfl)
theorem dX0_sort_68 : decode cX0_sort 68 = .ok (.aload_n 0, 1) := dk_42 (dk_at dksX0_sort_2 22 rfl rfl)
theorem dX0_sort_69 : decode cX0_sort 69 = .ok (.getfield 13, 3) := dk_180 0 13 (dk_at dksX0_sort_3 0 rfl rfl)
theorem dX0_sort_72 : decode cX0_sort 72 = .ok (.goto 7, 3) := dk_167 0 7 (dk_at dksX0_sort_3 3 rfl rfl)
theorem dX0_sort_75 : decode cX0_sort 75 = .ok (.aload_n 0, 1) := dk_42 (dk_at dksX0_sort_3 6 rfl rfl)
theorem dX0_sort_76 : decode cX0_sort 76 = .ok (.getfield 16, 3) := dk_180 0 16 (dk_at dksX0_sort_3 7 rfl rfl)
theorem dX0_sort_79 : decode cX0_sort 79 = .ok (.astore 4, 2) := dk_58 4 (dk_at dksX0_sort_3 10 rfl rfl)
theorem dX0_sort_81 : decode cX0_sort 81 = .ok (.aload 4, 2) := dk_25 4 (dk_at dksX0_sort_3 12 rfl rfl)
theorem dX0_sort_83 : decode cX0_sort 83 = .ok (.iload_n 1, 1) := dk_27 (dk_at dksX0_sort_3 14 rfl rfl)
theorem dX0_sort_84 : decode cX0_sort 84 = .ok (.iaload, 1) := dk_46 (dk_at dksX0_sort_3 15 rfl rfl)
theorem dX0_sort_85 : decode cX0_sort 85 = .ok (.istore 5, 2) := dk_54 5 (dk_at dksX0_sort_3 16 rfl rfl)
theorem dX0_sort_87 : decode cX0_sort 87 = .ok (.aload 4, 2) := dk_25 4 (dk_at dksX0_sort_3 18 rfl rfl)
theorem dX0_sort_89 : decode cX0_sort 89 = .ok (.iload_n 1, 1) := dk_27 (dk_at dksX0_sort_3 20 rfl rfl)
theorem dX0_sort_90 : decode cX0_sort 90 = .ok (.iload_n 3, 1) := dk_29 (dk_at dksX0_sort_3 21 rfl rfl)
theorem dX0_sort_91 : decode cX0_sort 91 = .ok (.iastore, 1) := dk_79 (dk_at dksX0_sort_3 22 rfl rfl)
theorem dX0_sort_92 : decode cX0_sort 92 = .ok (.iload 5, 2) := dk_21 5 (dk_at dksX0_sort_4 0 rfl rfl)
theorem dX0_sort_94 : decode cX0_sort 94 = .ok (.ireturn, 1) := dk_172 (dk_at dksX0_sort_4 2 rfl rfl)
abbrev cX0_row : ByteArray := prog_1_method_8_code
def yX0_row : MethodName := ⟨RX0, "row", "(III)I"⟩
def dkwX0_row_4 : List UInt8 := [21, 4, 172]
abbrev dktX0_row_4 : List UInt8 := dkwX0_row_4 ++ []
def dkwX0_row_3 : List UInt8 := [180, 0, 29, 21, 4, 3, 79, 42, 180, 0, 22, 42, 21, 4, 27, 28, 29, 182, 0, 163, 182, 0, 167, 87]
abbrev dktX0_row_3 : List UInt8 := dkwX0_row_3 ++ dktX0_row_4
def dkwX0_row_2 : List UInt8 := [160, 0, 6, 16, 252, 172, 42, 180, 0, 22, 182, 0, 142, 54, 4, 42, 180, 0, 26, 21, 4, 3, 79, 42]
abbrev dktX0_row_2 : List UInt8 := dkwX0_row_2 ++ dktX0_row_3
def dkwX0_row_1 : List UInt8 := [29, 133, 9, 20, 0, 161, 184, 0, 112, 154, 0, 6, 16, 254, 172, 42, 180, 0, 22, 182, 0, 142, 16, 6]
abbrev dktX0_row_1 : List UInt8 := dkwX0_row_1 ++ dktX0_row_2
def dkwX0_row_0 : List UInt8 := [27, 133, 9, 20, 0, 157, 184, 0, 112, 153, 0, 27, 28, 133, 10, 20, 0, 159, 184, 0, 112, 153, 0, 15]
abbrev dktX0_row_0 : List UInt8 := dkwX0_row_0 ++ dktX0_row_1
theorem dksX0_row_0 : cX0_row.data.toList.drop 0 = dktX0_row_0 := by decide +kernel
theorem dksX0_row_1 : cX0_row.data.toList.drop 24 = dktX0_row_1 := dk_seg dksX0_row_0 24 rfl rfl
theorem dksX0_row_2 : cX0_row.data.toList.drop 48 = dktX0_row_2 := dk_seg dksX0_row_1 24 rfl rfl
theorem dksX0_row_3 : cX0_row.data.toList.drop 72 = dktX0_row_3 := dk_seg dksX0_row_2 24 rfl rfl
theorem dksX0_row_4 : cX0_row.data.toList.drop 96 = dktX0_row_4 := dk_seg dksX0_row_3 24 rfl rfl
theorem dX0_row_0 : decode cX0_row 0 = .ok (.iload_n 1, 1) := dk_27 (dk_at dksX0_row_0 0 rfl rfl)
theorem dX0_row_1 : decode cX0_row 1 = .ok (.i2l, 1) := dk_133 (dk_at dksX0_row_0 1 rfl rfl)
theorem dX0_row_2 : decode cX0_row 2 = .ok (.lconst 0, 1) := dk_9 (dk_at dksX0_row_0 2 rfl rfl)
theorem dX0_row_3 : decode cX0_row 3 = .ok (.ldc2_w 157, 3) := dk_20 0 157 (dk_at dksX0_row_0 3 rfl rfl)
theorem dX0_row_6 : decode cX0_row 6 = .ok (.invokestatic 112, 3) := dk_184 0 112 (dk_at dksX0_row_0 6 rfl rfl)
theorem dX0_row_9 : decode cX0_row 9 = .ok (.ifCond .eq 27, 3) := dk_153 0 27 (dk_at dksX0_row_0 9 rfl rfl)
theorem dX0_row_12 : decode cX0_row 12 = .ok (.iload_n 2, 1) := dk_28 (dk_at dksX0_row_0 12 rfl rfl)
theorem dX0_row_13 : decode cX0_row 13 = .ok (.i2l, 1) := dk_133 (dk_at dksX0_row_0 13 rfl rfl)
theorem dX0_row_14 : decode cX0_row 14 = .ok (.lconst 1, 1) := dk_10 (dk_at dksX0_row_0 14 rfl rfl)
theorem dX0_row_15 : decode cX0_row 15 = .ok (.ldc2_w 159, 3) := dk_20 0 159 (dk_at dksX0_row_0 15 rfl rfl)
theorem dX0_row_18 : decode cX0_row 18 = .ok (.invokestatic 112, 3) := dk_184 0 112 (dk_at dksX0_row_0 18 rfl rfl)
theorem dX0_row_21 : decode cX0_row 21 = .ok (.ifCond .eq 15, 3) := dk_153 0 15 (dk_at dksX0_row_0 21 rfl rfl)
theorem dX0_row_24 : decode cX0_row 24 = .ok (.iload_n 3, 1) := dk_29 (dk_at dksX0_row_1 0 rfl rfl)
theorem dX0_row_25 : decode cX0_row 25 = .ok (.i2l, 1) := dk_133 (dk_at dksX0_row_1 1 rfl rfl)
theorem dX0_row_26 : decode cX0_row 26 = .ok (.lconst 0, 1) := dk_9 (dk_at dksX0_row_1 2 rfl rfl)
theorem dX0_row_27 : decode cX0_row 27 = .ok (.ldc2_w 161, 3) := dk_20 0 161 (dk_at dksX0_row_1 3 rfl rfl)
theorem dX0_row_30 : decode cX0_row 30 = .ok (.invokestatic 112, 3) := dk_184 0 112 (dk_at dksX0_row_1 6 rfl rfl)
theorem dX0_row_33 : decode cX0_row 33 = .ok (.ifCond .ne 6, 3) := dk_154 0 6 (dk_at dksX0_row_1 9 rfl rfl)
theorem dX0_row_36 : decode cX0_row 36 = .ok (.bipush (-2), 2) := dk_16 254 (dk_at dksX0_row_1 12 rfl rfl)
theorem dX0_row_38 : decode cX0_row 38 = .ok (.ireturn, 1) := dk_172 (dk_at dksX0_row_1 14 rfl rfl)
theorem dX0_row_39 : decode cX0_row 39 = .ok (.aload_n 0, 1) := dk_42 (dk_at dksX0_row_1 15 rfl rfl)
theorem dX0_row_40 : decode cX0_row 40 = .ok (.getfield 22, 3) := dk_180 0 22 (dk_at dksX0_row_1 16 rfl rfl)
theorem dX0_row_43 : decode cX0_row 43 = .ok (.invokevirtual 142, 3) := dk_182 0 142 (dk_at dksX0_row_1 19 rfl rfl)
theorem dX0_row_46 : decode cX0_row 46 = .ok (.bipush 6, 2) := dk_16 6 (dk_at dksX0_row_1 22 rfl rfl)
theorem dX0_row_48 : decode cX0_row 48 = .ok (.if_icmp .ne 6, 3) := dk_160 0 6 (dk_at dksX0_row_2 0 rfl rfl)
theorem dX0_row_51 : decode cX0_row 51 = .ok (.bipush (-4), 2) := dk_16 252 (dk_at dksX0_row_2 3 rfl rfl)
theorem dX0_row_53 : decode cX0_row 53 = .ok (.ireturn, 1) := dk_172 (dk_at dksX0_row_2 5 rfl rfl)
theorem dX0_row_54 : decode cX0_row 54 = .ok (.aload_n 0, 1) := dk_42 (dk_at dksX0_row_2 6 rfl rfl)
theorem dX0_row_55 : decode cX0_row 55 = .ok (.getfield 22, 3) := dk_180 0 22 (dk_at dksX0_row_2 7 rfl rfl)
theorem dX0_row_58 : decode cX0_row 58 = .ok (.invokevirtual 142, 3) := dk_182 0 142 (dk_at dksX0_row_2 10 rfl rfl)
theorem dX0_row_61 : decode cX0_row 61 = .ok (.istore 4, 2) := dk_54 4 (dk_at dksX0_row_2 13 rfl rfl)
theorem dX0_row_63 : decode cX0_row 63 = .ok (.aload_n 0, 1) := dk_42 (dk_at dksX0_row_2 15 rfl rfl)
theorem dX0_row_64 : decode cX0_row 64 = .ok (.getfield 26, 3) := dk_180 0 26 (dk_at dksX0_row_2 16 rfl rfl)
theorem dX0_row_67 : decode cX0_row 67 = .ok (.iload 4, 2) := dk_21 4 (dk_at dksX0_row_2 19 rfl rfl)
theorem dX0_row_69 : decode cX0_row 69 = .ok (.iconst 0, 1) := dk_3 (dk_at dksX0_row_2 21 rfl rfl)
theorem dX0_row_70 : decode cX0_row 70 = .ok (.iastore, 1) := dk_79 (dk_at dksX0_row_2 22 rfl rfl)
theorem dX0_row_71 : decode cX0_row 71 = .ok (.aload_n 0, 1) := dk_42 (dk_at dksX0_row_2 23 rfl rfl)
theorem dX0_row_72 : decode cX0_row 72 = .ok (.getfield 29, 3) := dk_180 0 29 (dk_at dksX0_row_3 0 rfl rfl)
theorem dX0_row_75 : decode cX0_row 75 = .ok (.iload 4, 2) := dk_21 4 (dk_at dksX0_row_3 3 rfl rfl)
theorem dX0_row_77 : decode cX0_row 77 = .ok (.iconst 0, 1) := dk_3 (dk_at dksX0_row_3 5 rfl rfl)
theorem dX0_row_78 : decode cX0_row 78 = .ok (.iastore, 1) := dk_79 (dk_at dksX0_row_3 6 rfl rfl)
theorem dX0_row_79 : decode cX0_row 79 = .ok (.aload_n 0, 1) := dk_42 (dk_at dksX0_row_3 7 rfl rfl)
theorem dX0_row_80 : decode cX0_row 80 = .ok (.getfield 22, 3) := dk_180 0 22 (dk_at dksX0_row_3 8 rfl rfl)
theorem dX0_row_83 : decode cX0_row 83 = .ok (.aload_n 0, 1) := dk_42 (dk_at dksX0_row_3 11 rfl rfl)
theorem dX0_row_84 : decode cX0_row 84 = .ok (.iload 4, 2) := dk_21 4 (dk_at dksX0_row_3 12 rfl rfl)
theorem dX0_row_86 : decode cX0_row 86 = .ok (.iload_n 1, 1) := dk_27 (dk_at dksX0_row_3 14 rfl rfl)
theorem dX0_row_87 : decode cX0_row 87 = .ok (.iload_n 2, 1) := dk_28 (dk_at dksX0_row_3 15 rfl rfl)
theorem dX0_row_88 : decode cX0_row 88 = .ok (.iload_n 3, 1) := dk_29 (dk_at dksX0_row_3 16 rfl rfl)
theorem dX0_row_89 : decode cX0_row 89 = .ok (.invokevirtual 163, 3) := dk_182 0 163 (dk_at dksX0_row_3 17 rfl rfl)
theorem dX0_row_92 : decode cX0_row 92 = .ok (.invokevirtual 167, 3) := dk_182 0 167 (dk_at dksX0_row_3 20 rfl rfl)
theorem dX0_row_95 : decode cX0_row 95 = .ok (.pop, 1) := dk_87 (dk_at dksX0_row_3 23 rfl rfl)
theorem dX0_row_96 : decode cX0_row 96 = .ok (.iload 4, 2) := dk_21 4 (dk_at dksX0_row_4 0 rfl rfl)
theorem dX0_row_98 : decode cX0_row 98 = .ok (.ireturn, 1) := dk_172 (dk_at dksX0_row_4 2 rfl rfl)
abbrev cX0_made : ByteArray := prog_1_method_4_code
def yX0_made : MethodName := ⟨RX0, "made", "(IIII)LOverTheHeads$Row;"⟩
def dkwX0_made_5 : List UInt8 := [27, 29, 21, 4, 183, 0, 141, 176]
abbrev dktX0_made_5 : List UInt8 := dkwX0_made_5 ++ []
def dkwX0_made_4 : List UInt8 := [21, 4, 183, 0, 135, 176, 187, 0, 136, 89, 42, 27, 29, 21, 4, 183, 0, 138, 176, 187, 0, 139, 89, 42]
abbrev dktX0_made_4 : List UInt8 := dkwX0_made_4 ++ dktX0_made_5
def dkwX0_made_3 : List UInt8 := [183, 0, 129, 176, 187, 0, 130, 89, 42, 27, 29, 21, 4, 183, 0, 132, 176, 187, 0, 133, 89, 42, 27, 29]
abbrev dktX0_made_3 : List UInt8 := dkwX0_made_3 ++ dktX0_made_4
def dkwX0_made_2 : List UInt8 := [187, 0, 122, 89, 42, 27, 29, 21, 4, 183, 0, 124, 176, 187, 0, 127, 89, 42, 27, 29, 21, 4]
abbrev dktX0_made_2 : List UInt8 := dkwX0_made_2 ++ dktX0_made_3
def dkwX0_made_1 : List UInt8 := [170, 0, 0, 0, 0, 0, 100, 0, 0, 0, 0, 0, 0, 0, 4, 0, 0, 0, 35, 0, 0, 0, 48, 0, 0, 0, 61, 0, 0, 0, 74, 0, 0, 0, 87]
abbrev dktX0_made_1 : List UInt8 := dkwX0_made_1 ++ dktX0_made_2
def dkwX0_made_0 : List UInt8 := [28]
abbrev dktX0_made_0 : List UInt8 := dkwX0_made_0 ++ dktX0_made_1
theorem dksX0_made_0 : cX0_made.data.toList.drop 0 = dktX0_made_0 := by decide +kernel
theorem dksX0_made_1 : cX0_made.data.toList.drop 1 = dktX0_made_1 := dk_seg dksX0_made_0 1 rfl rfl
theorem dksX0_made_2 : cX0_made.data.toList.drop 36 = dktX0_made_2 := dk_seg dksX0_made_1 35 rfl rfl
theorem dksX0_made_3 : cX0_made.data.toList.drop 58 = dktX0_made_3 := dk_seg dksX0_made_2 22 rfl rfl
theorem dksX0_made_4 : cX0_made.data.toList.drop 82 = dktX0_made_4 := dk_seg dksX0_made_3 24 rfl rfl
theorem dksX0_made_5 : cX0_made.data.toList.drop 106 = dktX0_made_5 := dk_seg dksX0_made_4 24 rfl rfl
theorem dX0_made_0 : decode cX0_made 0 = .ok (.iload_n 2, 1) := dk_28 (dk_at dksX0_made_0 0 rfl rfl)
theorem dX0_made_1 : decode cX0_made 1 = .ok (.tableswitch 100 0 4 #[35, 48, 61, 74, 87], 35) := by decide +kernel
theorem dX0_made_36 : decode cX0_made 36 = .ok (.new 122, 3) := dk_187 0 122 (dk_at dksX0_made_2 0 rfl rfl)
theorem dX0_made_39 : decode cX0_made 39 = .ok (.dup, 1) := dk_89 (dk_at dksX0_made_2 3 rfl rfl)
theorem dX0_made_40 : decode cX0_made 40 = .ok (.aload_n 0, 1) := dk_42 (dk_at dksX0_made_2 4 rfl rfl)
theorem dX0_made_41 : decode cX0_made 41 = .ok (.iload_n 1, 1) := dk_27 (dk_at dksX0_made_2 5 rfl rfl)
theorem dX0_made_42 : decode cX0_made 42 = .ok (.iload_n 3, 1) := dk_29 (dk_at dksX0_made_2 6 rfl rfl)
theorem dX0_made_43 : decode cX0_made 43 = .ok (.iload 4, 2) := dk_21 4 (dk_at dksX0_made_2 7 rfl rfl)
theorem dX0_made_45 : decode cX0_made 45 = .ok (.invokespecial 124, 3) := dk_183 0 124 (dk_at dksX0_made_2 9 rfl rfl)
theorem dX0_made_48 : decode cX0_made 48 = .ok (.areturn, 1) := dk_176 (dk_at dksX0_made_2 12 rfl rfl)
theorem dX0_made_49 : decode cX0_made 49 = .ok (.new 127, 3) := dk_187 0 127 (dk_at dksX0_made_2 13 rfl rfl)
theorem dX0_made_52 : decode cX0_made 52 = .ok (.dup, 1) := dk_89 (dk_at dksX0_made_2 16 rfl rfl)
theorem dX0_made_53 : decode cX0_made 53 = .ok (.aload_n 0, 1) := dk_42 (dk_at dksX0_made_2 17 rfl rfl)
theorem dX0_made_54 : decode cX0_made 54 = .ok (.iload_n 1, 1) := dk_27 (dk_at dksX0_made_2 18 rfl rfl)
theorem dX0_made_55 : decode cX0_made 55 = .ok (.iload_n 3, 1) := dk_29 (dk_at dksX0_made_2 19 rfl rfl)
theorem dX0_made_56 : decode cX0_made 56 = .ok (.iload 4, 2) := dk_21 4 (dk_at dksX0_made_2 20 rfl rfl)
theorem dX0_made_58 : decode cX0_made 58 = .ok (.invokespecial 129, 3) := dk_183 0 129 (dk_at dksX0_made_3 0 rfl rfl)
theorem dX0_made_61 : decode cX0_made 61 = .ok (.areturn, 1) := dk_176 (dk_at dksX0_made_3 3 rfl rfl)
theorem dX0_made_62 : decode cX0_made 62 = .ok (.new 130, 3) := dk_187 0 130 (dk_at dksX0_made_3 4 rfl rfl)
theorem dX0_made_65 : decode cX0_made 65 = .ok (.dup, 1) := dk_89 (dk_at dksX0_made_3 7 rfl rfl)
theorem dX0_made_66 : decode cX0_made 66 = .ok (.aload_n 0, 1) := dk_42 (dk_at dksX0_made_3 8 rfl rfl)
theorem dX0_made_67 : decode cX0_made 67 = .ok (.iload_n 1, 1) := dk_27 (dk_at dksX0_made_3 9 rfl rfl)
theorem dX0_made_68 : decode cX0_made 68 = .ok (.iload_n 3, 1) := dk_29 (dk_at dksX0_made_3 10 rfl rfl)
theorem dX0_made_69 : decode cX0_made 69 = .ok (.iload 4, 2) := dk_21 4 (dk_at dksX0_made_3 11 rfl rfl)
theorem dX0_made_71 : decode cX0_made 71 = .ok (.invokespecial 132, 3) := dk_183 0 132 (dk_at dksX0_made_3 13 rfl rfl)
theorem dX0_made_74 : decode cX0_made 74 = .ok (.areturn, 1) := dk_176 (dk_at dksX0_made_3 16 rfl rfl)
theorem dX0_made_75 : decode cX0_made 75 = .ok (.new 133, 3) := dk_187 0 133 (dk_at dksX0_made_3 17 rfl rfl)
theorem dX0_made_78 : decode cX0_made 78 = .ok (.dup, 1) := dk_89 (dk_at dksX0_made_3 20 rfl rfl)
theorem dX0_made_79 : decode cX0_made 79 = .ok (.aload_n 0, 1) := dk_42 (dk_at dksX0_made_3 21 rfl rfl)
theorem dX0_made_80 : decode cX0_made 80 = .ok (.iload_n 1, 1) := dk_27 (dk_at dksX0_made_3 22 rfl rfl)
theorem dX0_made_81 : decode cX0_made 81 = .ok (.iload_n 3, 1) := dk_29 (dk_at dksX0_made_3 23 rfl rfl)
theorem dX0_made_82 : decode cX0_made 82 = .ok (.iload 4, 2) := dk_21 4 (dk_at dksX0_made_4 0 rfl rfl)
theorem dX0_made_84 : decode cX0_made 84 = .ok (.invokespecial 135, 3) := dk_183 0 135 (dk_at dksX0_made_4 2 rfl rfl)
theorem dX0_made_87 : decode cX0_made 87 = .ok (.areturn, 1) := dk_176 (dk_at dksX0_made_4 5 rfl rfl)
theorem dX0_made_88 : decode cX0_made 88 = .ok (.new 136, 3) := dk_187 0 136 (dk_at dksX0_made_4 6 rfl rfl)
theorem dX0_made_91 : decode cX0_made 91 = .ok (.dup, 1) := dk_89 (dk_at dksX0_made_4 9 rfl rfl)
theorem dX0_made_92 : decode cX0_made 92 = .ok (.aload_n 0, 1) := dk_42 (dk_at dksX0_made_4 10 rfl rfl)
theorem dX0_made_93 : decode cX0_made 93 = .ok (.iload_n 1, 1) := dk_27 (dk_at dksX0_made_4 11 rfl rfl)
theorem dX0_made_94 : decode cX0_made 94 = .ok (.iload_n 3, 1) := dk_29 (dk_at dksX0_made_4 12 rfl rfl)
theorem dX0_made_95 : decode cX0_made 95 = .ok (.iload 4, 2) := dk_21 4 (dk_at dksX0_made_4 13 rfl rfl)
theorem dX0_made_97 : decode cX0_made 97 = .ok (.invokespecial 138, 3) := dk_183 0 138 (dk_at dksX0_made_4 15 rfl rfl)
theorem dX0_made_100 : decode cX0_made 100 = .ok (.areturn, 1) := dk_176 (dk_at dksX0_made_4 18 rfl rfl)
theorem dX0_made_101 : decode cX0_made 101 = .ok (.new 139, 3) := dk_187 0 139 (dk_at dksX0_made_4 19 rfl rfl)
theorem dX0_made_104 : decode cX0_made 104 = .ok (.dup, 1) := dk_89 (dk_at dksX0_made_4 22 rfl rfl)
theorem dX0_made_105 : decode cX0_made 105 = .ok (.aload_n 0, 1) := dk_42 (dk_at dksX0_made_4 23 rfl rfl)
theorem dX0_made_106 : decode cX0_made 106 = .ok (.iload_n 1, 1) := dk_27 (dk_at dksX0_made_5 0 rfl rfl)
theorem dX0_made_107 : decode cX0_made 107 = .ok (.iload_n 3, 1) := dk_29 (dk_at dksX0_made_5 1 rfl rfl)
theorem dX0_made_108 : decode cX0_made 108 = .ok (.iload 4, 2) := dk_21 4 (dk_at dksX0_made_5 2 rfl rfl)
theorem dX0_made_110 : decode cX0_made 110 = .ok (.invokespecial 141, 3) := dk_183 0 141 (dk_at dksX0_made_5 4 rfl rfl)
theorem dX0_made_113 : decode cX0_made 113 = .ok (.areturn, 1) := dk_176 (dk_at dksX0_made_5 7 rfl rfl)
abbrev cX0_set : ByteArray := prog_1_method_9_code
def yX0_set : MethodName := ⟨RX0, "set", "(III)I"⟩
def dkwX0_set_3 : List UInt8 := [180, 0, 26, 27, 29, 79, 167, 0, 10, 42, 180, 0, 29, 27, 29, 79, 21, 4, 172]
abbrev dktX0_set_3 : List UInt8 := dkwX0_set_3 ++ []
def dkwX0_set_2 : List UInt8 := [42, 180, 0, 26, 27, 46, 167, 0, 9, 42, 180, 0, 29, 27, 46, 54, 4, 28, 154, 0, 13, 42]
abbrev dktX0_set_2 : List UInt8 := dkwX0_set_2 ++ dktX0_set_3
def dkwX0_set_1 : List UInt8 := [28, 154, 0, 9, 20, 0, 171, 167, 0, 4, 10, 184, 0, 112, 154, 0, 6, 16, 249, 172, 28, 154, 0, 12]
abbrev dktX0_set_1 : List UInt8 := dkwX0_set_1 ++ dktX0_set_2
def dkwX0_set_0 : List UInt8 := [42, 27, 182, 0, 146, 154, 0, 6, 16, 251, 172, 28, 133, 9, 10, 184, 0, 112, 153, 0, 23, 29, 133, 9]
abbrev dktX0_set_0 : List UInt8 := dkwX0_set_0 ++ dktX0_set_1
theorem dksX0_set_0 : cX0_set.data.toList.drop 0 = dktX0_set_0 := by decide +kernel
theorem dksX0_set_1 : cX0_set.data.toList.drop 24 = dktX0_set_1 := dk_seg dksX0_set_0 24 rfl rfl
theorem dksX0_set_2 : cX0_set.data.toList.drop 48 = dktX0_set_2 := dk_seg dksX0_set_1 24 rfl rfl
theorem dksX0_set_3 : cX0_set.data.toList.drop 70 = dktX0_set_3 := dk_seg dksX0_set_2 22 rfl rfl
theorem dX0_set_0 : decode cX0_set 0 = .ok (.aload_n 0, 1) := dk_42 (dk_at dksX0_set_0 0 rfl rfl)
theorem dX0_set_1 : decode cX0_set 1 = .ok (.iload_n 1, 1) := dk_27 (dk_at dksX0_set_0 1 rfl rfl)
theorem dX0_set_2 : decode cX0_set 2 = .ok (.invokevirtual 146, 3) := dk_182 0 146 (dk_at dksX0_set_0 2 rfl rfl)
theorem dX0_set_5 : decode cX0_set 5 = .ok (.ifCond .ne 6, 3) := dk_154 0 6 (dk_at dksX0_set_0 5 rfl rfl)
theorem dX0_set_8 : decode cX0_set 8 = .ok (.bipush (-5), 2) := dk_16 251 (dk_at dksX0_set_0 8 rfl rfl)
theorem dX0_set_10 : decode cX0_set 10 = .ok (.ireturn, 1) := dk_172 (dk_at dksX0_set_0 10 rfl rfl)
theorem dX0_set_11 : decode cX0_set 11 = .ok (.iload_n 2, 1) := dk_28 (dk_at dksX0_set_0 11 rfl rfl)
theorem dX0_set_12 : decode cX0_set 12 = .ok (.i2l, 1) := dk_133 (dk_at dksX0_set_0 12 rfl rfl)
theorem dX0_set_13 : decode cX0_set 13 = .ok (.lconst 0, 1) := dk_9 (dk_at dksX0_set_0 13 rfl rfl)
theorem dX0_set_14 : decode cX0_set 14 = .ok (.lconst 1, 1) := dk_10 (dk_at dksX0_set_0 14 rfl rfl)
theorem dX0_set_15 : decode cX0_set 15 = .ok (.invokestatic 112, 3) := dk_184 0 112 (dk_at dksX0_set_0 15 rfl rfl)
theorem dX0_set_18 : decode cX0_set 18 = .ok (.ifCond .eq 23, 3) := dk_153 0 23 (dk_at dksX0_set_0 18 rfl rfl)
theorem dX0_set_21 : decode cX0_set 21 = .ok (.iload_n 3, 1) := dk_29 (dk_at dksX0_set_0 21 rfl rfl)
theorem dX0_set_22 : decode cX0_set 22 = .ok (.i2l, 1) := dk_133 (dk_at dksX0_set_0 22 rfl rfl)
theorem dX0_set_23 : decode cX0_set 23 = .ok (.lconst 0, 1) := dk_9 (dk_at dksX0_set_0 23 rfl rfl)
theorem dX0_set_24 : decode cX0_set 24 = .ok (.iload_n 2, 1) := dk_28 (dk_at dksX0_set_1 0 rfl rfl)
theorem dX0_set_25 : decode cX0_set 25 = .ok (.ifCond .ne 9, 3) := dk_154 0 9 (dk_at dksX0_set_1 1 rfl rfl)
theorem dX0_set_28 : decode cX0_set 28 = .ok (.ldc2_w 171, 3) := dk_20 0 171 (dk_at dksX0_set_1 4 rfl rfl)
theorem dX0_set_31 : decode cX0_set 31 = .ok (.goto 4, 3) := dk_167 0 4 (dk_at dksX0_set_1 7 rfl rfl)
theorem dX0_set_34 : decode cX0_set 34 = .ok (.lconst 1, 1) := dk_10 (dk_at dksX0_set_1 10 rfl rfl)
theorem dX0_set_35 : decode cX0_set 35 = .ok (.invokestatic 112, 3) := dk_184 0 112 (dk_at dksX0_set_1 11 rfl rfl)
theorem dX0_set_38 : decode cX0_set 38 = .ok (.ifCond .ne 6, 3) := dk_154 0 6 (dk_at dksX0_set_1 14 rfl rfl)
theorem dX0_set_41 : decode cX0_set 41 = .ok (.bipush (-7), 2) := dk_16 249 (dk_at dksX0_set_1 17 rfl rfl)
theorem dX0_set_43 : decode cX0_set 43 = .ok (.ireturn, 1) := dk_172 (dk_at dksX0_set_1 19 rfl rfl)
theorem dX0_set_44 : decode cX0_set 44 = .ok (.iload_n 2, 1) := dk_28 (dk_at dksX0_set_1 20 rfl rfl)
theorem dX0_set_45 : decode cX0_set 45 = .ok (.ifCond .ne 12, 3) := dk_154 0 12 (dk_at dksX0_set_1 21 rfl rfl)
theorem dX0_set_48 : decode cX0_set 48 = .ok (.aload_n 0, 1) := dk_42 (dk_at dksX0_set_2 0 rfl rfl)
theorem dX0_set_49 : decode cX0_set 49 = .ok (.getfield 26, 3) := dk_180 0 26 (dk_at dksX0_set_2 1 rfl rfl)
theorem dX0_set_52 : decode cX0_set 52 = .ok (.iload_n 1, 1) := dk_27 (dk_at dksX0_set_2 4 rfl rfl)
theorem dX0_set_53 : decode cX0_set 53 = .ok (.iaload, 1) := dk_46 (dk_at dksX0_set_2 5 rfl rfl)
theorem dX0_set_54 : decode cX0_set 54 = .ok (.goto 9, 3) := dk_167 0 9 (dk_at dksX0_set_2 6 rfl rfl)
theorem dX0_set_57 : decode cX0_set 57 = .ok (.aload_n 0, 1) := dk_42 (dk_at dksX0_set_2 9 rfl rfl)
theorem dX0_set_58 : decode cX0_set 58 = .ok (.getfield 29, 3) := dk_180 0 29 (dk_at dksX0_set_2 10 rfl rfl)
theorem dX0_set_61 : decode cX0_set 61 = .ok (.iload_n 1, 1) := dk_27 (dk_at dksX0_set_2 13 rfl rfl)
theorem dX0_set_62 : decode cX0_set 62 = .ok (.iaload, 1) := dk_46 (dk_at dksX0_set_2 14 rfl rfl)
theorem dX0_set_63 : decode cX0_set 63 = .ok (.istore 4, 2) := dk_54 4 (dk_at dksX0_set_2 15 rfl rfl)
theorem dX0_set_65 : decode cX0_set 65 = .ok (.iload_n 2, 1) := dk_28 (dk_at dksX0_set_2 17 rfl rfl)
theorem dX0_set_66 : decode cX0_set 66 = .ok (.ifCond .ne 13, 3) := dk_154 0 13 (dk_at dksX0_set_2 18 rfl rfl)
theorem dX0_set_69 : decode cX0_set 69 = .ok (.aload_n 0, 1) := dk_42 (dk_at dksX0_set_2 21 rfl rfl)
theorem dX0_set_70 : decode cX0_set 70 = .ok (.getfield 26, 3) := dk_180 0 26 (dk_at dksX0_set_3 0 rfl rfl)
theorem dX0_set_73 : decode cX0_set 73 = .ok (.iload_n 1, 1) := dk_27 (dk_at dksX0_set_3 3 rfl rfl)
theorem dX0_set_74 : decode cX0_set 74 = .ok (.iload_n 3, 1) := dk_29 (dk_at dksX0_set_3 4 rfl rfl)
theorem dX0_set_75 : decode cX0_set 75 = .ok (.iastore, 1) := dk_79 (dk_at dksX0_set_3 5 rfl rfl)
theorem dX0_set_76 : decode cX0_set 76 = .ok (.goto 10, 3) := dk_167 0 10 (dk_at dksX0_set_3 6 rfl rfl)
theorem dX0_set_79 : decode cX0_set 79 = .ok (.aload_n 0, 1) := dk_42 (dk_at dksX0_set_3 9 rfl rfl)
theorem dX0_set_80 : decode cX0_set 80 = .ok (.getfield 29, 3) := dk_180 0 29 (dk_at dksX0_set_3 10 rfl rfl)
theorem dX0_set_83 : decode cX0_set 83 = .ok (.iload_n 1, 1) := dk_27 (dk_at dksX0_set_3 13 rfl rfl)
theorem dX0_set_84 : decode cX0_set 84 = .ok (.iload_n 3, 1) := dk_29 (dk_at dksX0_set_3 14 rfl rfl)
theorem dX0_set_85 : decode cX0_set 85 = .ok (.iastore, 1) := dk_79 (dk_at dksX0_set_3 15 rfl rfl)
theorem dX0_set_86 : decode cX0_set 86 = .ok (.iload 4, 2) := dk_21 4 (dk_at dksX0_set_3 16 rfl rfl)
theorem dX0_set_88 : decode cX0_set 88 = .ok (.ireturn, 1) := dk_172 (dk_at dksX0_set_3 18 rfl rfl)
abbrev cX0_isRow : ByteArray := prog_1_method_6_code
def yX0_isRow : MethodName := ⟨RX0, "isRow", "(I)Z"⟩
def dkwX0_isRow_0 : List UInt8 := [27, 133, 9, 42, 180, 0, 22, 182, 0, 142, 133, 10, 101, 184, 0, 112, 172]
abbrev dktX0_isRow_0 : List UInt8 := dkwX0_isRow_0 ++ []
theorem dksX0_isRow_0 : cX0_isRow.data.toList.drop 0 = dktX0_isRow_0 := by decide +kernel
theorem dX0_isRow_0 : decode cX0_isRow 0 = .ok (.iload_n 1, 1) := dk_27 (dk_at dksX0_isRow_0 0 rfl rfl)
theorem dX0_isRow_1 : decode cX0_isRow 1 = .ok (.i2l, 1) := dk_133 (dk_at dksX0_isRow_0 1 rfl rfl)
theorem dX0_isRow_2 : decode cX0_isRow 2 = .ok (.lconst 0, 1) := dk_9 (dk_at dksX0_isRow_0 2 rfl rfl)
theorem dX0_isRow_3 : decode cX0_isRow 3 = .ok (.aload_n 0, 1) := dk_42 (dk_at dksX0_isRow_0 3 rfl rfl)
theorem dX0_isRow_4 : decode cX0_isRow 4 = .ok (.getfield 22, 3) := dk_180 0 22 (dk_at dksX0_isRow_0 4 rfl rfl)
theorem dX0_isRow_7 : decode cX0_isRow 7 = .ok (.invokevirtual 142, 3) := dk_182 0 142 (dk_at dksX0_isRow_0 7 rfl rfl)
theorem dX0_isRow_10 : decode cX0_isRow 10 = .ok (.i2l, 1) := dk_133 (dk_at dksX0_isRow_0 10 rfl rfl)
theorem dX0_isRow_11 : decode cX0_isRow 11 = .ok (.lconst 1, 1) := dk_10 (dk_at dksX0_isRow_0 11 rfl rfl)
theorem dX0_isRow_12 : decode cX0_isRow 12 = .ok (.lsub, 1) := dk_101 (dk_at dksX0_isRow_0 12 rfl rfl)
theorem dX0_isRow_13 : decode cX0_isRow 13 = .ok (.invokestatic 112, 3) := dk_184 0 112 (dk_at dksX0_isRow_0 13 rfl rfl)
theorem dX0_isRow_16 : decode cX0_isRow 16 = .ok (.ireturn, 1) := dk_172 (dk_at dksX0_isRow_0 16 rfl rfl)
abbrev cX0_sit : ByteArray := prog_1_method_10_code
def yX0_sit : MethodName := ⟨RX0, "sit", "(III)I"⟩
def dkwX0_sit_2 : List UInt8 := [180, 0, 22, 27, 182, 0, 150, 192, 0, 122, 180, 0, 177, 28, 29, 145, 84, 21, 4, 172]
abbrev dktX0_sit_2 : List UInt8 := dkwX0_sit_2 ++ []
def dkwX0_sit_1 : List UInt8 := [16, 254, 172, 42, 180, 0, 22, 27, 182, 0, 150, 192, 0, 122, 180, 0, 177, 28, 51, 54, 4, 42]
abbrev dktX0_sit_1 : List UInt8 := dkwX0_sit_1 ++ dktX0_sit_2
def dkwX0_sit_0 : List UInt8 := [42, 27, 28, 182, 0, 173, 154, 0, 5, 2, 172, 29, 133, 9, 20, 0, 110, 184, 0, 112, 154, 0, 6]
abbrev dktX0_sit_0 : List UInt8 := dkwX0_sit_0 ++ dktX0_sit_1
theorem dksX0_sit_0 : cX0_sit.data.toList.drop 0 = dktX0_sit_0 := by decide +kernel
theorem dksX0_sit_1 : cX0_sit.data.toList.drop 23 = dktX0_sit_1 := dk_seg dksX0_sit_0 23 rfl rfl
theorem dksX0_sit_2 : cX0_sit.data.toList.drop 45 = dktX0_sit_2 := dk_seg dksX0_sit_1 22 rfl rfl
theorem dX0_sit_0 : decode cX0_sit 0 = .ok (.aload_n 0, 1) := dk_42 (dk_at dksX0_sit_0 0 rfl rfl)
theorem dX0_sit_1 : decode cX0_sit 1 = .ok (.iload_n 1, 1) := dk_27 (dk_at dksX0_sit_0 1 rfl rfl)
theorem dX0_sit_2 : decode cX0_sit 2 = .ok (.iload_n 2, 1) := dk_28 (dk_at dksX0_sit_0 2 rfl rfl)
theorem dX0_sit_3 : decode cX0_sit 3 = .ok (.invokevirtual 173, 3) := dk_182 0 173 (dk_at dksX0_sit_0 3 rfl rfl)
theorem dX0_sit_6 : decode cX0_sit 6 = .ok (.ifCond .ne 5, 3) := dk_154 0 5 (dk_at dksX0_sit_0 6 rfl rfl)
theorem dX0_sit_9 : decode cX0_sit 9 = .ok (.iconst (-1), 1) := dk_2 (dk_at dksX0_sit_0 9 rfl rfl)
theorem dX0_sit_10 : decode cX0_sit 10 = .ok (.ireturn, 1) := dk_172 (dk_at dksX0_sit_0 10 rfl rfl)
theorem dX0_sit_11 : decode cX0_sit 11 = .ok (.iload_n 3, 1) := dk_29 (dk_at dksX0_sit_0 11 rfl rfl)
theorem dX0_sit_12 : decode cX0_sit 12 = .ok (.i2l, 1) := dk_133 (dk_at dksX0_sit_0 12 rfl rfl)
theorem dX0_sit_13 : decode cX0_sit 13 = .ok (.lconst 0, 1) := dk_9 (dk_at dksX0_sit_0 13 rfl rfl)
theorem dX0_sit_14 : decode cX0_sit 14 = .ok (.ldc2_w 110, 3) := dk_20 0 110 (dk_at dksX0_sit_0 14 rfl rfl)
theorem dX0_sit_17 : decode cX0_sit 17 = .ok (.invokestatic 112, 3) := dk_184 0 112 (dk_at dksX0_sit_0 17 rfl rfl)
theorem dX0_sit_20 : decode cX0_sit 20 = .ok (.ifCond .ne 6, 3) := dk_154 0 6 (dk_at dksX0_sit_0 20 rfl rfl)
theorem dX0_sit_23 : decode cX0_sit 23 = .ok (.bipush (-2), 2) := dk_16 254 (dk_at dksX0_sit_1 0 rfl rfl)
theorem dX0_sit_25 : decode cX0_sit 25 = .ok (.ireturn, 1) := dk_172 (dk_at dksX0_sit_1 2 rfl rfl)
theorem dX0_sit_26 : decode cX0_sit 26 = .ok (.aload_n 0, 1) := dk_42 (dk_at dksX0_sit_1 3 rfl rfl)
theorem dX0_sit_27 : decode cX0_sit 27 = .ok (.getfield 22, 3) := dk_180 0 22 (dk_at dksX0_sit_1 4 rfl rfl)
theorem dX0_sit_30 : decode cX0_sit 30 = .ok (.iload_n 1, 1) := dk_27 (dk_at dksX0_sit_1 7 rfl rfl)
theorem dX0_sit_31 : decode cX0_sit 31 = .ok (.invokevirtual 150, 3) := dk_182 0 150 (dk_at dksX0_sit_1 8 rfl rfl)
theorem dX0_sit_34 : decode cX0_sit 34 = .ok (.checkcast 122, 3) := dk_192 0 122 (dk_at dksX0_sit_1 11 rfl rfl)
theorem dX0_sit_37 : decode cX0_sit 37 = .ok (.getfield 177, 3) := dk_180 0 177 (dk_at dksX0_sit_1 14 rfl rfl)
theorem dX0_sit_40 : decode cX0_sit 40 = .ok (.iload_n 2, 1) := dk_28 (dk_at dksX0_sit_1 17 rfl rfl)
theorem dX0_sit_41 : decode cX0_sit 41 = .ok (.baload, 1) := dk_51 (dk_at dksX0_sit_1 18 rfl rfl)
theorem dX0_sit_42 : decode cX0_sit 42 = .ok (.istore 4, 2) := dk_54 4 (dk_at dksX0_sit_1 19 rfl rfl)
theorem dX0_sit_44 : decode cX0_sit 44 = .ok (.aload_n 0, 1) := dk_42 (dk_at dksX0_sit_1 21 rfl rfl)
theorem dX0_sit_45 : decode cX0_sit 45 = .ok (.getfield 22, 3) := dk_180 0 22 (dk_at dksX0_sit_2 0 rfl rfl)
theorem dX0_sit_48 : decode cX0_sit 48 = .ok (.iload_n 1, 1) := dk_27 (dk_at dksX0_sit_2 3 rfl rfl)
theorem dX0_sit_49 : decode cX0_sit 49 = .ok (.invokevirtual 150, 3) := dk_182 0 150 (dk_at dksX0_sit_2 4 rfl rfl)
theorem dX0_sit_52 : decode cX0_sit 52 = .ok (.checkcast 122, 3) := dk_192 0 122 (dk_at dksX0_sit_2 7 rfl rfl)
theorem dX0_sit_55 : decode cX0_sit 55 = .ok (.getfield 177, 3) := dk_180 0 177 (dk_at dksX0_sit_2 10 rfl rfl)
theorem dX0_sit_58 : decode cX0_sit 58 = .ok (.iload_n 2, 1) := dk_28 (dk_at dksX0_sit_2 13 rfl rfl)
theorem dX0_sit_59 : decode cX0_sit 59 = .ok (.iload_n 3, 1) := dk_29 (dk_at dksX0_sit_2 14 rfl rfl)
theorem dX0_sit_60 : decode cX0_sit 60 = .ok (.i2b, 1) := dk_145 (dk_at dksX0_sit_2 15 rfl rfl)
theorem dX0_sit_61 : decode cX0_sit 61 = .ok (.bastore, 1) := dk_84 (dk_at dksX0_sit_2 16 rfl rfl)
theorem dX0_sit_62 : decode cX0_sit 62 = .ok (.iload 4, 2) := dk_21 4 (dk_at dksX0_sit_2 17 rfl rfl)
theorem dX0_sit_64 : decode cX0_sit 64 = .ok (.ireturn, 1) := dk_172 (dk_at dksX0_sit_2 19 rfl rfl)
abbrev cX0_isSeat : ByteArray := prog_1_method_7_code
def yX0_isSeat : MethodName := ⟨RX0, "isSeat", "(II)Z"⟩
def dkwX0_isSeat_1 : List UInt8 := [180, 0, 154, 133, 10, 101, 184, 0, 112, 153, 0, 7, 4, 167, 0, 4, 3, 172]
abbrev dktX0_isSeat_1 : List UInt8 := dkwX0_isSeat_1 ++ []
def dkwX0_isSeat_0 : List UInt8 := [42, 27, 182, 0, 146, 153, 0, 33, 28, 133, 9, 42, 180, 0, 22, 27, 182, 0, 150, 192, 0, 122]
abbrev dktX0_isSeat_0 : List UInt8 := dkwX0_isSeat_0 ++ dktX0_isSeat_1
theorem dksX0_isSeat_0 : cX0_isSeat.data.toList.drop 0 = dktX0_isSeat_0 := by decide +kernel
theorem dksX0_isSeat_1 : cX0_isSeat.data.toList.drop 22 = dktX0_isSeat_1 := dk_seg dksX0_isSeat_0 22 rfl rfl
theorem dX0_isSeat_0 : decode cX0_isSeat 0 = .ok (.aload_n 0, 1) := dk_42 (dk_at dksX0_isSeat_0 0 rfl rfl)
theorem dX0_isSeat_1 : decode cX0_isSeat 1 = .ok (.iload_n 1, 1) := dk_27 (dk_at dksX0_isSeat_0 1 rfl rfl)
theorem dX0_isSeat_2 : decode cX0_isSeat 2 = .ok (.invokevirtual 146, 3) := dk_182 0 146 (dk_at dksX0_isSeat_0 2 rfl rfl)
theorem dX0_isSeat_5 : decode cX0_isSeat 5 = .ok (.ifCond .eq 33, 3) := dk_153 0 33 (dk_at dksX0_isSeat_0 5 rfl rfl)
theorem dX0_isSeat_8 : decode cX0_isSeat 8 = .ok (.iload_n 2, 1) := dk_28 (dk_at dksX0_isSeat_0 8 rfl rfl)
theorem dX0_isSeat_9 : decode cX0_isSeat 9 = .ok (.i2l, 1) := dk_133 (dk_at dksX0_isSeat_0 9 rfl rfl)
theorem dX0_isSeat_10 : decode cX0_isSeat 10 = .ok (.lconst 0, 1) := dk_9 (dk_at dksX0_isSeat_0 10 rfl rfl)
theorem dX0_isSeat_11 : decode cX0_isSeat 11 = .ok (.aload_n 0, 1) := dk_42 (dk_at dksX0_isSeat_0 11 rfl rfl)
theorem dX0_isSeat_12 : decode cX0_isSeat 12 = .ok (.getfield 22, 3) := dk_180 0 22 (dk_at dksX0_isSeat_0 12 rfl rfl)
theorem dX0_isSeat_15 : decode cX0_isSeat 15 = .ok (.iload_n 1, 1) := dk_27 (dk_at dksX0_isSeat_0 15 rfl rfl)
theorem dX0_isSeat_16 : decode cX0_isSeat 16 = .ok (.invokevirtual 150, 3) := dk_182 0 150 (dk_at dksX0_isSeat_0 16 rfl rfl)
theorem dX0_isSeat_19 : decode cX0_isSeat 19 = .ok (.checkcast 122, 3) := dk_192 0 122 (dk_at dksX0_isSeat_0 19 rfl rfl)
theorem dX0_isSeat_22 : decode cX0_isSeat 22 = .ok (.getfield 154, 3) := dk_180 0 154 (dk_at dksX0_isSeat_1 0 rfl rfl)
theorem dX0_isSeat_25 : decode cX0_isSeat 25 = .ok (.i2l, 1) := dk_133 (dk_at dksX0_isSeat_1 3 rfl rfl)
theorem dX0_isSeat_26 : decode cX0_isSeat 26 = .ok (.lconst 1, 1) := dk_10 (dk_at dksX0_isSeat_1 4 rfl rfl)
theorem dX0_isSeat_27 : decode cX0_isSeat 27 = .ok (.lsub, 1) := dk_101 (dk_at dksX0_isSeat_1 5 rfl rfl)
theorem dX0_isSeat_28 : decode cX0_isSeat 28 = .ok (.invokestatic 112, 3) := dk_184 0 112 (dk_at dksX0_isSeat_1 6 rfl rfl)
theorem dX0_isSeat_31 : decode cX0_isSeat 31 = .ok (.ifCond .eq 7, 3) := dk_153 0 7 (dk_at dksX0_isSeat_1 9 rfl rfl)
theorem dX0_isSeat_34 : decode cX0_isSeat 34 = .ok (.iconst 1, 1) := dk_4 (dk_at dksX0_isSeat_1 12 rfl rfl)
theorem dX0_isSeat_35 : decode cX0_isSeat 35 = .ok (.goto 4, 3) := dk_167 0 4 (dk_at dksX0_isSeat_1 13 rfl rfl)
theorem dX0_isSeat_38 : decode cX0_isSeat 38 = .ok (.iconst 0, 1) := dk_3 (dk_at dksX0_isSeat_1 16 rfl rfl)
theorem dX0_isSeat_39 : decode cX0_isSeat 39 = .ok (.ireturn, 1) := dk_172 (dk_at dksX0_isSeat_1 17 rfl rfl)
abbrev cX0_told : ByteArray := prog_1_method_11_code
def yX0_told : MethodName := ⟨RX0, "told", "(III)I"⟩
def dkwX0_told_5 : List UInt8 := [51, 182, 0, 196, 172, 25, 4, 182, 0, 199, 153, 0, 7, 4, 167, 0, 4, 3, 172, 16, 249, 172]
abbrev dktX0_told_5 : List UInt8 := dkwX0_told_5 ++ []
def dkwX0_told_4 : List UInt8 := [172, 25, 4, 180, 0, 177, 28, 51, 172, 25, 4, 28, 182, 0, 193, 172, 25, 4, 25, 4, 180, 0, 177, 28]
abbrev dktX0_told_4 : List UInt8 := dkwX0_told_4 ++ dktX0_told_5
def dkwX0_told_3 : List UInt8 := [25, 4, 182, 0, 180, 172, 25, 4, 28, 182, 0, 183, 172, 25, 4, 182, 0, 187, 172, 25, 4, 182, 0, 190]
abbrev dktX0_told_3 : List UInt8 := dkwX0_told_3 ++ dktX0_told_4
def dkwX0_told_2 : List UInt8 := [170, 0, 0, 0, 0, 113, 0, 0, 0, 0, 0, 0, 0, 7, 0, 0, 0, 46, 0, 0, 0, 52, 0, 0, 0, 59, 0, 0, 0, 65, 0, 0, 0, 71, 0, 0, 0, 79, 0, 0, 0, 86, 0, 0, 0, 99]
abbrev dktX0_told_2 : List UInt8 := dkwX0_told_2 ++ dktX0_told_3
def dkwX0_told_1 : List UInt8 := [58, 4, 29]
abbrev dktX0_told_1 : List UInt8 := dkwX0_told_1 ++ dktX0_told_2
def dkwX0_told_0 : List UInt8 := [42, 27, 28, 182, 0, 173, 154, 0, 6, 16, 251, 172, 42, 180, 0, 22, 27, 182, 0, 150, 192, 0, 122]
abbrev dktX0_told_0 : List UInt8 := dkwX0_told_0 ++ dktX0_told_1
theorem dksX0_told_0 : cX0_told.data.toList.drop 0 = dktX0_told_0 := by decide +kernel
theorem dksX0_told_1 : cX0_told.data.toList.drop 23 = dktX0_told_1 := dk_seg dksX0_told_0 23 rfl rfl
theorem dksX0_told_2 : cX0_told.data.toList.drop 26 = dktX0_told_2 := dk_seg dksX0_told_1 3 rfl rfl
theorem dksX0_told_3 : cX0_told.data.toList.drop 72 = dktX0_told_3 := dk_seg dksX0_told_2 46 rfl rfl
theorem dksX0_told_4 : cX0_told.data.toList.drop 96 = dktX0_told_4 := dk_seg dksX0_told_3 24 rfl rfl
theorem dksX0_told_5 : cX0_told.data.toList.drop 120 = dktX0_told_5 := dk_seg dksX0_told_4 24 rfl rfl
theorem dX0_told_0 : decode cX0_told 0 = .ok (.aload_n 0, 1) := dk_42 (dk_at dksX0_told_0 0 rfl rfl)
theorem dX0_told_1 : decode cX0_told 1 = .ok (.iload_n 1, 1) := dk_27 (dk_at dksX0_told_0 1 rfl rfl)
theorem dX0_told_2 : decode cX0_told 2 = .ok (.iload_n 2, 1) := dk_28 (dk_at dksX0_told_0 2 rfl rfl)
theorem dX0_told_3 : decode cX0_told 3 = .ok (.invokevirtual 173, 3) := dk_182 0 173 (dk_at dksX0_told_0 3 rfl rfl)
theorem dX0_told_6 : decode cX0_told 6 = .ok (.ifCond .ne 6, 3) := dk_154 0 6 (dk_at dksX0_told_0 6 rfl rfl)
theorem dX0_told_9 : decode cX0_told 9 = .ok (.bipush (-5), 2) := dk_16 251 (dk_at dksX0_told_0 9 rfl rfl)
theorem dX0_told_11 : decode cX0_told 11 = .ok (.ireturn, 1) := dk_172 (dk_at dksX0_told_0 11 rfl rfl)
theorem dX0_told_12 : decode cX0_told 12 = .ok (.aload_n 0, 1) := dk_42 (dk_at dksX0_told_0 12 rfl rfl)
theorem dX0_told_13 : decode cX0_told 13 = .ok (.getfield 22, 3) := dk_180 0 22 (dk_at dksX0_told_0 13 rfl rfl)
theorem dX0_told_16 : decode cX0_told 16 = .ok (.iload_n 1, 1) := dk_27 (dk_at dksX0_told_0 16 rfl rfl)
theorem dX0_told_17 : decode cX0_told 17 = .ok (.invokevirtual 150, 3) := dk_182 0 150 (dk_at dksX0_told_0 17 rfl rfl)
theorem dX0_told_20 : decode cX0_told 20 = .ok (.checkcast 122, 3) := dk_192 0 122 (dk_at dksX0_told_0 20 rfl rfl)
theorem dX0_told_23 : decode cX0_told 23 = .ok (.astore 4, 2) := dk_58 4 (dk_at dksX0_told_1 0 rfl rfl)
theorem dX0_told_25 : decode cX0_told 25 = .ok (.iload_n 3, 1) := dk_29 (dk_at dksX0_told_1 2 rfl rfl)
theorem dX0_told_26 : decode cX0_told 26 = .ok (.tableswitch 113 0 7 #[46, 52, 59, 65, 71, 79, 86, 99], 46) := by decide +kernel
theorem dX0_told_72 : decode cX0_told 72 = .ok (.aload 4, 2) := dk_25 4 (dk_at dksX0_told_3 0 rfl rfl)
theorem dX0_told_74 : decode cX0_told 74 = .ok (.invokevirtual 180, 3) := dk_182 0 180 (dk_at dksX0_told_3 2 rfl rfl)
theorem dX0_told_77 : decode cX0_told 77 = .ok (.ireturn, 1) := dk_172 (dk_at dksX0_told_3 5 rfl rfl)
theorem dX0_told_78 : decode cX0_told 78 = .ok (.aload 4, 2) := dk_25 4 (dk_at dksX0_told_3 6 rfl rfl)
theorem dX0_told_80 : decode cX0_told 80 = .ok (.iload_n 2, 1) := dk_28 (dk_at dksX0_told_3 8 rfl rfl)
theorem dX0_told_81 : decode cX0_told 81 = .ok (.invokevirtual 183, 3) := dk_182 0 183 (dk_at dksX0_told_3 9 rfl rfl)
theorem dX0_told_84 : decode cX0_told 84 = .ok (.ireturn, 1) := dk_172 (dk_at dksX0_told_3 12 rfl rfl)
theorem dX0_told_85 : decode cX0_told 85 = .ok (.aload 4, 2) := dk_25 4 (dk_at dksX0_told_3 13 rfl rfl)
theorem dX0_told_87 : decode cX0_told 87 = .ok (.invokevirtual 187, 3) := dk_182 0 187 (dk_at dksX0_told_3 15 rfl rfl)
theorem dX0_told_90 : decode cX0_told 90 = .ok (.ireturn, 1) := dk_172 (dk_at dksX0_told_3 18 rfl rfl)
theorem dX0_told_91 : decode cX0_told 91 = .ok (.aload 4, 2) := dk_25 4 (dk_at dksX0_told_3 19 rfl rfl)
theorem dX0_told_93 : decode cX0_told 93 = .ok (.invokevirtual 190, 3) := dk_182 0 190 (dk_at dksX0_told_3 21 rfl rfl)
theorem dX0_told_96 : decode cX0_told 96 = .ok (.ireturn, 1) := dk_172 (dk_at dksX0_told_4 0 rfl rfl)
theorem dX0_told_97 : decode cX0_told 97 = .ok (.aload 4, 2) := dk_25 4 (dk_at dksX0_told_4 1 rfl rfl)
theorem dX0_told_99 : decode cX0_told 99 = .ok (.getfield 177, 3) := dk_180 0 177 (dk_at dksX0_told_4 3 rfl rfl)
theorem dX0_told_102 : decode cX0_told 102 = .ok (.iload_n 2, 1) := dk_28 (dk_at dksX0_told_4 6 rfl rfl)
theorem dX0_told_103 : decode cX0_told 103 = .ok (.baload, 1) := dk_51 (dk_at dksX0_told_4 7 rfl rfl)
theorem dX0_told_104 : decode cX0_told 104 = .ok (.ireturn, 1) := dk_172 (dk_at dksX0_told_4 8 rfl rfl)
theorem dX0_told_105 : decode cX0_told 105 = .ok (.aload 4, 2) := dk_25 4 (dk_at dksX0_told_4 9 rfl rfl)
theorem dX0_told_107 : decode cX0_told 107 = .ok (.iload_n 2, 1) := dk_28 (dk_at dksX0_told_4 11 rfl rfl)
theorem dX0_told_108 : decode cX0_told 108 = .ok (.invokevirtual 193, 3) := dk_182 0 193 (dk_at dksX0_told_4 12 rfl rfl)
theorem dX0_told_111 : decode cX0_told 111 = .ok (.ireturn, 1) := dk_172 (dk_at dksX0_told_4 15 rfl rfl)
theorem dX0_told_112 : decode cX0_told 112 = .ok (.aload 4, 2) := dk_25 4 (dk_at dksX0_told_4 16 rfl rfl)
theorem dX0_told_114 : decode cX0_told 114 = .ok (.aload 4, 2) := dk_25 4 (dk_at dksX0_told_4 18 rfl rfl)
theorem dX0_told_116 : decode cX0_told 116 = .ok (.getfield 177, 3) := dk_180 0 177 (dk_at dksX0_told_4 20 rfl rfl)
theorem dX0_told_119 : decode cX0_told 119 = .ok (.iload_n 2, 1) := dk_28 (dk_at dksX0_told_4 23 rfl rfl)
theorem dX0_told_120 : decode cX0_told 120 = .ok (.baload, 1) := dk_51 (dk_at dksX0_told_5 0 rfl rfl)
theorem dX0_told_121 : decode cX0_told 121 = .ok (.invokevirtual 196, 3) := dk_182 0 196 (dk_at dksX0_told_5 1 rfl rfl)
theorem dX0_told_124 : decode cX0_told 124 = .ok (.ireturn, 1) := dk_172 (dk_at dksX0_told_5 4 rfl rfl)
theorem dX0_told_125 : decode cX0_told 125 = .ok (.aload 4, 2) := dk_25 4 (dk_at dksX0_told_5 5 rfl rfl)
theorem dX0_told_127 : decode cX0_told 127 = .ok (.invokevirtual 199, 3) := dk_182 0 199 (dk_at dksX0_told_5 7 rfl rfl)
theorem dX0_told_130 : decode cX0_told 130 = .ok (.ifCond .eq 7, 3) := dk_153 0 7 (dk_at dksX0_told_5 10 rfl rfl)
theorem dX0_told_133 : decode cX0_told 133 = .ok (.iconst 1, 1) := dk_4 (dk_at dksX0_told_5 13 rfl rfl)
theorem dX0_told_134 : decode cX0_told 134 = .ok (.goto 4, 3) := dk_167 0 4 (dk_at dksX0_told_5 14 rfl rfl)
theorem dX0_told_137 : decode cX0_told 137 = .ok (.iconst 0, 1) := dk_3 (dk_at dksX0_told_5 17 rfl rfl)
theorem dX0_told_138 : decode cX0_told 138 = .ok (.ireturn, 1) := dk_172 (dk_at dksX0_told_5 18 rfl rfl)
theorem dX0_told_139 : decode cX0_told 139 = .ok (.bipush (-7), 2) := dk_16 249 (dk_at dksX0_told_5 19 rfl rfl)
theorem dX0_told_141 : decode cX0_told 141 = .ok (.ireturn, 1) := dk_172 (dk_at dksX0_told_5 21 rfl rfl)
abbrev cX0_point : ByteArray := prog_1_method_13_code
def yX0_point : MethodName := ⟨RX0, "point", "(III)I"⟩
def dkwX0_point_4 : List UInt8 := [100, 172]
abbrev dktX0_point_4 : List UInt8 := dkwX0_point_4 ++ []
def dkwX0_point_3 : List UInt8 := [180, 0, 38, 42, 180, 0, 203, 29, 79, 42, 89, 180, 0, 203, 4, 96, 181, 0, 203, 42, 180, 0, 203, 4]
abbrev dktX0_point_3 : List UInt8 := dkwX0_point_3 ++ dktX0_point_4
def dkwX0_point_2 : List UInt8 := [16, 252, 172, 42, 180, 0, 32, 42, 180, 0, 203, 27, 79, 42, 180, 0, 35, 42, 180, 0, 203, 28, 79, 42]
abbrev dktX0_point_2 : List UInt8 := dkwX0_point_2 ++ dktX0_point_3
def dkwX0_point_1 : List UInt8 := [29, 133, 9, 20, 0, 171, 184, 0, 112, 154, 0, 6, 16, 254, 172, 42, 180, 0, 203, 16, 6, 160, 0, 6]
abbrev dktX0_point_1 : List UInt8 := dkwX0_point_1 ++ dktX0_point_2
def dkwX0_point_0 : List UInt8 := [27, 133, 9, 20, 0, 161, 184, 0, 112, 153, 0, 27, 28, 133, 9, 20, 0, 206, 184, 0, 112, 153, 0, 15]
abbrev dktX0_point_0 : List UInt8 := dkwX0_point_0 ++ dktX0_point_1
theorem dksX0_point_0 : cX0_point.data.toList.drop 0 = dktX0_point_0 := by decide +kernel
theorem dksX0_point_1 : cX0_point.data.toList.drop 24 = dktX0_point_1 := dk_seg dksX0_point_0 24 rfl rfl
theorem dksX0_point_2 : cX0_point.data.toList.drop 48 = dktX0_point_2 := dk_seg dksX0_point_1 24 rfl rfl
theorem dksX0_point_3 : cX0_point.data.toList.drop 72 = dktX0_point_3 := dk_seg dksX0_point_2 24 rfl rfl
theorem dksX0_point_4 : cX0_point.data.toList.drop 96 = dktX0_point_4 := dk_seg dksX0_point_3 24 rfl rfl
theorem dX0_point_0 : decode cX0_point 0 = .ok (.iload_n 1, 1) := dk_27 (dk_at dksX0_point_0 0 rfl rfl)
theorem dX0_point_1 : decode cX0_point 1 = .ok (.i2l, 1) := dk_133 (dk_at dksX0_point_0 1 rfl rfl)
theorem dX0_point_2 : decode cX0_point 2 = .ok (.lconst 0, 1) := dk_9 (dk_at dksX0_point_0 2 rfl rfl)
theorem dX0_point_3 : decode cX0_point 3 = .ok (.ldc2_w 161, 3) := dk_20 0 161 (dk_at dksX0_point_0 3 rfl rfl)
theorem dX0_point_6 : decode cX0_point 6 = .ok (.invokestatic 112, 3) := dk_184 0 112 (dk_at dksX0_point_0 6 rfl rfl)
theorem dX0_point_9 : decode cX0_point 9 = .ok (.ifCond .eq 27, 3) := dk_153 0 27 (dk_at dksX0_point_0 9 rfl rfl)
theorem dX0_point_12 : decode cX0_point 12 = .ok (.iload_n 2, 1) := dk_28 (dk_at dksX0_point_0 12 rfl rfl)
theorem dX0_point_13 : decode cX0_point 13 = .ok (.i2l, 1) := dk_133 (dk_at dksX0_point_0 13 rfl rfl)
theorem dX0_point_14 : decode cX0_point 14 = .ok (.lconst 0, 1) := dk_9 (dk_at dksX0_point_0 14 rfl rfl)
theorem dX0_point_15 : decode cX0_point 15 = .ok (.ldc2_w 206, 3) := dk_20 0 206 (dk_at dksX0_point_0 15 rfl rfl)
theorem dX0_point_18 : decode cX0_point 18 = .ok (.invokestatic 112, 3) := dk_184 0 112 (dk_at dksX0_point_0 18 rfl rfl)
theorem dX0_point_21 : decode cX0_point 21 = .ok (.ifCond .eq 15, 3) := dk_153 0 15 (dk_at dksX0_point_0 21 rfl rfl)
theorem dX0_point_24 : decode cX0_point 24 = .ok (.iload_n 3, 1) := dk_29 (dk_at dksX0_point_1 0 rfl rfl)
theorem dX0_point_25 : decode cX0_point 25 = .ok (.i2l, 1) := dk_133 (dk_at dksX0_point_1 1 rfl rfl)
theorem dX0_point_26 : decode cX0_point 26 = .ok (.lconst 0, 1) := dk_9 (dk_at dksX0_point_1 2 rfl rfl)
theorem dX0_point_27 : decode cX0_point 27 = .ok (.ldc2_w 171, 3) := dk_20 0 171 (dk_at dksX0_point_1 3 rfl rfl)
theorem dX0_point_30 : decode cX0_point 30 = .ok (.invokestatic 112, 3) := dk_184 0 112 (dk_at dksX0_point_1 6 rfl rfl)
theorem dX0_point_33 : decode cX0_point 33 = .ok (.ifCond .ne 6, 3) := dk_154 0 6 (dk_at dksX0_point_1 9 rfl rfl)
theorem dX0_point_36 : decode cX0_point 36 = .ok (.bipush (-2), 2) := dk_16 254 (dk_at dksX0_point_1 12 rfl rfl)
theorem dX0_point_38 : decode cX0_point 38 = .ok (.ireturn, 1) := dk_172 (dk_at dksX0_point_1 14 rfl rfl)
theorem dX0_point_39 : decode cX0_point 39 = .ok (.aload_n 0, 1) := dk_42 (dk_at dksX0_point_1 15 rfl rfl)
theorem dX0_point_40 : decode cX0_point 40 = .ok (.getfield 203, 3) := dk_180 0 203 (dk_at dksX0_point_1 16 rfl rfl)
theorem dX0_point_43 : decode cX0_point 43 = .ok (.bipush 6, 2) := dk_16 6 (dk_at dksX0_point_1 19 rfl rfl)
theorem dX0_point_45 : decode cX0_point 45 = .ok (.if_icmp .ne 6, 3) := dk_160 0 6 (dk_at dksX0_point_1 21 rfl rfl)
theorem dX0_point_48 : decode cX0_point 48 = .ok (.bipush (-4), 2) := dk_16 252 (dk_at dksX0_point_2 0 rfl rfl)
theorem dX0_point_50 : decode cX0_point 50 = .ok (.ireturn, 1) := dk_172 (dk_at dksX0_point_2 2 rfl rfl)
theorem dX0_point_51 : decode cX0_point 51 = .ok (.aload_n 0, 1) := dk_42 (dk_at dksX0_point_2 3 rfl rfl)
theorem dX0_point_52 : decode cX0_point 52 = .ok (.getfield 32, 3) := dk_180 0 32 (dk_at dksX0_point_2 4 rfl rfl)
theorem dX0_point_55 : decode cX0_point 55 = .ok (.aload_n 0, 1) := dk_42 (dk_at dksX0_point_2 7 rfl rfl)
theorem dX0_point_56 : decode cX0_point 56 = .ok (.getfield 203, 3) := dk_180 0 203 (dk_at dksX0_point_2 8 rfl rfl)
theorem dX0_point_59 : decode cX0_point 59 = .ok (.iload_n 1, 1) := dk_27 (dk_at dksX0_point_2 11 rfl rfl)
theorem dX0_point_60 : decode cX0_point 60 = .ok (.iastore, 1) := dk_79 (dk_at dksX0_point_2 12 rfl rfl)
theorem dX0_point_61 : decode cX0_point 61 = .ok (.aload_n 0, 1) := dk_42 (dk_at dksX0_point_2 13 rfl rfl)
theorem dX0_point_62 : decode cX0_point 62 = .ok (.getfield 35, 3) := dk_180 0 35 (dk_at dksX0_point_2 14 rfl rfl)
theorem dX0_point_65 : decode cX0_point 65 = .ok (.aload_n 0, 1) := dk_42 (dk_at dksX0_point_2 17 rfl rfl)
theorem dX0_point_66 : decode cX0_point 66 = .ok (.getfield 203, 3) := dk_180 0 203 (dk_at dksX0_point_2 18 rfl rfl)
theorem dX0_point_69 : decode cX0_point 69 = .ok (.iload_n 2, 1) := dk_28 (dk_at dksX0_point_2 21 rfl rfl)
theorem dX0_point_70 : decode cX0_point 70 = .ok (.iastore, 1) := dk_79 (dk_at dksX0_point_2 22 rfl rfl)
theorem dX0_point_71 : decode cX0_point 71 = .ok (.aload_n 0, 1) := dk_42 (dk_at dksX0_point_2 23 rfl rfl)
theorem dX0_point_72 : decode cX0_point 72 = .ok (.getfield 38, 3) := dk_180 0 38 (dk_at dksX0_point_3 0 rfl rfl)
theorem dX0_point_75 : decode cX0_point 75 = .ok (.aload_n 0, 1) := dk_42 (dk_at dksX0_point_3 3 rfl rfl)
theorem dX0_point_76 : decode cX0_point 76 = .ok (.getfield 203, 3) := dk_180 0 203 (dk_at dksX0_point_3 4 rfl rfl)
theorem dX0_point_79 : decode cX0_point 79 = .ok (.iload_n 3, 1) := dk_29 (dk_at dksX0_point_3 7 rfl rfl)
theorem dX0_point_80 : decode cX0_point 80 = .ok (.iastore, 1) := dk_79 (dk_at dksX0_point_3 8 rfl rfl)
theorem dX0_point_81 : decode cX0_point 81 = .ok (.aload_n 0, 1) := dk_42 (dk_at dksX0_point_3 9 rfl rfl)
theorem dX0_point_82 : decode cX0_point 82 = .ok (.dup, 1) := dk_89 (dk_at dksX0_point_3 10 rfl rfl)
theorem dX0_point_83 : decode cX0_point 83 = .ok (.getfield 203, 3) := dk_180 0 203 (dk_at dksX0_point_3 11 rfl rfl)
theorem dX0_point_86 : decode cX0_point 86 = .ok (.iconst 1, 1) := dk_4 (dk_at dksX0_point_3 14 rfl rfl)
theorem dX0_point_87 : decode cX0_point 87 = .ok (.iadd, 1) := dk_96 (dk_at dksX0_point_3 15 rfl rfl)
theorem dX0_point_88 : decode cX0_point 88 = .ok (.putfield 203, 3) := dk_181 0 203 (dk_at dksX0_point_3 16 rfl rfl)
theorem dX0_point_91 : decode cX0_point 91 = .ok (.aload_n 0, 1) := dk_42 (dk_at dksX0_point_3 19 rfl rfl)
theorem dX0_point_92 : decode cX0_point 92 = .ok (.getfield 203, 3) := dk_180 0 203 (dk_at dksX0_point_3 20 rfl rfl)
theorem dX0_point_95 : decode cX0_point 95 = .ok (.iconst 1, 1) := dk_4 (dk_at dksX0_point_3 23 rfl rfl)
theorem dX0_point_96 : decode cX0_point 96 = .ok (.isub, 1) := dk_100 (dk_at dksX0_point_4 0 rfl rfl)
theorem dX0_point_97 : decode cX0_point 97 = .ok (.ireturn, 1) := dk_172 (dk_at dksX0_point_4 1 rfl rfl)
abbrev cX0_post : ByteArray := prog_1_method_14_code
def yX0_post : MethodName := ⟨RX0, "post", "(II)I"⟩
def dkwX0_post_3 : List UInt8 := [4, 100, 172]
abbrev dktX0_post_3 : List UInt8 := dkwX0_post_3 ++ []
def dkwX0_post_2 : List UInt8 := [42, 180, 0, 44, 42, 180, 0, 210, 28, 79, 42, 89, 180, 0, 210, 4, 96, 181, 0, 210, 42, 180, 0, 210]
abbrev dktX0_post_2 : List UInt8 := dkwX0_post_2 ++ dktX0_post_3
def dkwX0_post_1 : List UInt8 := [16, 254, 172, 42, 180, 0, 210, 7, 160, 0, 6, 16, 252, 172, 42, 180, 0, 41, 42, 180, 0, 210, 27, 79]
abbrev dktX0_post_1 : List UInt8 := dkwX0_post_1 ++ dktX0_post_2
def dkwX0_post_0 : List UInt8 := [27, 133, 9, 20, 0, 161, 184, 0, 112, 153, 0, 15, 28, 133, 10, 20, 0, 208, 184, 0, 112, 154, 0, 6]
abbrev dktX0_post_0 : List UInt8 := dkwX0_post_0 ++ dktX0_post_1
theorem dksX0_post_0 : cX0_post.data.toList.drop 0 = dktX0_post_0 := by decide +kernel
theorem dksX0_post_1 : cX0_post.data.toList.drop 24 = dktX0_post_1 := dk_seg dksX0_post_0 24 rfl rfl
theorem dksX0_post_2 : cX0_post.data.toList.drop 48 = dktX0_post_2 := dk_seg dksX0_post_1 24 rfl rfl
theorem dksX0_post_3 : cX0_post.data.toList.drop 72 = dktX0_post_3 := dk_seg dksX0_post_2 24 rfl rfl
theorem dX0_post_0 : decode cX0_post 0 = .ok (.iload_n 1, 1) := dk_27 (dk_at dksX0_post_0 0 rfl rfl)
theorem dX0_post_1 : decode cX0_post 1 = .ok (.i2l, 1) := dk_133 (dk_at dksX0_post_0 1 rfl rfl)
theorem dX0_post_2 : decode cX0_post 2 = .ok (.lconst 0, 1) := dk_9 (dk_at dksX0_post_0 2 rfl rfl)
theorem dX0_post_3 : decode cX0_post 3 = .ok (.ldc2_w 161, 3) := dk_20 0 161 (dk_at dksX0_post_0 3 rfl rfl)
theorem dX0_post_6 : decode cX0_post 6 = .ok (.invokestatic 112, 3) := dk_184 0 112 (dk_at dksX0_post_0 6 rfl rfl)
theorem dX0_post_9 : decode cX0_post 9 = .ok (.ifCond .eq 15, 3) := dk_153 0 15 (dk_at dksX0_post_0 9 rfl rfl)
theorem dX0_post_12 : decode cX0_post 12 = .ok (.iload_n 2, 1) := dk_28 (dk_at dksX0_post_0 12 rfl rfl)
theorem dX0_post_13 : decode cX0_post 13 = .ok (.i2l, 1) := dk_133 (dk_at dksX0_post_0 13 rfl rfl)
theorem dX0_post_14 : decode cX0_post 14 = .ok (.lconst 1, 1) := dk_10 (dk_at dksX0_post_0 14 rfl rfl)
theorem dX0_post_15 : decode cX0_post 15 = .ok (.ldc2_w 208, 3) := dk_20 0 208 (dk_at dksX0_post_0 15 rfl rfl)
theorem dX0_post_18 : decode cX0_post 18 = .ok (.invokestatic 112, 3) := dk_184 0 112 (dk_at dksX0_post_0 18 rfl rfl)
theorem dX0_post_21 : decode cX0_post 21 = .ok (.ifCond .ne 6, 3) := dk_154 0 6 (dk_at dksX0_post_0 21 rfl rfl)
theorem dX0_post_24 : decode cX0_post 24 = .ok (.bipush (-2), 2) := dk_16 254 (dk_at dksX0_post_1 0 rfl rfl)
theorem dX0_post_26 : decode cX0_post 26 = .ok (.ireturn, 1) := dk_172 (dk_at dksX0_post_1 2 rfl rfl)
theorem dX0_post_27 : decode cX0_post 27 = .ok (.aload_n 0, 1) := dk_42 (dk_at dksX0_post_1 3 rfl rfl)
theorem dX0_post_28 : decode cX0_post 28 = .ok (.getfield 210, 3) := dk_180 0 210 (dk_at dksX0_post_1 4 rfl rfl)
theorem dX0_post_31 : decode cX0_post 31 = .ok (.iconst 4, 1) := dk_7 (dk_at dksX0_post_1 7 rfl rfl)
theorem dX0_post_32 : decode cX0_post 32 = .ok (.if_icmp .ne 6, 3) := dk_160 0 6 (dk_at dksX0_post_1 8 rfl rfl)
theorem dX0_post_35 : decode cX0_post 35 = .ok (.bipush (-4), 2) := dk_16 252 (dk_at dksX0_post_1 11 rfl rfl)
theorem dX0_post_37 : decode cX0_post 37 = .ok (.ireturn, 1) := dk_172 (dk_at dksX0_post_1 13 rfl rfl)
theorem dX0_post_38 : decode cX0_post 38 = .ok (.aload_n 0, 1) := dk_42 (dk_at dksX0_post_1 14 rfl rfl)
theorem dX0_post_39 : decode cX0_post 39 = .ok (.getfield 41, 3) := dk_180 0 41 (dk_at dksX0_post_1 15 rfl rfl)
theorem dX0_post_42 : decode cX0_post 42 = .ok (.aload_n 0, 1) := dk_42 (dk_at dksX0_post_1 18 rfl rfl)
theorem dX0_post_43 : decode cX0_post 43 = .ok (.getfield 210, 3) := dk_180 0 210 (dk_at dksX0_post_1 19 rfl rfl)
theorem dX0_post_46 : decode cX0_post 46 = .ok (.iload_n 1, 1) := dk_27 (dk_at dksX0_post_1 22 rfl rfl)
theorem dX0_post_47 : decode cX0_post 47 = .ok (.iastore, 1) := dk_79 (dk_at dksX0_post_1 23 rfl rfl)
theorem dX0_post_48 : decode cX0_post 48 = .ok (.aload_n 0, 1) := dk_42 (dk_at dksX0_post_2 0 rfl rfl)
theorem dX0_post_49 : decode cX0_post 49 = .ok (.getfield 44, 3) := dk_180 0 44 (dk_at dksX0_post_2 1 rfl rfl)
theorem dX0_post_52 : decode cX0_post 52 = .ok (.aload_n 0, 1) := dk_42 (dk_at dksX0_post_2 4 rfl rfl)
theorem dX0_post_53 : decode cX0_post 53 = .ok (.getfield 210, 3) := dk_180 0 210 (dk_at dksX0_post_2 5 rfl rfl)
theorem dX0_post_56 : decode cX0_post 56 = .ok (.iload_n 2, 1) := dk_28 (dk_at dksX0_post_2 8 rfl rfl)
theorem dX0_post_57 : decode cX0_post 57 = .ok (.iastore, 1) := dk_79 (dk_at dksX0_post_2 9 rfl rfl)
theorem dX0_post_58 : decode cX0_post 58 = .ok (.aload_n 0, 1) := dk_42 (dk_at dksX0_post_2 10 rfl rfl)
theorem dX0_post_59 : decode cX0_post 59 = .ok (.dup, 1) := dk_89 (dk_at dksX0_post_2 11 rfl rfl)
theorem dX0_post_60 : decode cX0_post 60 = .ok (.getfield 210, 3) := dk_180 0 210 (dk_at dksX0_post_2 12 rfl rfl)
theorem dX0_post_63 : decode cX0_post 63 = .ok (.iconst 1, 1) := dk_4 (dk_at dksX0_post_2 15 rfl rfl)
theorem dX0_post_64 : decode cX0_post 64 = .ok (.iadd, 1) := dk_96 (dk_at dksX0_post_2 16 rfl rfl)
theorem dX0_post_65 : decode cX0_post 65 = .ok (.putfield 210, 3) := dk_181 0 210 (dk_at dksX0_post_2 17 rfl rfl)
theorem dX0_post_68 : decode cX0_post 68 = .ok (.aload_n 0, 1) := dk_42 (dk_at dksX0_post_2 20 rfl rfl)
theorem dX0_post_69 : decode cX0_post 69 = .ok (.getfield 210, 3) := dk_180 0 210 (dk_at dksX0_post_2 21 rfl rfl)
theorem dX0_post_72 : decode cX0_post 72 = .ok (.iconst 1, 1) := dk_4 (dk_at dksX0_post_3 0 rfl rfl)
theorem dX0_post_73 : decode cX0_post 73 = .ok (.isub, 1) := dk_100 (dk_at dksX0_post_3 1 rfl rfl)
theorem dX0_post_74 : decode cX0_post 74 = .ok (.ireturn, 1) := dk_172 (dk_at dksX0_post_3 2 rfl rfl)
abbrev cX0_moves : ByteArray := prog_1_method_15_code
def yX0_moves : MethodName := ⟨RX0, "moves", "(III)I"⟩
def dkwX0_moves_3 : List UInt8 := [180, 0, 44, 27, 29, 79, 21, 4, 172]
abbrev dktX0_moves_3 : List UInt8 := dkwX0_moves_3 ++ []
def dkwX0_moves_2 : List UInt8 := [180, 0, 41, 27, 46, 104, 42, 180, 0, 44, 27, 46, 96, 54, 4, 42, 180, 0, 41, 27, 28, 79, 42]
abbrev dktX0_moves_2 : List UInt8 := dkwX0_moves_2 ++ dktX0_moves_3
def dkwX0_moves_1 : List UInt8 := [184, 0, 112, 153, 0, 15, 29, 133, 10, 20, 0, 208, 184, 0, 112, 154, 0, 6, 16, 254, 172, 16, 100, 42]
abbrev dktX0_moves_1 : List UInt8 := dkwX0_moves_1 ++ dktX0_moves_2
def dkwX0_moves_0 : List UInt8 := [27, 133, 9, 42, 180, 0, 210, 133, 10, 101, 184, 0, 112, 154, 0, 5, 2, 172, 28, 133, 9, 20, 0, 161]
abbrev dktX0_moves_0 : List UInt8 := dkwX0_moves_0 ++ dktX0_moves_1
theorem dksX0_moves_0 : cX0_moves.data.toList.drop 0 = dktX0_moves_0 := by decide +kernel
theorem dksX0_moves_1 : cX0_moves.data.toList.drop 24 = dktX0_moves_1 := dk_seg dksX0_moves_0 24 rfl rfl
theorem dksX0_moves_2 : cX0_moves.data.toList.drop 48 = dktX0_moves_2 := dk_seg dksX0_moves_1 24 rfl rfl
theorem dksX0_moves_3 : cX0_moves.data.toList.drop 71 = dktX0_moves_3 := dk_seg dksX0_moves_2 23 rfl rfl
theorem dX0_moves_0 : decode cX0_moves 0 = .ok (.iload_n 1, 1) := dk_27 (dk_at dksX0_moves_0 0 rfl rfl)
theorem dX0_moves_1 : decode cX0_moves 1 = .ok (.i2l, 1) := dk_133 (dk_at dksX0_moves_0 1 rfl rfl)
theorem dX0_moves_2 : decode cX0_moves 2 = .ok (.lconst 0, 1) := dk_9 (dk_at dksX0_moves_0 2 rfl rfl)
theorem dX0_moves_3 : decode cX0_moves 3 = .ok (.aload_n 0, 1) := dk_42 (dk_at dksX0_moves_0 3 rfl rfl)
theorem dX0_moves_4 : decode cX0_moves 4 = .ok (.getfield 210, 3) := dk_180 0 210 (dk_at dksX0_moves_0 4 rfl rfl)
theorem dX0_moves_7 : decode cX0_moves 7 = .ok (.i2l, 1) := dk_133 (dk_at dksX0_moves_0 7 rfl rfl)
theorem dX0_moves_8 : decode cX0_moves 8 = .ok (.lconst 1, 1) := dk_10 (dk_at dksX0_moves_0 8 rfl rfl)
theorem dX0_moves_9 : decode cX0_moves 9 = .ok (.lsub, 1) := dk_101 (dk_at dksX0_moves_0 9 rfl rfl)
theorem dX0_moves_10 : decode cX0_moves 10 = .ok (.invokestatic 112, 3) := dk_184 0 112 (dk_at dksX0_moves_0 10 rfl rfl)
theorem dX0_moves_13 : decode cX0_moves 13 = .ok (.ifCond .ne 5, 3) := dk_154 0 5 (dk_at dksX0_moves_0 13 rfl rfl)
theorem dX0_moves_16 : decode cX0_moves 16 = .ok (.iconst (-1), 1) := dk_2 (dk_at dksX0_moves_0 16 rfl rfl)
theorem dX0_moves_17 : decode cX0_moves 17 = .ok (.ireturn, 1) := dk_172 (dk_at dksX0_moves_0 17 rfl rfl)
theorem dX0_moves_18 : decode cX0_moves 18 = .ok (.iload_n 2, 1) := dk_28 (dk_at dksX0_moves_0 18 rfl rfl)
theorem dX0_moves_19 : decode cX0_moves 19 = .ok (.i2l, 1) := dk_133 (dk_at dksX0_moves_0 19 rfl rfl)
theorem dX0_moves_20 : decode cX0_moves 20 = .ok (.lconst 0, 1) := dk_9 (dk_at dksX0_moves_0 20 rfl rfl)
theorem dX0_moves_21 : decode cX0_moves 21 = .ok (.ldc2_w 161, 3) := dk_20 0 161 (dk_at dksX0_moves_0 21 rfl rfl)
theorem dX0_moves_24 : decode cX0_moves 24 = .ok (.invokestatic 112, 3) := dk_184 0 112 (dk_at dksX0_moves_1 0 rfl rfl)
theorem dX0_moves_27 : decode cX0_moves 27 = .ok (.ifCond .eq 15, 3) := dk_153 0 15 (dk_at dksX0_moves_1 3 rfl rfl)
theorem dX0_moves_30 : decode cX0_moves 30 = .ok (.iload_n 3, 1) := dk_29 (dk_at dksX0_moves_1 6 rfl rfl)
theorem dX0_moves_31 : decode cX0_moves 31 = .ok (.i2l, 1) := dk_133 (dk_at dksX0_moves_1 7 rfl rfl)
theorem dX0_moves_32 : decode cX0_moves 32 = .ok (.lconst 1, 1) := dk_10 (dk_at dksX0_moves_1 8 rfl rfl)
theorem dX0_moves_33 : decode cX0_moves 33 = .ok (.ldc2_w 208, 3) := dk_20 0 208 (dk_at dksX0_moves_1 9 rfl rfl)
theorem dX0_moves_36 : decode cX0_moves 36 = .ok (.invokestatic 112, 3) := dk_184 0 112 (dk_at dksX0_moves_1 12 rfl rfl)
theorem dX0_moves_39 : decode cX0_moves 39 = .ok (.ifCond .ne 6, 3) := dk_154 0 6 (dk_at dksX0_moves_1 15 rfl rfl)
theorem dX0_moves_42 : decode cX0_moves 42 = .ok (.bipush (-2), 2) := dk_16 254 (dk_at dksX0_moves_1 18 rfl rfl)
theorem dX0_moves_44 : decode cX0_moves 44 = .ok (.ireturn, 1) := dk_172 (dk_at dksX0_moves_1 20 rfl rfl)
theorem dX0_moves_45 : decode cX0_moves 45 = .ok (.bipush 100, 2) := dk_16 100 (dk_at dksX0_moves_1 21 rfl rfl)
theorem dX0_moves_47 : decode cX0_moves 47 = .ok (.aload_n 0, 1) := dk_42 (dk_at dksX0_moves_1 23 rfl rfl)
theorem dX0_moves_48 : decode cX0_moves 48 = .ok (.getfield 41, 3) := dk_180 0 41 (dk_at dksX0_moves_2 0 rfl rfl)
theorem dX0_moves_51 : decode cX0_moves 51 = .ok (.iload_n 1, 1) := dk_27 (dk_at dksX0_moves_2 3 rfl rfl)
theorem dX0_moves_52 : decode cX0_moves 52 = .ok (.iaload, 1) := dk_46 (dk_at dksX0_moves_2 4 rfl rfl)
theorem dX0_moves_53 : decode cX0_moves 53 = .ok (.imul, 1) := dk_104 (dk_at dksX0_moves_2 5 rfl rfl)
theorem dX0_moves_54 : decode cX0_moves 54 = .ok (.aload_n 0, 1) := dk_42 (dk_at dksX0_moves_2 6 rfl rfl)
theorem dX0_moves_55 : decode cX0_moves 55 = .ok (.getfield 44, 3) := dk_180 0 44 (dk_at dksX0_moves_2 7 rfl rfl)
theorem dX0_moves_58 : decode cX0_moves 58 = .ok (.iload_n 1, 1) := dk_27 (dk_at dksX0_moves_2 10 rfl rfl)
theorem dX0_moves_59 : decode cX0_moves 59 = .ok (.iaload, 1) := dk_46 (dk_at dksX0_moves_2 11 rfl rfl)
theorem dX0_moves_60 : decode cX0_moves 60 = .ok (.iadd, 1) := dk_96 (dk_at dksX0_moves_2 12 rfl rfl)
theorem dX0_moves_61 : decode cX0_moves 61 = .ok (.istore 4, 2) := dk_54 4 (dk_at dksX0_moves_2 13 rfl rfl)
theorem dX0_moves_63 : decode cX0_moves 63 = .ok (.aload_n 0, 1) := dk_42 (dk_at dksX0_moves_2 15 rfl rfl)
theorem dX0_moves_64 : decode cX0_moves 64 = .ok (.getfield 41, 3) := dk_180 0 41 (dk_at dksX0_moves_2 16 rfl rfl)
theorem dX0_moves_67 : decode cX0_moves 67 = .ok (.iload_n 1, 1) := dk_27 (dk_at dksX0_moves_2 19 rfl rfl)
theorem dX0_moves_68 : decode cX0_moves 68 = .ok (.iload_n 2, 1) := dk_28 (dk_at dksX0_moves_2 20 rfl rfl)
theorem dX0_moves_69 : decode cX0_moves 69 = .ok (.iastore, 1) := dk_79 (dk_at dksX0_moves_2 21 rfl rfl)
theorem dX0_moves_70 : decode cX0_moves 70 = .ok (.aload_n 0, 1) := dk_42 (dk_at dksX0_moves_2 22 rfl rfl)
theorem dX0_moves_71 : decode cX0_moves 71 = .ok (.getfield 44, 3) := dk_180 0 44 (dk_at dksX0_moves_3 0 rfl rfl)
theorem dX0_moves_74 : decode cX0_moves 74 = .ok (.iload_n 1, 1) := dk_27 (dk_at dksX0_moves_3 3 rfl rfl)
theorem dX0_moves_75 : decode cX0_moves 75 = .ok (.iload_n 3, 1) := dk_29 (dk_at dksX0_moves_3 4 rfl rfl)
theorem dX0_moves_76 : decode cX0_moves 76 = .ok (.iastore, 1) := dk_79 (dk_at dksX0_moves_3 5 rfl rfl)
theorem dX0_moves_77 : decode cX0_moves 77 = .ok (.iload 4, 2) := dk_21 4 (dk_at dksX0_moves_3 6 rfl rfl)
theorem dX0_moves_79 : decode cX0_moves 79 = .ok (.ireturn, 1) := dk_172 (dk_at dksX0_moves_3 8 rfl rfl)
abbrev cX0_count : ByteArray := prog_1_method_16_code
def yX0_count : MethodName := ⟨RX0, "count", "(I)I"⟩
def dkwX0_count_3 : List UInt8 := [180, 0, 213, 172, 42, 180, 0, 216, 172, 16, 254, 172]
abbrev dktX0_count_3 : List UInt8 := dkwX0_count_3 ++ []
def dkwX0_count_2 : List UInt8 := [42, 180, 0, 22, 182, 0, 142, 172, 42, 180, 0, 203, 172, 42, 180, 0, 210, 172, 42, 180, 0, 107, 172, 42]
abbrev dktX0_count_2 : List UInt8 := dkwX0_count_2 ++ dktX0_count_3
def dkwX0_count_1 : List UInt8 := [170, 0, 0, 0, 0, 0, 72, 0, 0, 0, 0, 0, 0, 0, 5, 0, 0, 0, 39, 0, 0, 0, 47, 0, 0, 0, 52, 0, 0, 0, 57, 0, 0, 0, 62, 0, 0, 0, 67]
abbrev dktX0_count_1 : List UInt8 := dkwX0_count_1 ++ dktX0_count_2
def dkwX0_count_0 : List UInt8 := [27]
abbrev dktX0_count_0 : List UInt8 := dkwX0_count_0 ++ dktX0_count_1
theorem dksX0_count_0 : cX0_count.data.toList.drop 0 = dktX0_count_0 := by decide +kernel
theorem dksX0_count_1 : cX0_count.data.toList.drop 1 = dktX0_count_1 := dk_seg dksX0_count_0 1 rfl rfl
theorem dksX0_count_2 : cX0_count.data.toList.drop 40 = dktX0_count_2 := dk_seg dksX0_count_1 39 rfl rfl
theorem dksX0_count_3 : cX0_count.data.toList.drop 64 = dktX0_count_3 := dk_seg dksX0_count_2 24 rfl rfl
theorem dX0_count_0 : decode cX0_count 0 = .ok (.iload_n 1, 1) := dk_27 (dk_at dksX0_count_0 0 rfl rfl)
theorem dX0_count_1 : decode cX0_count 1 = .ok (.tableswitch 72 0 5 #[39, 47, 52, 57, 62, 67], 39) := by decide +kernel
theorem dX0_count_40 : decode cX0_count 40 = .ok (.aload_n 0, 1) := dk_42 (dk_at dksX0_count_2 0 rfl rfl)
theorem dX0_count_41 : decode cX0_count 41 = .ok (.getfield 22, 3) := dk_180 0 22 (dk_at dksX0_count_2 1 rfl rfl)
theorem dX0_count_44 : decode cX0_count 44 = .ok (.invokevirtual 142, 3) := dk_182 0 142 (dk_at dksX0_count_2 4 rfl rfl)
theorem dX0_count_47 : decode cX0_count 47 = .ok (.ireturn, 1) := dk_172 (dk_at dksX0_count_2 7 rfl rfl)
theorem dX0_count_48 : decode cX0_count 48 = .ok (.aload_n 0, 1) := dk_42 (dk_at dksX0_count_2 8 rfl rfl)
theorem dX0_count_49 : decode cX0_count 49 = .ok (.getfield 203, 3) := dk_180 0 203 (dk_at dksX0_count_2 9 rfl rfl)
theorem dX0_count_52 : decode cX0_count 52 = .ok (.ireturn, 1) := dk_172 (dk_at dksX0_count_2 12 rfl rfl)
theorem dX0_count_53 : decode cX0_count 53 = .ok (.aload_n 0, 1) := dk_42 (dk_at dksX0_count_2 13 rfl rfl)
theorem dX0_count_54 : decode cX0_count 54 = .ok (.getfield 210, 3) := dk_180 0 210 (dk_at dksX0_count_2 14 rfl rfl)
theorem dX0_count_57 : decode cX0_count 57 = .ok (.ireturn, 1) := dk_172 (dk_at dksX0_count_2 17 rfl rfl)
theorem dX0_count_58 : decode cX0_count 58 = .ok (.aload_n 0, 1) := dk_42 (dk_at dksX0_count_2 18 rfl rfl)
theorem dX0_count_59 : decode cX0_count 59 = .ok (.getfield 107, 3) := dk_180 0 107 (dk_at dksX0_count_2 19 rfl rfl)
theorem dX0_count_62 : decode cX0_count 62 = .ok (.ireturn, 1) := dk_172 (dk_at dksX0_count_2 22 rfl rfl)
theorem dX0_count_63 : decode cX0_count 63 = .ok (.aload_n 0, 1) := dk_42 (dk_at dksX0_count_2 23 rfl rfl)
theorem dX0_count_64 : decode cX0_count 64 = .ok (.getfield 213, 3) := dk_180 0 213 (dk_at dksX0_count_3 0 rfl rfl)
theorem dX0_count_67 : decode cX0_count 67 = .ok (.ireturn, 1) := dk_172 (dk_at dksX0_count_3 3 rfl rfl)
theorem dX0_count_68 : decode cX0_count 68 = .ok (.aload_n 0, 1) := dk_42 (dk_at dksX0_count_3 4 rfl rfl)
theorem dX0_count_69 : decode cX0_count 69 = .ok (.getfield 216, 3) := dk_180 0 216 (dk_at dksX0_count_3 5 rfl rfl)
theorem dX0_count_72 : decode cX0_count 72 = .ok (.ireturn, 1) := dk_172 (dk_at dksX0_count_3 8 rfl rfl)
theorem dX0_count_73 : decode cX0_count 73 = .ok (.bipush (-2), 2) := dk_16 254 (dk_at dksX0_count_3 9 rfl rfl)
theorem dX0_count_75 : decode cX0_count 75 = .ok (.ireturn, 1) := dk_172 (dk_at dksX0_count_3 11 rfl rfl)
abbrev cX0_hidden : ByteArray := prog_1_method_23_code
def yX0_hidden : MethodName := ⟨RX0, "hidden", "(III)I"⟩
def dkwX0_hidden_1 : List UInt8 := [180, 0, 22, 27, 182, 0, 150, 192, 0, 122, 28, 29, 182, 1, 0, 167, 0, 5, 16, 249, 172]
abbrev dktX0_hidden_1 : List UInt8 := dkwX0_hidden_1 ++ []
def dkwX0_hidden_0 : List UInt8 := [42, 27, 28, 182, 0, 173, 154, 0, 6, 16, 251, 172, 42, 29, 182, 0, 253, 153, 0, 23, 42, 42]
abbrev dktX0_hidden_0 : List UInt8 := dkwX0_hidden_0 ++ dktX0_hidden_1
theorem dksX0_hidden_0 : cX0_hidden.data.toList.drop 0 = dktX0_hidden_0 := by decide +kernel
theorem dksX0_hidden_1 : cX0_hidden.data.toList.drop 22 = dktX0_hidden_1 := dk_seg dksX0_hidden_0 22 rfl rfl
theorem dX0_hidden_0 : decode cX0_hidden 0 = .ok (.aload_n 0, 1) := dk_42 (dk_at dksX0_hidden_0 0 rfl rfl)
theorem dX0_hidden_1 : decode cX0_hidden 1 = .ok (.iload_n 1, 1) := dk_27 (dk_at dksX0_hidden_0 1 rfl rfl)
theorem dX0_hidden_2 : decode cX0_hidden 2 = .ok (.iload_n 2, 1) := dk_28 (dk_at dksX0_hidden_0 2 rfl rfl)
theorem dX0_hidden_3 : decode cX0_hidden 3 = .ok (.invokevirtual 173, 3) := dk_182 0 173 (dk_at dksX0_hidden_0 3 rfl rfl)
theorem dX0_hidden_6 : decode cX0_hidden 6 = .ok (.ifCond .ne 6, 3) := dk_154 0 6 (dk_at dksX0_hidden_0 6 rfl rfl)
theorem dX0_hidden_9 : decode cX0_hidden 9 = .ok (.bipush (-5), 2) := dk_16 251 (dk_at dksX0_hidden_0 9 rfl rfl)
theorem dX0_hidden_11 : decode cX0_hidden 11 = .ok (.ireturn, 1) := dk_172 (dk_at dksX0_hidden_0 11 rfl rfl)
theorem dX0_hidden_12 : decode cX0_hidden 12 = .ok (.aload_n 0, 1) := dk_42 (dk_at dksX0_hidden_0 12 rfl rfl)
theorem dX0_hidden_13 : decode cX0_hidden 13 = .ok (.iload_n 3, 1) := dk_29 (dk_at dksX0_hidden_0 13 rfl rfl)
theorem dX0_hidden_14 : decode cX0_hidden 14 = .ok (.invokevirtual 253, 3) := dk_182 0 253 (dk_at dksX0_hidden_0 14 rfl rfl)
theorem dX0_hidden_17 : decode cX0_hidden 17 = .ok (.ifCond .eq 23, 3) := dk_153 0 23 (dk_at dksX0_hidden_0 17 rfl rfl)
theorem dX0_hidden_20 : decode cX0_hidden 20 = .ok (.aload_n 0, 1) := dk_42 (dk_at dksX0_hidden_0 20 rfl rfl)
theorem dX0_hidden_21 : decode cX0_hidden 21 = .ok (.aload_n 0, 1) := dk_42 (dk_at dksX0_hidden_0 21 rfl rfl)
theorem dX0_hidden_22 : decode cX0_hidden 22 = .ok (.getfield 22, 3) := dk_180 0 22 (dk_at dksX0_hidden_1 0 rfl rfl)
theorem dX0_hidden_25 : decode cX0_hidden 25 = .ok (.iload_n 1, 1) := dk_27 (dk_at dksX0_hidden_1 3 rfl rfl)
theorem dX0_hidden_26 : decode cX0_hidden 26 = .ok (.invokevirtual 150, 3) := dk_182 0 150 (dk_at dksX0_hidden_1 4 rfl rfl)
theorem dX0_hidden_29 : decode cX0_hidden 29 = .ok (.checkcast 122, 3) := dk_192 0 122 (dk_at dksX0_hidden_1 7 rfl rfl)
theorem dX0_hidden_32 : decode cX0_hidden 32 = .ok (.iload_n 2, 1) := dk_28 (dk_at dksX0_hidden_1 10 rfl rfl)
theorem dX0_hidden_33 : decode cX0_hidden 33 = .ok (.iload_n 3, 1) := dk_29 (dk_at dksX0_hidden_1 11 rfl rfl)
theorem dX0_hidden_34 : decode cX0_hidden 34 = .ok (.invokevirtual 256, 3) := dk_182 1 0 (dk_at dksX0_hidden_1 12 rfl rfl)
theorem dX0_hidden_37 : decode cX0_hidden 37 = .ok (.goto 5, 3) := dk_167 0 5 (dk_at dksX0_hidden_1 15 rfl rfl)
theorem dX0_hidden_40 : decode cX0_hidden 40 = .ok (.bipush (-7), 2) := dk_16 249 (dk_at dksX0_hidden_1 18 rfl rfl)
theorem dX0_hidden_42 : decode cX0_hidden 42 = .ok (.ireturn, 1) := dk_172 (dk_at dksX0_hidden_1 20 rfl rfl)
abbrev cX0_isPoint : ByteArray := prog_1_method_12_code
def yX0_isPoint : MethodName := ⟨RX0, "isPoint", "(I)Z"⟩
def dkwX0_isPoint_0 : List UInt8 := [27, 133, 9, 42, 180, 0, 203, 133, 10, 101, 184, 0, 112, 172]
abbrev dktX0_isPoint_0 : List UInt8 := dkwX0_isPoint_0 ++ []
theorem dksX0_isPoint_0 : cX0_isPoint.data.toList.drop 0 = dktX0_isPoint_0 := by decide +kernel
theorem dX0_isPoint_0 : decode cX0_isPoint 0 = .ok (.iload_n 1, 1) := dk_27 (dk_at dksX0_isPoint_0 0 rfl rfl)
theorem dX0_isPoint_1 : decode cX0_isPoint 1 = .ok (.i2l, 1) := dk_133 (dk_at dksX0_isPoint_0 1 rfl rfl)
theorem dX0_isPoint_2 : decode cX0_isPoint 2 = .ok (.lconst 0, 1) := dk_9 (dk_at dksX0_isPoint_0 2 rfl rfl)
theorem dX0_isPoint_3 : decode cX0_isPoint 3 = .ok (.aload_n 0, 1) := dk_42 (dk_at dksX0_isPoint_0 3 rfl rfl)
theorem dX0_isPoint_4 : decode cX0_isPoint 4 = .ok (.getfield 203, 3) := dk_180 0 203 (dk_at dksX0_isPoint_0 4 rfl rfl)
theorem dX0_isPoint_7 : decode cX0_isPoint 7 = .ok (.i2l, 1) := dk_133 (dk_at dksX0_isPoint_0 7 rfl rfl)
theorem dX0_isPoint_8 : decode cX0_isPoint 8 = .ok (.lconst 1, 1) := dk_10 (dk_at dksX0_isPoint_0 8 rfl rfl)
theorem dX0_isPoint_9 : decode cX0_isPoint 9 = .ok (.lsub, 1) := dk_101 (dk_at dksX0_isPoint_0 9 rfl rfl)
theorem dX0_isPoint_10 : decode cX0_isPoint 10 = .ok (.invokestatic 112, 3) := dk_184 0 112 (dk_at dksX0_isPoint_0 10 rfl rfl)
theorem dX0_isPoint_13 : decode cX0_isPoint 13 = .ok (.ireturn, 1) := dk_172 (dk_at dksX0_isPoint_0 13 rfl rfl)
abbrev cX0_hider : ByteArray := prog_1_method_22_code
def yX0_hider : MethodName := ⟨RX0, "hider", "(LOverTheHeads$Row;II)I"⟩
def dkwX0_hider_8 : List UInt8 := [2, 172]
abbrev dktX0_hider_8 : List UInt8 := dkwX0_hider_8 ++ []
def dkwX0_hider_7 : List UInt8 := [42, 43, 28, 29, 21, 4, 182, 0, 249, 153, 0, 9, 16, 100, 21, 4, 96, 172, 132, 4, 1, 167, 255, 226]
abbrev dktX0_hider_7 : List UInt8 := dkwX0_hider_7 ++ dktX0_hider_8
def dkwX0_hider_6 : List UInt8 := [132, 6, 1, 167, 255, 160, 132, 4, 1, 167, 255, 115, 3, 54, 4, 21, 4, 42, 180, 0, 210, 162, 0, 27]
abbrev dktX0_hider_6 : List UInt8 := dkwX0_hider_6 ++ dktX0_hider_7
def dkwX0_hider_5 : List UInt8 := [180, 0, 242, 167, 0, 4, 3, 96, 182, 0, 245, 153, 0, 12, 16, 10, 21, 4, 104, 21, 6, 96, 172]
abbrev dktX0_hider_5 : List UInt8 := dkwX0_hider_5 ++ dktX0_hider_6
def dkwX0_hider_4 : List UInt8 := [182, 0, 196, 21, 4, 42, 180, 0, 63, 160, 0, 19, 21, 6, 42, 180, 0, 239, 160, 0, 10, 42]
abbrev dktX0_hider_4 : List UInt8 := dkwX0_hider_4 ++ dktX0_hider_5
def dkwX0_hider_3 : List UInt8 := [182, 0, 235, 153, 0, 64, 42, 43, 28, 29, 25, 5, 25, 5, 25, 5, 180, 0, 177, 21, 6, 51]
abbrev dktX0_hider_3 : List UInt8 := dkwX0_hider_3 ++ dktX0_hider_4
def dkwX0_hider_2 : List UInt8 := [180, 0, 154, 162, 0, 92, 42, 43, 28, 29, 25, 5, 182, 0, 190, 25, 5, 21, 6, 182, 0, 183]
abbrev dktX0_hider_2 : List UInt8 := dkwX0_hider_2 ++ dktX0_hider_3
def dkwX0_hider_1 : List UInt8 := [58, 5, 42, 43, 25, 5, 182, 0, 231, 154, 0, 6, 167, 0, 105, 3, 54, 6, 21, 6, 25, 5]
abbrev dktX0_hider_1 : List UInt8 := dkwX0_hider_1 ++ dktX0_hider_2
def dkwX0_hider_0 : List UInt8 := [3, 54, 4, 21, 4, 43, 180, 0, 228, 162, 0, 138, 42, 180, 0, 22, 21, 4, 182, 0, 150, 192, 0, 122]
abbrev dktX0_hider_0 : List UInt8 := dkwX0_hider_0 ++ dktX0_hider_1
theorem dksX0_hider_0 : cX0_hider.data.toList.drop 0 = dktX0_hider_0 := by decide +kernel
theorem dksX0_hider_1 : cX0_hider.data.toList.drop 24 = dktX0_hider_1 := dk_seg dksX0_hider_0 24 rfl rfl
theorem dksX0_hider_2 : cX0_hider.data.toList.drop 46 = dktX0_hider_2 := dk_seg dksX0_hider_1 22 rfl rfl
theorem dksX0_hider_3 : cX0_hider.data.toList.drop 68 = dktX0_hider_3 := dk_seg dksX0_hider_2 22 rfl rfl
theorem dksX0_hider_4 : cX0_hider.data.toList.drop 90 = dktX0_hider_4 := dk_seg dksX0_hider_3 22 rfl rfl
theorem dksX0_hider_5 : cX0_hider.data.toList.drop 112 = dktX0_hider_5 := dk_seg dksX0_hider_4 22 rfl rfl
theorem dksX0_hider_6 : cX0_hider.data.toList.drop 135 = dktX0_hider_6 := dk_seg dksX0_hider_5 23 rfl rfl
theorem dksX0_hider_7 : cX0_hider.data.toList.drop 159 = dktX0_hider_7 := dk_seg dksX0_hider_6 24 rfl rfl
theorem dksX0_hider_8 : cX0_hider.data.toList.drop 183 = dktX0_hider_8 := dk_seg dksX0_hider_7 24 rfl rfl
theorem dX0_hider_0 : decode cX0_hider 0 = .ok (.iconst 0, 1) := dk_3 (dk_at dksX0_hider_0 0 rfl rfl)
theorem dX0_hider_1 : decode cX0_hider 1 = .ok (.istore 4, 2) := dk_54 4 (dk_at dksX0_hider_0 1 rfl rfl)
theorem dX0_hider_3 : decode cX0_hider 3 = .ok (.iload 4, 2) := dk_21 4 (dk_at dksX0_hider_0 3 rfl rfl)
theorem dX0_hider_5 : decode cX0_hider 5 = .ok (.aload_n 1, 1) := dk_43 (dk_at dksX0_hider_0 5 rfl rfl)
theorem dX0_hider_6 : decode cX0_hider 6 = .ok (.getfield 228, 3) := dk_180 0 228 (dk_at dksX0_hider_0 6 rfl rfl)
theorem dX0_hider_9 : decode cX0_hider 9 = .ok (.if_icmp .ge 138, 3) := dk_162 0 138 (dk_at dksX0_hider_0 9 rfl rfl)
theorem dX0_hider_12 : decode cX0_hider 12 = .ok (.aload_n 0, 1) := dk_42 (dk_at dksX0_hider_0 12 rfl rfl)
theorem dX0_hider_13 : decode cX0_hider 13 = .ok (.getfield 22, 3) := dk_180 0 22 (dk_at dksX0_hider_0 13 rfl rfl)
theorem dX0_hider_16 : decode cX0_hider 16 = .ok (.iload 4, 2) := dk_21 4 (dk_at dksX0_hider_0 16 rfl rfl)
theorem dX0_hider_18 : decode cX0_hider 18 = .ok (.invokevirtual 150, 3) := dk_182 0 150 (dk_at dksX0_hider_0 18 rfl rfl)
theorem dX0_hider_21 : decode cX0_hider 21 = .ok (.checkcast 122, 3) := dk_192 0 122 (dk_at dksX0_hider_0 21 rfl rfl)
theorem dX0_hider_24 : decode cX0_hider 24 = .ok (.astore 5, 2) := dk_58 5 (dk_at dksX0_hider_1 0 rfl rfl)
theorem dX0_hider_26 : decode cX0_hider 26 = .ok (.aload_n 0, 1) := dk_42 (dk_at dksX0_hider_1 2 rfl rfl)
theorem dX0_hider_27 : decode cX0_hider 27 = .ok (.aload_n 1, 1) := dk_43 (dk_at dksX0_hider_1 3 rfl rfl)
theorem dX0_hider_28 : decode cX0_hider 28 = .ok (.aload 5, 2) := dk_25 5 (dk_at dksX0_hider_1 4 rfl rfl)
theorem dX0_hider_30 : decode cX0_hider 30 = .ok (.invokevirtual 231, 3) := dk_182 0 231 (dk_at dksX0_hider_1 6 rfl rfl)
theorem dX0_hider_33 : decode cX0_hider 33 = .ok (.ifCond .ne 6, 3) := dk_154 0 6 (dk_at dksX0_hider_1 9 rfl rfl)
theorem dX0_hider_36 : decode cX0_hider 36 = .ok (.goto 105, 3) := dk_167 0 105 (dk_at dksX0_hider_1 12 rfl rfl)
theorem dX0_hider_39 : decode cX0_hider 39 = .ok (.iconst 0, 1) := dk_3 (dk_at dksX0_hider_1 15 rfl rfl)
theorem dX0_hider_40 : decode cX0_hider 40 = .ok (.istore 6, 2) := dk_54 6 (dk_at dksX0_hider_1 16 rfl rfl)
theorem dX0_hider_42 : decode cX0_hider 42 = .ok (.iload 6, 2) := dk_21 6 (dk_at dksX0_hider_1 18 rfl rfl)
theorem dX0_hider_44 : decode cX0_hider 44 = .ok (.aload 5, 2) := dk_25 5 (dk_at dksX0_hider_1 20 rfl rfl)
theorem dX0_hider_46 : decode cX0_hider 46 = .ok (.getfield 154, 3) := dk_180 0 154 (dk_at dksX0_hider_2 0 rfl rfl)
theorem dX0_hider_49 : decode cX0_hider 49 = .ok (.if_icmp .ge 92, 3) := dk_162 0 92 (dk_at dksX0_hider_2 3 rfl rfl)
theorem dX0_hider_52 : decode cX0_hider 52 = .ok (.aload_n 0, 1) := dk_42 (dk_at dksX0_hider_2 6 rfl rfl)
theorem dX0_hider_53 : decode cX0_hider 53 = .ok (.aload_n 1, 1) := dk_43 (dk_at dksX0_hider_2 7 rfl rfl)
theorem dX0_hider_54 : decode cX0_hider 54 = .ok (.iload_n 2, 1) := dk_28 (dk_at dksX0_hider_2 8 rfl rfl)
theorem dX0_hider_55 : decode cX0_hider 55 = .ok (.iload_n 3, 1) := dk_29 (dk_at dksX0_hider_2 9 rfl rfl)
theorem dX0_hider_56 : decode cX0_hider 56 = .ok (.aload 5, 2) := dk_25 5 (dk_at dksX0_hider_2 10 rfl rfl)
theorem dX0_hider_58 : decode cX0_hider 58 = .ok (.invokevirtual 190, 3) := dk_182 0 190 (dk_at dksX0_hider_2 12 rfl rfl)
theorem dX0_hider_61 : decode cX0_hider 61 = .ok (.aload 5, 2) := dk_25 5 (dk_at dksX0_hider_2 15 rfl rfl)
theorem dX0_hider_63 : decode cX0_hider 63 = .ok (.iload 6, 2) := dk_21 6 (dk_at dksX0_hider_2 17 rfl rfl)
theorem dX0_hider_65 : decode cX0_hider 65 = .ok (.invokevirtual 183, 3) := dk_182 0 183 (dk_at dksX0_hider_2 19 rfl rfl)
theorem dX0_hider_68 : decode cX0_hider 68 = .ok (.invokevirtual 235, 3) := dk_182 0 235 (dk_at dksX0_hider_3 0 rfl rfl)
theorem dX0_hider_71 : decode cX0_hider 71 = .ok (.ifCond .eq 64, 3) := dk_153 0 64 (dk_at dksX0_hider_3 3 rfl rfl)
theorem dX0_hider_74 : decode cX0_hider 74 = .ok (.aload_n 0, 1) := dk_42 (dk_at dksX0_hider_3 6 rfl rfl)
theorem dX0_hider_75 : decode cX0_hider 75 = .ok (.aload_n 1, 1) := dk_43 (dk_at dksX0_hider_3 7 rfl rfl)
theorem dX0_hider_76 : decode cX0_hider 76 = .ok (.iload_n 2, 1) := dk_28 (dk_at dksX0_hider_3 8 rfl rfl)
theorem dX0_hider_77 : decode cX0_hider 77 = .ok (.iload_n 3, 1) := dk_29 (dk_at dksX0_hider_3 9 rfl rfl)
theorem dX0_hider_78 : decode cX0_hider 78 = .ok (.aload 5, 2) := dk_25 5 (dk_at dksX0_hider_3 10 rfl rfl)
theorem dX0_hider_80 : decode cX0_hider 80 = .ok (.aload 5, 2) := dk_25 5 (dk_at dksX0_hider_3 12 rfl rfl)
theorem dX0_hider_82 : decode cX0_hider 82 = .ok (.aload 5, 2) := dk_25 5 (dk_at dksX0_hider_3 14 rfl rfl)
theorem dX0_hider_84 : decode cX0_hider 84 = .ok (.getfield 177, 3) := dk_180 0 177 (dk_at dksX0_hider_3 16 rfl rfl)
theorem dX0_hider_87 : decode cX0_hider 87 = .ok (.iload 6, 2) := dk_21 6 (dk_at dksX0_hider_3 19 rfl rfl)
theorem dX0_hider_89 : decode cX0_hider 89 = .ok (.baload, 1) := dk_51 (dk_at dksX0_hider_3 21 rfl rfl)
theorem dX0_hider_90 : decode cX0_hider 90 = .ok (.invokevirtual 196, 3) := dk_182 0 196 (dk_at dksX0_hider_4 0 rfl rfl)
theorem dX0_hider_93 : decode cX0_hider 93 = .ok (.iload 4, 2) := dk_21 4 (dk_at dksX0_hider_4 3 rfl rfl)
theorem dX0_hider_95 : decode cX0_hider 95 = .ok (.aload_n 0, 1) := dk_42 (dk_at dksX0_hider_4 5 rfl rfl)
theorem dX0_hider_96 : decode cX0_hider 96 = .ok (.getfield 63, 3) := dk_180 0 63 (dk_at dksX0_hider_4 6 rfl rfl)
theorem dX0_hider_99 : decode cX0_hider 99 = .ok (.if_icmp .ne 19, 3) := dk_160 0 19 (dk_at dksX0_hider_4 9 rfl rfl)
theorem dX0_hider_102 : decode cX0_hider 102 = .ok (.iload 6, 2) := dk_21 6 (dk_at dksX0_hider_4 12 rfl rfl)
theorem dX0_hider_104 : decode cX0_hider 104 = .ok (.aload_n 0, 1) := dk_42 (dk_at dksX0_hider_4 14 rfl rfl)
theorem dX0_hider_105 : decode cX0_hider 105 = .ok (.getfield 239, 3) := dk_180 0 239 (dk_at dksX0_hider_4 15 rfl rfl)
theorem dX0_hider_108 : decode cX0_hider 108 = .ok (.if_icmp .ne 10, 3) := dk_160 0 10 (dk_at dksX0_hider_4 18 rfl rfl)
theorem dX0_hider_111 : decode cX0_hider 111 = .ok (.aload_n 0, 1) := dk_42 (dk_at dksX0_hider_4 21 rfl rfl)
theorem dX0_hider_112 : decode cX0_hider 112 = .ok (.getfield 242, 3) := dk_180 0 242 (dk_at dksX0_hider_5 0 rfl rfl)
theorem dX0_hider_115 : decode cX0_hider 115 = .ok (.goto 4, 3) := dk_167 0 4 (dk_at dksX0_hider_5 3 rfl rfl)
theorem dX0_hider_118 : decode cX0_hider 118 = .ok (.iconst 0, 1) := dk_3 (dk_at dksX0_hider_5 6 rfl rfl)
theorem dX0_hider_119 : decode cX0_hider 119 = .ok (.iadd, 1) := dk_96 (dk_at dksX0_hider_5 7 rfl rfl)
theorem dX0_hider_120 : decode cX0_hider 120 = .ok (.invokevirtual 245, 3) := dk_182 0 245 (dk_at dksX0_hider_5 8 rfl rfl)
theorem dX0_hider_123 : decode cX0_hider 123 = .ok (.ifCond .eq 12, 3) := dk_153 0 12 (dk_at dksX0_hider_5 11 rfl rfl)
theorem dX0_hider_126 : decode cX0_hider 126 = .ok (.bipush 10, 2) := dk_16 10 (dk_at dksX0_hider_5 14 rfl rfl)
theorem dX0_hider_128 : decode cX0_hider 128 = .ok (.iload 4, 2) := dk_21 4 (dk_at dksX0_hider_5 16 rfl rfl)
theorem dX0_hider_130 : decode cX0_hider 130 = .ok (.imul, 1) := dk_104 (dk_at dksX0_hider_5 18 rfl rfl)
theorem dX0_hider_131 : decode cX0_hider 131 = .ok (.iload 6, 2) := dk_21 6 (dk_at dksX0_hider_5 19 rfl rfl)
theorem dX0_hider_133 : decode cX0_hider 133 = .ok (.iadd, 1) := dk_96 (dk_at dksX0_hider_5 21 rfl rfl)
theorem dX0_hider_134 : decode cX0_hider 134 = .ok (.ireturn, 1) := dk_172 (dk_at dksX0_hider_5 22 rfl rfl)
theorem dX0_hider_135 : decode cX0_hider 135 = .ok (.iinc 6 1, 3) := dk_132 6 1 (dk_at dksX0_hider_6 0 rfl rfl)
theorem dX0_hider_138 : decode cX0_hider 138 = .ok (.goto (-96), 3) := dk_167 255 160 (dk_at dksX0_hider_6 3 rfl rfl)
theorem dX0_hider_141 : decode cX0_hider 141 = .ok (.iinc 4 1, 3) := dk_132 4 1 (dk_at dksX0_hider_6 6 rfl rfl)
theorem dX0_hider_144 : decode cX0_hider 144 = .ok (.goto (-141), 3) := dk_167 255 115 (dk_at dksX0_hider_6 9 rfl rfl)
theorem dX0_hider_147 : decode cX0_hider 147 = .ok (.iconst 0, 1) := dk_3 (dk_at dksX0_hider_6 12 rfl rfl)
theorem dX0_hider_148 : decode cX0_hider 148 = .ok (.istore 4, 2) := dk_54 4 (dk_at dksX0_hider_6 13 rfl rfl)
theorem dX0_hider_150 : decode cX0_hider 150 = .ok (.iload 4, 2) := dk_21 4 (dk_at dksX0_hider_6 15 rfl rfl)
theorem dX0_hider_152 : decode cX0_hider 152 = .ok (.aload_n 0, 1) := dk_42 (dk_at dksX0_hider_6 17 rfl rfl)
theorem dX0_hider_153 : decode cX0_hider 153 = .ok (.getfield 210, 3) := dk_180 0 210 (dk_at dksX0_hider_6 18 rfl rfl)
theorem dX0_hider_156 : decode cX0_hider 156 = .ok (.if_icmp .ge 27, 3) := dk_162 0 27 (dk_at dksX0_hider_6 21 rfl rfl)
theorem dX0_hider_159 : decode cX0_hider 159 = .ok (.aload_n 0, 1) := dk_42 (dk_at dksX0_hider_7 0 rfl rfl)
theorem dX0_hider_160 : decode cX0_hider 160 = .ok (.aload_n 1, 1) := dk_43 (dk_at dksX0_hider_7 1 rfl rfl)
theorem dX0_hider_161 : decode cX0_hider 161 = .ok (.iload_n 2, 1) := dk_28 (dk_at dksX0_hider_7 2 rfl rfl)
theorem dX0_hider_162 : decode cX0_hider 162 = .ok (.iload_n 3, 1) := dk_29 (dk_at dksX0_hider_7 3 rfl rfl)
theorem dX0_hider_163 : decode cX0_hider 163 = .ok (.iload 4, 2) := dk_21 4 (dk_at dksX0_hider_7 4 rfl rfl)
theorem dX0_hider_165 : decode cX0_hider 165 = .ok (.invokevirtual 249, 3) := dk_182 0 249 (dk_at dksX0_hider_7 6 rfl rfl)
theorem dX0_hider_168 : decode cX0_hider 168 = .ok (.ifCond .eq 9, 3) := dk_153 0 9 (dk_at dksX0_hider_7 9 rfl rfl)
theorem dX0_hider_171 : decode cX0_hider 171 = .ok (.bipush 100, 2) := dk_16 100 (dk_at dksX0_hider_7 12 rfl rfl)
theorem dX0_hider_173 : decode cX0_hider 173 = .ok (.iload 4, 2) := dk_21 4 (dk_at dksX0_hider_7 14 rfl rfl)
theorem dX0_hider_175 : decode cX0_hider 175 = .ok (.iadd, 1) := dk_96 (dk_at dksX0_hider_7 16 rfl rfl)
theorem dX0_hider_176 : decode cX0_hider 176 = .ok (.ireturn, 1) := dk_172 (dk_at dksX0_hider_7 17 rfl rfl)
theorem dX0_hider_177 : decode cX0_hider 177 = .ok (.iinc 4 1, 3) := dk_132 4 1 (dk_at dksX0_hider_7 18 rfl rfl)
theorem dX0_hider_180 : decode cX0_hider 180 = .ok (.goto (-30), 3) := dk_167 255 226 (dk_at dksX0_hider_7 21 rfl rfl)
theorem dX0_hider_183 : decode cX0_hider 183 = .ok (.iconst (-1), 1) := dk_2 (dk_at dksX0_hider_8 0 rfl rfl)
theorem dX0_hider_184 : decode cX0_hider 184 = .ok (.ireturn, 1) := dk_172 (dk_at dksX0_hider_8 1 rfl rfl)
abbrev cX0_isAhead : ByteArray := prog_1_method_20_code
def yX0_isAhead : MethodName := ⟨RX0, "isAhead", "(LOverTheHeads$Row;LOverTheHeads$Row;)Z"⟩
def dkwX0_isAhead_1 : List UInt8 := [153, 0, 7, 4, 167, 0, 4, 3, 172]
abbrev dktX0_isAhead_1 : List UInt8 := dkwX0_isAhead_1 ++ []
def dkwX0_isAhead_0 : List UInt8 := [44, 180, 0, 228, 43, 180, 0, 228, 162, 0, 21, 43, 182, 0, 199, 153, 0, 14, 44, 182, 0, 199]
abbrev dktX0_isAhead_0 : List UInt8 := dkwX0_isAhead_0 ++ dktX0_isAhead_1
theorem dksX0_isAhead_0 : cX0_isAhead.data.toList.drop 0 = dktX0_isAhead_0 := by decide +kernel
theorem dksX0_isAhead_1 : cX0_isAhead.data.toList.drop 22 = dktX0_isAhead_1 := dk_seg dksX0_isAhead_0 22 rfl rfl
theorem dX0_isAhead_0 : decode cX0_isAhead 0 = .ok (.aload_n 2, 1) := dk_44 (dk_at dksX0_isAhead_0 0 rfl rfl)
theorem dX0_isAhead_1 : decode cX0_isAhead 1 = .ok (.getfield 228, 3) := dk_180 0 228 (dk_at dksX0_isAhead_0 1 rfl rfl)
theorem dX0_isAhead_4 : decode cX0_isAhead 4 = .ok (.aload_n 1, 1) := dk_43 (dk_at dksX0_isAhead_0 4 rfl rfl)
theorem dX0_isAhead_5 : decode cX0_isAhead 5 = .ok (.getfield 228, 3) := dk_180 0 228 (dk_at dksX0_isAhead_0 5 rfl rfl)
theorem dX0_isAhead_8 : decode cX0_isAhead 8 = .ok (.if_icmp .ge 21, 3) := dk_162 0 21 (dk_at dksX0_isAhead_0 8 rfl rfl)
theorem dX0_isAhead_11 : decode cX0_isAhead 11 = .ok (.aload_n 1, 1) := dk_43 (dk_at dksX0_isAhead_0 11 rfl rfl)
theorem dX0_isAhead_12 : decode cX0_isAhead 12 = .ok (.invokevirtual 199, 3) := dk_182 0 199 (dk_at dksX0_isAhead_0 12 rfl rfl)
theorem dX0_isAhead_15 : decode cX0_isAhead 15 = .ok (.ifCond .eq 14, 3) := dk_153 0 14 (dk_at dksX0_isAhead_0 15 rfl rfl)
theorem dX0_isAhead_18 : decode cX0_isAhead 18 = .ok (.aload_n 2, 1) := dk_44 (dk_at dksX0_isAhead_0 18 rfl rfl)
theorem dX0_isAhead_19 : decode cX0_isAhead 19 = .ok (.invokevirtual 199, 3) := dk_182 0 199 (dk_at dksX0_isAhead_0 19 rfl rfl)
theorem dX0_isAhead_22 : decode cX0_isAhead 22 = .ok (.ifCond .eq 7, 3) := dk_153 0 7 (dk_at dksX0_isAhead_1 0 rfl rfl)
theorem dX0_isAhead_25 : decode cX0_isAhead 25 = .ok (.iconst 1, 1) := dk_4 (dk_at dksX0_isAhead_1 3 rfl rfl)
theorem dX0_isAhead_26 : decode cX0_isAhead 26 = .ok (.goto 4, 3) := dk_167 0 4 (dk_at dksX0_isAhead_1 4 rfl rfl)
theorem dX0_isAhead_29 : decode cX0_isAhead 29 = .ok (.iconst 0, 1) := dk_3 (dk_at dksX0_isAhead_1 7 rfl rfl)
theorem dX0_isAhead_30 : decode cX0_isAhead 30 = .ok (.ireturn, 1) := dk_172 (dk_at dksX0_isAhead_1 8 rfl rfl)
abbrev cX0_isBy : ByteArray := prog_1_method_18_code
def yX0_isBy : MethodName := ⟨RX0, "isBy", "(LOverTheHeads$Row;IIII)Z"⟩
def dkwX0_isBy_1 : List UInt8 := [182, 0, 190, 104, 100, 184, 0, 223, 43, 182, 0, 190, 163, 0, 7, 4, 167, 0, 4, 3, 172]
abbrev dktX0_isBy_1 : List UInt8 := dkwX0_isBy_1 ++ []
def dkwX0_isBy_0 : List UInt8 := [42, 180, 0, 32, 29, 46, 43, 28, 182, 0, 183, 43, 182, 0, 190, 21, 4, 184, 0, 219, 21, 5, 43]
abbrev dktX0_isBy_0 : List UInt8 := dkwX0_isBy_0 ++ dktX0_isBy_1
theorem dksX0_isBy_0 : cX0_isBy.data.toList.drop 0 = dktX0_isBy_0 := by decide +kernel
theorem dksX0_isBy_1 : cX0_isBy.data.toList.drop 23 = dktX0_isBy_1 := dk_seg dksX0_isBy_0 23 rfl rfl
theorem dX0_isBy_0 : decode cX0_isBy 0 = .ok (.aload_n 0, 1) := dk_42 (dk_at dksX0_isBy_0 0 rfl rfl)
theorem dX0_isBy_1 : decode cX0_isBy 1 = .ok (.getfield 32, 3) := dk_180 0 32 (dk_at dksX0_isBy_0 1 rfl rfl)
theorem dX0_isBy_4 : decode cX0_isBy 4 = .ok (.iload_n 3, 1) := dk_29 (dk_at dksX0_isBy_0 4 rfl rfl)
theorem dX0_isBy_5 : decode cX0_isBy 5 = .ok (.iaload, 1) := dk_46 (dk_at dksX0_isBy_0 5 rfl rfl)
theorem dX0_isBy_6 : decode cX0_isBy 6 = .ok (.aload_n 1, 1) := dk_43 (dk_at dksX0_isBy_0 6 rfl rfl)
theorem dX0_isBy_7 : decode cX0_isBy 7 = .ok (.iload_n 2, 1) := dk_28 (dk_at dksX0_isBy_0 7 rfl rfl)
theorem dX0_isBy_8 : decode cX0_isBy 8 = .ok (.invokevirtual 183, 3) := dk_182 0 183 (dk_at dksX0_isBy_0 8 rfl rfl)
theorem dX0_isBy_11 : decode cX0_isBy 11 = .ok (.aload_n 1, 1) := dk_43 (dk_at dksX0_isBy_0 11 rfl rfl)
theorem dX0_isBy_12 : decode cX0_isBy 12 = .ok (.invokevirtual 190, 3) := dk_182 0 190 (dk_at dksX0_isBy_0 12 rfl rfl)
theorem dX0_isBy_15 : decode cX0_isBy 15 = .ok (.iload 4, 2) := dk_21 4 (dk_at dksX0_isBy_0 15 rfl rfl)
theorem dX0_isBy_17 : decode cX0_isBy 17 = .ok (.invokestatic 219, 3) := dk_184 0 219 (dk_at dksX0_isBy_0 17 rfl rfl)
theorem dX0_isBy_20 : decode cX0_isBy 20 = .ok (.iload 5, 2) := dk_21 5 (dk_at dksX0_isBy_0 20 rfl rfl)
theorem dX0_isBy_22 : decode cX0_isBy 22 = .ok (.aload_n 1, 1) := dk_43 (dk_at dksX0_isBy_0 22 rfl rfl)
theorem dX0_isBy_23 : decode cX0_isBy 23 = .ok (.invokevirtual 190, 3) := dk_182 0 190 (dk_at dksX0_isBy_1 0 rfl rfl)
theorem dX0_isBy_26 : decode cX0_isBy 26 = .ok (.imul, 1) := dk_104 (dk_at dksX0_isBy_1 3 rfl rfl)
theorem dX0_isBy_27 : decode cX0_isBy 27 = .ok (.isub, 1) := dk_100 (dk_at dksX0_isBy_1 4 rfl rfl)
theorem dX0_isBy_28 : decode cX0_isBy 28 = .ok (.invokestatic 223, 3) := dk_184 0 223 (dk_at dksX0_isBy_1 5 rfl rfl)
theorem dX0_isBy_31 : decode cX0_isBy 31 = .ok (.aload_n 1, 1) := dk_43 (dk_at dksX0_isBy_1 8 rfl rfl)
theorem dX0_isBy_32 : decode cX0_isBy 32 = .ok (.invokevirtual 190, 3) := dk_182 0 190 (dk_at dksX0_isBy_1 9 rfl rfl)
theorem dX0_isBy_35 : decode cX0_isBy 35 = .ok (.if_icmp .gt 7, 3) := dk_163 0 7 (dk_at dksX0_isBy_1 12 rfl rfl)
theorem dX0_isBy_38 : decode cX0_isBy 38 = .ok (.iconst 1, 1) := dk_4 (dk_at dksX0_isBy_1 15 rfl rfl)
theorem dX0_isBy_39 : decode cX0_isBy 39 = .ok (.goto 4, 3) := dk_167 0 4 (dk_at dksX0_isBy_1 16 rfl rfl)
theorem dX0_isBy_42 : decode cX0_isBy 42 = .ok (.iconst 0, 1) := dk_3 (dk_at dksX0_isBy_1 19 rfl rfl)
theorem dX0_isBy_43 : decode cX0_isBy 43 = .ok (.ireturn, 1) := dk_172 (dk_at dksX0_isBy_1 20 rfl rfl)
abbrev cX0_along : ByteArray := prog_1_method_17_code
def yX0_along : MethodName := ⟨RX0, "along", "(IIII)I"⟩
def dkwX0_along_0 : List UInt8 := [26, 28, 104, 27, 26, 100, 29, 104, 96, 172]
abbrev dktX0_along_0 : List UInt8 := dkwX0_along_0 ++ []
theorem dksX0_along_0 : cX0_along.data.toList.drop 0 = dktX0_along_0 := by decide +kernel
theorem dX0_along_0 : decode cX0_along 0 = .ok (.iload_n 0, 1) := dk_26 (dk_at dksX0_along_0 0 rfl rfl)
theorem dX0_along_1 : decode cX0_along 1 = .ok (.iload_n 2, 1) := dk_28 (dk_at dksX0_along_0 1 rfl rfl)
theorem dX0_along_2 : decode cX0_along 2 = .ok (.imul, 1) := dk_104 (dk_at dksX0_along_0 2 rfl rfl)
theorem dX0_along_3 : decode cX0_along 3 = .ok (.iload_n 1, 1) := dk_27 (dk_at dksX0_along_0 3 rfl rfl)
theorem dX0_along_4 : decode cX0_along 4 = .ok (.iload_n 0, 1) := dk_26 (dk_at dksX0_along_0 4 rfl rfl)
theorem dX0_along_5 : decode cX0_along 5 = .ok (.isub, 1) := dk_100 (dk_at dksX0_along_0 5 rfl rfl)
theorem dX0_along_6 : decode cX0_along 6 = .ok (.iload_n 3, 1) := dk_29 (dk_at dksX0_along_0 6 rfl rfl)
theorem dX0_along_7 : decode cX0_along 7 = .ok (.imul, 1) := dk_104 (dk_at dksX0_along_0 7 rfl rfl)
theorem dX0_along_8 : decode cX0_along 8 = .ok (.iadd, 1) := dk_96 (dk_at dksX0_along_0 8 rfl rfl)
theorem dX0_along_9 : decode cX0_along 9 = .ok (.ireturn, 1) := dk_172 (dk_at dksX0_along_0 9 rfl rfl)
abbrev cX0_hides : ByteArray := prog_1_method_19_code
def yX0_hides : MethodName := ⟨RX0, "hides", "(LOverTheHeads$Row;IILOverTheHeads$Row;I)Z"⟩
def dkwX0_hides_1 : List UInt8 := [182, 0, 190, 184, 0, 219, 161, 0, 7, 4, 167, 0, 4, 3, 172]
abbrev dktX0_hides_1 : List UInt8 := dkwX0_hides_1 ++ []
def dkwX0_hides_0 : List UInt8 := [21, 5, 43, 182, 0, 190, 104, 42, 180, 0, 35, 29, 46, 43, 28, 182, 0, 193, 43, 182, 0, 190, 25, 4]
abbrev dktX0_hides_0 : List UInt8 := dkwX0_hides_0 ++ dktX0_hides_1
theorem dksX0_hides_0 : cX0_hides.data.toList.drop 0 = dktX0_hides_0 := by decide +kernel
theorem dksX0_hides_1 : cX0_hides.data.toList.drop 24 = dktX0_hides_1 := dk_seg dksX0_hides_0 24 rfl rfl
theorem dX0_hides_0 : decode cX0_hides 0 = .ok (.iload 5, 2) := dk_21 5 (dk_at dksX0_hides_0 0 rfl rfl)
theorem dX0_hides_2 : decode cX0_hides 2 = .ok (.aload_n 1, 1) := dk_43 (dk_at dksX0_hides_0 2 rfl rfl)
theorem dX0_hides_3 : decode cX0_hides 3 = .ok (.invokevirtual 190, 3) := dk_182 0 190 (dk_at dksX0_hides_0 3 rfl rfl)
theorem dX0_hides_6 : decode cX0_hides 6 = .ok (.imul, 1) := dk_104 (dk_at dksX0_hides_0 6 rfl rfl)
theorem dX0_hides_7 : decode cX0_hides 7 = .ok (.aload_n 0, 1) := dk_42 (dk_at dksX0_hides_0 7 rfl rfl)
theorem dX0_hides_8 : decode cX0_hides 8 = .ok (.getfield 35, 3) := dk_180 0 35 (dk_at dksX0_hides_0 8 rfl rfl)
theorem dX0_hides_11 : decode cX0_hides 11 = .ok (.iload_n 3, 1) := dk_29 (dk_at dksX0_hides_0 11 rfl rfl)
theorem dX0_hides_12 : decode cX0_hides 12 = .ok (.iaload, 1) := dk_46 (dk_at dksX0_hides_0 12 rfl rfl)
theorem dX0_hides_13 : decode cX0_hides 13 = .ok (.aload_n 1, 1) := dk_43 (dk_at dksX0_hides_0 13 rfl rfl)
theorem dX0_hides_14 : decode cX0_hides 14 = .ok (.iload_n 2, 1) := dk_28 (dk_at dksX0_hides_0 14 rfl rfl)
theorem dX0_hides_15 : decode cX0_hides 15 = .ok (.invokevirtual 193, 3) := dk_182 0 193 (dk_at dksX0_hides_0 15 rfl rfl)
theorem dX0_hides_18 : decode cX0_hides 18 = .ok (.aload_n 1, 1) := dk_43 (dk_at dksX0_hides_0 18 rfl rfl)
theorem dX0_hides_19 : decode cX0_hides 19 = .ok (.invokevirtual 190, 3) := dk_182 0 190 (dk_at dksX0_hides_0 19 rfl rfl)
theorem dX0_hides_22 : decode cX0_hides 22 = .ok (.aload 4, 2) := dk_25 4 (dk_at dksX0_hides_0 22 rfl rfl)
theorem dX0_hides_24 : decode cX0_hides 24 = .ok (.invokevirtual 190, 3) := dk_182 0 190 (dk_at dksX0_hides_1 0 rfl rfl)
theorem dX0_hides_27 : decode cX0_hides 27 = .ok (.invokestatic 219, 3) := dk_184 0 219 (dk_at dksX0_hides_1 3 rfl rfl)
theorem dX0_hides_30 : decode cX0_hides 30 = .ok (.if_icmp .lt 7, 3) := dk_161 0 7 (dk_at dksX0_hides_1 6 rfl rfl)
theorem dX0_hides_33 : decode cX0_hides 33 = .ok (.iconst 1, 1) := dk_4 (dk_at dksX0_hides_1 9 rfl rfl)
theorem dX0_hides_34 : decode cX0_hides 34 = .ok (.goto 4, 3) := dk_167 0 4 (dk_at dksX0_hides_1 10 rfl rfl)
theorem dX0_hides_37 : decode cX0_hides 37 = .ok (.iconst 0, 1) := dk_3 (dk_at dksX0_hides_1 13 rfl rfl)
theorem dX0_hides_38 : decode cX0_hides 38 = .ok (.ireturn, 1) := dk_172 (dk_at dksX0_hides_1 14 rfl rfl)
abbrev cX0_isPosted : ByteArray := prog_1_method_21_code
def yX0_isPosted : MethodName := ⟨RX0, "isPosted", "(LOverTheHeads$Row;III)Z"⟩
def dkwX0_isPosted_2 : List UInt8 := [43, 182, 0, 190, 104, 100, 184, 0, 223, 43, 182, 0, 190, 162, 0, 7, 4, 167, 0, 4, 3, 172]
abbrev dktX0_isPosted_2 : List UInt8 := dkwX0_isPosted_2 ++ []
def dkwX0_isPosted_1 : List UInt8 := [182, 0, 183, 43, 182, 0, 190, 42, 180, 0, 44, 21, 4, 46, 184, 0, 219, 42, 180, 0, 41, 21, 4, 46]
abbrev dktX0_isPosted_1 : List UInt8 := dkwX0_isPosted_1 ++ dktX0_isPosted_2
def dkwX0_isPosted_0 : List UInt8 := [42, 180, 0, 44, 21, 4, 46, 43, 182, 0, 190, 162, 0, 55, 42, 180, 0, 32, 29, 46, 43, 28]
abbrev dktX0_isPosted_0 : List UInt8 := dkwX0_isPosted_0 ++ dktX0_isPosted_1
theorem dksX0_isPosted_0 : cX0_isPosted.data.toList.drop 0 = dktX0_isPosted_0 := by decide +kernel
theorem dksX0_isPosted_1 : cX0_isPosted.data.toList.drop 22 = dktX0_isPosted_1 := dk_seg dksX0_isPosted_0 22 rfl rfl
theorem dksX0_isPosted_2 : cX0_isPosted.data.toList.drop 46 = dktX0_isPosted_2 := dk_seg dksX0_isPosted_1 24 rfl rfl
theorem dX0_isPosted_0 : decode cX0_isPosted 0 = .ok (.aload_n 0, 1) := dk_42 (dk_at dksX0_isPosted_0 0 rfl rfl)
theorem dX0_isPosted_1 : decode cX0_isPosted 1 = .ok (.getfield 44, 3) := dk_180 0 44 (dk_at dksX0_isPosted_0 1 rfl rfl)
theorem dX0_isPosted_4 : decode cX0_isPosted 4 = .ok (.iload 4, 2) := dk_21 4 (dk_at dksX0_isPosted_0 4 rfl rfl)
theorem dX0_isPosted_6 : decode cX0_isPosted 6 = .ok (.iaload, 1) := dk_46 (dk_at dksX0_isPosted_0 6 rfl rfl)
theorem dX0_isPosted_7 : decode cX0_isPosted 7 = .ok (.aload_n 1, 1) := dk_43 (dk_at dksX0_isPosted_0 7 rfl rfl)
theorem dX0_isPosted_8 : decode cX0_isPosted 8 = .ok (.invokevirtual 190, 3) := dk_182 0 190 (dk_at dksX0_isPosted_0 8 rfl rfl)
theorem dX0_isPosted_11 : decode cX0_isPosted 11 = .ok (.if_icmp .ge 55, 3) := dk_162 0 55 (dk_at dksX0_isPosted_0 11 rfl rfl)
theorem dX0_isPosted_14 : decode cX0_isPosted 14 = .ok (.aload_n 0, 1) := dk_42 (dk_at dksX0_isPosted_0 14 rfl rfl)
theorem dX0_isPosted_15 : decode cX0_isPosted 15 = .ok (.getfield 32, 3) := dk_180 0 32 (dk_at dksX0_isPosted_0 15 rfl rfl)
theorem dX0_isPosted_18 : decode cX0_isPosted 18 = .ok (.iload_n 3, 1) := dk_29 (dk_at dksX0_isPosted_0 18 rfl rfl)
theorem dX0_isPosted_19 : decode cX0_isPosted 19 = .ok (.iaload, 1) := dk_46 (dk_at dksX0_isPosted_0 19 rfl rfl)
theorem dX0_isPosted_20 : decode cX0_isPosted 20 = .ok (.aload_n 1, 1) := dk_43 (dk_at dksX0_isPosted_0 20 rfl rfl)
theorem dX0_isPosted_21 : decode cX0_isPosted 21 = .ok (.iload_n 2, 1) := dk_28 (dk_at dksX0_isPosted_0 21 rfl rfl)
theorem dX0_isPosted_22 : decode cX0_isPosted 22 = .ok (.invokevirtual 183, 3) := dk_182 0 183 (dk_at dksX0_isPosted_1 0 rfl rfl)
theorem dX0_isPosted_25 : decode cX0_isPosted 25 = .ok (.aload_n 1, 1) := dk_43 (dk_at dksX0_isPosted_1 3 rfl rfl)
theorem dX0_isPosted_26 : decode cX0_isPosted 26 = .ok (.invokevirtual 190, 3) := dk_182 0 190 (dk_at dksX0_isPosted_1 4 rfl rfl)
theorem dX0_isPosted_29 : decode cX0_isPosted 29 = .ok (.aload_n 0, 1) := dk_42 (dk_at dksX0_isPosted_1 7 rfl rfl)
theorem dX0_isPosted_30 : decode cX0_isPosted 30 = .ok (.getfield 44, 3) := dk_180 0 44 (dk_at dksX0_isPosted_1 8 rfl rfl)
theorem dX0_isPosted_33 : decode cX0_isPosted 33 = .ok (.iload 4, 2) := dk_21 4 (dk_at dksX0_isPosted_1 11 rfl rfl)
theorem dX0_isPosted_35 : decode cX0_isPosted 35 = .ok (.iaload, 1) := dk_46 (dk_at dksX0_isPosted_1 13 rfl rfl)
theorem dX0_isPosted_36 : decode cX0_isPosted 36 = .ok (.invokestatic 219, 3) := dk_184 0 219 (dk_at dksX0_isPosted_1 14 rfl rfl)
theorem dX0_isPosted_39 : decode cX0_isPosted 39 = .ok (.aload_n 0, 1) := dk_42 (dk_at dksX0_isPosted_1 17 rfl rfl)
theorem dX0_isPosted_40 : decode cX0_isPosted 40 = .ok (.getfield 41, 3) := dk_180 0 41 (dk_at dksX0_isPosted_1 18 rfl rfl)
theorem dX0_isPosted_43 : decode cX0_isPosted 43 = .ok (.iload 4, 2) := dk_21 4 (dk_at dksX0_isPosted_1 21 rfl rfl)
theorem dX0_isPosted_45 : decode cX0_isPosted 45 = .ok (.iaload, 1) := dk_46 (dk_at dksX0_isPosted_1 23 rfl rfl)
theorem dX0_isPosted_46 : decode cX0_isPosted 46 = .ok (.aload_n 1, 1) := dk_43 (dk_at dksX0_isPosted_2 0 rfl rfl)
theorem dX0_isPosted_47 : decode cX0_isPosted 47 = .ok (.invokevirtual 190, 3) := dk_182 0 190 (dk_at dksX0_isPosted_2 1 rfl rfl)
theorem dX0_isPosted_50 : decode cX0_isPosted 50 = .ok (.imul, 1) := dk_104 (dk_at dksX0_isPosted_2 4 rfl rfl)
theorem dX0_isPosted_51 : decode cX0_isPosted 51 = .ok (.isub, 1) := dk_100 (dk_at dksX0_isPosted_2 5 rfl rfl)
theorem dX0_isPosted_52 : decode cX0_isPosted 52 = .ok (.invokestatic 223, 3) := dk_184 0 223 (dk_at dksX0_isPosted_2 6 rfl rfl)
theorem dX0_isPosted_55 : decode cX0_isPosted 55 = .ok (.aload_n 1, 1) := dk_43 (dk_at dksX0_isPosted_2 9 rfl rfl)
theorem dX0_isPosted_56 : decode cX0_isPosted 56 = .ok (.invokevirtual 190, 3) := dk_182 0 190 (dk_at dksX0_isPosted_2 10 rfl rfl)
theorem dX0_isPosted_59 : decode cX0_isPosted 59 = .ok (.if_icmp .ge 7, 3) := dk_162 0 7 (dk_at dksX0_isPosted_2 13 rfl rfl)
theorem dX0_isPosted_62 : decode cX0_isPosted 62 = .ok (.iconst 1, 1) := dk_4 (dk_at dksX0_isPosted_2 16 rfl rfl)
theorem dX0_isPosted_63 : decode cX0_isPosted 63 = .ok (.goto 4, 3) := dk_167 0 4 (dk_at dksX0_isPosted_2 17 rfl rfl)
theorem dX0_isPosted_66 : decode cX0_isPosted 66 = .ok (.iconst 0, 1) := dk_3 (dk_at dksX0_isPosted_2 20 rfl rfl)
theorem dX0_isPosted_67 : decode cX0_isPosted 67 = .ok (.ireturn, 1) := dk_172 (dk_at dksX0_isPosted_2 21 rfl rfl)
abbrev cX0_sees : ByteArray := prog_1_method_25_code
def yX0_sees : MethodName := ⟨RX0, "sees", "(II)I"⟩
def dkwX0_sees_1 : List UInt8 := [182, 1, 4, 167, 0, 5, 16, 251, 172]
abbrev dktX0_sees_1 : List UInt8 := dkwX0_sees_1 ++ []
def dkwX0_sees_0 : List UInt8 := [42, 27, 28, 182, 0, 173, 153, 0, 22, 42, 42, 180, 0, 22, 27, 182, 0, 150, 192, 0, 122, 28]
abbrev dktX0_sees_0 : List UInt8 := dkwX0_sees_0 ++ dktX0_sees_1
theorem dksX0_sees_0 : cX0_sees.data.toList.drop 0 = dktX0_sees_0 := by decide +kernel
theorem dksX0_sees_1 : cX0_sees.data.toList.drop 22 = dktX0_sees_1 := dk_seg dksX0_sees_0 22 rfl rfl
theorem dX0_sees_0 : decode cX0_sees 0 = .ok (.aload_n 0, 1) := dk_42 (dk_at dksX0_sees_0 0 rfl rfl)
theorem dX0_sees_1 : decode cX0_sees 1 = .ok (.iload_n 1, 1) := dk_27 (dk_at dksX0_sees_0 1 rfl rfl)
theorem dX0_sees_2 : decode cX0_sees 2 = .ok (.iload_n 2, 1) := dk_28 (dk_at dksX0_sees_0 2 rfl rfl)
theorem dX0_sees_3 : decode cX0_sees 3 = .ok (.invokevirtual 173, 3) := dk_182 0 173 (dk_at dksX0_sees_0 3 rfl rfl)
theorem dX0_sees_6 : decode cX0_sees 6 = .ok (.ifCond .eq 22, 3) := dk_153 0 22 (dk_at dksX0_sees_0 6 rfl rfl)
theorem dX0_sees_9 : decode cX0_sees 9 = .ok (.aload_n 0, 1) := dk_42 (dk_at dksX0_sees_0 9 rfl rfl)
theorem dX0_sees_10 : decode cX0_sees 10 = .ok (.aload_n 0, 1) := dk_42 (dk_at dksX0_sees_0 10 rfl rfl)
theorem dX0_sees_11 : decode cX0_sees 11 = .ok (.getfield 22, 3) := dk_180 0 22 (dk_at dksX0_sees_0 11 rfl rfl)
theorem dX0_sees_14 : decode cX0_sees 14 = .ok (.iload_n 1, 1) := dk_27 (dk_at dksX0_sees_0 14 rfl rfl)
theorem dX0_sees_15 : decode cX0_sees 15 = .ok (.invokevirtual 150, 3) := dk_182 0 150 (dk_at dksX0_sees_0 15 rfl rfl)
theorem dX0_sees_18 : decode cX0_sees 18 = .ok (.checkcast 122, 3) := dk_192 0 122 (dk_at dksX0_sees_0 18 rfl rfl)
theorem dX0_sees_21 : decode cX0_sees 21 = .ok (.iload_n 2, 1) := dk_28 (dk_at dksX0_sees_0 21 rfl rfl)
theorem dX0_sees_22 : decode cX0_sees 22 = .ok (.invokevirtual 260, 3) := dk_182 1 4 (dk_at dksX0_sees_1 0 rfl rfl)
theorem dX0_sees_25 : decode cX0_sees 25 = .ok (.goto 5, 3) := dk_167 0 5 (dk_at dksX0_sees_1 3 rfl rfl)
theorem dX0_sees_28 : decode cX0_sees 28 = .ok (.bipush (-5), 2) := dk_16 251 (dk_at dksX0_sees_1 6 rfl rfl)
theorem dX0_sees_30 : decode cX0_sees 30 = .ok (.ireturn, 1) := dk_172 (dk_at dksX0_sees_1 8 rfl rfl)
abbrev cX0_seenBy : ByteArray := prog_1_method_24_code
def yX0_seenBy : MethodName := ⟨RX0, "seenBy", "(LOverTheHeads$Row;I)I"⟩
def dkwX0_seenBy_1 : List UInt8 := [160, 0, 10, 29, 4, 21, 4, 120, 128, 62, 132, 4, 1, 167, 255, 225, 29, 172]
abbrev dktX0_seenBy_1 : List UInt8 := dkwX0_seenBy_1 ++ []
def dkwX0_seenBy_0 : List UInt8 := [3, 62, 3, 54, 4, 21, 4, 42, 180, 0, 203, 162, 0, 28, 42, 43, 28, 21, 4, 182, 1, 0, 2]
abbrev dktX0_seenBy_0 : List UInt8 := dkwX0_seenBy_0 ++ dktX0_seenBy_1
theorem dksX0_seenBy_0 : cX0_seenBy.data.toList.drop 0 = dktX0_seenBy_0 := by decide +kernel
theorem dksX0_seenBy_1 : cX0_seenBy.data.toList.drop 23 = dktX0_seenBy_1 := dk_seg dksX0_seenBy_0 23 rfl rfl
theorem dX0_seenBy_0 : decode cX0_seenBy 0 = .ok (.iconst 0, 1) := dk_3 (dk_at dksX0_seenBy_0 0 rfl rfl)
theorem dX0_seenBy_1 : decode cX0_seenBy 1 = .ok (.istore_n 3, 1) := dk_62 (dk_at dksX0_seenBy_0 1 rfl rfl)
theorem dX0_seenBy_2 : decode cX0_seenBy 2 = .ok (.iconst 0, 1) := dk_3 (dk_at dksX0_seenBy_0 2 rfl rfl)
theorem dX0_seenBy_3 : decode cX0_seenBy 3 = .ok (.istore 4, 2) := dk_54 4 (dk_at dksX0_seenBy_0 3 rfl rfl)
theorem dX0_seenBy_5 : decode cX0_seenBy 5 = .ok (.iload 4, 2) := dk_21 4 (dk_at dksX0_seenBy_0 5 rfl rfl)
theorem dX0_seenBy_7 : decode cX0_seenBy 7 = .ok (.aload_n 0, 1) := dk_42 (dk_at dksX0_seenBy_0 7 rfl rfl)
theorem dX0_seenBy_8 : decode cX0_seenBy 8 = .ok (.getfield 203, 3) := dk_180 0 203 (dk_at dksX0_seenBy_0 8 rfl rfl)
theorem dX0_seenBy_11 : decode cX0_seenBy 11 = .ok (.if_icmp .ge 28, 3) := dk_162 0 28 (dk_at dksX0_seenBy_0 11 rfl rfl)
theorem dX0_seenBy_14 : decode cX0_seenBy 14 = .ok (.aload_n 0, 1) := dk_42 (dk_at dksX0_seenBy_0 14 rfl rfl)
theorem dX0_seenBy_15 : decode cX0_seenBy 15 = .ok (.aload_n 1, 1) := dk_43 (dk_at dksX0_seenBy_0 15 rfl rfl)
theorem dX0_seenBy_16 : decode cX0_seenBy 16 = .ok (.iload_n 2, 1) := dk_28 (dk_at dksX0_seenBy_0 16 rfl rfl)
theorem dX0_seenBy_17 : decode cX0_seenBy 17 = .ok (.iload 4, 2) := dk_21 4 (dk_at dksX0_seenBy_0 17 rfl rfl)
theorem dX0_seenBy_19 : decode cX0_seenBy 19 = .ok (.invokevirtual 256, 3) := dk_182 1 0 (dk_at dksX0_seenBy_0 19 rfl rfl)
theorem dX0_seenBy_22 : decode cX0_seenBy 22 = .ok (.iconst (-1), 1) := dk_2 (dk_at dksX0_seenBy_0 22 rfl rfl)
theorem dX0_seenBy_23 : decode cX0_seenBy 23 = .ok (.if_icmp .ne 10, 3) := dk_160 0 10 (dk_at dksX0_seenBy_1 0 rfl rfl)
theorem dX0_seenBy_26 : decode cX0_seenBy 26 = .ok (.iload_n 3, 1) := dk_29 (dk_at dksX0_seenBy_1 3 rfl rfl)
theorem dX0_seenBy_27 : decode cX0_seenBy 27 = .ok (.iconst 1, 1) := dk_4 (dk_at dksX0_seenBy_1 4 rfl rfl)
theorem dX0_seenBy_28 : decode cX0_seenBy 28 = .ok (.iload 4, 2) := dk_21 4 (dk_at dksX0_seenBy_1 5 rfl rfl)
theorem dX0_seenBy_30 : decode cX0_seenBy 30 = .ok (.ishl, 1) := dk_120 (dk_at dksX0_seenBy_1 7 rfl rfl)
theorem dX0_seenBy_31 : decode cX0_seenBy 31 = .ok (.ior, 1) := dk_128 (dk_at dksX0_seenBy_1 8 rfl rfl)
theorem dX0_seenBy_32 : decode cX0_seenBy 32 = .ok (.istore_n 3, 1) := dk_62 (dk_at dksX0_seenBy_1 9 rfl rfl)
theorem dX0_seenBy_33 : decode cX0_seenBy 33 = .ok (.iinc 4 1, 3) := dk_132 4 1 (dk_at dksX0_seenBy_1 10 rfl rfl)
theorem dX0_seenBy_36 : decode cX0_seenBy 36 = .ok (.goto (-31), 3) := dk_167 255 225 (dk_at dksX0_seenBy_1 13 rfl rfl)
theorem dX0_seenBy_39 : decode cX0_seenBy 39 = .ok (.iload_n 3, 1) := dk_29 (dk_at dksX0_seenBy_1 16 rfl rfl)
theorem dX0_seenBy_40 : decode cX0_seenBy 40 = .ok (.ireturn, 1) := dk_172 (dk_at dksX0_seenBy_1 17 rfl rfl)
abbrev cX0_worth : ByteArray := prog_1_method_29_code
def yX0_worth : MethodName := ⟨RX0, "worth", "(II)I"⟩
def dkwX0_worth_1 : List UInt8 := [182, 1, 28, 167, 0, 5, 16, 251, 172]
abbrev dktX0_worth_1 : List UInt8 := dkwX0_worth_1 ++ []
def dkwX0_worth_0 : List UInt8 := [42, 27, 28, 182, 0, 173, 153, 0, 22, 42, 42, 180, 0, 22, 27, 182, 0, 150, 192, 0, 122, 28]
abbrev dktX0_worth_0 : List UInt8 := dkwX0_worth_0 ++ dktX0_worth_1
theorem dksX0_worth_0 : cX0_worth.data.toList.drop 0 = dktX0_worth_0 := by decide +kernel
theorem dksX0_worth_1 : cX0_worth.data.toList.drop 22 = dktX0_worth_1 := dk_seg dksX0_worth_0 22 rfl rfl
theorem dX0_worth_0 : decode cX0_worth 0 = .ok (.aload_n 0, 1) := dk_42 (dk_at dksX0_worth_0 0 rfl rfl)
theorem dX0_worth_1 : decode cX0_worth 1 = .ok (.iload_n 1, 1) := dk_27 (dk_at dksX0_worth_0 1 rfl rfl)
theorem dX0_worth_2 : decode cX0_worth 2 = .ok (.iload_n 2, 1) := dk_28 (dk_at dksX0_worth_0 2 rfl rfl)
theorem dX0_worth_3 : decode cX0_worth 3 = .ok (.invokevirtual 173, 3) := dk_182 0 173 (dk_at dksX0_worth_0 3 rfl rfl)
theorem dX0_worth_6 : decode cX0_worth 6 = .ok (.ifCond .eq 22, 3) := dk_153 0 22 (dk_at dksX0_worth_0 6 rfl rfl)
theorem dX0_worth_9 : decode cX0_worth 9 = .ok (.aload_n 0, 1) := dk_42 (dk_at dksX0_worth_0 9 rfl rfl)
theorem dX0_worth_10 : decode cX0_worth 10 = .ok (.aload_n 0, 1) := dk_42 (dk_at dksX0_worth_0 10 rfl rfl)
theorem dX0_worth_11 : decode cX0_worth 11 = .ok (.getfield 22, 3) := dk_180 0 22 (dk_at dksX0_worth_0 11 rfl rfl)
theorem dX0_worth_14 : decode cX0_worth 14 = .ok (.iload_n 1, 1) := dk_27 (dk_at dksX0_worth_0 14 rfl rfl)
theorem dX0_worth_15 : decode cX0_worth 15 = .ok (.invokevirtual 150, 3) := dk_182 0 150 (dk_at dksX0_worth_0 15 rfl rfl)
theorem dX0_worth_18 : decode cX0_worth 18 = .ok (.checkcast 122, 3) := dk_192 0 122 (dk_at dksX0_worth_0 18 rfl rfl)
theorem dX0_worth_21 : decode cX0_worth 21 = .ok (.iload_n 2, 1) := dk_28 (dk_at dksX0_worth_0 21 rfl rfl)
theorem dX0_worth_22 : decode cX0_worth 22 = .ok (.invokevirtual 284, 3) := dk_182 1 28 (dk_at dksX0_worth_1 0 rfl rfl)
theorem dX0_worth_25 : decode cX0_worth 25 = .ok (.goto 5, 3) := dk_167 0 5 (dk_at dksX0_worth_1 3 rfl rfl)
theorem dX0_worth_28 : decode cX0_worth 28 = .ok (.bipush (-5), 2) := dk_16 251 (dk_at dksX0_worth_1 6 rfl rfl)
theorem dX0_worth_30 : decode cX0_worth 30 = .ok (.ireturn, 1) := dk_172 (dk_at dksX0_worth_1 8 rfl rfl)
abbrev cX0_worthOf : ByteArray := prog_1_method_28_code
def yX0_worthOf : MethodName := ⟨RX0, "worthOf", "(LOverTheHeads$Row;I)I"⟩
def dkwX0_worthOf_2 : List UInt8 := [167, 255, 222, 29, 172]
abbrev dktX0_worthOf_2 : List UInt8 := dkwX0_worthOf_2 ++ []
def dkwX0_worthOf_1 : List UInt8 := [21, 5, 122, 4, 126, 4, 160, 0, 14, 29, 42, 43, 28, 21, 5, 182, 1, 25, 96, 62, 132, 5, 1]
abbrev dktX0_worthOf_1 : List UInt8 := dkwX0_worthOf_1 ++ dktX0_worthOf_2
def dkwX0_worthOf_0 : List UInt8 := [3, 62, 42, 43, 28, 182, 1, 4, 54, 4, 3, 54, 5, 21, 5, 42, 180, 0, 203, 162, 0, 31, 21, 4]
abbrev dktX0_worthOf_0 : List UInt8 := dkwX0_worthOf_0 ++ dktX0_worthOf_1
theorem dksX0_worthOf_0 : cX0_worthOf.data.toList.drop 0 = dktX0_worthOf_0 := by decide +kernel
theorem dksX0_worthOf_1 : cX0_worthOf.data.toList.drop 24 = dktX0_worthOf_1 := dk_seg dksX0_worthOf_0 24 rfl rfl
theorem dksX0_worthOf_2 : cX0_worthOf.data.toList.drop 47 = dktX0_worthOf_2 := dk_seg dksX0_worthOf_1 23 rfl rfl
theorem dX0_worthOf_0 : decode cX0_worthOf 0 = .ok (.iconst 0, 1) := dk_3 (dk_at dksX0_worthOf_0 0 rfl rfl)
theorem dX0_worthOf_1 : decode cX0_worthOf 1 = .ok (.istore_n 3, 1) := dk_62 (dk_at dksX0_worthOf_0 1 rfl rfl)
theorem dX0_worthOf_2 : decode cX0_worthOf 2 = .ok (.aload_n 0, 1) := dk_42 (dk_at dksX0_worthOf_0 2 rfl rfl)
theorem dX0_worthOf_3 : decode cX0_worthOf 3 = .ok (.aload_n 1, 1) := dk_43 (dk_at dksX0_worthOf_0 3 rfl rfl)
theorem dX0_worthOf_4 : decode cX0_worthOf 4 = .ok (.iload_n 2, 1) := dk_28 (dk_at dksX0_worthOf_0 4 rfl rfl)
theorem dX0_worthOf_5 : decode cX0_worthOf 5 = .ok (.invokevirtual 260, 3) := dk_182 1 4 (dk_at dksX0_worthOf_0 5 rfl rfl)
theorem dX0_worthOf_8 : decode cX0_worthOf 8 = .ok (.istore 4, 2) := dk_54 4 (dk_at dksX0_worthOf_0 8 rfl rfl)
theorem dX0_worthOf_10 : decode cX0_worthOf 10 = .ok (.iconst 0, 1) := dk_3 (dk_at dksX0_worthOf_0 10 rfl rfl)
theorem dX0_worthOf_11 : decode cX0_worthOf 11 = .ok (.istore 5, 2) := dk_54 5 (dk_at dksX0_worthOf_0 11 rfl rfl)
theorem dX0_worthOf_13 : decode cX0_worthOf 13 = .ok (.iload 5, 2) := dk_21 5 (dk_at dksX0_worthOf_0 13 rfl rfl)
theorem dX0_worthOf_15 : decode cX0_worthOf 15 = .ok (.aload_n 0, 1) := dk_42 (dk_at dksX0_worthOf_0 15 rfl rfl)
theorem dX0_worthOf_16 : decode cX0_worthOf 16 = .ok (.getfield 203, 3) := dk_180 0 203 (dk_at dksX0_worthOf_0 16 rfl rfl)
theorem dX0_worthOf_19 : decode cX0_worthOf 19 = .ok (.if_icmp .ge 31, 3) := dk_162 0 31 (dk_at dksX0_worthOf_0 19 rfl rfl)
theorem dX0_worthOf_22 : decode cX0_worthOf 22 = .ok (.iload 4, 2) := dk_21 4 (dk_at dksX0_worthOf_0 22 rfl rfl)
theorem dX0_worthOf_24 : decode cX0_worthOf 24 = .ok (.iload 5, 2) := dk_21 5 (dk_at dksX0_worthOf_1 0 rfl rfl)
theorem dX0_worthOf_26 : decode cX0_worthOf 26 = .ok (.ishr, 1) := dk_122 (dk_at dksX0_worthOf_1 2 rfl rfl)
theorem dX0_worthOf_27 : decode cX0_worthOf 27 = .ok (.iconst 1, 1) := dk_4 (dk_at dksX0_worthOf_1 3 rfl rfl)
theorem dX0_worthOf_28 : decode cX0_worthOf 28 = .ok (.iand, 1) := dk_126 (dk_at dksX0_worthOf_1 4 rfl rfl)
theorem dX0_worthOf_29 : decode cX0_worthOf 29 = .ok (.iconst 1, 1) := dk_4 (dk_at dksX0_worthOf_1 5 rfl rfl)
theorem dX0_worthOf_30 : decode cX0_worthOf 30 = .ok (.if_icmp .ne 14, 3) := dk_160 0 14 (dk_at dksX0_worthOf_1 6 rfl rfl)
theorem dX0_worthOf_33 : decode cX0_worthOf 33 = .ok (.iload_n 3, 1) := dk_29 (dk_at dksX0_worthOf_1 9 rfl rfl)
theorem dX0_worthOf_34 : decode cX0_worthOf 34 = .ok (.aload_n 0, 1) := dk_42 (dk_at dksX0_worthOf_1 10 rfl rfl)
theorem dX0_worthOf_35 : decode cX0_worthOf 35 = .ok (.aload_n 1, 1) := dk_43 (dk_at dksX0_worthOf_1 11 rfl rfl)
theorem dX0_worthOf_36 : decode cX0_worthOf 36 = .ok (.iload_n 2, 1) := dk_28 (dk_at dksX0_worthOf_1 12 rfl rfl)
theorem dX0_worthOf_37 : decode cX0_worthOf 37 = .ok (.iload 5, 2) := dk_21 5 (dk_at dksX0_worthOf_1 13 rfl rfl)
theorem dX0_worthOf_39 : decode cX0_worthOf 39 = .ok (.invokevirtual 281, 3) := dk_182 1 25 (dk_at dksX0_worthOf_1 15 rfl rfl)
theorem dX0_worthOf_42 : decode cX0_worthOf 42 = .ok (.iadd, 1) := dk_96 (dk_at dksX0_worthOf_1 18 rfl rfl)
theorem dX0_worthOf_43 : decode cX0_worthOf 43 = .ok (.istore_n 3, 1) := dk_62 (dk_at dksX0_worthOf_1 19 rfl rfl)
theorem dX0_worthOf_44 : decode cX0_worthOf 44 = .ok (.iinc 5 1, 3) := dk_132 5 1 (dk_at dksX0_worthOf_1 20 rfl rfl)
theorem dX0_worthOf_47 : decode cX0_worthOf 47 = .ok (.goto (-34), 3) := dk_167 255 222 (dk_at dksX0_worthOf_2 0 rfl rfl)
theorem dX0_worthOf_50 : decode cX0_worthOf 50 = .ok (.iload_n 3, 1) := dk_29 (dk_at dksX0_worthOf_2 3 rfl rfl)
theorem dX0_worthOf_51 : decode cX0_worthOf 51 = .ok (.ireturn, 1) := dk_172 (dk_at dksX0_worthOf_2 4 rfl rfl)
abbrev cX0_likes : ByteArray := prog_1_method_27_code
def yX0_likes : MethodName := ⟨RX0, "likes", "(LOverTheHeads$Row;II)I"⟩
def dkwX0_likes_1 : List UInt8 := [182, 0, 187, 43, 180, 0, 177, 28, 51, 182, 1, 21, 172]
abbrev dktX0_likes_1 : List UInt8 := dkwX0_likes_1 ++ []
def dkwX0_likes_0 : List UInt8 := [42, 3, 42, 180, 0, 38, 29, 46, 42, 180, 0, 35, 29, 46, 43, 180, 0, 228, 43, 28, 182, 0, 183, 43]
abbrev dktX0_likes_0 : List UInt8 := dkwX0_likes_0 ++ dktX0_likes_1
theorem dksX0_likes_0 : cX0_likes.data.toList.drop 0 = dktX0_likes_0 := by decide +kernel
theorem dksX0_likes_1 : cX0_likes.data.toList.drop 24 = dktX0_likes_1 := dk_seg dksX0_likes_0 24 rfl rfl
theorem dX0_likes_0 : decode cX0_likes 0 = .ok (.aload_n 0, 1) := dk_42 (dk_at dksX0_likes_0 0 rfl rfl)
theorem dX0_likes_1 : decode cX0_likes 1 = .ok (.iconst 0, 1) := dk_3 (dk_at dksX0_likes_0 1 rfl rfl)
theorem dX0_likes_2 : decode cX0_likes 2 = .ok (.aload_n 0, 1) := dk_42 (dk_at dksX0_likes_0 2 rfl rfl)
theorem dX0_likes_3 : decode cX0_likes 3 = .ok (.getfield 38, 3) := dk_180 0 38 (dk_at dksX0_likes_0 3 rfl rfl)
theorem dX0_likes_6 : decode cX0_likes 6 = .ok (.iload_n 3, 1) := dk_29 (dk_at dksX0_likes_0 6 rfl rfl)
theorem dX0_likes_7 : decode cX0_likes 7 = .ok (.iaload, 1) := dk_46 (dk_at dksX0_likes_0 7 rfl rfl)
theorem dX0_likes_8 : decode cX0_likes 8 = .ok (.aload_n 0, 1) := dk_42 (dk_at dksX0_likes_0 8 rfl rfl)
theorem dX0_likes_9 : decode cX0_likes 9 = .ok (.getfield 35, 3) := dk_180 0 35 (dk_at dksX0_likes_0 9 rfl rfl)
theorem dX0_likes_12 : decode cX0_likes 12 = .ok (.iload_n 3, 1) := dk_29 (dk_at dksX0_likes_0 12 rfl rfl)
theorem dX0_likes_13 : decode cX0_likes 13 = .ok (.iaload, 1) := dk_46 (dk_at dksX0_likes_0 13 rfl rfl)
theorem dX0_likes_14 : decode cX0_likes 14 = .ok (.aload_n 1, 1) := dk_43 (dk_at dksX0_likes_0 14 rfl rfl)
theorem dX0_likes_15 : decode cX0_likes 15 = .ok (.getfield 228, 3) := dk_180 0 228 (dk_at dksX0_likes_0 15 rfl rfl)
theorem dX0_likes_18 : decode cX0_likes 18 = .ok (.aload_n 1, 1) := dk_43 (dk_at dksX0_likes_0 18 rfl rfl)
theorem dX0_likes_19 : decode cX0_likes 19 = .ok (.iload_n 2, 1) := dk_28 (dk_at dksX0_likes_0 19 rfl rfl)
theorem dX0_likes_20 : decode cX0_likes 20 = .ok (.invokevirtual 183, 3) := dk_182 0 183 (dk_at dksX0_likes_0 20 rfl rfl)
theorem dX0_likes_23 : decode cX0_likes 23 = .ok (.aload_n 1, 1) := dk_43 (dk_at dksX0_likes_0 23 rfl rfl)
theorem dX0_likes_24 : decode cX0_likes 24 = .ok (.invokevirtual 187, 3) := dk_182 0 187 (dk_at dksX0_likes_1 0 rfl rfl)
theorem dX0_likes_27 : decode cX0_likes 27 = .ok (.aload_n 1, 1) := dk_43 (dk_at dksX0_likes_1 3 rfl rfl)
theorem dX0_likes_28 : decode cX0_likes 28 = .ok (.getfield 177, 3) := dk_180 0 177 (dk_at dksX0_likes_1 4 rfl rfl)
theorem dX0_likes_31 : decode cX0_likes 31 = .ok (.iload_n 2, 1) := dk_28 (dk_at dksX0_likes_1 7 rfl rfl)
theorem dX0_likes_32 : decode cX0_likes 32 = .ok (.baload, 1) := dk_51 (dk_at dksX0_likes_1 8 rfl rfl)
theorem dX0_likes_33 : decode cX0_likes 33 = .ok (.invokevirtual 277, 3) := dk_182 1 21 (dk_at dksX0_likes_1 9 rfl rfl)
theorem dX0_likes_36 : decode cX0_likes 36 = .ok (.ireturn, 1) := dk_172 (dk_at dksX0_likes_1 12 rfl rfl)
abbrev cX0_says : ByteArray := prog_1_method_26_code
def yX0_says : MethodName := ⟨RX0, "says", "(IIIIIII)I"⟩
def dkwX0_says_3 : List UInt8 := [180, 0, 47, 185, 1, 8, 2, 0, 184, 1, 14, 184, 1, 18, 172]
abbrev dktX0_says_3 : List UInt8 := dkwX0_says_3 ++ []
def dkwX0_says_2 : List UInt8 := [27, 154, 0, 8, 16, 99, 167, 0, 6, 17, 3, 231, 42, 180, 0, 87, 42, 180, 0, 213, 50, 27, 50, 42]
abbrev dktX0_says_2 : List UInt8 := dkwX0_says_2 ++ dktX0_says_3
def dkwX0_says_1 : List UInt8 := [180, 0, 47, 6, 21, 5, 79, 42, 180, 0, 47, 7, 21, 6, 79, 42, 180, 0, 47, 8, 21, 7, 79, 3]
abbrev dktX0_says_1 : List UInt8 := dkwX0_says_1 ++ dktX0_says_2
def dkwX0_says_0 : List UInt8 := [42, 180, 0, 47, 3, 28, 79, 42, 180, 0, 47, 4, 29, 79, 42, 180, 0, 47, 5, 21, 4, 79, 42]
abbrev dktX0_says_0 : List UInt8 := dkwX0_says_0 ++ dktX0_says_1
theorem dksX0_says_0 : cX0_says.data.toList.drop 0 = dktX0_says_0 := by decide +kernel
theorem dksX0_says_1 : cX0_says.data.toList.drop 23 = dktX0_says_1 := dk_seg dksX0_says_0 23 rfl rfl
theorem dksX0_says_2 : cX0_says.data.toList.drop 47 = dktX0_says_2 := dk_seg dksX0_says_1 24 rfl rfl
theorem dksX0_says_3 : cX0_says.data.toList.drop 71 = dktX0_says_3 := dk_seg dksX0_says_2 24 rfl rfl
theorem dX0_says_0 : decode cX0_says 0 = .ok (.aload_n 0, 1) := dk_42 (dk_at dksX0_says_0 0 rfl rfl)
theorem dX0_says_1 : decode cX0_says 1 = .ok (.getfield 47, 3) := dk_180 0 47 (dk_at dksX0_says_0 1 rfl rfl)
theorem dX0_says_4 : decode cX0_says 4 = .ok (.iconst 0, 1) := dk_3 (dk_at dksX0_says_0 4 rfl rfl)
theorem dX0_says_5 : decode cX0_says 5 = .ok (.iload_n 2, 1) := dk_28 (dk_at dksX0_says_0 5 rfl rfl)
theorem dX0_says_6 : decode cX0_says 6 = .ok (.iastore, 1) := dk_79 (dk_at dksX0_says_0 6 rfl rfl)
theorem dX0_says_7 : decode cX0_says 7 = .ok (.aload_n 0, 1) := dk_42 (dk_at dksX0_says_0 7 rfl rfl)
theorem dX0_says_8 : decode cX0_says 8 = .ok (.getfield 47, 3) := dk_180 0 47 (dk_at dksX0_says_0 8 rfl rfl)
theorem dX0_says_11 : decode cX0_says 11 = .ok (.iconst 1, 1) := dk_4 (dk_at dksX0_says_0 11 rfl rfl)
theorem dX0_says_12 : decode cX0_says 12 = .ok (.iload_n 3, 1) := dk_29 (dk_at dksX0_says_0 12 rfl rfl)
theorem dX0_says_13 : decode cX0_says 13 = .ok (.iastore, 1) := dk_79 (dk_at dksX0_says_0 13 rfl rfl)
theorem dX0_says_14 : decode cX0_says 14 = .ok (.aload_n 0, 1) := dk_42 (dk_at dksX0_says_0 14 rfl rfl)
theorem dX0_says_15 : decode cX0_says 15 = .ok (.getfield 47, 3) := dk_180 0 47 (dk_at dksX0_says_0 15 rfl rfl)
theorem dX0_says_18 : decode cX0_says 18 = .ok (.iconst 2, 1) := dk_5 (dk_at dksX0_says_0 18 rfl rfl)
theorem dX0_says_19 : decode cX0_says 19 = .ok (.iload 4, 2) := dk_21 4 (dk_at dksX0_says_0 19 rfl rfl)
theorem dX0_says_21 : decode cX0_says 21 = .ok (.iastore, 1) := dk_79 (dk_at dksX0_says_0 21 rfl rfl)
theorem dX0_says_22 : decode cX0_says 22 = .ok (.aload_n 0, 1) := dk_42 (dk_at dksX0_says_0 22 rfl rfl)
theorem dX0_says_23 : decode cX0_says 23 = .ok (.getfield 47, 3) := dk_180 0 47 (dk_at dksX0_says_1 0 rfl rfl)
theorem dX0_says_26 : decode cX0_says 26 = .ok (.iconst 3, 1) := dk_6 (dk_at dksX0_says_1 3 rfl rfl)
theorem dX0_says_27 : decode cX0_says 27 = .ok (.iload 5, 2) := dk_21 5 (dk_at dksX0_says_1 4 rfl rfl)
theorem dX0_says_29 : decode cX0_says 29 = .ok (.iastore, 1) := dk_79 (dk_at dksX0_says_1 6 rfl rfl)
theorem dX0_says_30 : decode cX0_says 30 = .ok (.aload_n 0, 1) := dk_42 (dk_at dksX0_says_1 7 rfl rfl)
theorem dX0_says_31 : decode cX0_says 31 = .ok (.getfield 47, 3) := dk_180 0 47 (dk_at dksX0_says_1 8 rfl rfl)
theorem dX0_says_34 : decode cX0_says 34 = .ok (.iconst 4, 1) := dk_7 (dk_at dksX0_says_1 11 rfl rfl)
theorem dX0_says_35 : decode cX0_says 35 = .ok (.iload 6, 2) := dk_21 6 (dk_at dksX0_says_1 12 rfl rfl)
theorem dX0_says_37 : decode cX0_says 37 = .ok (.iastore, 1) := dk_79 (dk_at dksX0_says_1 14 rfl rfl)
theorem dX0_says_38 : decode cX0_says 38 = .ok (.aload_n 0, 1) := dk_42 (dk_at dksX0_says_1 15 rfl rfl)
theorem dX0_says_39 : decode cX0_says 39 = .ok (.getfield 47, 3) := dk_180 0 47 (dk_at dksX0_says_1 16 rfl rfl)
theorem dX0_says_42 : decode cX0_says 42 = .ok (.iconst 5, 1) := dk_8 (dk_at dksX0_says_1 19 rfl rfl)
theorem dX0_says_43 : decode cX0_says 43 = .ok (.iload 7, 2) := dk_21 7 (dk_at dksX0_says_1 20 rfl rfl)
theorem dX0_says_45 : decode cX0_says 45 = .ok (.iastore, 1) := dk_79 (dk_at dksX0_says_1 22 rfl rfl)
theorem dX0_says_46 : decode cX0_says 46 = .ok (.iconst 0, 1) := dk_3 (dk_at dksX0_says_1 23 rfl rfl)
theorem dX0_says_47 : decode cX0_says 47 = .ok (.iload_n 1, 1) := dk_27 (dk_at dksX0_says_2 0 rfl rfl)
theorem dX0_says_48 : decode cX0_says 48 = .ok (.ifCond .ne 8, 3) := dk_154 0 8 (dk_at dksX0_says_2 1 rfl rfl)
theorem dX0_says_51 : decode cX0_says 51 = .ok (.bipush 99, 2) := dk_16 99 (dk_at dksX0_says_2 4 rfl rfl)
theorem dX0_says_53 : decode cX0_says 53 = .ok (.goto 6, 3) := dk_167 0 6 (dk_at dksX0_says_2 6 rfl rfl)
theorem dX0_says_56 : decode cX0_says 56 = .ok (.sipush 999, 3) := dk_17 3 231 (dk_at dksX0_says_2 9 rfl rfl)
theorem dX0_says_59 : decode cX0_says 59 = .ok (.aload_n 0, 1) := dk_42 (dk_at dksX0_says_2 12 rfl rfl)
theorem dX0_says_60 : decode cX0_says 60 = .ok (.getfield 87, 3) := dk_180 0 87 (dk_at dksX0_says_2 13 rfl rfl)
theorem dX0_says_63 : decode cX0_says 63 = .ok (.aload_n 0, 1) := dk_42 (dk_at dksX0_says_2 16 rfl rfl)
theorem dX0_says_64 : decode cX0_says 64 = .ok (.getfield 213, 3) := dk_180 0 213 (dk_at dksX0_says_2 17 rfl rfl)
theorem dX0_says_67 : decode cX0_says 67 = .ok (.aaload, 1) := dk_50 (dk_at dksX0_says_2 20 rfl rfl)
theorem dX0_says_68 : decode cX0_says 68 = .ok (.iload_n 1, 1) := dk_27 (dk_at dksX0_says_2 21 rfl rfl)
theorem dX0_says_69 : decode cX0_says 69 = .ok (.aaload, 1) := dk_50 (dk_at dksX0_says_2 22 rfl rfl)
theorem dX0_says_70 : decode cX0_says 70 = .ok (.aload_n 0, 1) := dk_42 (dk_at dksX0_says_2 23 rfl rfl)
theorem dX0_says_71 : decode cX0_says 71 = .ok (.getfield 47, 3) := dk_180 0 47 (dk_at dksX0_says_3 0 rfl rfl)
theorem dX0_says_74 : decode cX0_says 74 = .ok (.invokeinterface 264 2, 5) := by decide +kernel
theorem dX0_says_79 : decode cX0_says 79 = .ok (.invokestatic 270, 3) := dk_184 1 14 (dk_at dksX0_says_3 8 rfl rfl)
theorem dX0_says_82 : decode cX0_says 82 = .ok (.invokestatic 274, 3) := dk_184 1 18 (dk_at dksX0_says_3 11 rfl rfl)
theorem dX0_says_85 : decode cX0_says 85 = .ok (.ireturn, 1) := dk_172 (dk_at dksX0_says_3 14 rfl rfl)
abbrev cX0_price : ByteArray := prog_1_method_32_code
def yX0_price : MethodName := ⟨RX0, "price", "(II)I"⟩
def dkwX0_price_2 : List UInt8 := [51, 182, 1, 21, 172]
abbrev dktX0_price_2 : List UInt8 := dkwX0_price_2 ++ []
def dkwX0_price_1 : List UInt8 := [42, 4, 42, 45, 28, 182, 1, 28, 3, 27, 45, 28, 182, 0, 183, 45, 182, 0, 187, 45, 180, 0, 177, 28]
abbrev dktX0_price_1 : List UInt8 := dkwX0_price_1 ++ dktX0_price_2
def dkwX0_price_0 : List UInt8 := [42, 27, 28, 182, 0, 173, 154, 0, 6, 16, 251, 172, 42, 180, 0, 22, 27, 182, 0, 150, 192, 0, 122, 78]
abbrev dktX0_price_0 : List UInt8 := dkwX0_price_0 ++ dktX0_price_1
theorem dksX0_price_0 : cX0_price.data.toList.drop 0 = dktX0_price_0 := by decide +kernel
theorem dksX0_price_1 : cX0_price.data.toList.drop 24 = dktX0_price_1 := dk_seg dksX0_price_0 24 rfl rfl
theorem dksX0_price_2 : cX0_price.data.toList.drop 48 = dktX0_price_2 := dk_seg dksX0_price_1 24 rfl rfl
theorem dX0_price_0 : decode cX0_price 0 = .ok (.aload_n 0, 1) := dk_42 (dk_at dksX0_price_0 0 rfl rfl)
theorem dX0_price_1 : decode cX0_price 1 = .ok (.iload_n 1, 1) := dk_27 (dk_at dksX0_price_0 1 rfl rfl)
theorem dX0_price_2 : decode cX0_price 2 = .ok (.iload_n 2, 1) := dk_28 (dk_at dksX0_price_0 2 rfl rfl)
theorem dX0_price_3 : decode cX0_price 3 = .ok (.invokevirtual 173, 3) := dk_182 0 173 (dk_at dksX0_price_0 3 rfl rfl)
theorem dX0_price_6 : decode cX0_price 6 = .ok (.ifCond .ne 6, 3) := dk_154 0 6 (dk_at dksX0_price_0 6 rfl rfl)
theorem dX0_price_9 : decode cX0_price 9 = .ok (.bipush (-5), 2) := dk_16 251 (dk_at dksX0_price_0 9 rfl rfl)
theorem dX0_price_11 : decode cX0_price 11 = .ok (.ireturn, 1) := dk_172 (dk_at dksX0_price_0 11 rfl rfl)
theorem dX0_price_12 : decode cX0_price 12 = .ok (.aload_n 0, 1) := dk_42 (dk_at dksX0_price_0 12 rfl rfl)
theorem dX0_price_13 : decode cX0_price 13 = .ok (.getfield 22, 3) := dk_180 0 22 (dk_at dksX0_price_0 13 rfl rfl)
theorem dX0_price_16 : decode cX0_price 16 = .ok (.iload_n 1, 1) := dk_27 (dk_at dksX0_price_0 16 rfl rfl)
theorem dX0_price_17 : decode cX0_price 17 = .ok (.invokevirtual 150, 3) := dk_182 0 150 (dk_at dksX0_price_0 17 rfl rfl)
theorem dX0_price_20 : decode cX0_price 20 = .ok (.checkcast 122, 3) := dk_192 0 122 (dk_at dksX0_price_0 20 rfl rfl)
theorem dX0_price_23 : decode cX0_price 23 = .ok (.astore_n 3, 1) := dk_78 (dk_at dksX0_price_0 23 rfl rfl)
theorem dX0_price_24 : decode cX0_price 24 = .ok (.aload_n 0, 1) := dk_42 (dk_at dksX0_price_1 0 rfl rfl)
theorem dX0_price_25 : decode cX0_price 25 = .ok (.iconst 1, 1) := dk_4 (dk_at dksX0_price_1 1 rfl rfl)
theorem dX0_price_26 : decode cX0_price 26 = .ok (.aload_n 0, 1) := dk_42 (dk_at dksX0_price_1 2 rfl rfl)
theorem dX0_price_27 : decode cX0_price 27 = .ok (.aload_n 3, 1) := dk_45 (dk_at dksX0_price_1 3 rfl rfl)
theorem dX0_price_28 : decode cX0_price 28 = .ok (.iload_n 2, 1) := dk_28 (dk_at dksX0_price_1 4 rfl rfl)
theorem dX0_price_29 : decode cX0_price 29 = .ok (.invokevirtual 284, 3) := dk_182 1 28 (dk_at dksX0_price_1 5 rfl rfl)
theorem dX0_price_32 : decode cX0_price 32 = .ok (.iconst 0, 1) := dk_3 (dk_at dksX0_price_1 8 rfl rfl)
theorem dX0_price_33 : decode cX0_price 33 = .ok (.iload_n 1, 1) := dk_27 (dk_at dksX0_price_1 9 rfl rfl)
theorem dX0_price_34 : decode cX0_price 34 = .ok (.aload_n 3, 1) := dk_45 (dk_at dksX0_price_1 10 rfl rfl)
theorem dX0_price_35 : decode cX0_price 35 = .ok (.iload_n 2, 1) := dk_28 (dk_at dksX0_price_1 11 rfl rfl)
theorem dX0_price_36 : decode cX0_price 36 = .ok (.invokevirtual 183, 3) := dk_182 0 183 (dk_at dksX0_price_1 12 rfl rfl)
theorem dX0_price_39 : decode cX0_price 39 = .ok (.aload_n 3, 1) := dk_45 (dk_at dksX0_price_1 15 rfl rfl)
theorem dX0_price_40 : decode cX0_price 40 = .ok (.invokevirtual 187, 3) := dk_182 0 187 (dk_at dksX0_price_1 16 rfl rfl)
theorem dX0_price_43 : decode cX0_price 43 = .ok (.aload_n 3, 1) := dk_45 (dk_at dksX0_price_1 19 rfl rfl)
theorem dX0_price_44 : decode cX0_price 44 = .ok (.getfield 177, 3) := dk_180 0 177 (dk_at dksX0_price_1 20 rfl rfl)
theorem dX0_price_47 : decode cX0_price 47 = .ok (.iload_n 2, 1) := dk_28 (dk_at dksX0_price_1 23 rfl rfl)
theorem dX0_price_48 : decode cX0_price 48 = .ok (.baload, 1) := dk_51 (dk_at dksX0_price_2 0 rfl rfl)
theorem dX0_price_49 : decode cX0_price 49 = .ok (.invokevirtual 277, 3) := dk_182 1 21 (dk_at dksX0_price_2 1 rfl rfl)
theorem dX0_price_52 : decode cX0_price 52 = .ok (.ireturn, 1) := dk_172 (dk_at dksX0_price_2 4 rfl rfl)
abbrev cX0_all : ByteArray := prog_1_method_33_code
def yX0_all : MethodName := ⟨RX0, "all", "(I)I"⟩
def dkwX0_all_6 : List UInt8 := [154, 0, 7, 4, 167, 0, 4, 3, 96, 61, 132, 4, 1, 167, 255, 137, 132, 3, 1, 167, 255, 117, 28, 172]
abbrev dktX0_all_6 : List UInt8 := dkwX0_all_6 ++ []
def dkwX0_all_5 : List UInt8 := [21, 5, 4, 42, 180, 0, 203, 120, 4, 100, 160, 0, 7, 4, 167, 0, 17, 3, 167, 0, 13, 21, 5]
abbrev dktX0_all_5 : List UInt8 := dkwX0_all_5 ++ dktX0_all_6
def dkwX0_all_4 : List UInt8 := [180, 0, 22, 29, 182, 0, 150, 192, 0, 122, 21, 4, 182, 1, 28, 167, 0, 39, 27, 5, 160, 0, 24]
abbrev dktX0_all_4 : List UInt8 := dkwX0_all_4 ++ dktX0_all_5
def dkwX0_all_3 : List UInt8 := [54, 5, 28, 27, 154, 0, 13, 42, 29, 21, 4, 182, 1, 35, 167, 0, 64, 27, 4, 160, 0, 23, 42, 42]
abbrev dktX0_all_3 : List UInt8 := dkwX0_all_3 ++ dktX0_all_4
def dkwX0_all_2 : List UInt8 := [180, 0, 154, 162, 0, 106, 42, 42, 180, 0, 22, 29, 182, 0, 150, 192, 0, 122, 21, 4, 182, 1, 4]
abbrev dktX0_all_2 : List UInt8 := dkwX0_all_2 ++ dktX0_all_3
def dkwX0_all_1 : List UInt8 := [182, 0, 142, 162, 0, 134, 3, 54, 4, 21, 4, 42, 180, 0, 22, 29, 182, 0, 150, 192, 0, 122]
abbrev dktX0_all_1 : List UInt8 := dkwX0_all_1 ++ dktX0_all_2
def dkwX0_all_0 : List UInt8 := [27, 133, 9, 20, 0, 110, 184, 0, 112, 154, 0, 6, 16, 254, 172, 3, 61, 3, 62, 29, 42, 180, 0, 22]
abbrev dktX0_all_0 : List UInt8 := dkwX0_all_0 ++ dktX0_all_1
theorem dksX0_all_0 : cX0_all.data.toList.drop 0 = dktX0_all_0 := by decide +kernel
theorem dksX0_all_1 : cX0_all.data.toList.drop 24 = dktX0_all_1 := dk_seg dksX0_all_0 24 rfl rfl
theorem dksX0_all_2 : cX0_all.data.toList.drop 46 = dktX0_all_2 := dk_seg dksX0_all_1 22 rfl rfl
theorem dksX0_all_3 : cX0_all.data.toList.drop 69 = dktX0_all_3 := dk_seg dksX0_all_2 23 rfl rfl
theorem dksX0_all_4 : cX0_all.data.toList.drop 93 = dktX0_all_4 := dk_seg dksX0_all_3 24 rfl rfl
theorem dksX0_all_5 : cX0_all.data.toList.drop 116 = dktX0_all_5 := dk_seg dksX0_all_4 23 rfl rfl
theorem dksX0_all_6 : cX0_all.data.toList.drop 139 = dktX0_all_6 := dk_seg dksX0_all_5 23 rfl rfl
theorem dX0_all_0 : decode cX0_all 0 = .ok (.iload_n 1, 1) := dk_27 (dk_at dksX0_all_0 0 rfl rfl)
theorem dX0_all_1 : decode cX0_all 1 = .ok (.i2l, 1) := dk_133 (dk_at dksX0_all_0 1 rfl rfl)
theorem dX0_all_2 : decode cX0_all 2 = .ok (.lconst 0, 1) := dk_9 (dk_at dksX0_all_0 2 rfl rfl)
theorem dX0_all_3 : decode cX0_all 3 = .ok (.ldc2_w 110, 3) := dk_20 0 110 (dk_at dksX0_all_0 3 rfl rfl)
theorem dX0_all_6 : decode cX0_all 6 = .ok (.invokestatic 112, 3) := dk_184 0 112 (dk_at dksX0_all_0 6 rfl rfl)
theorem dX0_all_9 : decode cX0_all 9 = .ok (.ifCond .ne 6, 3) := dk_154 0 6 (dk_at dksX0_all_0 9 rfl rfl)
theorem dX0_all_12 : decode cX0_all 12 = .ok (.bipush (-2), 2) := dk_16 254 (dk_at dksX0_all_0 12 rfl rfl)
theorem dX0_all_14 : decode cX0_all 14 = .ok (.ireturn, 1) := dk_172 (dk_at dksX0_all_0 14 rfl rfl)
theorem dX0_all_15 : decode cX0_all 15 = .ok (.iconst 0, 1) := dk_3 (dk_at dksX0_all_0 15 rfl rfl)
theorem dX0_all_16 : decode cX0_all 16 = .ok (.istore_n 2, 1) := dk_61 (dk_at dksX0_all_0 16 rfl rfl)
theorem dX0_all_17 : decode cX0_all 17 = .ok (.iconst 0, 1) := dk_3 (dk_at dksX0_all_0 17 rfl rfl)
theorem dX0_all_18 : decode cX0_all 18 = .ok (.istore_n 3, 1) := dk_62 (dk_at dksX0_all_0 18 rfl rfl)
theorem dX0_all_19 : decode cX0_all 19 = .ok (.iload_n 3, 1) := dk_29 (dk_at dksX0_all_0 19 rfl rfl)
theorem dX0_all_20 : decode cX0_all 20 = .ok (.aload_n 0, 1) := dk_42 (dk_at dksX0_all_0 20 rfl rfl)
theorem dX0_all_21 : decode cX0_all 21 = .ok (.getfield 22, 3) := dk_180 0 22 (dk_at dksX0_all_0 21 rfl rfl)
theorem dX0_all_24 : decode cX0_all 24 = .ok (.invokevirtual 142, 3) := dk_182 0 142 (dk_at dksX0_all_1 0 rfl rfl)
theorem dX0_all_27 : decode cX0_all 27 = .ok (.if_icmp .ge 134, 3) := dk_162 0 134 (dk_at dksX0_all_1 3 rfl rfl)
theorem dX0_all_30 : decode cX0_all 30 = .ok (.iconst 0, 1) := dk_3 (dk_at dksX0_all_1 6 rfl rfl)
theorem dX0_all_31 : decode cX0_all 31 = .ok (.istore 4, 2) := dk_54 4 (dk_at dksX0_all_1 7 rfl rfl)
theorem dX0_all_33 : decode cX0_all 33 = .ok (.iload 4, 2) := dk_21 4 (dk_at dksX0_all_1 9 rfl rfl)
theorem dX0_all_35 : decode cX0_all 35 = .ok (.aload_n 0, 1) := dk_42 (dk_at dksX0_all_1 11 rfl rfl)
theorem dX0_all_36 : decode cX0_all 36 = .ok (.getfield 22, 3) := dk_180 0 22 (dk_at dksX0_all_1 12 rfl rfl)
theorem dX0_all_39 : decode cX0_all 39 = .ok (.iload_n 3, 1) := dk_29 (dk_at dksX0_all_1 15 rfl rfl)
theorem dX0_all_40 : decode cX0_all 40 = .ok (.invokevirtual 150, 3) := dk_182 0 150 (dk_at dksX0_all_1 16 rfl rfl)
theorem dX0_all_43 : decode cX0_all 43 = .ok (.checkcast 122, 3) := dk_192 0 122 (dk_at dksX0_all_1 19 rfl rfl)
theorem dX0_all_46 : decode cX0_all 46 = .ok (.getfield 154, 3) := dk_180 0 154 (dk_at dksX0_all_2 0 rfl rfl)
theorem dX0_all_49 : decode cX0_all 49 = .ok (.if_icmp .ge 106, 3) := dk_162 0 106 (dk_at dksX0_all_2 3 rfl rfl)
theorem dX0_all_52 : decode cX0_all 52 = .ok (.aload_n 0, 1) := dk_42 (dk_at dksX0_all_2 6 rfl rfl)
theorem dX0_all_53 : decode cX0_all 53 = .ok (.aload_n 0, 1) := dk_42 (dk_at dksX0_all_2 7 rfl rfl)
theorem dX0_all_54 : decode cX0_all 54 = .ok (.getfield 22, 3) := dk_180 0 22 (dk_at dksX0_all_2 8 rfl rfl)
theorem dX0_all_57 : decode cX0_all 57 = .ok (.iload_n 3, 1) := dk_29 (dk_at dksX0_all_2 11 rfl rfl)
theorem dX0_all_58 : decode cX0_all 58 = .ok (.invokevirtual 150, 3) := dk_182 0 150 (dk_at dksX0_all_2 12 rfl rfl)
theorem dX0_all_61 : decode cX0_all 61 = .ok (.checkcast 122, 3) := dk_192 0 122 (dk_at dksX0_all_2 15 rfl rfl)
theorem dX0_all_64 : decode cX0_all 64 = .ok (.iload 4, 2) := dk_21 4 (dk_at dksX0_all_2 18 rfl rfl)
theorem dX0_all_66 : decode cX0_all 66 = .ok (.invokevirtual 260, 3) := dk_182 1 4 (dk_at dksX0_all_2 20 rfl rfl)
theorem dX0_all_69 : decode cX0_all 69 = .ok (.istore 5, 2) := dk_54 5 (dk_at dksX0_all_3 0 rfl rfl)
theorem dX0_all_71 : decode cX0_all 71 = .ok (.iload_n 2, 1) := dk_28 (dk_at dksX0_all_3 2 rfl rfl)
theorem dX0_all_72 : decode cX0_all 72 = .ok (.iload_n 1, 1) := dk_27 (dk_at dksX0_all_3 3 rfl rfl)
theorem dX0_all_73 : decode cX0_all 73 = .ok (.ifCond .ne 13, 3) := dk_154 0 13 (dk_at dksX0_all_3 4 rfl rfl)
theorem dX0_all_76 : decode cX0_all 76 = .ok (.aload_n 0, 1) := dk_42 (dk_at dksX0_all_3 7 rfl rfl)
theorem dX0_all_77 : decode cX0_all 77 = .ok (.iload_n 3, 1) := dk_29 (dk_at dksX0_all_3 8 rfl rfl)
theorem dX0_all_78 : decode cX0_all 78 = .ok (.iload 4, 2) := dk_21 4 (dk_at dksX0_all_3 9 rfl rfl)
theorem dX0_all_80 : decode cX0_all 80 = .ok (.invokevirtual 291, 3) := dk_182 1 35 (dk_at dksX0_all_3 11 rfl rfl)
theorem dX0_all_83 : decode cX0_all 83 = .ok (.goto 64, 3) := dk_167 0 64 (dk_at dksX0_all_3 14 rfl rfl)
theorem dX0_all_86 : decode cX0_all 86 = .ok (.iload_n 1, 1) := dk_27 (dk_at dksX0_all_3 17 rfl rfl)
theorem dX0_all_87 : decode cX0_all 87 = .ok (.iconst 1, 1) := dk_4 (dk_at dksX0_all_3 18 rfl rfl)
theorem dX0_all_88 : decode cX0_all 88 = .ok (.if_icmp .ne 23, 3) := dk_160 0 23 (dk_at dksX0_all_3 19 rfl rfl)
theorem dX0_all_91 : decode cX0_all 91 = .ok (.aload_n 0, 1) := dk_42 (dk_at dksX0_all_3 22 rfl rfl)
theorem dX0_all_92 : decode cX0_all 92 = .ok (.aload_n 0, 1) := dk_42 (dk_at dksX0_all_3 23 rfl rfl)
theorem dX0_all_93 : decode cX0_all 93 = .ok (.getfield 22, 3) := dk_180 0 22 (dk_at dksX0_all_4 0 rfl rfl)
theorem dX0_all_96 : decode cX0_all 96 = .ok (.iload_n 3, 1) := dk_29 (dk_at dksX0_all_4 3 rfl rfl)
theorem dX0_all_97 : decode cX0_all 97 = .ok (.invokevirtual 150, 3) := dk_182 0 150 (dk_at dksX0_all_4 4 rfl rfl)
theorem dX0_all_100 : decode cX0_all 100 = .ok (.checkcast 122, 3) := dk_192 0 122 (dk_at dksX0_all_4 7 rfl rfl)
theorem dX0_all_103 : decode cX0_all 103 = .ok (.iload 4, 2) := dk_21 4 (dk_at dksX0_all_4 10 rfl rfl)
theorem dX0_all_105 : decode cX0_all 105 = .ok (.invokevirtual 284, 3) := dk_182 1 28 (dk_at dksX0_all_4 12 rfl rfl)
theorem dX0_all_108 : decode cX0_all 108 = .ok (.goto 39, 3) := dk_167 0 39 (dk_at dksX0_all_4 15 rfl rfl)
theorem dX0_all_111 : decode cX0_all 111 = .ok (.iload_n 1, 1) := dk_27 (dk_at dksX0_all_4 18 rfl rfl)
theorem dX0_all_112 : decode cX0_all 112 = .ok (.iconst 2, 1) := dk_5 (dk_at dksX0_all_4 19 rfl rfl)
theorem dX0_all_113 : decode cX0_all 113 = .ok (.if_icmp .ne 24, 3) := dk_160 0 24 (dk_at dksX0_all_4 20 rfl rfl)
theorem dX0_all_116 : decode cX0_all 116 = .ok (.iload 5, 2) := dk_21 5 (dk_at dksX0_all_5 0 rfl rfl)
theorem dX0_all_118 : decode cX0_all 118 = .ok (.iconst 1, 1) := dk_4 (dk_at dksX0_all_5 2 rfl rfl)
theorem dX0_all_119 : decode cX0_all 119 = .ok (.aload_n 0, 1) := dk_42 (dk_at dksX0_all_5 3 rfl rfl)
theorem dX0_all_120 : decode cX0_all 120 = .ok (.getfield 203, 3) := dk_180 0 203 (dk_at dksX0_all_5 4 rfl rfl)
theorem dX0_all_123 : decode cX0_all 123 = .ok (.ishl, 1) := dk_120 (dk_at dksX0_all_5 7 rfl rfl)
theorem dX0_all_124 : decode cX0_all 124 = .ok (.iconst 1, 1) := dk_4 (dk_at dksX0_all_5 8 rfl rfl)
theorem dX0_all_125 : decode cX0_all 125 = .ok (.isub, 1) := dk_100 (dk_at dksX0_all_5 9 rfl rfl)
theorem dX0_all_126 : decode cX0_all 126 = .ok (.if_icmp .ne 7, 3) := dk_160 0 7 (dk_at dksX0_all_5 10 rfl rfl)
theorem dX0_all_129 : decode cX0_all 129 = .ok (.iconst 1, 1) := dk_4 (dk_at dksX0_all_5 13 rfl rfl)
theorem dX0_all_130 : decode cX0_all 130 = .ok (.goto 17, 3) := dk_167 0 17 (dk_at dksX0_all_5 14 rfl rfl)
theorem dX0_all_133 : decode cX0_all 133 = .ok (.iconst 0, 1) := dk_3 (dk_at dksX0_all_5 17 rfl rfl)
theorem dX0_all_134 : decode cX0_all 134 = .ok (.goto 13, 3) := dk_167 0 13 (dk_at dksX0_all_5 18 rfl rfl)
theorem dX0_all_137 : decode cX0_all 137 = .ok (.iload 5, 2) := dk_21 5 (dk_at dksX0_all_5 21 rfl rfl)
theorem dX0_all_139 : decode cX0_all 139 = .ok (.ifCond .ne 7, 3) := dk_154 0 7 (dk_at dksX0_all_6 0 rfl rfl)
theorem dX0_all_142 : decode cX0_all 142 = .ok (.iconst 1, 1) := dk_4 (dk_at dksX0_all_6 3 rfl rfl)
theorem dX0_all_143 : decode cX0_all 143 = .ok (.goto 4, 3) := dk_167 0 4 (dk_at dksX0_all_6 4 rfl rfl)
theorem dX0_all_146 : decode cX0_all 146 = .ok (.iconst 0, 1) := dk_3 (dk_at dksX0_all_6 7 rfl rfl)
theorem dX0_all_147 : decode cX0_all 147 = .ok (.iadd, 1) := dk_96 (dk_at dksX0_all_6 8 rfl rfl)
theorem dX0_all_148 : decode cX0_all 148 = .ok (.istore_n 2, 1) := dk_61 (dk_at dksX0_all_6 9 rfl rfl)
theorem dX0_all_149 : decode cX0_all 149 = .ok (.iinc 4 1, 3) := dk_132 4 1 (dk_at dksX0_all_6 10 rfl rfl)
theorem dX0_all_152 : decode cX0_all 152 = .ok (.goto (-119), 3) := dk_167 255 137 (dk_at dksX0_all_6 13 rfl rfl)
theorem dX0_all_155 : decode cX0_all 155 = .ok (.iinc 3 1, 3) := dk_132 3 1 (dk_at dksX0_all_6 16 rfl rfl)
theorem dX0_all_158 : decode cX0_all 158 = .ok (.goto (-139), 3) := dk_167 255 117 (dk_at dksX0_all_6 19 rfl rfl)
theorem dX0_all_161 : decode cX0_all 161 = .ok (.iload_n 2, 1) := dk_28 (dk_at dksX0_all_6 22 rfl rfl)
theorem dX0_all_162 : decode cX0_all 162 = .ok (.ireturn, 1) := dk_172 (dk_at dksX0_all_6 23 rfl rfl)
abbrev cX0_cost : ByteArray := prog_1_method_36_code
def yX0_cost : MethodName := ⟨RX0, "cost", "()I"⟩
theorem dX0_cost_0 : decode cX0_cost 0 = .ok (.aload_n 0, 1) := by decide +kernel
theorem dX0_cost_1 : decode cX0_cost 1 = .ok (.invokevirtual 297, 3) := by decide +kernel
theorem dX0_cost_4 : decode cX0_cost 4 = .ok (.ireturn, 1) := by decide +kernel
abbrev cX0_costs : ByteArray := prog_1_method_35_code
def yX0_costs : MethodName := ⟨RX0, "costs", "()I"⟩
def dkwX0_costs_1 : List UInt8 := [132, 2, 1, 167, 255, 234, 27, 172]
abbrev dktX0_costs_1 : List UInt8 := dkwX0_costs_1 ++ []
def dkwX0_costs_0 : List UInt8 := [3, 60, 3, 61, 28, 42, 180, 0, 22, 182, 0, 142, 162, 0, 17, 27, 42, 28, 182, 1, 38, 96, 60]
abbrev dktX0_costs_0 : List UInt8 := dkwX0_costs_0 ++ dktX0_costs_1
theorem dksX0_costs_0 : cX0_costs.data.toList.drop 0 = dktX0_costs_0 := by decide +kernel
theorem dksX0_costs_1 : cX0_costs.data.toList.drop 23 = dktX0_costs_1 := dk_seg dksX0_costs_0 23 rfl rfl
theorem dX0_costs_0 : decode cX0_costs 0 = .ok (.iconst 0, 1) := dk_3 (dk_at dksX0_costs_0 0 rfl rfl)
theorem dX0_costs_1 : decode cX0_costs 1 = .ok (.istore_n 1, 1) := dk_60 (dk_at dksX0_costs_0 1 rfl rfl)
theorem dX0_costs_2 : decode cX0_costs 2 = .ok (.iconst 0, 1) := dk_3 (dk_at dksX0_costs_0 2 rfl rfl)
theorem dX0_costs_3 : decode cX0_costs 3 = .ok (.istore_n 2, 1) := dk_61 (dk_at dksX0_costs_0 3 rfl rfl)
theorem dX0_costs_4 : decode cX0_costs 4 = .ok (.iload_n 2, 1) := dk_28 (dk_at dksX0_costs_0 4 rfl rfl)
theorem dX0_costs_5 : decode cX0_costs 5 = .ok (.aload_n 0, 1) := dk_42 (dk_at dksX0_costs_0 5 rfl rfl)
theorem dX0_costs_6 : decode cX0_costs 6 = .ok (.getfield 22, 3) := dk_180 0 22 (dk_at dksX0_costs_0 6 rfl rfl)
theorem dX0_costs_9 : decode cX0_costs 9 = .ok (.invokevirtual 142, 3) := dk_182 0 142 (dk_at dksX0_costs_0 9 rfl rfl)
theorem dX0_costs_12 : decode cX0_costs 12 = .ok (.if_icmp .ge 17, 3) := dk_162 0 17 (dk_at dksX0_costs_0 12 rfl rfl)
theorem dX0_costs_15 : decode cX0_costs 15 = .ok (.iload_n 1, 1) := dk_27 (dk_at dksX0_costs_0 15 rfl rfl)
theorem dX0_costs_16 : decode cX0_costs 16 = .ok (.aload_n 0, 1) := dk_42 (dk_at dksX0_costs_0 16 rfl rfl)
theorem dX0_costs_17 : decode cX0_costs 17 = .ok (.iload_n 2, 1) := dk_28 (dk_at dksX0_costs_0 17 rfl rfl)
theorem dX0_costs_18 : decode cX0_costs 18 = .ok (.invokevirtual 294, 3) := dk_182 1 38 (dk_at dksX0_costs_0 18 rfl rfl)
theorem dX0_costs_21 : decode cX0_costs 21 = .ok (.iadd, 1) := dk_96 (dk_at dksX0_costs_0 21 rfl rfl)
theorem dX0_costs_22 : decode cX0_costs 22 = .ok (.istore_n 1, 1) := dk_60 (dk_at dksX0_costs_0 22 rfl rfl)
theorem dX0_costs_23 : decode cX0_costs 23 = .ok (.iinc 2 1, 3) := dk_132 2 1 (dk_at dksX0_costs_1 0 rfl rfl)
theorem dX0_costs_26 : decode cX0_costs 26 = .ok (.goto (-22), 3) := dk_167 255 234 (dk_at dksX0_costs_1 3 rfl rfl)
theorem dX0_costs_29 : decode cX0_costs 29 = .ok (.iload_n 1, 1) := dk_27 (dk_at dksX0_costs_1 6 rfl rfl)
theorem dX0_costs_30 : decode cX0_costs 30 = .ok (.ireturn, 1) := dk_172 (dk_at dksX0_costs_1 7 rfl rfl)
abbrev cX0_stepCost : ByteArray := prog_1_method_34_code
def yX0_stepCost : MethodName := ⟨RX0, "stepCost", "(I)I"⟩
def dkwX0_stepCost_2 : List UInt8 := [172]
abbrev dktX0_stepCost_2 : List UInt8 := dkwX0_stepCost_2 ++ []
def dkwX0_stepCost_1 : List UInt8 := [28, 154, 0, 7, 3, 167, 0, 19, 42, 5, 3, 28, 27, 3, 42, 180, 0, 26, 27, 46, 3, 182, 1, 21]
abbrev dktX0_stepCost_1 : List UInt8 := dkwX0_stepCost_1 ++ dktX0_stepCost_2
def dkwX0_stepCost_0 : List UInt8 := [42, 180, 0, 26, 27, 46, 27, 154, 0, 7, 3, 167, 0, 11, 42, 180, 0, 26, 27, 4, 100, 46, 100, 61]
abbrev dktX0_stepCost_0 : List UInt8 := dkwX0_stepCost_0 ++ dktX0_stepCost_1
theorem dksX0_stepCost_0 : cX0_stepCost.data.toList.drop 0 = dktX0_stepCost_0 := by decide +kernel
theorem dksX0_stepCost_1 : cX0_stepCost.data.toList.drop 24 = dktX0_stepCost_1 := dk_seg dksX0_stepCost_0 24 rfl rfl
theorem dksX0_stepCost_2 : cX0_stepCost.data.toList.drop 48 = dktX0_stepCost_2 := dk_seg dksX0_stepCost_1 24 rfl rfl
theorem dX0_stepCost_0 : decode cX0_stepCost 0 = .ok (.aload_n 0, 1) := dk_42 (dk_at dksX0_stepCost_0 0 rfl rfl)
theorem dX0_stepCost_1 : decode cX0_stepCost 1 = .ok (.getfield 26, 3) := dk_180 0 26 (dk_at dksX0_stepCost_0 1 rfl rfl)
theorem dX0_stepCost_4 : decode cX0_stepCost 4 = .ok (.iload_n 1, 1) := dk_27 (dk_at dksX0_stepCost_0 4 rfl rfl)
theorem dX0_stepCost_5 : decode cX0_stepCost 5 = .ok (.iaload, 1) := dk_46 (dk_at dksX0_stepCost_0 5 rfl rfl)
theorem dX0_stepCost_6 : decode cX0_stepCost 6 = .ok (.iload_n 1, 1) := dk_27 (dk_at dksX0_stepCost_0 6 rfl rfl)
theorem dX0_stepCost_7 : decode cX0_stepCost 7 = .ok (.ifCond .ne 7, 3) := dk_154 0 7 (dk_at dksX0_stepCost_0 7 rfl rfl)
theorem dX0_stepCost_10 : decode cX0_stepCost 10 = .ok (.iconst 0, 1) := dk_3 (dk_at dksX0_stepCost_0 10 rfl rfl)
theorem dX0_stepCost_11 : decode cX0_stepCost 11 = .ok (.goto 11, 3) := dk_167 0 11 (dk_at dksX0_stepCost_0 11 rfl rfl)
theorem dX0_stepCost_14 : decode cX0_stepCost 14 = .ok (.aload_n 0, 1) := dk_42 (dk_at dksX0_stepCost_0 14 rfl rfl)
theorem dX0_stepCost_15 : decode cX0_stepCost 15 = .ok (.getfield 26, 3) := dk_180 0 26 (dk_at dksX0_stepCost_0 15 rfl rfl)
theorem dX0_stepCost_18 : decode cX0_stepCost 18 = .ok (.iload_n 1, 1) := dk_27 (dk_at dksX0_stepCost_0 18 rfl rfl)
theorem dX0_stepCost_19 : decode cX0_stepCost 19 = .ok (.iconst 1, 1) := dk_4 (dk_at dksX0_stepCost_0 19 rfl rfl)
theorem dX0_stepCost_20 : decode cX0_stepCost 20 = .ok (.isub, 1) := dk_100 (dk_at dksX0_stepCost_0 20 rfl rfl)
theorem dX0_stepCost_21 : decode cX0_stepCost 21 = .ok (.iaload, 1) := dk_46 (dk_at dksX0_stepCost_0 21 rfl rfl)
theorem dX0_stepCost_22 : decode cX0_stepCost 22 = .ok (.isub, 1) := dk_100 (dk_at dksX0_stepCost_0 22 rfl rfl)
theorem dX0_stepCost_23 : decode cX0_stepCost 23 = .ok (.istore_n 2, 1) := dk_61 (dk_at dksX0_stepCost_0 23 rfl rfl)
theorem dX0_stepCost_24 : decode cX0_stepCost 24 = .ok (.iload_n 2, 1) := dk_28 (dk_at dksX0_stepCost_1 0 rfl rfl)
theorem dX0_stepCost_25 : decode cX0_stepCost 25 = .ok (.ifCond .ne 7, 3) := dk_154 0 7 (dk_at dksX0_stepCost_1 1 rfl rfl)
theorem dX0_stepCost_28 : decode cX0_stepCost 28 = .ok (.iconst 0, 1) := dk_3 (dk_at dksX0_stepCost_1 4 rfl rfl)
theorem dX0_stepCost_29 : decode cX0_stepCost 29 = .ok (.goto 19, 3) := dk_167 0 19 (dk_at dksX0_stepCost_1 5 rfl rfl)
theorem dX0_stepCost_32 : decode cX0_stepCost 32 = .ok (.aload_n 0, 1) := dk_42 (dk_at dksX0_stepCost_1 8 rfl rfl)
theorem dX0_stepCost_33 : decode cX0_stepCost 33 = .ok (.iconst 2, 1) := dk_5 (dk_at dksX0_stepCost_1 9 rfl rfl)
theorem dX0_stepCost_34 : decode cX0_stepCost 34 = .ok (.iconst 0, 1) := dk_3 (dk_at dksX0_stepCost_1 10 rfl rfl)
theorem dX0_stepCost_35 : decode cX0_stepCost 35 = .ok (.iload_n 2, 1) := dk_28 (dk_at dksX0_stepCost_1 11 rfl rfl)
theorem dX0_stepCost_36 : decode cX0_stepCost 36 = .ok (.iload_n 1, 1) := dk_27 (dk_at dksX0_stepCost_1 12 rfl rfl)
theorem dX0_stepCost_37 : decode cX0_stepCost 37 = .ok (.iconst 0, 1) := dk_3 (dk_at dksX0_stepCost_1 13 rfl rfl)
theorem dX0_stepCost_38 : decode cX0_stepCost 38 = .ok (.aload_n 0, 1) := dk_42 (dk_at dksX0_stepCost_1 14 rfl rfl)
theorem dX0_stepCost_39 : decode cX0_stepCost 39 = .ok (.getfield 26, 3) := dk_180 0 26 (dk_at dksX0_stepCost_1 15 rfl rfl)
theorem dX0_stepCost_42 : decode cX0_stepCost 42 = .ok (.iload_n 1, 1) := dk_27 (dk_at dksX0_stepCost_1 18 rfl rfl)
theorem dX0_stepCost_43 : decode cX0_stepCost 43 = .ok (.iaload, 1) := dk_46 (dk_at dksX0_stepCost_1 19 rfl rfl)
theorem dX0_stepCost_44 : decode cX0_stepCost 44 = .ok (.iconst 0, 1) := dk_3 (dk_at dksX0_stepCost_1 20 rfl rfl)
theorem dX0_stepCost_45 : decode cX0_stepCost 45 = .ok (.invokevirtual 277, 3) := dk_182 1 21 (dk_at dksX0_stepCost_1 21 rfl rfl)
theorem dX0_stepCost_48 : decode cX0_stepCost 48 = .ok (.ireturn, 1) := dk_172 (dk_at dksX0_stepCost_2 0 rfl rfl)
abbrev cX0_lawful : ByteArray := prog_1_method_37_code
def yX0_lawful : MethodName := ⟨RX0, "lawful", "(I)I"⟩
def dkwX0_lawful_2 : List UInt8 := [28, 4, 100, 46, 100, 184, 0, 223, 27, 164, 0, 5, 28, 172, 132, 2, 1, 167, 255, 210, 2, 172]
abbrev dktX0_lawful_2 : List UInt8 := dkwX0_lawful_2 ++ []
def dkwX0_lawful_1 : List UInt8 := [182, 0, 142, 162, 0, 41, 42, 180, 0, 26, 28, 46, 28, 154, 0, 7, 3, 167, 0, 11, 42, 180, 0, 26]
abbrev dktX0_lawful_1 : List UInt8 := dkwX0_lawful_1 ++ dktX0_lawful_2
def dkwX0_lawful_0 : List UInt8 := [27, 133, 9, 20, 0, 171, 184, 0, 112, 154, 0, 6, 16, 254, 172, 3, 61, 28, 42, 180, 0, 22]
abbrev dktX0_lawful_0 : List UInt8 := dkwX0_lawful_0 ++ dktX0_lawful_1
theorem dksX0_lawful_0 : cX0_lawful.data.toList.drop 0 = dktX0_lawful_0 := by decide +kernel
theorem dksX0_lawful_1 : cX0_lawful.data.toList.drop 22 = dktX0_lawful_1 := dk_seg dksX0_lawful_0 22 rfl rfl
theorem dksX0_lawful_2 : cX0_lawful.data.toList.drop 46 = dktX0_lawful_2 := dk_seg dksX0_lawful_1 24 rfl rfl
theorem dX0_lawful_0 : decode cX0_lawful 0 = .ok (.iload_n 1, 1) := dk_27 (dk_at dksX0_lawful_0 0 rfl rfl)
theorem dX0_lawful_1 : decode cX0_lawful 1 = .ok (.i2l, 1) := dk_133 (dk_at dksX0_lawful_0 1 rfl rfl)
theorem dX0_lawful_2 : decode cX0_lawful 2 = .ok (.lconst 0, 1) := dk_9 (dk_at dksX0_lawful_0 2 rfl rfl)
theorem dX0_lawful_3 : decode cX0_lawful 3 = .ok (.ldc2_w 171, 3) := dk_20 0 171 (dk_at dksX0_lawful_0 3 rfl rfl)
theorem dX0_lawful_6 : decode cX0_lawful 6 = .ok (.invokestatic 112, 3) := dk_184 0 112 (dk_at dksX0_lawful_0 6 rfl rfl)
theorem dX0_lawful_9 : decode cX0_lawful 9 = .ok (.ifCond .ne 6, 3) := dk_154 0 6 (dk_at dksX0_lawful_0 9 rfl rfl)
theorem dX0_lawful_12 : decode cX0_lawful 12 = .ok (.bipush (-2), 2) := dk_16 254 (dk_at dksX0_lawful_0 12 rfl rfl)
theorem dX0_lawful_14 : decode cX0_lawful 14 = .ok (.ireturn, 1) := dk_172 (dk_at dksX0_lawful_0 14 rfl rfl)
theorem dX0_lawful_15 : decode cX0_lawful 15 = .ok (.iconst 0, 1) := dk_3 (dk_at dksX0_lawful_0 15 rfl rfl)
theorem dX0_lawful_16 : decode cX0_lawful 16 = .ok (.istore_n 2, 1) := dk_61 (dk_at dksX0_lawful_0 16 rfl rfl)
theorem dX0_lawful_17 : decode cX0_lawful 17 = .ok (.iload_n 2, 1) := dk_28 (dk_at dksX0_lawful_0 17 rfl rfl)
theorem dX0_lawful_18 : decode cX0_lawful 18 = .ok (.aload_n 0, 1) := dk_42 (dk_at dksX0_lawful_0 18 rfl rfl)
theorem dX0_lawful_19 : decode cX0_lawful 19 = .ok (.getfield 22, 3) := dk_180 0 22 (dk_at dksX0_lawful_0 19 rfl rfl)
theorem dX0_lawful_22 : decode cX0_lawful 22 = .ok (.invokevirtual 142, 3) := dk_182 0 142 (dk_at dksX0_lawful_1 0 rfl rfl)
theorem dX0_lawful_25 : decode cX0_lawful 25 = .ok (.if_icmp .ge 41, 3) := dk_162 0 41 (dk_at dksX0_lawful_1 3 rfl rfl)
theorem dX0_lawful_28 : decode cX0_lawful 28 = .ok (.aload_n 0, 1) := dk_42 (dk_at dksX0_lawful_1 6 rfl rfl)
theorem dX0_lawful_29 : decode cX0_lawful 29 = .ok (.getfield 26, 3) := dk_180 0 26 (dk_at dksX0_lawful_1 7 rfl rfl)
theorem dX0_lawful_32 : decode cX0_lawful 32 = .ok (.iload_n 2, 1) := dk_28 (dk_at dksX0_lawful_1 10 rfl rfl)
theorem dX0_lawful_33 : decode cX0_lawful 33 = .ok (.iaload, 1) := dk_46 (dk_at dksX0_lawful_1 11 rfl rfl)
theorem dX0_lawful_34 : decode cX0_lawful 34 = .ok (.iload_n 2, 1) := dk_28 (dk_at dksX0_lawful_1 12 rfl rfl)
theorem dX0_lawful_35 : decode cX0_lawful 35 = .ok (.ifCond .ne 7, 3) := dk_154 0 7 (dk_at dksX0_lawful_1 13 rfl rfl)
theorem dX0_lawful_38 : decode cX0_lawful 38 = .ok (.iconst 0, 1) := dk_3 (dk_at dksX0_lawful_1 16 rfl rfl)
theorem dX0_lawful_39 : decode cX0_lawful 39 = .ok (.goto 11, 3) := dk_167 0 11 (dk_at dksX0_lawful_1 17 rfl rfl)
theorem dX0_lawful_42 : decode cX0_lawful 42 = .ok (.aload_n 0, 1) := dk_42 (dk_at dksX0_lawful_1 20 rfl rfl)
theorem dX0_lawful_43 : decode cX0_lawful 43 = .ok (.getfield 26, 3) := dk_180 0 26 (dk_at dksX0_lawful_1 21 rfl rfl)
theorem dX0_lawful_46 : decode cX0_lawful 46 = .ok (.iload_n 2, 1) := dk_28 (dk_at dksX0_lawful_2 0 rfl rfl)
theorem dX0_lawful_47 : decode cX0_lawful 47 = .ok (.iconst 1, 1) := dk_4 (dk_at dksX0_lawful_2 1 rfl rfl)
theorem dX0_lawful_48 : decode cX0_lawful 48 = .ok (.isub, 1) := dk_100 (dk_at dksX0_lawful_2 2 rfl rfl)
theorem dX0_lawful_49 : decode cX0_lawful 49 = .ok (.iaload, 1) := dk_46 (dk_at dksX0_lawful_2 3 rfl rfl)
theorem dX0_lawful_50 : decode cX0_lawful 50 = .ok (.isub, 1) := dk_100 (dk_at dksX0_lawful_2 4 rfl rfl)
theorem dX0_lawful_51 : decode cX0_lawful 51 = .ok (.invokestatic 223, 3) := dk_184 0 223 (dk_at dksX0_lawful_2 5 rfl rfl)
theorem dX0_lawful_54 : decode cX0_lawful 54 = .ok (.iload_n 1, 1) := dk_27 (dk_at dksX0_lawful_2 8 rfl rfl)
theorem dX0_lawful_55 : decode cX0_lawful 55 = .ok (.if_icmp .le 5, 3) := dk_164 0 5 (dk_at dksX0_lawful_2 9 rfl rfl)
theorem dX0_lawful_58 : decode cX0_lawful 58 = .ok (.iload_n 2, 1) := dk_28 (dk_at dksX0_lawful_2 12 rfl rfl)
theorem dX0_lawful_59 : decode cX0_lawful 59 = .ok (.ireturn, 1) := dk_172 (dk_at dksX0_lawful_2 13 rfl rfl)
theorem dX0_lawful_60 : decode cX0_lawful 60 = .ok (.iinc 2 1, 3) := dk_132 2 1 (dk_at dksX0_lawful_2 14 rfl rfl)
theorem dX0_lawful_63 : decode cX0_lawful 63 = .ok (.goto (-46), 3) := dk_167 255 210 (dk_at dksX0_lawful_2 17 rfl rfl)
theorem dX0_lawful_66 : decode cX0_lawful 66 = .ok (.iconst (-1), 1) := dk_2 (dk_at dksX0_lawful_2 20 rfl rfl)
theorem dX0_lawful_67 : decode cX0_lawful 67 = .ok (.ireturn, 1) := dk_172 (dk_at dksX0_lawful_2 21 rfl rfl)
abbrev cX0_judge : ByteArray := prog_1_method_38_code
def yX0_judge : MethodName := ⟨RX0, "judge", "(I)I"⟩
def dkwX0_judge_6 : List UInt8 := [58, 5, 42, 182, 1, 67, 25, 5, 191]
abbrev dktX0_judge_6 : List UInt8 := dkwX0_judge_6 ++ []
def dkwX0_judge_5 : List UInt8 := [29, 54, 4, 42, 182, 1, 67, 21, 4, 172, 132, 3, 1, 167, 255, 227, 2, 62, 42, 182, 1, 67, 29, 172]
abbrev dktX0_judge_5 : List UInt8 := dkwX0_judge_5 ++ dktX0_judge_6
def dkwX0_judge_4 : List UInt8 := [180, 1, 50, 184, 1, 58, 3, 62, 29, 44, 180, 1, 50, 162, 0, 27, 42, 29, 182, 1, 64, 154, 0, 13]
abbrev dktX0_judge_4 : List UInt8 := dkwX0_judge_4 ++ dktX0_judge_5
def dkwX0_judge_3 : List UInt8 := [16, 254, 172, 132, 3, 1, 167, 255, 225, 42, 182, 1, 55, 44, 180, 1, 52, 3, 42, 180, 0, 26, 3, 44]
abbrev dktX0_judge_3 : List UInt8 := dkwX0_judge_3 ++ dktX0_judge_4
def dkwX0_judge_2 : List UInt8 := [180, 1, 50, 162, 0, 29, 44, 180, 1, 52, 29, 46, 133, 9, 20, 0, 171, 184, 0, 112, 154, 0, 6]
abbrev dktX0_judge_2 : List UInt8 := dkwX0_judge_2 ++ dktX0_judge_3
def dkwX0_judge_1 : List UInt8 := [16, 245, 172, 44, 180, 1, 50, 42, 180, 0, 22, 182, 0, 142, 159, 0, 6, 16, 254, 172, 3, 62, 29, 44]
abbrev dktX0_judge_1 : List UInt8 := dkwX0_judge_1 ++ dktX0_judge_2
def dkwX0_judge_0 : List UInt8 := [27, 184, 1, 44, 154, 0, 6, 16, 254, 172, 42, 180, 0, 97, 27, 50, 77, 44, 180, 1, 47, 156, 0, 6]
abbrev dktX0_judge_0 : List UInt8 := dkwX0_judge_0 ++ dktX0_judge_1
theorem dksX0_judge_0 : cX0_judge.data.toList.drop 0 = dktX0_judge_0 := by decide +kernel
theorem dksX0_judge_1 : cX0_judge.data.toList.drop 24 = dktX0_judge_1 := dk_seg dksX0_judge_0 24 rfl rfl
theorem dksX0_judge_2 : cX0_judge.data.toList.drop 48 = dktX0_judge_2 := dk_seg dksX0_judge_1 24 rfl rfl
theorem dksX0_judge_3 : cX0_judge.data.toList.drop 71 = dktX0_judge_3 := dk_seg dksX0_judge_2 23 rfl rfl
theorem dksX0_judge_4 : cX0_judge.data.toList.drop 95 = dktX0_judge_4 := dk_seg dksX0_judge_3 24 rfl rfl
theorem dksX0_judge_5 : cX0_judge.data.toList.drop 119 = dktX0_judge_5 := dk_seg dksX0_judge_4 24 rfl rfl
theorem dksX0_judge_6 : cX0_judge.data.toList.drop 143 = dktX0_judge_6 := dk_seg dksX0_judge_5 24 rfl rfl
theorem dX0_judge_0 : decode cX0_judge 0 = .ok (.iload_n 1, 1) := dk_27 (dk_at dksX0_judge_0 0 rfl rfl)
theorem dX0_judge_1 : decode cX0_judge 1 = .ok (.invokestatic 300, 3) := dk_184 1 44 (dk_at dksX0_judge_0 1 rfl rfl)
theorem dX0_judge_4 : decode cX0_judge 4 = .ok (.ifCond .ne 6, 3) := dk_154 0 6 (dk_at dksX0_judge_0 4 rfl rfl)
theorem dX0_judge_7 : decode cX0_judge 7 = .ok (.bipush (-2), 2) := dk_16 254 (dk_at dksX0_judge_0 7 rfl rfl)
theorem dX0_judge_9 : decode cX0_judge 9 = .ok (.ireturn, 1) := dk_172 (dk_at dksX0_judge_0 9 rfl rfl)
theorem dX0_judge_10 : decode cX0_judge 10 = .ok (.aload_n 0, 1) := dk_42 (dk_at dksX0_judge_0 10 rfl rfl)
theorem dX0_judge_11 : decode cX0_judge 11 = .ok (.getfield 97, 3) := dk_180 0 97 (dk_at dksX0_judge_0 11 rfl rfl)
theorem dX0_judge_14 : decode cX0_judge 14 = .ok (.iload_n 1, 1) := dk_27 (dk_at dksX0_judge_0 14 rfl rfl)
theorem dX0_judge_15 : decode cX0_judge 15 = .ok (.aaload, 1) := dk_50 (dk_at dksX0_judge_0 15 rfl rfl)
theorem dX0_judge_16 : decode cX0_judge 16 = .ok (.astore_n 2, 1) := dk_77 (dk_at dksX0_judge_0 16 rfl rfl)
theorem dX0_judge_17 : decode cX0_judge 17 = .ok (.aload_n 2, 1) := dk_44 (dk_at dksX0_judge_0 17 rfl rfl)
theorem dX0_judge_18 : decode cX0_judge 18 = .ok (.getfield 303, 3) := dk_180 1 47 (dk_at dksX0_judge_0 18 rfl rfl)
theorem dX0_judge_21 : decode cX0_judge 21 = .ok (.ifCond .ge 6, 3) := dk_156 0 6 (dk_at dksX0_judge_0 21 rfl rfl)
theorem dX0_judge_24 : decode cX0_judge 24 = .ok (.bipush (-11), 2) := dk_16 245 (dk_at dksX0_judge_1 0 rfl rfl)
theorem dX0_judge_26 : decode cX0_judge 26 = .ok (.ireturn, 1) := dk_172 (dk_at dksX0_judge_1 2 rfl rfl)
theorem dX0_judge_27 : decode cX0_judge 27 = .ok (.aload_n 2, 1) := dk_44 (dk_at dksX0_judge_1 3 rfl rfl)
theorem dX0_judge_28 : decode cX0_judge 28 = .ok (.getfield 306, 3) := dk_180 1 50 (dk_at dksX0_judge_1 4 rfl rfl)
theorem dX0_judge_31 : decode cX0_judge 31 = .ok (.aload_n 0, 1) := dk_42 (dk_at dksX0_judge_1 7 rfl rfl)
theorem dX0_judge_32 : decode cX0_judge 32 = .ok (.getfield 22, 3) := dk_180 0 22 (dk_at dksX0_judge_1 8 rfl rfl)
theorem dX0_judge_35 : decode cX0_judge 35 = .ok (.invokevirtual 142, 3) := dk_182 0 142 (dk_at dksX0_judge_1 11 rfl rfl)
theorem dX0_judge_38 : decode cX0_judge 38 = .ok (.if_icmp .eq 6, 3) := dk_159 0 6 (dk_at dksX0_judge_1 14 rfl rfl)
theorem dX0_judge_41 : decode cX0_judge 41 = .ok (.bipush (-2), 2) := dk_16 254 (dk_at dksX0_judge_1 17 rfl rfl)
theorem dX0_judge_43 : decode cX0_judge 43 = .ok (.ireturn, 1) := dk_172 (dk_at dksX0_judge_1 19 rfl rfl)
theorem dX0_judge_44 : decode cX0_judge 44 = .ok (.iconst 0, 1) := dk_3 (dk_at dksX0_judge_1 20 rfl rfl)
theorem dX0_judge_45 : decode cX0_judge 45 = .ok (.istore_n 3, 1) := dk_62 (dk_at dksX0_judge_1 21 rfl rfl)
theorem dX0_judge_46 : decode cX0_judge 46 = .ok (.iload_n 3, 1) := dk_29 (dk_at dksX0_judge_1 22 rfl rfl)
theorem dX0_judge_47 : decode cX0_judge 47 = .ok (.aload_n 2, 1) := dk_44 (dk_at dksX0_judge_1 23 rfl rfl)
theorem dX0_judge_48 : decode cX0_judge 48 = .ok (.getfield 306, 3) := dk_180 1 50 (dk_at dksX0_judge_2 0 rfl rfl)
theorem dX0_judge_51 : decode cX0_judge 51 = .ok (.if_icmp .ge 29, 3) := dk_162 0 29 (dk_at dksX0_judge_2 3 rfl rfl)
theorem dX0_judge_54 : decode cX0_judge 54 = .ok (.aload_n 2, 1) := dk_44 (dk_at dksX0_judge_2 6 rfl rfl)
theorem dX0_judge_55 : decode cX0_judge 55 = .ok (.getfield 308, 3) := dk_180 1 52 (dk_at dksX0_judge_2 7 rfl rfl)
theorem dX0_judge_58 : decode cX0_judge 58 = .ok (.iload_n 3, 1) := dk_29 (dk_at dksX0_judge_2 10 rfl rfl)
theorem dX0_judge_59 : decode cX0_judge 59 = .ok (.iaload, 1) := dk_46 (dk_at dksX0_judge_2 11 rfl rfl)
theorem dX0_judge_60 : decode cX0_judge 60 = .ok (.i2l, 1) := dk_133 (dk_at dksX0_judge_2 12 rfl rfl)
theorem dX0_judge_61 : decode cX0_judge 61 = .ok (.lconst 0, 1) := dk_9 (dk_at dksX0_judge_2 13 rfl rfl)
theorem dX0_judge_62 : decode cX0_judge 62 = .ok (.ldc2_w 171, 3) := dk_20 0 171 (dk_at dksX0_judge_2 14 rfl rfl)
theorem dX0_judge_65 : decode cX0_judge 65 = .ok (.invokestatic 112, 3) := dk_184 0 112 (dk_at dksX0_judge_2 17 rfl rfl)
theorem dX0_judge_68 : decode cX0_judge 68 = .ok (.ifCond .ne 6, 3) := dk_154 0 6 (dk_at dksX0_judge_2 20 rfl rfl)
theorem dX0_judge_71 : decode cX0_judge 71 = .ok (.bipush (-2), 2) := dk_16 254 (dk_at dksX0_judge_3 0 rfl rfl)
theorem dX0_judge_73 : decode cX0_judge 73 = .ok (.ireturn, 1) := dk_172 (dk_at dksX0_judge_3 2 rfl rfl)
theorem dX0_judge_74 : decode cX0_judge 74 = .ok (.iinc 3 1, 3) := dk_132 3 1 (dk_at dksX0_judge_3 3 rfl rfl)
theorem dX0_judge_77 : decode cX0_judge 77 = .ok (.goto (-31), 3) := dk_167 255 225 (dk_at dksX0_judge_3 6 rfl rfl)
theorem dX0_judge_80 : decode cX0_judge 80 = .ok (.aload_n 0, 1) := dk_42 (dk_at dksX0_judge_3 9 rfl rfl)
theorem dX0_judge_81 : decode cX0_judge 81 = .ok (.invokevirtual 311, 3) := dk_182 1 55 (dk_at dksX0_judge_3 10 rfl rfl)
theorem dX0_judge_84 : decode cX0_judge 84 = .ok (.aload_n 2, 1) := dk_44 (dk_at dksX0_judge_3 13 rfl rfl)
theorem dX0_judge_85 : decode cX0_judge 85 = .ok (.getfield 308, 3) := dk_180 1 52 (dk_at dksX0_judge_3 14 rfl rfl)
theorem dX0_judge_88 : decode cX0_judge 88 = .ok (.iconst 0, 1) := dk_3 (dk_at dksX0_judge_3 17 rfl rfl)
theorem dX0_judge_89 : decode cX0_judge 89 = .ok (.aload_n 0, 1) := dk_42 (dk_at dksX0_judge_3 18 rfl rfl)
theorem dX0_judge_90 : decode cX0_judge 90 = .ok (.getfield 26, 3) := dk_180 0 26 (dk_at dksX0_judge_3 19 rfl rfl)
theorem dX0_judge_93 : decode cX0_judge 93 = .ok (.iconst 0, 1) := dk_3 (dk_at dksX0_judge_3 22 rfl rfl)
theorem dX0_judge_94 : decode cX0_judge 94 = .ok (.aload_n 2, 1) := dk_44 (dk_at dksX0_judge_3 23 rfl rfl)
theorem dX0_judge_95 : decode cX0_judge 95 = .ok (.getfield 306, 3) := dk_180 1 50 (dk_at dksX0_judge_4 0 rfl rfl)
theorem dX0_judge_98 : decode cX0_judge 98 = .ok (.invokestatic 314, 3) := dk_184 1 58 (dk_at dksX0_judge_4 3 rfl rfl)
theorem dX0_judge_101 : decode cX0_judge 101 = .ok (.iconst 0, 1) := dk_3 (dk_at dksX0_judge_4 6 rfl rfl)
theorem dX0_judge_102 : decode cX0_judge 102 = .ok (.istore_n 3, 1) := dk_62 (dk_at dksX0_judge_4 7 rfl rfl)
theorem dX0_judge_103 : decode cX0_judge 103 = .ok (.iload_n 3, 1) := dk_29 (dk_at dksX0_judge_4 8 rfl rfl)
theorem dX0_judge_104 : decode cX0_judge 104 = .ok (.aload_n 2, 1) := dk_44 (dk_at dksX0_judge_4 9 rfl rfl)
theorem dX0_judge_105 : decode cX0_judge 105 = .ok (.getfield 306, 3) := dk_180 1 50 (dk_at dksX0_judge_4 10 rfl rfl)
theorem dX0_judge_108 : decode cX0_judge 108 = .ok (.if_icmp .ge 27, 3) := dk_162 0 27 (dk_at dksX0_judge_4 13 rfl rfl)
theorem dX0_judge_111 : decode cX0_judge 111 = .ok (.aload_n 0, 1) := dk_42 (dk_at dksX0_judge_4 16 rfl rfl)
theorem dX0_judge_112 : decode cX0_judge 112 = .ok (.iload_n 3, 1) := dk_29 (dk_at dksX0_judge_4 17 rfl rfl)
theorem dX0_judge_113 : decode cX0_judge 113 = .ok (.invokevirtual 320, 3) := dk_182 1 64 (dk_at dksX0_judge_4 18 rfl rfl)
theorem dX0_judge_116 : decode cX0_judge 116 = .ok (.ifCond .ne 13, 3) := dk_154 0 13 (dk_at dksX0_judge_4 21 rfl rfl)
theorem dX0_judge_119 : decode cX0_judge 119 = .ok (.iload_n 3, 1) := dk_29 (dk_at dksX0_judge_5 0 rfl rfl)
theorem dX0_judge_120 : decode cX0_judge 120 = .ok (.istore 4, 2) := dk_54 4 (dk_at dksX0_judge_5 1 rfl rfl)
theorem dX0_judge_122 : decode cX0_judge 122 = .ok (.aload_n 0, 1) := dk_42 (dk_at dksX0_judge_5 3 rfl rfl)
theorem dX0_judge_123 : decode cX0_judge 123 = .ok (.invokevirtual 323, 3) := dk_182 1 67 (dk_at dksX0_judge_5 4 rfl rfl)
theorem dX0_judge_126 : decode cX0_judge 126 = .ok (.iload 4, 2) := dk_21 4 (dk_at dksX0_judge_5 7 rfl rfl)
theorem dX0_judge_128 : decode cX0_judge 128 = .ok (.ireturn, 1) := dk_172 (dk_at dksX0_judge_5 9 rfl rfl)
theorem dX0_judge_129 : decode cX0_judge 129 = .ok (.iinc 3 1, 3) := dk_132 3 1 (dk_at dksX0_judge_5 10 rfl rfl)
theorem dX0_judge_132 : decode cX0_judge 132 = .ok (.goto (-29), 3) := dk_167 255 227 (dk_at dksX0_judge_5 13 rfl rfl)
theorem dX0_judge_135 : decode cX0_judge 135 = .ok (.iconst (-1), 1) := dk_2 (dk_at dksX0_judge_5 16 rfl rfl)
theorem dX0_judge_136 : decode cX0_judge 136 = .ok (.istore_n 3, 1) := dk_62 (dk_at dksX0_judge_5 17 rfl rfl)
theorem dX0_judge_137 : decode cX0_judge 137 = .ok (.aload_n 0, 1) := dk_42 (dk_at dksX0_judge_5 18 rfl rfl)
theorem dX0_judge_138 : decode cX0_judge 138 = .ok (.invokevirtual 323, 3) := dk_182 1 67 (dk_at dksX0_judge_5 19 rfl rfl)
theorem dX0_judge_141 : decode cX0_judge 141 = .ok (.iload_n 3, 1) := dk_29 (dk_at dksX0_judge_5 22 rfl rfl)
theorem dX0_judge_142 : decode cX0_judge 142 = .ok (.ireturn, 1) := dk_172 (dk_at dksX0_judge_5 23 rfl rfl)
theorem dX0_judge_143 : decode cX0_judge 143 = .ok (.astore 5, 2) := dk_58 5 (dk_at dksX0_judge_6 0 rfl rfl)
theorem dX0_judge_145 : decode cX0_judge 145 = .ok (.aload_n 0, 1) := dk_42 (dk_at dksX0_judge_6 2 rfl rfl)
theorem dX0_judge_146 : decode cX0_judge 146 = .ok (.invokevirtual 323, 3) := dk_182 1 67 (dk_at dksX0_judge_6 3 rfl rfl)
theorem dX0_judge_149 : decode cX0_judge 149 = .ok (.aload 5, 2) := dk_25 5 (dk_at dksX0_judge_6 6 rfl rfl)
theorem dX0_judge_151 : decode cX0_judge 151 = .ok (.athrow, 1) := dk_191 (dk_at dksX0_judge_6 8 rfl rfl)
abbrev cX0_isSheet : ByteArray := prog_1_method_76_code
def yX0_isSheet : MethodName := ⟨RX0, "isSheet", "(I)Z"⟩
def dkwX0_isSheet_0 : List UInt8 := [26, 133, 9, 20, 0, 110, 184, 0, 112, 172]
abbrev dktX0_isSheet_0 : List UInt8 := dkwX0_isSheet_0 ++ []
theorem dksX0_isSheet_0 : cX0_isSheet.data.toList.drop 0 = dktX0_isSheet_0 := by decide +kernel
theorem dX0_isSheet_0 : decode cX0_isSheet 0 = .ok (.iload_n 0, 1) := dk_26 (dk_at dksX0_isSheet_0 0 rfl rfl)
theorem dX0_isSheet_1 : decode cX0_isSheet 1 = .ok (.i2l, 1) := dk_133 (dk_at dksX0_isSheet_0 1 rfl rfl)
theorem dX0_isSheet_2 : decode cX0_isSheet 2 = .ok (.lconst 0, 1) := dk_9 (dk_at dksX0_isSheet_0 2 rfl rfl)
theorem dX0_isSheet_3 : decode cX0_isSheet 3 = .ok (.ldc2_w 110, 3) := dk_20 0 110 (dk_at dksX0_isSheet_0 3 rfl rfl)
theorem dX0_isSheet_6 : decode cX0_isSheet 6 = .ok (.invokestatic 112, 3) := dk_184 0 112 (dk_at dksX0_isSheet_0 6 rfl rfl)
theorem dX0_isSheet_9 : decode cX0_isSheet 9 = .ok (.ireturn, 1) := dk_172 (dk_at dksX0_isSheet_0 9 rfl rfl)
abbrev cX0_keepsRises : ByteArray := prog_1_method_39_code
def yX0_keepsRises : MethodName := ⟨RX0, "keepsRises", "()V"⟩
def dkwX0_keepsRises_0 : List UInt8 := [42, 180, 0, 26, 3, 42, 180, 0, 50, 3, 16, 6, 184, 1, 58, 177]
abbrev dktX0_keepsRises_0 : List UInt8 := dkwX0_keepsRises_0 ++ []
theorem dksX0_keepsRises_0 : cX0_keepsRises.data.toList.drop 0 = dktX0_keepsRises_0 := by decide +kernel
theorem dX0_keepsRises_0 : decode cX0_keepsRises 0 = .ok (.aload_n 0, 1) := dk_42 (dk_at dksX0_keepsRises_0 0 rfl rfl)
theorem dX0_keepsRises_1 : decode cX0_keepsRises 1 = .ok (.getfield 26, 3) := dk_180 0 26 (dk_at dksX0_keepsRises_0 1 rfl rfl)
theorem dX0_keepsRises_4 : decode cX0_keepsRises 4 = .ok (.iconst 0, 1) := dk_3 (dk_at dksX0_keepsRises_0 4 rfl rfl)
theorem dX0_keepsRises_5 : decode cX0_keepsRises 5 = .ok (.aload_n 0, 1) := dk_42 (dk_at dksX0_keepsRises_0 5 rfl rfl)
theorem dX0_keepsRises_6 : decode cX0_keepsRises 6 = .ok (.getfield 50, 3) := dk_180 0 50 (dk_at dksX0_keepsRises_0 6 rfl rfl)
theorem dX0_keepsRises_9 : decode cX0_keepsRises 9 = .ok (.iconst 0, 1) := dk_3 (dk_at dksX0_keepsRises_0 9 rfl rfl)
theorem dX0_keepsRises_10 : decode cX0_keepsRises 10 = .ok (.bipush 6, 2) := dk_16 6 (dk_at dksX0_keepsRises_0 10 rfl rfl)
theorem dX0_keepsRises_12 : decode cX0_keepsRises 12 = .ok (.invokestatic 314, 3) := dk_184 1 58 (dk_at dksX0_keepsRises_0 12 rfl rfl)
theorem dX0_keepsRises_15 : decode cX0_keepsRises 15 = .ok (.return_, 1) := dk_177 (dk_at dksX0_keepsRises_0 15 rfl rfl)
abbrev cX0_seesAll : ByteArray := prog_1_method_41_code
def yX0_seesAll : MethodName := ⟨RX0, "seesAll", "(I)Z"⟩
def dkwX0_seesAll_2 : List UInt8 := [159, 0, 5, 3, 172, 132, 2, 1, 167, 255, 206, 4, 172]
abbrev dktX0_seesAll_2 : List UInt8 := dkwX0_seesAll_2 ++ []
def dkwX0_seesAll_1 : List UInt8 := [180, 0, 22, 27, 182, 0, 150, 192, 0, 122, 28, 182, 1, 4, 4, 42, 180, 0, 203, 120, 4, 100]
abbrev dktX0_seesAll_1 : List UInt8 := dkwX0_seesAll_1 ++ dktX0_seesAll_2
def dkwX0_seesAll_0 : List UInt8 := [3, 61, 28, 42, 180, 0, 22, 27, 182, 0, 150, 192, 0, 122, 180, 0, 154, 162, 0, 38, 42, 42]
abbrev dktX0_seesAll_0 : List UInt8 := dkwX0_seesAll_0 ++ dktX0_seesAll_1
theorem dksX0_seesAll_0 : cX0_seesAll.data.toList.drop 0 = dktX0_seesAll_0 := by decide +kernel
theorem dksX0_seesAll_1 : cX0_seesAll.data.toList.drop 22 = dktX0_seesAll_1 := dk_seg dksX0_seesAll_0 22 rfl rfl
theorem dksX0_seesAll_2 : cX0_seesAll.data.toList.drop 44 = dktX0_seesAll_2 := dk_seg dksX0_seesAll_1 22 rfl rfl
theorem dX0_seesAll_0 : decode cX0_seesAll 0 = .ok (.iconst 0, 1) := dk_3 (dk_at dksX0_seesAll_0 0 rfl rfl)
theorem dX0_seesAll_1 : decode cX0_seesAll 1 = .ok (.istore_n 2, 1) := dk_61 (dk_at dksX0_seesAll_0 1 rfl rfl)
theorem dX0_seesAll_2 : decode cX0_seesAll 2 = .ok (.iload_n 2, 1) := dk_28 (dk_at dksX0_seesAll_0 2 rfl rfl)
theorem dX0_seesAll_3 : decode cX0_seesAll 3 = .ok (.aload_n 0, 1) := dk_42 (dk_at dksX0_seesAll_0 3 rfl rfl)
theorem dX0_seesAll_4 : decode cX0_seesAll 4 = .ok (.getfield 22, 3) := dk_180 0 22 (dk_at dksX0_seesAll_0 4 rfl rfl)
theorem dX0_seesAll_7 : decode cX0_seesAll 7 = .ok (.iload_n 1, 1) := dk_27 (dk_at dksX0_seesAll_0 7 rfl rfl)
theorem dX0_seesAll_8 : decode cX0_seesAll 8 = .ok (.invokevirtual 150, 3) := dk_182 0 150 (dk_at dksX0_seesAll_0 8 rfl rfl)
theorem dX0_seesAll_11 : decode cX0_seesAll 11 = .ok (.checkcast 122, 3) := dk_192 0 122 (dk_at dksX0_seesAll_0 11 rfl rfl)
theorem dX0_seesAll_14 : decode cX0_seesAll 14 = .ok (.getfield 154, 3) := dk_180 0 154 (dk_at dksX0_seesAll_0 14 rfl rfl)
theorem dX0_seesAll_17 : decode cX0_seesAll 17 = .ok (.if_icmp .ge 38, 3) := dk_162 0 38 (dk_at dksX0_seesAll_0 17 rfl rfl)
theorem dX0_seesAll_20 : decode cX0_seesAll 20 = .ok (.aload_n 0, 1) := dk_42 (dk_at dksX0_seesAll_0 20 rfl rfl)
theorem dX0_seesAll_21 : decode cX0_seesAll 21 = .ok (.aload_n 0, 1) := dk_42 (dk_at dksX0_seesAll_0 21 rfl rfl)
theorem dX0_seesAll_22 : decode cX0_seesAll 22 = .ok (.getfield 22, 3) := dk_180 0 22 (dk_at dksX0_seesAll_1 0 rfl rfl)
theorem dX0_seesAll_25 : decode cX0_seesAll 25 = .ok (.iload_n 1, 1) := dk_27 (dk_at dksX0_seesAll_1 3 rfl rfl)
theorem dX0_seesAll_26 : decode cX0_seesAll 26 = .ok (.invokevirtual 150, 3) := dk_182 0 150 (dk_at dksX0_seesAll_1 4 rfl rfl)
theorem dX0_seesAll_29 : decode cX0_seesAll 29 = .ok (.checkcast 122, 3) := dk_192 0 122 (dk_at dksX0_seesAll_1 7 rfl rfl)
theorem dX0_seesAll_32 : decode cX0_seesAll 32 = .ok (.iload_n 2, 1) := dk_28 (dk_at dksX0_seesAll_1 10 rfl rfl)
theorem dX0_seesAll_33 : decode cX0_seesAll 33 = .ok (.invokevirtual 260, 3) := dk_182 1 4 (dk_at dksX0_seesAll_1 11 rfl rfl)
theorem dX0_seesAll_36 : decode cX0_seesAll 36 = .ok (.iconst 1, 1) := dk_4 (dk_at dksX0_seesAll_1 14 rfl rfl)
theorem dX0_seesAll_37 : decode cX0_seesAll 37 = .ok (.aload_n 0, 1) := dk_42 (dk_at dksX0_seesAll_1 15 rfl rfl)
theorem dX0_seesAll_38 : decode cX0_seesAll 38 = .ok (.getfield 203, 3) := dk_180 0 203 (dk_at dksX0_seesAll_1 16 rfl rfl)
theorem dX0_seesAll_41 : decode cX0_seesAll 41 = .ok (.ishl, 1) := dk_120 (dk_at dksX0_seesAll_1 19 rfl rfl)
theorem dX0_seesAll_42 : decode cX0_seesAll 42 = .ok (.iconst 1, 1) := dk_4 (dk_at dksX0_seesAll_1 20 rfl rfl)
theorem dX0_seesAll_43 : decode cX0_seesAll 43 = .ok (.isub, 1) := dk_100 (dk_at dksX0_seesAll_1 21 rfl rfl)
theorem dX0_seesAll_44 : decode cX0_seesAll 44 = .ok (.if_icmp .eq 5, 3) := dk_159 0 5 (dk_at dksX0_seesAll_2 0 rfl rfl)
theorem dX0_seesAll_47 : decode cX0_seesAll 47 = .ok (.iconst 0, 1) := dk_3 (dk_at dksX0_seesAll_2 3 rfl rfl)
theorem dX0_seesAll_48 : decode cX0_seesAll 48 = .ok (.ireturn, 1) := dk_172 (dk_at dksX0_seesAll_2 4 rfl rfl)
theorem dX0_seesAll_49 : decode cX0_seesAll 49 = .ok (.iinc 2 1, 3) := dk_132 2 1 (dk_at dksX0_seesAll_2 5 rfl rfl)
theorem dX0_seesAll_52 : decode cX0_seesAll 52 = .ok (.goto (-50), 3) := dk_167 255 206 (dk_at dksX0_seesAll_2 8 rfl rfl)
theorem dX0_seesAll_55 : decode cX0_seesAll 55 = .ok (.iconst 1, 1) := dk_4 (dk_at dksX0_seesAll_2 11 rfl rfl)
theorem dX0_seesAll_56 : decode cX0_seesAll 56 = .ok (.ireturn, 1) := dk_172 (dk_at dksX0_seesAll_2 12 rfl rfl)
abbrev cX0_laysRises : ByteArray := prog_1_method_40_code
def yX0_laysRises : MethodName := ⟨RX0, "laysRises", "()V"⟩
def dkwX0_laysRises_0 : List UInt8 := [42, 180, 0, 50, 3, 42, 180, 0, 26, 3, 16, 6, 184, 1, 58, 177]
abbrev dktX0_laysRises_0 : List UInt8 := dkwX0_laysRises_0 ++ []
theorem dksX0_laysRises_0 : cX0_laysRises.data.toList.drop 0 = dktX0_laysRises_0 := by decide +kernel
theorem dX0_laysRises_0 : decode cX0_laysRises 0 = .ok (.aload_n 0, 1) := dk_42 (dk_at dksX0_laysRises_0 0 rfl rfl)
theorem dX0_laysRises_1 : decode cX0_laysRises 1 = .ok (.getfield 50, 3) := dk_180 0 50 (dk_at dksX0_laysRises_0 1 rfl rfl)
theorem dX0_laysRises_4 : decode cX0_laysRises 4 = .ok (.iconst 0, 1) := dk_3 (dk_at dksX0_laysRises_0 4 rfl rfl)
theorem dX0_laysRises_5 : decode cX0_laysRises 5 = .ok (.aload_n 0, 1) := dk_42 (dk_at dksX0_laysRises_0 5 rfl rfl)
theorem dX0_laysRises_6 : decode cX0_laysRises 6 = .ok (.getfield 26, 3) := dk_180 0 26 (dk_at dksX0_laysRises_0 6 rfl rfl)
theorem dX0_laysRises_9 : decode cX0_laysRises 9 = .ok (.iconst 0, 1) := dk_3 (dk_at dksX0_laysRises_0 9 rfl rfl)
theorem dX0_laysRises_10 : decode cX0_laysRises 10 = .ok (.bipush 6, 2) := dk_16 6 (dk_at dksX0_laysRises_0 10 rfl rfl)
theorem dX0_laysRises_12 : decode cX0_laysRises 12 = .ok (.invokestatic 314, 3) := dk_184 1 58 (dk_at dksX0_laysRises_0 12 rfl rfl)
theorem dX0_laysRises_15 : decode cX0_laysRises 15 = .ok (.return_, 1) := dk_177 (dk_at dksX0_laysRises_0 15 rfl rfl)
abbrev cX0_chance : ByteArray := prog_1_method_46_code
def yX0_chance : MethodName := ⟨RX0, "chance", "(IIII)J"⟩
def dkwX0_chance_3 : List UInt8 := [184, 1, 89, 21, 4, 184, 1, 93, 173]
abbrev dktX0_chance_3 : List UInt8 := dkwX0_chance_3 ++ []
def dkwX0_chance_2 : List UInt8 := [27, 182, 0, 150, 192, 0, 122, 28, 29, 182, 1, 85, 42, 180, 1, 70, 42, 182, 1, 79, 42, 180, 1, 74]
abbrev dktX0_chance_2 : List UInt8 := dkwX0_chance_2 ++ dktX0_chance_3
def dkwX0_chance_1 : List UInt8 := [184, 0, 112, 153, 0, 12, 42, 182, 1, 79, 9, 148, 154, 0, 7, 20, 1, 83, 173, 42, 42, 180, 0, 22]
abbrev dktX0_chance_1 : List UInt8 := dkwX0_chance_1 ++ dktX0_chance_2
def dkwX0_chance_0 : List UInt8 := [42, 27, 28, 182, 0, 173, 153, 0, 31, 42, 29, 182, 0, 253, 153, 0, 23, 21, 4, 133, 9, 10]
abbrev dktX0_chance_0 : List UInt8 := dkwX0_chance_0 ++ dktX0_chance_1
theorem dksX0_chance_0 : cX0_chance.data.toList.drop 0 = dktX0_chance_0 := by decide +kernel
theorem dksX0_chance_1 : cX0_chance.data.toList.drop 22 = dktX0_chance_1 := dk_seg dksX0_chance_0 22 rfl rfl
theorem dksX0_chance_2 : cX0_chance.data.toList.drop 46 = dktX0_chance_2 := dk_seg dksX0_chance_1 24 rfl rfl
theorem dksX0_chance_3 : cX0_chance.data.toList.drop 70 = dktX0_chance_3 := dk_seg dksX0_chance_2 24 rfl rfl
theorem dX0_chance_0 : decode cX0_chance 0 = .ok (.aload_n 0, 1) := dk_42 (dk_at dksX0_chance_0 0 rfl rfl)
theorem dX0_chance_1 : decode cX0_chance 1 = .ok (.iload_n 1, 1) := dk_27 (dk_at dksX0_chance_0 1 rfl rfl)
theorem dX0_chance_2 : decode cX0_chance 2 = .ok (.iload_n 2, 1) := dk_28 (dk_at dksX0_chance_0 2 rfl rfl)
theorem dX0_chance_3 : decode cX0_chance 3 = .ok (.invokevirtual 173, 3) := dk_182 0 173 (dk_at dksX0_chance_0 3 rfl rfl)
theorem dX0_chance_6 : decode cX0_chance 6 = .ok (.ifCond .eq 31, 3) := dk_153 0 31 (dk_at dksX0_chance_0 6 rfl rfl)
theorem dX0_chance_9 : decode cX0_chance 9 = .ok (.aload_n 0, 1) := dk_42 (dk_at dksX0_chance_0 9 rfl rfl)
theorem dX0_chance_10 : decode cX0_chance 10 = .ok (.iload_n 3, 1) := dk_29 (dk_at dksX0_chance_0 10 rfl rfl)
theorem dX0_chance_11 : decode cX0_chance 11 = .ok (.invokevirtual 253, 3) := dk_182 0 253 (dk_at dksX0_chance_0 11 rfl rfl)
theorem dX0_chance_14 : decode cX0_chance 14 = .ok (.ifCond .eq 23, 3) := dk_153 0 23 (dk_at dksX0_chance_0 14 rfl rfl)
theorem dX0_chance_17 : decode cX0_chance 17 = .ok (.iload 4, 2) := dk_21 4 (dk_at dksX0_chance_0 17 rfl rfl)
theorem dX0_chance_19 : decode cX0_chance 19 = .ok (.i2l, 1) := dk_133 (dk_at dksX0_chance_0 19 rfl rfl)
theorem dX0_chance_20 : decode cX0_chance 20 = .ok (.lconst 0, 1) := dk_9 (dk_at dksX0_chance_0 20 rfl rfl)
theorem dX0_chance_21 : decode cX0_chance 21 = .ok (.lconst 1, 1) := dk_10 (dk_at dksX0_chance_0 21 rfl rfl)
theorem dX0_chance_22 : decode cX0_chance 22 = .ok (.invokestatic 112, 3) := dk_184 0 112 (dk_at dksX0_chance_1 0 rfl rfl)
theorem dX0_chance_25 : decode cX0_chance 25 = .ok (.ifCond .eq 12, 3) := dk_153 0 12 (dk_at dksX0_chance_1 3 rfl rfl)
theorem dX0_chance_28 : decode cX0_chance 28 = .ok (.aload_n 0, 1) := dk_42 (dk_at dksX0_chance_1 6 rfl rfl)
theorem dX0_chance_29 : decode cX0_chance 29 = .ok (.invokevirtual 335, 3) := dk_182 1 79 (dk_at dksX0_chance_1 7 rfl rfl)
theorem dX0_chance_32 : decode cX0_chance 32 = .ok (.lconst 0, 1) := dk_9 (dk_at dksX0_chance_1 10 rfl rfl)
theorem dX0_chance_33 : decode cX0_chance 33 = .ok (.lcmp, 1) := dk_148 (dk_at dksX0_chance_1 11 rfl rfl)
theorem dX0_chance_34 : decode cX0_chance 34 = .ok (.ifCond .ne 7, 3) := dk_154 0 7 (dk_at dksX0_chance_1 12 rfl rfl)
theorem dX0_chance_37 : decode cX0_chance 37 = .ok (.ldc2_w 339, 3) := dk_20 1 83 (dk_at dksX0_chance_1 15 rfl rfl)
theorem dX0_chance_40 : decode cX0_chance 40 = .ok (.lreturn, 1) := dk_173 (dk_at dksX0_chance_1 18 rfl rfl)
theorem dX0_chance_41 : decode cX0_chance 41 = .ok (.aload_n 0, 1) := dk_42 (dk_at dksX0_chance_1 19 rfl rfl)
theorem dX0_chance_42 : decode cX0_chance 42 = .ok (.aload_n 0, 1) := dk_42 (dk_at dksX0_chance_1 20 rfl rfl)
theorem dX0_chance_43 : decode cX0_chance 43 = .ok (.getfield 22, 3) := dk_180 0 22 (dk_at dksX0_chance_1 21 rfl rfl)
theorem dX0_chance_46 : decode cX0_chance 46 = .ok (.iload_n 1, 1) := dk_27 (dk_at dksX0_chance_2 0 rfl rfl)
theorem dX0_chance_47 : decode cX0_chance 47 = .ok (.invokevirtual 150, 3) := dk_182 0 150 (dk_at dksX0_chance_2 1 rfl rfl)
theorem dX0_chance_50 : decode cX0_chance 50 = .ok (.checkcast 122, 3) := dk_192 0 122 (dk_at dksX0_chance_2 4 rfl rfl)
theorem dX0_chance_53 : decode cX0_chance 53 = .ok (.iload_n 2, 1) := dk_28 (dk_at dksX0_chance_2 7 rfl rfl)
theorem dX0_chance_54 : decode cX0_chance 54 = .ok (.iload_n 3, 1) := dk_29 (dk_at dksX0_chance_2 8 rfl rfl)
theorem dX0_chance_55 : decode cX0_chance 55 = .ok (.invokevirtual 341, 3) := dk_182 1 85 (dk_at dksX0_chance_2 9 rfl rfl)
theorem dX0_chance_58 : decode cX0_chance 58 = .ok (.aload_n 0, 1) := dk_42 (dk_at dksX0_chance_2 12 rfl rfl)
theorem dX0_chance_59 : decode cX0_chance 59 = .ok (.getfield 326, 3) := dk_180 1 70 (dk_at dksX0_chance_2 13 rfl rfl)
theorem dX0_chance_62 : decode cX0_chance 62 = .ok (.aload_n 0, 1) := dk_42 (dk_at dksX0_chance_2 16 rfl rfl)
theorem dX0_chance_63 : decode cX0_chance 63 = .ok (.invokevirtual 335, 3) := dk_182 1 79 (dk_at dksX0_chance_2 17 rfl rfl)
theorem dX0_chance_66 : decode cX0_chance 66 = .ok (.aload_n 0, 1) := dk_42 (dk_at dksX0_chance_2 20 rfl rfl)
theorem dX0_chance_67 : decode cX0_chance 67 = .ok (.getfield 330, 3) := dk_180 1 74 (dk_at dksX0_chance_2 21 rfl rfl)
theorem dX0_chance_70 : decode cX0_chance 70 = .ok (.invokestatic 345, 3) := dk_184 1 89 (dk_at dksX0_chance_3 0 rfl rfl)
theorem dX0_chance_73 : decode cX0_chance 73 = .ok (.iload 4, 2) := dk_21 4 (dk_at dksX0_chance_3 3 rfl rfl)
theorem dX0_chance_75 : decode cX0_chance 75 = .ok (.invokestatic 349, 3) := dk_184 1 93 (dk_at dksX0_chance_3 5 rfl rfl)
theorem dX0_chance_78 : decode cX0_chance 78 = .ok (.lreturn, 1) := dk_173 (dk_at dksX0_chance_3 8 rfl rfl)
abbrev cX0_weights : ByteArray := prog_1_method_42_code
def yX0_weights : MethodName := ⟨RX0, "weights", "()J"⟩
def dkwX0_weights_1 : List UInt8 := [167, 255, 238, 31, 173]
abbrev dktX0_weights_1 : List UInt8 := dkwX0_weights_1 ++ []
def dkwX0_weights_0 : List UInt8 := [9, 64, 3, 62, 29, 7, 162, 0, 19, 31, 42, 180, 0, 16, 29, 46, 133, 97, 64, 132, 3, 1]
abbrev dktX0_weights_0 : List UInt8 := dkwX0_weights_0 ++ dktX0_weights_1
theorem dksX0_weights_0 : cX0_weights.data.toList.drop 0 = dktX0_weights_0 := by decide +kernel
theorem dksX0_weights_1 : cX0_weights.data.toList.drop 22 = dktX0_weights_1 := dk_seg dksX0_weights_0 22 rfl rfl
theorem dX0_weights_0 : decode cX0_weights 0 = .ok (.lconst 0, 1) := dk_9 (dk_at dksX0_weights_0 0 rfl rfl)
theorem dX0_weights_1 : decode cX0_weights 1 = .ok (.lstore_n 1, 1) := dk_64 (dk_at dksX0_weights_0 1 rfl rfl)
theorem dX0_weights_2 : decode cX0_weights 2 = .ok (.iconst 0, 1) := dk_3 (dk_at dksX0_weights_0 2 rfl rfl)
theorem dX0_weights_3 : decode cX0_weights 3 = .ok (.istore_n 3, 1) := dk_62 (dk_at dksX0_weights_0 3 rfl rfl)
theorem dX0_weights_4 : decode cX0_weights 4 = .ok (.iload_n 3, 1) := dk_29 (dk_at dksX0_weights_0 4 rfl rfl)
theorem dX0_weights_5 : decode cX0_weights 5 = .ok (.iconst 4, 1) := dk_7 (dk_at dksX0_weights_0 5 rfl rfl)
theorem dX0_weights_6 : decode cX0_weights 6 = .ok (.if_icmp .ge 19, 3) := dk_162 0 19 (dk_at dksX0_weights_0 6 rfl rfl)
theorem dX0_weights_9 : decode cX0_weights 9 = .ok (.lload_n 1, 1) := dk_31 (dk_at dksX0_weights_0 9 rfl rfl)
theorem dX0_weights_10 : decode cX0_weights 10 = .ok (.aload_n 0, 1) := dk_42 (dk_at dksX0_weights_0 10 rfl rfl)
theorem dX0_weights_11 : decode cX0_weights 11 = .ok (.getfield 16, 3) := dk_180 0 16 (dk_at dksX0_weights_0 11 rfl rfl)
theorem dX0_weights_14 : decode cX0_weights 14 = .ok (.iload_n 3, 1) := dk_29 (dk_at dksX0_weights_0 14 rfl rfl)
theorem dX0_weights_15 : decode cX0_weights 15 = .ok (.iaload, 1) := dk_46 (dk_at dksX0_weights_0 15 rfl rfl)
theorem dX0_weights_16 : decode cX0_weights 16 = .ok (.i2l, 1) := dk_133 (dk_at dksX0_weights_0 16 rfl rfl)
theorem dX0_weights_17 : decode cX0_weights 17 = .ok (.ladd, 1) := dk_97 (dk_at dksX0_weights_0 17 rfl rfl)
theorem dX0_weights_18 : decode cX0_weights 18 = .ok (.lstore_n 1, 1) := dk_64 (dk_at dksX0_weights_0 18 rfl rfl)
theorem dX0_weights_19 : decode cX0_weights 19 = .ok (.iinc 3 1, 3) := dk_132 3 1 (dk_at dksX0_weights_0 19 rfl rfl)
theorem dX0_weights_22 : decode cX0_weights 22 = .ok (.goto (-18), 3) := dk_167 255 238 (dk_at dksX0_weights_1 0 rfl rfl)
theorem dX0_weights_25 : decode cX0_weights 25 = .ok (.lload_n 1, 1) := dk_31 (dk_at dksX0_weights_1 3 rfl rfl)
theorem dX0_weights_26 : decode cX0_weights 26 = .ok (.lreturn, 1) := dk_173 (dk_at dksX0_weights_1 4 rfl rfl)
abbrev cX0_chances : ByteArray := prog_1_method_43_code
def yX0_chances : MethodName := ⟨RX0, "chances", "(LOverTheHeads$Row;II)V"⟩
def dkwX0_chances_8 : List UInt8 := [153, 0, 8, 42, 9, 181, 1, 70, 132, 4, 1, 167, 255, 227, 177]
abbrev dktX0_chances_8 : List UInt8 := dkwX0_chances_8 ++ []
def dkwX0_chances_7 : List UInt8 := [167, 255, 105, 3, 54, 4, 21, 4, 42, 180, 0, 210, 162, 0, 26, 42, 43, 28, 29, 21, 4, 182, 0, 249]
abbrev dktX0_chances_7 : List UInt8 := dkwX0_chances_7 ++ dktX0_chances_8
def dkwX0_chances_6 : List UInt8 := [105, 181, 1, 70, 42, 89, 180, 1, 74, 4, 96, 181, 1, 74, 132, 6, 1, 167, 255, 137, 132, 4, 1]
abbrev dktX0_chances_6 : List UInt8 := dkwX0_chances_6 ++ dktX0_chances_7
def dkwX0_chances_5 : List UInt8 := [42, 180, 0, 16, 21, 9, 46, 133, 97, 55, 7, 132, 9, 1, 167, 255, 215, 42, 89, 180, 1, 70, 22, 7]
abbrev dktX0_chances_5 : List UInt8 := dkwX0_chances_5 ++ dktX0_chances_6
def dkwX0_chances_4 : List UInt8 := [162, 0, 41, 42, 43, 28, 29, 25, 5, 25, 5, 21, 9, 182, 0, 196, 182, 0, 245, 154, 0, 16, 22, 7]
abbrev dktX0_chances_4 : List UInt8 := dkwX0_chances_4 ++ dktX0_chances_5
def dkwX0_chances_3 : List UInt8 := [21, 6, 182, 0, 183, 182, 0, 235, 154, 0, 6, 167, 0, 74, 9, 55, 7, 3, 54, 9, 21, 9, 7]
abbrev dktX0_chances_3 : List UInt8 := dkwX0_chances_3 ++ dktX0_chances_4
def dkwX0_chances_2 : List UInt8 := [162, 0, 115, 42, 43, 25, 5, 182, 0, 231, 153, 0, 105, 42, 43, 28, 29, 25, 5, 182, 0, 190, 25, 5]
abbrev dktX0_chances_2 : List UInt8 := dkwX0_chances_2 ++ dktX0_chances_3
def dkwX0_chances_1 : List UInt8 := [180, 0, 22, 21, 4, 182, 0, 150, 192, 0, 122, 58, 5, 3, 54, 6, 21, 6, 25, 5, 180, 0, 154]
abbrev dktX0_chances_1 : List UInt8 := dkwX0_chances_1 ++ dktX0_chances_2
def dkwX0_chances_0 : List UInt8 := [42, 10, 181, 1, 70, 42, 3, 181, 1, 74, 3, 54, 4, 21, 4, 43, 180, 0, 228, 162, 0, 148, 42]
abbrev dktX0_chances_0 : List UInt8 := dkwX0_chances_0 ++ dktX0_chances_1
theorem dksX0_chances_0 : cX0_chances.data.toList.drop 0 = dktX0_chances_0 := by decide +kernel
theorem dksX0_chances_1 : cX0_chances.data.toList.drop 23 = dktX0_chances_1 := dk_seg dksX0_chances_0 23 rfl rfl
theorem dksX0_chances_2 : cX0_chances.data.toList.drop 46 = dktX0_chances_2 := dk_seg dksX0_chances_1 23 rfl rfl
theorem dksX0_chances_3 : cX0_chances.data.toList.drop 70 = dktX0_chances_3 := dk_seg dksX0_chances_2 24 rfl rfl
theorem dksX0_chances_4 : cX0_chances.data.toList.drop 93 = dktX0_chances_4 := dk_seg dksX0_chances_3 23 rfl rfl
theorem dksX0_chances_5 : cX0_chances.data.toList.drop 117 = dktX0_chances_5 := dk_seg dksX0_chances_4 24 rfl rfl
theorem dksX0_chances_6 : cX0_chances.data.toList.drop 141 = dktX0_chances_6 := dk_seg dksX0_chances_5 24 rfl rfl
theorem dksX0_chances_7 : cX0_chances.data.toList.drop 164 = dktX0_chances_7 := dk_seg dksX0_chances_6 23 rfl rfl
theorem dksX0_chances_8 : cX0_chances.data.toList.drop 188 = dktX0_chances_8 := dk_seg dksX0_chances_7 24 rfl rfl
theorem dX0_chances_0 : decode cX0_chances 0 = .ok (.aload_n 0, 1) := dk_42 (dk_at dksX0_chances_0 0 rfl rfl)
theorem dX0_chances_1 : decode cX0_chances 1 = .ok (.lconst 1, 1) := dk_10 (dk_at dksX0_chances_0 1 rfl rfl)
theorem dX0_chances_2 : decode cX0_chances 2 = .ok (.putfield 326, 3) := dk_181 1 70 (dk_at dksX0_chances_0 2 rfl rfl)
theorem dX0_chances_5 : decode cX0_chances 5 = .ok (.aload_n 0, 1) := dk_42 (dk_at dksX0_chances_0 5 rfl rfl)
theorem dX0_chances_6 : decode cX0_chances 6 = .ok (.iconst 0, 1) := dk_3 (dk_at dksX0_chances_0 6 rfl rfl)
theorem dX0_chances_7 : decode cX0_chances 7 = .ok (.putfield 330, 3) := dk_181 1 74 (dk_at dksX0_chances_0 7 rfl rfl)
theorem dX0_chances_10 : decode cX0_chances 10 = .ok (.iconst 0, 1) := dk_3 (dk_at dksX0_chances_0 10 rfl rfl)
theorem dX0_chances_11 : decode cX0_chances 11 = .ok (.istore 4, 2) := dk_54 4 (dk_at dksX0_chances_0 11 rfl rfl)
theorem dX0_chances_13 : decode cX0_chances 13 = .ok (.iload 4, 2) := dk_21 4 (dk_at dksX0_chances_0 13 rfl rfl)
theorem dX0_chances_15 : decode cX0_chances 15 = .ok (.aload_n 1, 1) := dk_43 (dk_at dksX0_chances_0 15 rfl rfl)
theorem dX0_chances_16 : decode cX0_chances 16 = .ok (.getfield 228, 3) := dk_180 0 228 (dk_at dksX0_chances_0 16 rfl rfl)
theorem dX0_chances_19 : decode cX0_chances 19 = .ok (.if_icmp .ge 148, 3) := dk_162 0 148 (dk_at dksX0_chances_0 19 rfl rfl)
theorem dX0_chances_22 : decode cX0_chances 22 = .ok (.aload_n 0, 1) := dk_42 (dk_at dksX0_chances_0 22 rfl rfl)
theorem dX0_chances_23 : decode cX0_chances 23 = .ok (.getfield 22, 3) := dk_180 0 22 (dk_at dksX0_chances_1 0 rfl rfl)
theorem dX0_chances_26 : decode cX0_chances 26 = .ok (.iload 4, 2) := dk_21 4 (dk_at dksX0_chances_1 3 rfl rfl)
theorem dX0_chances_28 : decode cX0_chances 28 = .ok (.invokevirtual 150, 3) := dk_182 0 150 (dk_at dksX0_chances_1 5 rfl rfl)
theorem dX0_chances_31 : decode cX0_chances 31 = .ok (.checkcast 122, 3) := dk_192 0 122 (dk_at dksX0_chances_1 8 rfl rfl)
theorem dX0_chances_34 : decode cX0_chances 34 = .ok (.astore 5, 2) := dk_58 5 (dk_at dksX0_chances_1 11 rfl rfl)
theorem dX0_chances_36 : decode cX0_chances 36 = .ok (.iconst 0, 1) := dk_3 (dk_at dksX0_chances_1 13 rfl rfl)
theorem dX0_chances_37 : decode cX0_chances 37 = .ok (.istore 6, 2) := dk_54 6 (dk_at dksX0_chances_1 14 rfl rfl)
theorem dX0_chances_39 : decode cX0_chances 39 = .ok (.iload 6, 2) := dk_21 6 (dk_at dksX0_chances_1 16 rfl rfl)
theorem dX0_chances_41 : decode cX0_chances 41 = .ok (.aload 5, 2) := dk_25 5 (dk_at dksX0_chances_1 18 rfl rfl)
theorem dX0_chances_43 : decode cX0_chances 43 = .ok (.getfield 154, 3) := dk_180 0 154 (dk_at dksX0_chances_1 20 rfl rfl)
theorem dX0_chances_46 : decode cX0_chances 46 = .ok (.if_icmp .ge 115, 3) := dk_162 0 115 (dk_at dksX0_chances_2 0 rfl rfl)
theorem dX0_chances_49 : decode cX0_chances 49 = .ok (.aload_n 0, 1) := dk_42 (dk_at dksX0_chances_2 3 rfl rfl)
theorem dX0_chances_50 : decode cX0_chances 50 = .ok (.aload_n 1, 1) := dk_43 (dk_at dksX0_chances_2 4 rfl rfl)
theorem dX0_chances_51 : decode cX0_chances 51 = .ok (.aload 5, 2) := dk_25 5 (dk_at dksX0_chances_2 5 rfl rfl)
theorem dX0_chances_53 : decode cX0_chances 53 = .ok (.invokevirtual 231, 3) := dk_182 0 231 (dk_at dksX0_chances_2 7 rfl rfl)
theorem dX0_chances_56 : decode cX0_chances 56 = .ok (.ifCond .eq 105, 3) := dk_153 0 105 (dk_at dksX0_chances_2 10 rfl rfl)
theorem dX0_chances_59 : decode cX0_chances 59 = .ok (.aload_n 0, 1) := dk_42 (dk_at dksX0_chances_2 13 rfl rfl)
theorem dX0_chances_60 : decode cX0_chances 60 = .ok (.aload_n 1, 1) := dk_43 (dk_at dksX0_chances_2 14 rfl rfl)
theorem dX0_chances_61 : decode cX0_chances 61 = .ok (.iload_n 2, 1) := dk_28 (dk_at dksX0_chances_2 15 rfl rfl)
theorem dX0_chances_62 : decode cX0_chances 62 = .ok (.iload_n 3, 1) := dk_29 (dk_at dksX0_chances_2 16 rfl rfl)
theorem dX0_chances_63 : decode cX0_chances 63 = .ok (.aload 5, 2) := dk_25 5 (dk_at dksX0_chances_2 17 rfl rfl)
theorem dX0_chances_65 : decode cX0_chances 65 = .ok (.invokevirtual 190, 3) := dk_182 0 190 (dk_at dksX0_chances_2 19 rfl rfl)
theorem dX0_chances_68 : decode cX0_chances 68 = .ok (.aload 5, 2) := dk_25 5 (dk_at dksX0_chances_2 22 rfl rfl)
theorem dX0_chances_70 : decode cX0_chances 70 = .ok (.iload 6, 2) := dk_21 6 (dk_at dksX0_chances_3 0 rfl rfl)
theorem dX0_chances_72 : decode cX0_chances 72 = .ok (.invokevirtual 183, 3) := dk_182 0 183 (dk_at dksX0_chances_3 2 rfl rfl)
theorem dX0_chances_75 : decode cX0_chances 75 = .ok (.invokevirtual 235, 3) := dk_182 0 235 (dk_at dksX0_chances_3 5 rfl rfl)
theorem dX0_chances_78 : decode cX0_chances 78 = .ok (.ifCond .ne 6, 3) := dk_154 0 6 (dk_at dksX0_chances_3 8 rfl rfl)
theorem dX0_chances_81 : decode cX0_chances 81 = .ok (.goto 74, 3) := dk_167 0 74 (dk_at dksX0_chances_3 11 rfl rfl)
theorem dX0_chances_84 : decode cX0_chances 84 = .ok (.lconst 0, 1) := dk_9 (dk_at dksX0_chances_3 14 rfl rfl)
theorem dX0_chances_85 : decode cX0_chances 85 = .ok (.lstore 7, 2) := dk_55 7 (dk_at dksX0_chances_3 15 rfl rfl)
theorem dX0_chances_87 : decode cX0_chances 87 = .ok (.iconst 0, 1) := dk_3 (dk_at dksX0_chances_3 17 rfl rfl)
theorem dX0_chances_88 : decode cX0_chances 88 = .ok (.istore 9, 2) := dk_54 9 (dk_at dksX0_chances_3 18 rfl rfl)
theorem dX0_chances_90 : decode cX0_chances 90 = .ok (.iload 9, 2) := dk_21 9 (dk_at dksX0_chances_3 20 rfl rfl)
theorem dX0_chances_92 : decode cX0_chances 92 = .ok (.iconst 4, 1) := dk_7 (dk_at dksX0_chances_3 22 rfl rfl)
theorem dX0_chances_93 : decode cX0_chances 93 = .ok (.if_icmp .ge 41, 3) := dk_162 0 41 (dk_at dksX0_chances_4 0 rfl rfl)
theorem dX0_chances_96 : decode cX0_chances 96 = .ok (.aload_n 0, 1) := dk_42 (dk_at dksX0_chances_4 3 rfl rfl)
theorem dX0_chances_97 : decode cX0_chances 97 = .ok (.aload_n 1, 1) := dk_43 (dk_at dksX0_chances_4 4 rfl rfl)
theorem dX0_chances_98 : decode cX0_chances 98 = .ok (.iload_n 2, 1) := dk_28 (dk_at dksX0_chances_4 5 rfl rfl)
theorem dX0_chances_99 : decode cX0_chances 99 = .ok (.iload_n 3, 1) := dk_29 (dk_at dksX0_chances_4 6 rfl rfl)
theorem dX0_chances_100 : decode cX0_chances 100 = .ok (.aload 5, 2) := dk_25 5 (dk_at dksX0_chances_4 7 rfl rfl)
theorem dX0_chances_102 : decode cX0_chances 102 = .ok (.aload 5, 2) := dk_25 5 (dk_at dksX0_chances_4 9 rfl rfl)
theorem dX0_chances_104 : decode cX0_chances 104 = .ok (.iload 9, 2) := dk_21 9 (dk_at dksX0_chances_4 11 rfl rfl)
theorem dX0_chances_106 : decode cX0_chances 106 = .ok (.invokevirtual 196, 3) := dk_182 0 196 (dk_at dksX0_chances_4 13 rfl rfl)
theorem dX0_chances_109 : decode cX0_chances 109 = .ok (.invokevirtual 245, 3) := dk_182 0 245 (dk_at dksX0_chances_4 16 rfl rfl)
theorem dX0_chances_112 : decode cX0_chances 112 = .ok (.ifCond .ne 16, 3) := dk_154 0 16 (dk_at dksX0_chances_4 19 rfl rfl)
theorem dX0_chances_115 : decode cX0_chances 115 = .ok (.lload 7, 2) := dk_22 7 (dk_at dksX0_chances_4 22 rfl rfl)
theorem dX0_chances_117 : decode cX0_chances 117 = .ok (.aload_n 0, 1) := dk_42 (dk_at dksX0_chances_5 0 rfl rfl)
theorem dX0_chances_118 : decode cX0_chances 118 = .ok (.getfield 16, 3) := dk_180 0 16 (dk_at dksX0_chances_5 1 rfl rfl)
theorem dX0_chances_121 : decode cX0_chances 121 = .ok (.iload 9, 2) := dk_21 9 (dk_at dksX0_chances_5 4 rfl rfl)
theorem dX0_chances_123 : decode cX0_chances 123 = .ok (.iaload, 1) := dk_46 (dk_at dksX0_chances_5 6 rfl rfl)
theorem dX0_chances_124 : decode cX0_chances 124 = .ok (.i2l, 1) := dk_133 (dk_at dksX0_chances_5 7 rfl rfl)
theorem dX0_chances_125 : decode cX0_chances 125 = .ok (.ladd, 1) := dk_97 (dk_at dksX0_chances_5 8 rfl rfl)
theorem dX0_chances_126 : decode cX0_chances 126 = .ok (.lstore 7, 2) := dk_55 7 (dk_at dksX0_chances_5 9 rfl rfl)
theorem dX0_chances_128 : decode cX0_chances 128 = .ok (.iinc 9 1, 3) := dk_132 9 1 (dk_at dksX0_chances_5 11 rfl rfl)
theorem dX0_chances_131 : decode cX0_chances 131 = .ok (.goto (-41), 3) := dk_167 255 215 (dk_at dksX0_chances_5 14 rfl rfl)
theorem dX0_chances_134 : decode cX0_chances 134 = .ok (.aload_n 0, 1) := dk_42 (dk_at dksX0_chances_5 17 rfl rfl)
theorem dX0_chances_135 : decode cX0_chances 135 = .ok (.dup, 1) := dk_89 (dk_at dksX0_chances_5 18 rfl rfl)
theorem dX0_chances_136 : decode cX0_chances 136 = .ok (.getfield 326, 3) := dk_180 1 70 (dk_at dksX0_chances_5 19 rfl rfl)
theorem dX0_chances_139 : decode cX0_chances 139 = .ok (.lload 7, 2) := dk_22 7 (dk_at dksX0_chances_5 22 rfl rfl)
theorem dX0_chances_141 : decode cX0_chances 141 = .ok (.lmul, 1) := dk_105 (dk_at dksX0_chances_6 0 rfl rfl)
theorem dX0_chances_142 : decode cX0_chances 142 = .ok (.putfield 326, 3) := dk_181 1 70 (dk_at dksX0_chances_6 1 rfl rfl)
theorem dX0_chances_145 : decode cX0_chances 145 = .ok (.aload_n 0, 1) := dk_42 (dk_at dksX0_chances_6 4 rfl rfl)
theorem dX0_chances_146 : decode cX0_chances 146 = .ok (.dup, 1) := dk_89 (dk_at dksX0_chances_6 5 rfl rfl)
theorem dX0_chances_147 : decode cX0_chances 147 = .ok (.getfield 330, 3) := dk_180 1 74 (dk_at dksX0_chances_6 6 rfl rfl)
theorem dX0_chances_150 : decode cX0_chances 150 = .ok (.iconst 1, 1) := dk_4 (dk_at dksX0_chances_6 9 rfl rfl)
theorem dX0_chances_151 : decode cX0_chances 151 = .ok (.iadd, 1) := dk_96 (dk_at dksX0_chances_6 10 rfl rfl)
theorem dX0_chances_152 : decode cX0_chances 152 = .ok (.putfield 330, 3) := dk_181 1 74 (dk_at dksX0_chances_6 11 rfl rfl)
theorem dX0_chances_155 : decode cX0_chances 155 = .ok (.iinc 6 1, 3) := dk_132 6 1 (dk_at dksX0_chances_6 14 rfl rfl)
theorem dX0_chances_158 : decode cX0_chances 158 = .ok (.goto (-119), 3) := dk_167 255 137 (dk_at dksX0_chances_6 17 rfl rfl)
theorem dX0_chances_161 : decode cX0_chances 161 = .ok (.iinc 4 1, 3) := dk_132 4 1 (dk_at dksX0_chances_6 20 rfl rfl)
theorem dX0_chances_164 : decode cX0_chances 164 = .ok (.goto (-151), 3) := dk_167 255 105 (dk_at dksX0_chances_7 0 rfl rfl)
theorem dX0_chances_167 : decode cX0_chances 167 = .ok (.iconst 0, 1) := dk_3 (dk_at dksX0_chances_7 3 rfl rfl)
theorem dX0_chances_168 : decode cX0_chances 168 = .ok (.istore 4, 2) := dk_54 4 (dk_at dksX0_chances_7 4 rfl rfl)
theorem dX0_chances_170 : decode cX0_chances 170 = .ok (.iload 4, 2) := dk_21 4 (dk_at dksX0_chances_7 6 rfl rfl)
theorem dX0_chances_172 : decode cX0_chances 172 = .ok (.aload_n 0, 1) := dk_42 (dk_at dksX0_chances_7 8 rfl rfl)
theorem dX0_chances_173 : decode cX0_chances 173 = .ok (.getfield 210, 3) := dk_180 0 210 (dk_at dksX0_chances_7 9 rfl rfl)
theorem dX0_chances_176 : decode cX0_chances 176 = .ok (.if_icmp .ge 26, 3) := dk_162 0 26 (dk_at dksX0_chances_7 12 rfl rfl)
theorem dX0_chances_179 : decode cX0_chances 179 = .ok (.aload_n 0, 1) := dk_42 (dk_at dksX0_chances_7 15 rfl rfl)
theorem dX0_chances_180 : decode cX0_chances 180 = .ok (.aload_n 1, 1) := dk_43 (dk_at dksX0_chances_7 16 rfl rfl)
theorem dX0_chances_181 : decode cX0_chances 181 = .ok (.iload_n 2, 1) := dk_28 (dk_at dksX0_chances_7 17 rfl rfl)
theorem dX0_chances_182 : decode cX0_chances 182 = .ok (.iload_n 3, 1) := dk_29 (dk_at dksX0_chances_7 18 rfl rfl)
theorem dX0_chances_183 : decode cX0_chances 183 = .ok (.iload 4, 2) := dk_21 4 (dk_at dksX0_chances_7 19 rfl rfl)
theorem dX0_chances_185 : decode cX0_chances 185 = .ok (.invokevirtual 249, 3) := dk_182 0 249 (dk_at dksX0_chances_7 21 rfl rfl)
theorem dX0_chances_188 : decode cX0_chances 188 = .ok (.ifCond .eq 8, 3) := dk_153 0 8 (dk_at dksX0_chances_8 0 rfl rfl)
theorem dX0_chances_191 : decode cX0_chances 191 = .ok (.aload_n 0, 1) := dk_42 (dk_at dksX0_chances_8 3 rfl rfl)
theorem dX0_chances_192 : decode cX0_chances 192 = .ok (.lconst 0, 1) := dk_9 (dk_at dksX0_chances_8 4 rfl rfl)
theorem dX0_chances_193 : decode cX0_chances 193 = .ok (.putfield 326, 3) := dk_181 1 70 (dk_at dksX0_chances_8 5 rfl rfl)
theorem dX0_chances_196 : decode cX0_chances 196 = .ok (.iinc 4 1, 3) := dk_132 4 1 (dk_at dksX0_chances_8 8 rfl rfl)
theorem dX0_chances_199 : decode cX0_chances 199 = .ok (.goto (-29), 3) := dk_167 255 227 (dk_at dksX0_chances_8 11 rfl rfl)
theorem dX0_chances_202 : decode cX0_chances 202 = .ok (.return_, 1) := dk_177 (dk_at dksX0_chances_8 14 rfl rfl)
abbrev cX0_power : ByteArray := prog_1_method_44_code
def yX0_power : MethodName := ⟨RX0, "power", "(JI)J"⟩
def dkwX0_power_0 : List UInt8 := [10, 66, 3, 54, 5, 21, 5, 28, 162, 0, 13, 33, 30, 105, 66, 132, 5, 1, 167, 255, 243, 33, 173]
abbrev dktX0_power_0 : List UInt8 := dkwX0_power_0 ++ []
theorem dksX0_power_0 : cX0_power.data.toList.drop 0 = dktX0_power_0 := by decide +kernel
theorem dX0_power_0 : decode cX0_power 0 = .ok (.lconst 1, 1) := dk_10 (dk_at dksX0_power_0 0 rfl rfl)
theorem dX0_power_1 : decode cX0_power 1 = .ok (.lstore_n 3, 1) := dk_66 (dk_at dksX0_power_0 1 rfl rfl)
theorem dX0_power_2 : decode cX0_power 2 = .ok (.iconst 0, 1) := dk_3 (dk_at dksX0_power_0 2 rfl rfl)
theorem dX0_power_3 : decode cX0_power 3 = .ok (.istore 5, 2) := dk_54 5 (dk_at dksX0_power_0 3 rfl rfl)
theorem dX0_power_5 : decode cX0_power 5 = .ok (.iload 5, 2) := dk_21 5 (dk_at dksX0_power_0 5 rfl rfl)
theorem dX0_power_7 : decode cX0_power 7 = .ok (.iload_n 2, 1) := dk_28 (dk_at dksX0_power_0 7 rfl rfl)
theorem dX0_power_8 : decode cX0_power 8 = .ok (.if_icmp .ge 13, 3) := dk_162 0 13 (dk_at dksX0_power_0 8 rfl rfl)
theorem dX0_power_11 : decode cX0_power 11 = .ok (.lload_n 3, 1) := dk_33 (dk_at dksX0_power_0 11 rfl rfl)
theorem dX0_power_12 : decode cX0_power 12 = .ok (.lload_n 0, 1) := dk_30 (dk_at dksX0_power_0 12 rfl rfl)
theorem dX0_power_13 : decode cX0_power 13 = .ok (.lmul, 1) := dk_105 (dk_at dksX0_power_0 13 rfl rfl)
theorem dX0_power_14 : decode cX0_power 14 = .ok (.lstore_n 3, 1) := dk_66 (dk_at dksX0_power_0 14 rfl rfl)
theorem dX0_power_15 : decode cX0_power 15 = .ok (.iinc 5 1, 3) := dk_132 5 1 (dk_at dksX0_power_0 15 rfl rfl)
theorem dX0_power_18 : decode cX0_power 18 = .ok (.goto (-13), 3) := dk_167 255 243 (dk_at dksX0_power_0 18 rfl rfl)
theorem dX0_power_21 : decode cX0_power 21 = .ok (.lload_n 3, 1) := dk_33 (dk_at dksX0_power_0 21 rfl rfl)
theorem dX0_power_22 : decode cX0_power 22 = .ok (.lreturn, 1) := dk_173 (dk_at dksX0_power_0 22 rfl rfl)
abbrev cX0_lowest : ByteArray := prog_1_method_45_code
def yX0_lowest : MethodName := ⟨RX0, "lowest", "(JJI)J"⟩
def dkwX0_lowest_2 : List UInt8 := [173]
abbrev dktX0_lowest_2 : List UInt8 := dkwX0_lowest_2 ++ []
def dkwX0_lowest_1 : List UInt8 := [22, 7, 55, 5, 22, 9, 55, 7, 167, 255, 234, 21, 4, 154, 0, 7, 30, 167, 0, 4, 32, 22, 5, 109]
abbrev dktX0_lowest_1 : List UInt8 := dkwX0_lowest_1 ++ dktX0_lowest_2
def dkwX0_lowest_0 : List UInt8 := [30, 184, 1, 76, 55, 5, 32, 55, 7, 22, 7, 9, 148, 153, 0, 21, 22, 5, 22, 7, 113, 55, 9]
abbrev dktX0_lowest_0 : List UInt8 := dkwX0_lowest_0 ++ dktX0_lowest_1
theorem dksX0_lowest_0 : cX0_lowest.data.toList.drop 0 = dktX0_lowest_0 := by decide +kernel
theorem dksX0_lowest_1 : cX0_lowest.data.toList.drop 23 = dktX0_lowest_1 := dk_seg dksX0_lowest_0 23 rfl rfl
theorem dksX0_lowest_2 : cX0_lowest.data.toList.drop 47 = dktX0_lowest_2 := dk_seg dksX0_lowest_1 24 rfl rfl
theorem dX0_lowest_0 : decode cX0_lowest 0 = .ok (.lload_n 0, 1) := dk_30 (dk_at dksX0_lowest_0 0 rfl rfl)
theorem dX0_lowest_1 : decode cX0_lowest 1 = .ok (.invokestatic 332, 3) := dk_184 1 76 (dk_at dksX0_lowest_0 1 rfl rfl)
theorem dX0_lowest_4 : decode cX0_lowest 4 = .ok (.lstore 5, 2) := dk_55 5 (dk_at dksX0_lowest_0 4 rfl rfl)
theorem dX0_lowest_6 : decode cX0_lowest 6 = .ok (.lload_n 2, 1) := dk_32 (dk_at dksX0_lowest_0 6 rfl rfl)
theorem dX0_lowest_7 : decode cX0_lowest 7 = .ok (.lstore 7, 2) := dk_55 7 (dk_at dksX0_lowest_0 7 rfl rfl)
theorem dX0_lowest_9 : decode cX0_lowest 9 = .ok (.lload 7, 2) := dk_22 7 (dk_at dksX0_lowest_0 9 rfl rfl)
theorem dX0_lowest_11 : decode cX0_lowest 11 = .ok (.lconst 0, 1) := dk_9 (dk_at dksX0_lowest_0 11 rfl rfl)
theorem dX0_lowest_12 : decode cX0_lowest 12 = .ok (.lcmp, 1) := dk_148 (dk_at dksX0_lowest_0 12 rfl rfl)
theorem dX0_lowest_13 : decode cX0_lowest 13 = .ok (.ifCond .eq 21, 3) := dk_153 0 21 (dk_at dksX0_lowest_0 13 rfl rfl)
theorem dX0_lowest_16 : decode cX0_lowest 16 = .ok (.lload 5, 2) := dk_22 5 (dk_at dksX0_lowest_0 16 rfl rfl)
theorem dX0_lowest_18 : decode cX0_lowest 18 = .ok (.lload 7, 2) := dk_22 7 (dk_at dksX0_lowest_0 18 rfl rfl)
theorem dX0_lowest_20 : decode cX0_lowest 20 = .ok (.lrem, 1) := dk_113 (dk_at dksX0_lowest_0 20 rfl rfl)
theorem dX0_lowest_21 : decode cX0_lowest 21 = .ok (.lstore 9, 2) := dk_55 9 (dk_at dksX0_lowest_0 21 rfl rfl)
theorem dX0_lowest_23 : decode cX0_lowest 23 = .ok (.lload 7, 2) := dk_22 7 (dk_at dksX0_lowest_1 0 rfl rfl)
theorem dX0_lowest_25 : decode cX0_lowest 25 = .ok (.lstore 5, 2) := dk_55 5 (dk_at dksX0_lowest_1 2 rfl rfl)
theorem dX0_lowest_27 : decode cX0_lowest 27 = .ok (.lload 9, 2) := dk_22 9 (dk_at dksX0_lowest_1 4 rfl rfl)
theorem dX0_lowest_29 : decode cX0_lowest 29 = .ok (.lstore 7, 2) := dk_55 7 (dk_at dksX0_lowest_1 6 rfl rfl)
theorem dX0_lowest_31 : decode cX0_lowest 31 = .ok (.goto (-22), 3) := dk_167 255 234 (dk_at dksX0_lowest_1 8 rfl rfl)
theorem dX0_lowest_34 : decode cX0_lowest 34 = .ok (.iload 4, 2) := dk_21 4 (dk_at dksX0_lowest_1 11 rfl rfl)
theorem dX0_lowest_36 : decode cX0_lowest 36 = .ok (.ifCond .ne 7, 3) := dk_154 0 7 (dk_at dksX0_lowest_1 13 rfl rfl)
theorem dX0_lowest_39 : decode cX0_lowest 39 = .ok (.lload_n 0, 1) := dk_30 (dk_at dksX0_lowest_1 16 rfl rfl)
theorem dX0_lowest_40 : decode cX0_lowest 40 = .ok (.goto 4, 3) := dk_167 0 4 (dk_at dksX0_lowest_1 17 rfl rfl)
theorem dX0_lowest_43 : decode cX0_lowest 43 = .ok (.lload_n 2, 1) := dk_32 (dk_at dksX0_lowest_1 20 rfl rfl)
theorem dX0_lowest_44 : decode cX0_lowest 44 = .ok (.lload 5, 2) := dk_22 5 (dk_at dksX0_lowest_1 21 rfl rfl)
theorem dX0_lowest_46 : decode cX0_lowest 46 = .ok (.ldiv, 1) := dk_109 (dk_at dksX0_lowest_1 23 rfl rfl)
theorem dX0_lowest_47 : decode cX0_lowest 47 = .ok (.lreturn, 1) := dk_173 (dk_at dksX0_lowest_2 0 rfl rfl)
abbrev cX0_mean : ByteArray := prog_1_method_47_code
def yX0_mean : MethodName := ⟨RX0, "mean", "(III)J"⟩
def dkwX0_mean_7 : List UInt8 := [173]
abbrev dktX0_mean_7 : List UInt8 := dkwX0_mean_7 ++ []
def dkwX0_mean_6 : List UInt8 := [97, 55, 6, 132, 8, 1, 167, 255, 200, 22, 6, 42, 182, 1, 79, 21, 5, 184, 1, 89, 29, 184, 1, 93]
abbrev dktX0_mean_6 : List UInt8 := dkwX0_mean_6 ++ dktX0_mean_7
def dkwX0_mean_5 : List UInt8 := [182, 1, 25, 133, 42, 180, 1, 70, 105, 42, 182, 1, 79, 21, 5, 42, 180, 1, 74, 100, 184, 1, 89, 105]
abbrev dktX0_mean_5 : List UInt8 := dkwX0_mean_5 ++ dktX0_mean_6
def dkwX0_mean_4 : List UInt8 := [180, 0, 203, 162, 0, 53, 42, 25, 4, 28, 21, 8, 182, 1, 85, 22, 6, 42, 25, 4, 28, 21, 8]
abbrev dktX0_mean_4 : List UInt8 := dkwX0_mean_4 ++ dktX0_mean_5
def dkwX0_mean_3 : List UInt8 := [180, 1, 74, 184, 1, 18, 54, 5, 132, 6, 1, 167, 255, 224, 9, 55, 6, 3, 54, 8, 21, 8, 42]
abbrev dktX0_mean_3 : List UInt8 := dkwX0_mean_3 ++ dktX0_mean_4
def dkwX0_mean_2 : List UInt8 := [3, 54, 6, 21, 6, 42, 180, 0, 203, 162, 0, 29, 42, 25, 4, 28, 21, 6, 182, 1, 85, 21, 5, 42]
abbrev dktX0_mean_2 : List UInt8 := dkwX0_mean_2 ++ dktX0_mean_3
def dkwX0_mean_1 : List UInt8 := [148, 154, 0, 7, 20, 1, 83, 173, 42, 180, 0, 22, 27, 182, 0, 150, 192, 0, 122, 58, 4, 3, 54, 5]
abbrev dktX0_mean_1 : List UInt8 := dkwX0_mean_1 ++ dktX0_mean_2
def dkwX0_mean_0 : List UInt8 := [42, 27, 28, 182, 0, 173, 153, 0, 22, 29, 133, 9, 10, 184, 0, 112, 153, 0, 12, 42, 182, 1, 79, 9]
abbrev dktX0_mean_0 : List UInt8 := dkwX0_mean_0 ++ dktX0_mean_1
theorem dksX0_mean_0 : cX0_mean.data.toList.drop 0 = dktX0_mean_0 := by decide +kernel
theorem dksX0_mean_1 : cX0_mean.data.toList.drop 24 = dktX0_mean_1 := dk_seg dksX0_mean_0 24 rfl rfl
theorem dksX0_mean_2 : cX0_mean.data.toList.drop 48 = dktX0_mean_2 := dk_seg dksX0_mean_1 24 rfl rfl
theorem dksX0_mean_3 : cX0_mean.data.toList.drop 72 = dktX0_mean_3 := dk_seg dksX0_mean_2 24 rfl rfl
theorem dksX0_mean_4 : cX0_mean.data.toList.drop 95 = dktX0_mean_4 := dk_seg dksX0_mean_3 23 rfl rfl
theorem dksX0_mean_5 : cX0_mean.data.toList.drop 118 = dktX0_mean_5 := dk_seg dksX0_mean_4 23 rfl rfl
theorem dksX0_mean_6 : cX0_mean.data.toList.drop 142 = dktX0_mean_6 := dk_seg dksX0_mean_5 24 rfl rfl
theorem dksX0_mean_7 : cX0_mean.data.toList.drop 166 = dktX0_mean_7 := dk_seg dksX0_mean_6 24 rfl rfl
theorem dX0_mean_0 : decode cX0_mean 0 = .ok (.aload_n 0, 1) := dk_42 (dk_at dksX0_mean_0 0 rfl rfl)
theorem dX0_mean_1 : decode cX0_mean 1 = .ok (.iload_n 1, 1) := dk_27 (dk_at dksX0_mean_0 1 rfl rfl)
theorem dX0_mean_2 : decode cX0_mean 2 = .ok (.iload_n 2, 1) := dk_28 (dk_at dksX0_mean_0 2 rfl rfl)
theorem dX0_mean_3 : decode cX0_mean 3 = .ok (.invokevirtual 173, 3) := dk_182 0 173 (dk_at dksX0_mean_0 3 rfl rfl)
theorem dX0_mean_6 : decode cX0_mean 6 = .ok (.ifCond .eq 22, 3) := dk_153 0 22 (dk_at dksX0_mean_0 6 rfl rfl)
theorem dX0_mean_9 : decode cX0_mean 9 = .ok (.iload_n 3, 1) := dk_29 (dk_at dksX0_mean_0 9 rfl rfl)
theorem dX0_mean_10 : decode cX0_mean 10 = .ok (.i2l, 1) := dk_133 (dk_at dksX0_mean_0 10 rfl rfl)
theorem dX0_mean_11 : decode cX0_mean 11 = .ok (.lconst 0, 1) := dk_9 (dk_at dksX0_mean_0 11 rfl rfl)
theorem dX0_mean_12 : decode cX0_mean 12 = .ok (.lconst 1, 1) := dk_10 (dk_at dksX0_mean_0 12 rfl rfl)
theorem dX0_mean_13 : decode cX0_mean 13 = .ok (.invokestatic 112, 3) := dk_184 0 112 (dk_at dksX0_mean_0 13 rfl rfl)
theorem dX0_mean_16 : decode cX0_mean 16 = .ok (.ifCond .eq 12, 3) := dk_153 0 12 (dk_at dksX0_mean_0 16 rfl rfl)
theorem dX0_mean_19 : decode cX0_mean 19 = .ok (.aload_n 0, 1) := dk_42 (dk_at dksX0_mean_0 19 rfl rfl)
theorem dX0_mean_20 : decode cX0_mean 20 = .ok (.invokevirtual 335, 3) := dk_182 1 79 (dk_at dksX0_mean_0 20 rfl rfl)
theorem dX0_mean_23 : decode cX0_mean 23 = .ok (.lconst 0, 1) := dk_9 (dk_at dksX0_mean_0 23 rfl rfl)
theorem dX0_mean_24 : decode cX0_mean 24 = .ok (.lcmp, 1) := dk_148 (dk_at dksX0_mean_1 0 rfl rfl)
theorem dX0_mean_25 : decode cX0_mean 25 = .ok (.ifCond .ne 7, 3) := dk_154 0 7 (dk_at dksX0_mean_1 1 rfl rfl)
theorem dX0_mean_28 : decode cX0_mean 28 = .ok (.ldc2_w 339, 3) := dk_20 1 83 (dk_at dksX0_mean_1 4 rfl rfl)
theorem dX0_mean_31 : decode cX0_mean 31 = .ok (.lreturn, 1) := dk_173 (dk_at dksX0_mean_1 7 rfl rfl)
theorem dX0_mean_32 : decode cX0_mean 32 = .ok (.aload_n 0, 1) := dk_42 (dk_at dksX0_mean_1 8 rfl rfl)
theorem dX0_mean_33 : decode cX0_mean 33 = .ok (.getfield 22, 3) := dk_180 0 22 (dk_at dksX0_mean_1 9 rfl rfl)
theorem dX0_mean_36 : decode cX0_mean 36 = .ok (.iload_n 1, 1) := dk_27 (dk_at dksX0_mean_1 12 rfl rfl)
theorem dX0_mean_37 : decode cX0_mean 37 = .ok (.invokevirtual 150, 3) := dk_182 0 150 (dk_at dksX0_mean_1 13 rfl rfl)
theorem dX0_mean_40 : decode cX0_mean 40 = .ok (.checkcast 122, 3) := dk_192 0 122 (dk_at dksX0_mean_1 16 rfl rfl)
theorem dX0_mean_43 : decode cX0_mean 43 = .ok (.astore 4, 2) := dk_58 4 (dk_at dksX0_mean_1 19 rfl rfl)
theorem dX0_mean_45 : decode cX0_mean 45 = .ok (.iconst 0, 1) := dk_3 (dk_at dksX0_mean_1 21 rfl rfl)
theorem dX0_mean_46 : decode cX0_mean 46 = .ok (.istore 5, 2) := dk_54 5 (dk_at dksX0_mean_1 22 rfl rfl)
theorem dX0_mean_48 : decode cX0_mean 48 = .ok (.iconst 0, 1) := dk_3 (dk_at dksX0_mean_2 0 rfl rfl)
theorem dX0_mean_49 : decode cX0_mean 49 = .ok (.istore 6, 2) := dk_54 6 (dk_at dksX0_mean_2 1 rfl rfl)
theorem dX0_mean_51 : decode cX0_mean 51 = .ok (.iload 6, 2) := dk_21 6 (dk_at dksX0_mean_2 3 rfl rfl)
theorem dX0_mean_53 : decode cX0_mean 53 = .ok (.aload_n 0, 1) := dk_42 (dk_at dksX0_mean_2 5 rfl rfl)
theorem dX0_mean_54 : decode cX0_mean 54 = .ok (.getfield 203, 3) := dk_180 0 203 (dk_at dksX0_mean_2 6 rfl rfl)
theorem dX0_mean_57 : decode cX0_mean 57 = .ok (.if_icmp .ge 29, 3) := dk_162 0 29 (dk_at dksX0_mean_2 9 rfl rfl)
theorem dX0_mean_60 : decode cX0_mean 60 = .ok (.aload_n 0, 1) := dk_42 (dk_at dksX0_mean_2 12 rfl rfl)
theorem dX0_mean_61 : decode cX0_mean 61 = .ok (.aload 4, 2) := dk_25 4 (dk_at dksX0_mean_2 13 rfl rfl)
theorem dX0_mean_63 : decode cX0_mean 63 = .ok (.iload_n 2, 1) := dk_28 (dk_at dksX0_mean_2 15 rfl rfl)
theorem dX0_mean_64 : decode cX0_mean 64 = .ok (.iload 6, 2) := dk_21 6 (dk_at dksX0_mean_2 16 rfl rfl)
theorem dX0_mean_66 : decode cX0_mean 66 = .ok (.invokevirtual 341, 3) := dk_182 1 85 (dk_at dksX0_mean_2 18 rfl rfl)
theorem dX0_mean_69 : decode cX0_mean 69 = .ok (.iload 5, 2) := dk_21 5 (dk_at dksX0_mean_2 21 rfl rfl)
theorem dX0_mean_71 : decode cX0_mean 71 = .ok (.aload_n 0, 1) := dk_42 (dk_at dksX0_mean_2 23 rfl rfl)
theorem dX0_mean_72 : decode cX0_mean 72 = .ok (.getfield 330, 3) := dk_180 1 74 (dk_at dksX0_mean_3 0 rfl rfl)
theorem dX0_mean_75 : decode cX0_mean 75 = .ok (.invokestatic 274, 3) := dk_184 1 18 (dk_at dksX0_mean_3 3 rfl rfl)
theorem dX0_mean_78 : decode cX0_mean 78 = .ok (.istore 5, 2) := dk_54 5 (dk_at dksX0_mean_3 6 rfl rfl)
theorem dX0_mean_80 : decode cX0_mean 80 = .ok (.iinc 6 1, 3) := dk_132 6 1 (dk_at dksX0_mean_3 8 rfl rfl)
theorem dX0_mean_83 : decode cX0_mean 83 = .ok (.goto (-32), 3) := dk_167 255 224 (dk_at dksX0_mean_3 11 rfl rfl)
theorem dX0_mean_86 : decode cX0_mean 86 = .ok (.lconst 0, 1) := dk_9 (dk_at dksX0_mean_3 14 rfl rfl)
theorem dX0_mean_87 : decode cX0_mean 87 = .ok (.lstore 6, 2) := dk_55 6 (dk_at dksX0_mean_3 15 rfl rfl)
theorem dX0_mean_89 : decode cX0_mean 89 = .ok (.iconst 0, 1) := dk_3 (dk_at dksX0_mean_3 17 rfl rfl)
theorem dX0_mean_90 : decode cX0_mean 90 = .ok (.istore 8, 2) := dk_54 8 (dk_at dksX0_mean_3 18 rfl rfl)
theorem dX0_mean_92 : decode cX0_mean 92 = .ok (.iload 8, 2) := dk_21 8 (dk_at dksX0_mean_3 20 rfl rfl)
theorem dX0_mean_94 : decode cX0_mean 94 = .ok (.aload_n 0, 1) := dk_42 (dk_at dksX0_mean_3 22 rfl rfl)
theorem dX0_mean_95 : decode cX0_mean 95 = .ok (.getfield 203, 3) := dk_180 0 203 (dk_at dksX0_mean_4 0 rfl rfl)
theorem dX0_mean_98 : decode cX0_mean 98 = .ok (.if_icmp .ge 53, 3) := dk_162 0 53 (dk_at dksX0_mean_4 3 rfl rfl)
theorem dX0_mean_101 : decode cX0_mean 101 = .ok (.aload_n 0, 1) := dk_42 (dk_at dksX0_mean_4 6 rfl rfl)
theorem dX0_mean_102 : decode cX0_mean 102 = .ok (.aload 4, 2) := dk_25 4 (dk_at dksX0_mean_4 7 rfl rfl)
theorem dX0_mean_104 : decode cX0_mean 104 = .ok (.iload_n 2, 1) := dk_28 (dk_at dksX0_mean_4 9 rfl rfl)
theorem dX0_mean_105 : decode cX0_mean 105 = .ok (.iload 8, 2) := dk_21 8 (dk_at dksX0_mean_4 10 rfl rfl)
theorem dX0_mean_107 : decode cX0_mean 107 = .ok (.invokevirtual 341, 3) := dk_182 1 85 (dk_at dksX0_mean_4 12 rfl rfl)
theorem dX0_mean_110 : decode cX0_mean 110 = .ok (.lload 6, 2) := dk_22 6 (dk_at dksX0_mean_4 15 rfl rfl)
theorem dX0_mean_112 : decode cX0_mean 112 = .ok (.aload_n 0, 1) := dk_42 (dk_at dksX0_mean_4 17 rfl rfl)
theorem dX0_mean_113 : decode cX0_mean 113 = .ok (.aload 4, 2) := dk_25 4 (dk_at dksX0_mean_4 18 rfl rfl)
theorem dX0_mean_115 : decode cX0_mean 115 = .ok (.iload_n 2, 1) := dk_28 (dk_at dksX0_mean_4 20 rfl rfl)
theorem dX0_mean_116 : decode cX0_mean 116 = .ok (.iload 8, 2) := dk_21 8 (dk_at dksX0_mean_4 21 rfl rfl)
theorem dX0_mean_118 : decode cX0_mean 118 = .ok (.invokevirtual 281, 3) := dk_182 1 25 (dk_at dksX0_mean_5 0 rfl rfl)
theorem dX0_mean_121 : decode cX0_mean 121 = .ok (.i2l, 1) := dk_133 (dk_at dksX0_mean_5 3 rfl rfl)
theorem dX0_mean_122 : decode cX0_mean 122 = .ok (.aload_n 0, 1) := dk_42 (dk_at dksX0_mean_5 4 rfl rfl)
theorem dX0_mean_123 : decode cX0_mean 123 = .ok (.getfield 326, 3) := dk_180 1 70 (dk_at dksX0_mean_5 5 rfl rfl)
theorem dX0_mean_126 : decode cX0_mean 126 = .ok (.lmul, 1) := dk_105 (dk_at dksX0_mean_5 8 rfl rfl)
theorem dX0_mean_127 : decode cX0_mean 127 = .ok (.aload_n 0, 1) := dk_42 (dk_at dksX0_mean_5 9 rfl rfl)
theorem dX0_mean_128 : decode cX0_mean 128 = .ok (.invokevirtual 335, 3) := dk_182 1 79 (dk_at dksX0_mean_5 10 rfl rfl)
theorem dX0_mean_131 : decode cX0_mean 131 = .ok (.iload 5, 2) := dk_21 5 (dk_at dksX0_mean_5 13 rfl rfl)
theorem dX0_mean_133 : decode cX0_mean 133 = .ok (.aload_n 0, 1) := dk_42 (dk_at dksX0_mean_5 15 rfl rfl)
theorem dX0_mean_134 : decode cX0_mean 134 = .ok (.getfield 330, 3) := dk_180 1 74 (dk_at dksX0_mean_5 16 rfl rfl)
theorem dX0_mean_137 : decode cX0_mean 137 = .ok (.isub, 1) := dk_100 (dk_at dksX0_mean_5 19 rfl rfl)
theorem dX0_mean_138 : decode cX0_mean 138 = .ok (.invokestatic 345, 3) := dk_184 1 89 (dk_at dksX0_mean_5 20 rfl rfl)
theorem dX0_mean_141 : decode cX0_mean 141 = .ok (.lmul, 1) := dk_105 (dk_at dksX0_mean_5 23 rfl rfl)
theorem dX0_mean_142 : decode cX0_mean 142 = .ok (.ladd, 1) := dk_97 (dk_at dksX0_mean_6 0 rfl rfl)
theorem dX0_mean_143 : decode cX0_mean 143 = .ok (.lstore 6, 2) := dk_55 6 (dk_at dksX0_mean_6 1 rfl rfl)
theorem dX0_mean_145 : decode cX0_mean 145 = .ok (.iinc 8 1, 3) := dk_132 8 1 (dk_at dksX0_mean_6 3 rfl rfl)
theorem dX0_mean_148 : decode cX0_mean 148 = .ok (.goto (-56), 3) := dk_167 255 200 (dk_at dksX0_mean_6 6 rfl rfl)
theorem dX0_mean_151 : decode cX0_mean 151 = .ok (.lload 6, 2) := dk_22 6 (dk_at dksX0_mean_6 9 rfl rfl)
theorem dX0_mean_153 : decode cX0_mean 153 = .ok (.aload_n 0, 1) := dk_42 (dk_at dksX0_mean_6 11 rfl rfl)
theorem dX0_mean_154 : decode cX0_mean 154 = .ok (.invokevirtual 335, 3) := dk_182 1 79 (dk_at dksX0_mean_6 12 rfl rfl)
theorem dX0_mean_157 : decode cX0_mean 157 = .ok (.iload 5, 2) := dk_21 5 (dk_at dksX0_mean_6 15 rfl rfl)
theorem dX0_mean_159 : decode cX0_mean 159 = .ok (.invokestatic 345, 3) := dk_184 1 89 (dk_at dksX0_mean_6 17 rfl rfl)
theorem dX0_mean_162 : decode cX0_mean 162 = .ok (.iload_n 3, 1) := dk_29 (dk_at dksX0_mean_6 20 rfl rfl)
theorem dX0_mean_163 : decode cX0_mean 163 = .ok (.invokestatic 349, 3) := dk_184 1 93 (dk_at dksX0_mean_6 21 rfl rfl)
theorem dX0_mean_166 : decode cX0_mean 166 = .ok (.lreturn, 1) := dk_173 (dk_at dksX0_mean_7 0 rfl rfl)
abbrev cX0_tall : ByteArray := prog_1_method_48_code
def yX0_tall : MethodName := ⟨RX0, "tall", "(I)I"⟩
def dkwX0_tall_3 : List UInt8 := [182, 1, 109, 45, 191]
abbrev dktX0_tall_3 : List UInt8 := dkwX0_tall_3 ++ []
def dkwX0_tall_2 : List UInt8 := [145, 184, 1, 100, 132, 2, 1, 167, 255, 223, 42, 182, 1, 106, 61, 42, 182, 1, 109, 28, 172, 78, 42]
abbrev dktX0_tall_2 : List UInt8 := dkwX0_tall_2 ++ dktX0_tall_3
def dkwX0_tall_1 : List UInt8 := [180, 0, 22, 182, 0, 142, 162, 0, 28, 42, 180, 0, 22, 28, 182, 0, 150, 192, 0, 122, 180, 0, 177, 27]
abbrev dktX0_tall_1 : List UInt8 := dkwX0_tall_1 ++ dktX0_tall_2
def dkwX0_tall_0 : List UInt8 := [27, 133, 9, 20, 0, 110, 184, 0, 112, 154, 0, 6, 16, 254, 172, 42, 182, 1, 97, 3, 61, 28, 42]
abbrev dktX0_tall_0 : List UInt8 := dkwX0_tall_0 ++ dktX0_tall_1
theorem dksX0_tall_0 : cX0_tall.data.toList.drop 0 = dktX0_tall_0 := by decide +kernel
theorem dksX0_tall_1 : cX0_tall.data.toList.drop 23 = dktX0_tall_1 := dk_seg dksX0_tall_0 23 rfl rfl
theorem dksX0_tall_2 : cX0_tall.data.toList.drop 47 = dktX0_tall_2 := dk_seg dksX0_tall_1 24 rfl rfl
theorem dksX0_tall_3 : cX0_tall.data.toList.drop 70 = dktX0_tall_3 := dk_seg dksX0_tall_2 23 rfl rfl
theorem dX0_tall_0 : decode cX0_tall 0 = .ok (.iload_n 1, 1) := dk_27 (dk_at dksX0_tall_0 0 rfl rfl)
theorem dX0_tall_1 : decode cX0_tall 1 = .ok (.i2l, 1) := dk_133 (dk_at dksX0_tall_0 1 rfl rfl)
theorem dX0_tall_2 : decode cX0_tall 2 = .ok (.lconst 0, 1) := dk_9 (dk_at dksX0_tall_0 2 rfl rfl)
theorem dX0_tall_3 : decode cX0_tall 3 = .ok (.ldc2_w 110, 3) := dk_20 0 110 (dk_at dksX0_tall_0 3 rfl rfl)
theorem dX0_tall_6 : decode cX0_tall 6 = .ok (.invokestatic 112, 3) := dk_184 0 112 (dk_at dksX0_tall_0 6 rfl rfl)
theorem dX0_tall_9 : decode cX0_tall 9 = .ok (.ifCond .ne 6, 3) := dk_154 0 6 (dk_at dksX0_tall_0 9 rfl rfl)
theorem dX0_tall_12 : decode cX0_tall 12 = .ok (.bipush (-2), 2) := dk_16 254 (dk_at dksX0_tall_0 12 rfl rfl)
theorem dX0_tall_14 : decode cX0_tall 14 = .ok (.ireturn, 1) := dk_172 (dk_at dksX0_tall_0 14 rfl rfl)
theorem dX0_tall_15 : decode cX0_tall 15 = .ok (.aload_n 0, 1) := dk_42 (dk_at dksX0_tall_0 15 rfl rfl)
theorem dX0_tall_16 : decode cX0_tall 16 = .ok (.invokevirtual 353, 3) := dk_182 1 97 (dk_at dksX0_tall_0 16 rfl rfl)
theorem dX0_tall_19 : decode cX0_tall 19 = .ok (.iconst 0, 1) := dk_3 (dk_at dksX0_tall_0 19 rfl rfl)
theorem dX0_tall_20 : decode cX0_tall 20 = .ok (.istore_n 2, 1) := dk_61 (dk_at dksX0_tall_0 20 rfl rfl)
theorem dX0_tall_21 : decode cX0_tall 21 = .ok (.iload_n 2, 1) := dk_28 (dk_at dksX0_tall_0 21 rfl rfl)
theorem dX0_tall_22 : decode cX0_tall 22 = .ok (.aload_n 0, 1) := dk_42 (dk_at dksX0_tall_0 22 rfl rfl)
theorem dX0_tall_23 : decode cX0_tall 23 = .ok (.getfield 22, 3) := dk_180 0 22 (dk_at dksX0_tall_1 0 rfl rfl)
theorem dX0_tall_26 : decode cX0_tall 26 = .ok (.invokevirtual 142, 3) := dk_182 0 142 (dk_at dksX0_tall_1 3 rfl rfl)
theorem dX0_tall_29 : decode cX0_tall 29 = .ok (.if_icmp .ge 28, 3) := dk_162 0 28 (dk_at dksX0_tall_1 6 rfl rfl)
theorem dX0_tall_32 : decode cX0_tall 32 = .ok (.aload_n 0, 1) := dk_42 (dk_at dksX0_tall_1 9 rfl rfl)
theorem dX0_tall_33 : decode cX0_tall 33 = .ok (.getfield 22, 3) := dk_180 0 22 (dk_at dksX0_tall_1 10 rfl rfl)
theorem dX0_tall_36 : decode cX0_tall 36 = .ok (.iload_n 2, 1) := dk_28 (dk_at dksX0_tall_1 13 rfl rfl)
theorem dX0_tall_37 : decode cX0_tall 37 = .ok (.invokevirtual 150, 3) := dk_182 0 150 (dk_at dksX0_tall_1 14 rfl rfl)
theorem dX0_tall_40 : decode cX0_tall 40 = .ok (.checkcast 122, 3) := dk_192 0 122 (dk_at dksX0_tall_1 17 rfl rfl)
theorem dX0_tall_43 : decode cX0_tall 43 = .ok (.getfield 177, 3) := dk_180 0 177 (dk_at dksX0_tall_1 20 rfl rfl)
theorem dX0_tall_46 : decode cX0_tall 46 = .ok (.iload_n 1, 1) := dk_27 (dk_at dksX0_tall_1 23 rfl rfl)
theorem dX0_tall_47 : decode cX0_tall 47 = .ok (.i2b, 1) := dk_145 (dk_at dksX0_tall_2 0 rfl rfl)
theorem dX0_tall_48 : decode cX0_tall 48 = .ok (.invokestatic 356, 3) := dk_184 1 100 (dk_at dksX0_tall_2 1 rfl rfl)
theorem dX0_tall_51 : decode cX0_tall 51 = .ok (.iinc 2 1, 3) := dk_132 2 1 (dk_at dksX0_tall_2 4 rfl rfl)
theorem dX0_tall_54 : decode cX0_tall 54 = .ok (.goto (-33), 3) := dk_167 255 223 (dk_at dksX0_tall_2 7 rfl rfl)
theorem dX0_tall_57 : decode cX0_tall 57 = .ok (.aload_n 0, 1) := dk_42 (dk_at dksX0_tall_2 10 rfl rfl)
theorem dX0_tall_58 : decode cX0_tall 58 = .ok (.invokevirtual 362, 3) := dk_182 1 106 (dk_at dksX0_tall_2 11 rfl rfl)
theorem dX0_tall_61 : decode cX0_tall 61 = .ok (.istore_n 2, 1) := dk_61 (dk_at dksX0_tall_2 14 rfl rfl)
theorem dX0_tall_62 : decode cX0_tall 62 = .ok (.aload_n 0, 1) := dk_42 (dk_at dksX0_tall_2 15 rfl rfl)
theorem dX0_tall_63 : decode cX0_tall 63 = .ok (.invokevirtual 365, 3) := dk_182 1 109 (dk_at dksX0_tall_2 16 rfl rfl)
theorem dX0_tall_66 : decode cX0_tall 66 = .ok (.iload_n 2, 1) := dk_28 (dk_at dksX0_tall_2 19 rfl rfl)
theorem dX0_tall_67 : decode cX0_tall 67 = .ok (.ireturn, 1) := dk_172 (dk_at dksX0_tall_2 20 rfl rfl)
theorem dX0_tall_68 : decode cX0_tall 68 = .ok (.astore_n 3, 1) := dk_78 (dk_at dksX0_tall_2 21 rfl rfl)
theorem dX0_tall_69 : decode cX0_tall 69 = .ok (.aload_n 0, 1) := dk_42 (dk_at dksX0_tall_2 22 rfl rfl)
theorem dX0_tall_70 : decode cX0_tall 70 = .ok (.invokevirtual 365, 3) := dk_182 1 109 (dk_at dksX0_tall_3 0 rfl rfl)
theorem dX0_tall_73 : decode cX0_tall 73 = .ok (.aload_n 3, 1) := dk_45 (dk_at dksX0_tall_3 3 rfl rfl)
theorem dX0_tall_74 : decode cX0_tall 74 = .ok (.athrow, 1) := dk_191 (dk_at dksX0_tall_3 4 rfl rfl)
abbrev cX0_keepsSits : ByteArray := prog_1_method_49_code
def yX0_keepsSits : MethodName := ⟨RX0, "keepsSits", "()V"⟩
def dkwX0_keepsSits_1 : List UInt8 := [180, 0, 177, 3, 42, 180, 0, 53, 16, 8, 27, 104, 16, 8, 184, 1, 58, 132, 1, 1, 167, 255, 214, 177]
abbrev dktX0_keepsSits_1 : List UInt8 := dkwX0_keepsSits_1 ++ []
def dkwX0_keepsSits_0 : List UInt8 := [3, 60, 27, 42, 180, 0, 22, 182, 0, 142, 162, 0, 37, 42, 180, 0, 22, 27, 182, 0, 150, 192, 0, 122]
abbrev dktX0_keepsSits_0 : List UInt8 := dkwX0_keepsSits_0 ++ dktX0_keepsSits_1
theorem dksX0_keepsSits_0 : cX0_keepsSits.data.toList.drop 0 = dktX0_keepsSits_0 := by decide +kernel
theorem dksX0_keepsSits_1 : cX0_keepsSits.data.toList.drop 24 = dktX0_keepsSits_1 := dk_seg dksX0_keepsSits_0 24 rfl rfl
theorem dX0_keepsSits_0 : decode cX0_keepsSits 0 = .ok (.iconst 0, 1) := dk_3 (dk_at dksX0_keepsSits_0 0 rfl rfl)
theorem dX0_keepsSits_1 : decode cX0_keepsSits 1 = .ok (.istore_n 1, 1) := dk_60 (dk_at dksX0_keepsSits_0 1 rfl rfl)
theorem dX0_keepsSits_2 : decode cX0_keepsSits 2 = .ok (.iload_n 1, 1) := dk_27 (dk_at dksX0_keepsSits_0 2 rfl rfl)
theorem dX0_keepsSits_3 : decode cX0_keepsSits 3 = .ok (.aload_n 0, 1) := dk_42 (dk_at dksX0_keepsSits_0 3 rfl rfl)
theorem dX0_keepsSits_4 : decode cX0_keepsSits 4 = .ok (.getfield 22, 3) := dk_180 0 22 (dk_at dksX0_keepsSits_0 4 rfl rfl)
theorem dX0_keepsSits_7 : decode cX0_keepsSits 7 = .ok (.invokevirtual 142, 3) := dk_182 0 142 (dk_at dksX0_keepsSits_0 7 rfl rfl)
theorem dX0_keepsSits_10 : decode cX0_keepsSits 10 = .ok (.if_icmp .ge 37, 3) := dk_162 0 37 (dk_at dksX0_keepsSits_0 10 rfl rfl)
theorem dX0_keepsSits_13 : decode cX0_keepsSits 13 = .ok (.aload_n 0, 1) := dk_42 (dk_at dksX0_keepsSits_0 13 rfl rfl)
theorem dX0_keepsSits_14 : decode cX0_keepsSits 14 = .ok (.getfield 22, 3) := dk_180 0 22 (dk_at dksX0_keepsSits_0 14 rfl rfl)
theorem dX0_keepsSits_17 : decode cX0_keepsSits 17 = .ok (.iload_n 1, 1) := dk_27 (dk_at dksX0_keepsSits_0 17 rfl rfl)
theorem dX0_keepsSits_18 : decode cX0_keepsSits 18 = .ok (.invokevirtual 150, 3) := dk_182 0 150 (dk_at dksX0_keepsSits_0 18 rfl rfl)
theorem dX0_keepsSits_21 : decode cX0_keepsSits 21 = .ok (.checkcast 122, 3) := dk_192 0 122 (dk_at dksX0_keepsSits_0 21 rfl rfl)
theorem dX0_keepsSits_24 : decode cX0_keepsSits 24 = .ok (.getfield 177, 3) := dk_180 0 177 (dk_at dksX0_keepsSits_1 0 rfl rfl)
theorem dX0_keepsSits_27 : decode cX0_keepsSits 27 = .ok (.iconst 0, 1) := dk_3 (dk_at dksX0_keepsSits_1 3 rfl rfl)
theorem dX0_keepsSits_28 : decode cX0_keepsSits 28 = .ok (.aload_n 0, 1) := dk_42 (dk_at dksX0_keepsSits_1 4 rfl rfl)
theorem dX0_keepsSits_29 : decode cX0_keepsSits 29 = .ok (.getfield 53, 3) := dk_180 0 53 (dk_at dksX0_keepsSits_1 5 rfl rfl)
theorem dX0_keepsSits_32 : decode cX0_keepsSits 32 = .ok (.bipush 8, 2) := dk_16 8 (dk_at dksX0_keepsSits_1 8 rfl rfl)
theorem dX0_keepsSits_34 : decode cX0_keepsSits 34 = .ok (.iload_n 1, 1) := dk_27 (dk_at dksX0_keepsSits_1 10 rfl rfl)
theorem dX0_keepsSits_35 : decode cX0_keepsSits 35 = .ok (.imul, 1) := dk_104 (dk_at dksX0_keepsSits_1 11 rfl rfl)
theorem dX0_keepsSits_36 : decode cX0_keepsSits 36 = .ok (.bipush 8, 2) := dk_16 8 (dk_at dksX0_keepsSits_1 12 rfl rfl)
theorem dX0_keepsSits_38 : decode cX0_keepsSits 38 = .ok (.invokestatic 314, 3) := dk_184 1 58 (dk_at dksX0_keepsSits_1 14 rfl rfl)
theorem dX0_keepsSits_41 : decode cX0_keepsSits 41 = .ok (.iinc 1 1, 3) := dk_132 1 1 (dk_at dksX0_keepsSits_1 17 rfl rfl)
theorem dX0_keepsSits_44 : decode cX0_keepsSits 44 = .ok (.goto (-42), 3) := dk_167 255 214 (dk_at dksX0_keepsSits_1 20 rfl rfl)
theorem dX0_keepsSits_47 : decode cX0_keepsSits 47 = .ok (.return_, 1) := dk_177 (dk_at dksX0_keepsSits_1 23 rfl rfl)
abbrev cX0_allWorth : ByteArray := prog_1_method_31_code
def yX0_allWorth : MethodName := ⟨RX0, "allWorth", "()I"⟩
def dkwX0_allWorth_1 : List UInt8 := [182, 0, 150, 192, 0, 122, 182, 1, 31, 96, 60, 132, 2, 1, 167, 255, 224, 27, 172]
abbrev dktX0_allWorth_1 : List UInt8 := dkwX0_allWorth_1 ++ []
def dkwX0_allWorth_0 : List UInt8 := [3, 60, 3, 61, 28, 42, 180, 0, 22, 182, 0, 142, 162, 0, 27, 27, 42, 42, 180, 0, 22, 28]
abbrev dktX0_allWorth_0 : List UInt8 := dkwX0_allWorth_0 ++ dktX0_allWorth_1
theorem dksX0_allWorth_0 : cX0_allWorth.data.toList.drop 0 = dktX0_allWorth_0 := by decide +kernel
theorem dksX0_allWorth_1 : cX0_allWorth.data.toList.drop 22 = dktX0_allWorth_1 := dk_seg dksX0_allWorth_0 22 rfl rfl
theorem dX0_allWorth_0 : decode cX0_allWorth 0 = .ok (.iconst 0, 1) := dk_3 (dk_at dksX0_allWorth_0 0 rfl rfl)
theorem dX0_allWorth_1 : decode cX0_allWorth 1 = .ok (.istore_n 1, 1) := dk_60 (dk_at dksX0_allWorth_0 1 rfl rfl)
theorem dX0_allWorth_2 : decode cX0_allWorth 2 = .ok (.iconst 0, 1) := dk_3 (dk_at dksX0_allWorth_0 2 rfl rfl)
theorem dX0_allWorth_3 : decode cX0_allWorth 3 = .ok (.istore_n 2, 1) := dk_61 (dk_at dksX0_allWorth_0 3 rfl rfl)
theorem dX0_allWorth_4 : decode cX0_allWorth 4 = .ok (.iload_n 2, 1) := dk_28 (dk_at dksX0_allWorth_0 4 rfl rfl)
theorem dX0_allWorth_5 : decode cX0_allWorth 5 = .ok (.aload_n 0, 1) := dk_42 (dk_at dksX0_allWorth_0 5 rfl rfl)
theorem dX0_allWorth_6 : decode cX0_allWorth 6 = .ok (.getfield 22, 3) := dk_180 0 22 (dk_at dksX0_allWorth_0 6 rfl rfl)
theorem dX0_allWorth_9 : decode cX0_allWorth 9 = .ok (.invokevirtual 142, 3) := dk_182 0 142 (dk_at dksX0_allWorth_0 9 rfl rfl)
theorem dX0_allWorth_12 : decode cX0_allWorth 12 = .ok (.if_icmp .ge 27, 3) := dk_162 0 27 (dk_at dksX0_allWorth_0 12 rfl rfl)
theorem dX0_allWorth_15 : decode cX0_allWorth 15 = .ok (.iload_n 1, 1) := dk_27 (dk_at dksX0_allWorth_0 15 rfl rfl)
theorem dX0_allWorth_16 : decode cX0_allWorth 16 = .ok (.aload_n 0, 1) := dk_42 (dk_at dksX0_allWorth_0 16 rfl rfl)
theorem dX0_allWorth_17 : decode cX0_allWorth 17 = .ok (.aload_n 0, 1) := dk_42 (dk_at dksX0_allWorth_0 17 rfl rfl)
theorem dX0_allWorth_18 : decode cX0_allWorth 18 = .ok (.getfield 22, 3) := dk_180 0 22 (dk_at dksX0_allWorth_0 18 rfl rfl)
theorem dX0_allWorth_21 : decode cX0_allWorth 21 = .ok (.iload_n 2, 1) := dk_28 (dk_at dksX0_allWorth_0 21 rfl rfl)
theorem dX0_allWorth_22 : decode cX0_allWorth 22 = .ok (.invokevirtual 150, 3) := dk_182 0 150 (dk_at dksX0_allWorth_1 0 rfl rfl)
theorem dX0_allWorth_25 : decode cX0_allWorth 25 = .ok (.checkcast 122, 3) := dk_192 0 122 (dk_at dksX0_allWorth_1 3 rfl rfl)
theorem dX0_allWorth_28 : decode cX0_allWorth 28 = .ok (.invokevirtual 287, 3) := dk_182 1 31 (dk_at dksX0_allWorth_1 6 rfl rfl)
theorem dX0_allWorth_31 : decode cX0_allWorth 31 = .ok (.iadd, 1) := dk_96 (dk_at dksX0_allWorth_1 9 rfl rfl)
theorem dX0_allWorth_32 : decode cX0_allWorth 32 = .ok (.istore_n 1, 1) := dk_60 (dk_at dksX0_allWorth_1 10 rfl rfl)
theorem dX0_allWorth_33 : decode cX0_allWorth 33 = .ok (.iinc 2 1, 3) := dk_132 2 1 (dk_at dksX0_allWorth_1 11 rfl rfl)
theorem dX0_allWorth_36 : decode cX0_allWorth 36 = .ok (.goto (-32), 3) := dk_167 255 224 (dk_at dksX0_allWorth_1 14 rfl rfl)
theorem dX0_allWorth_39 : decode cX0_allWorth 39 = .ok (.iload_n 1, 1) := dk_27 (dk_at dksX0_allWorth_1 17 rfl rfl)
theorem dX0_allWorth_40 : decode cX0_allWorth 40 = .ok (.ireturn, 1) := dk_172 (dk_at dksX0_allWorth_1 18 rfl rfl)
abbrev cX0_rowWorth : ByteArray := prog_1_method_30_code
def yX0_rowWorth : MethodName := ⟨RX0, "rowWorth", "(LOverTheHeads$Row;)I"⟩
def dkwX0_rowWorth_1 : List UInt8 := [167, 255, 236, 28, 172]
abbrev dktX0_rowWorth_1 : List UInt8 := dkwX0_rowWorth_1 ++ []
def dkwX0_rowWorth_0 : List UInt8 := [3, 61, 3, 62, 29, 43, 180, 0, 154, 162, 0, 18, 28, 42, 43, 29, 182, 1, 28, 96, 61, 132, 3, 1]
abbrev dktX0_rowWorth_0 : List UInt8 := dkwX0_rowWorth_0 ++ dktX0_rowWorth_1
theorem dksX0_rowWorth_0 : cX0_rowWorth.data.toList.drop 0 = dktX0_rowWorth_0 := by decide +kernel
theorem dksX0_rowWorth_1 : cX0_rowWorth.data.toList.drop 24 = dktX0_rowWorth_1 := dk_seg dksX0_rowWorth_0 24 rfl rfl
theorem dX0_rowWorth_0 : decode cX0_rowWorth 0 = .ok (.iconst 0, 1) := dk_3 (dk_at dksX0_rowWorth_0 0 rfl rfl)
theorem dX0_rowWorth_1 : decode cX0_rowWorth 1 = .ok (.istore_n 2, 1) := dk_61 (dk_at dksX0_rowWorth_0 1 rfl rfl)
theorem dX0_rowWorth_2 : decode cX0_rowWorth 2 = .ok (.iconst 0, 1) := dk_3 (dk_at dksX0_rowWorth_0 2 rfl rfl)
theorem dX0_rowWorth_3 : decode cX0_rowWorth 3 = .ok (.istore_n 3, 1) := dk_62 (dk_at dksX0_rowWorth_0 3 rfl rfl)
theorem dX0_rowWorth_4 : decode cX0_rowWorth 4 = .ok (.iload_n 3, 1) := dk_29 (dk_at dksX0_rowWorth_0 4 rfl rfl)
theorem dX0_rowWorth_5 : decode cX0_rowWorth 5 = .ok (.aload_n 1, 1) := dk_43 (dk_at dksX0_rowWorth_0 5 rfl rfl)
theorem dX0_rowWorth_6 : decode cX0_rowWorth 6 = .ok (.getfield 154, 3) := dk_180 0 154 (dk_at dksX0_rowWorth_0 6 rfl rfl)
theorem dX0_rowWorth_9 : decode cX0_rowWorth 9 = .ok (.if_icmp .ge 18, 3) := dk_162 0 18 (dk_at dksX0_rowWorth_0 9 rfl rfl)
theorem dX0_rowWorth_12 : decode cX0_rowWorth 12 = .ok (.iload_n 2, 1) := dk_28 (dk_at dksX0_rowWorth_0 12 rfl rfl)
theorem dX0_rowWorth_13 : decode cX0_rowWorth 13 = .ok (.aload_n 0, 1) := dk_42 (dk_at dksX0_rowWorth_0 13 rfl rfl)
theorem dX0_rowWorth_14 : decode cX0_rowWorth 14 = .ok (.aload_n 1, 1) := dk_43 (dk_at dksX0_rowWorth_0 14 rfl rfl)
theorem dX0_rowWorth_15 : decode cX0_rowWorth 15 = .ok (.iload_n 3, 1) := dk_29 (dk_at dksX0_rowWorth_0 15 rfl rfl)
theorem dX0_rowWorth_16 : decode cX0_rowWorth 16 = .ok (.invokevirtual 284, 3) := dk_182 1 28 (dk_at dksX0_rowWorth_0 16 rfl rfl)
theorem dX0_rowWorth_19 : decode cX0_rowWorth 19 = .ok (.iadd, 1) := dk_96 (dk_at dksX0_rowWorth_0 19 rfl rfl)
theorem dX0_rowWorth_20 : decode cX0_rowWorth 20 = .ok (.istore_n 2, 1) := dk_61 (dk_at dksX0_rowWorth_0 20 rfl rfl)
theorem dX0_rowWorth_21 : decode cX0_rowWorth 21 = .ok (.iinc 3 1, 3) := dk_132 3 1 (dk_at dksX0_rowWorth_0 21 rfl rfl)
theorem dX0_rowWorth_24 : decode cX0_rowWorth 24 = .ok (.goto (-20), 3) := dk_167 255 236 (dk_at dksX0_rowWorth_1 0 rfl rfl)
theorem dX0_rowWorth_27 : decode cX0_rowWorth 27 = .ok (.iload_n 2, 1) := dk_28 (dk_at dksX0_rowWorth_1 3 rfl rfl)
theorem dX0_rowWorth_28 : decode cX0_rowWorth 28 = .ok (.ireturn, 1) := dk_172 (dk_at dksX0_rowWorth_1 4 rfl rfl)
abbrev cX0_laysSits : ByteArray := prog_1_method_50_code
def yX0_laysSits : MethodName := ⟨RX0, "laysSits", "()V"⟩
def dkwX0_laysSits_2 : List UInt8 := [167, 255, 214, 177]
abbrev dktX0_laysSits_2 : List UInt8 := dkwX0_laysSits_2 ++ []
def dkwX0_laysSits_1 : List UInt8 := [180, 0, 22, 27, 182, 0, 150, 192, 0, 122, 180, 0, 177, 3, 16, 8, 184, 1, 58, 132, 1, 1]
abbrev dktX0_laysSits_1 : List UInt8 := dkwX0_laysSits_1 ++ dktX0_laysSits_2
def dkwX0_laysSits_0 : List UInt8 := [3, 60, 27, 42, 180, 0, 22, 182, 0, 142, 162, 0, 37, 42, 180, 0, 53, 16, 8, 27, 104, 42]
abbrev dktX0_laysSits_0 : List UInt8 := dkwX0_laysSits_0 ++ dktX0_laysSits_1
theorem dksX0_laysSits_0 : cX0_laysSits.data.toList.drop 0 = dktX0_laysSits_0 := by decide +kernel
theorem dksX0_laysSits_1 : cX0_laysSits.data.toList.drop 22 = dktX0_laysSits_1 := dk_seg dksX0_laysSits_0 22 rfl rfl
theorem dksX0_laysSits_2 : cX0_laysSits.data.toList.drop 44 = dktX0_laysSits_2 := dk_seg dksX0_laysSits_1 22 rfl rfl
theorem dX0_laysSits_0 : decode cX0_laysSits 0 = .ok (.iconst 0, 1) := dk_3 (dk_at dksX0_laysSits_0 0 rfl rfl)
theorem dX0_laysSits_1 : decode cX0_laysSits 1 = .ok (.istore_n 1, 1) := dk_60 (dk_at dksX0_laysSits_0 1 rfl rfl)
theorem dX0_laysSits_2 : decode cX0_laysSits 2 = .ok (.iload_n 1, 1) := dk_27 (dk_at dksX0_laysSits_0 2 rfl rfl)
theorem dX0_laysSits_3 : decode cX0_laysSits 3 = .ok (.aload_n 0, 1) := dk_42 (dk_at dksX0_laysSits_0 3 rfl rfl)
theorem dX0_laysSits_4 : decode cX0_laysSits 4 = .ok (.getfield 22, 3) := dk_180 0 22 (dk_at dksX0_laysSits_0 4 rfl rfl)
theorem dX0_laysSits_7 : decode cX0_laysSits 7 = .ok (.invokevirtual 142, 3) := dk_182 0 142 (dk_at dksX0_laysSits_0 7 rfl rfl)
theorem dX0_laysSits_10 : decode cX0_laysSits 10 = .ok (.if_icmp .ge 37, 3) := dk_162 0 37 (dk_at dksX0_laysSits_0 10 rfl rfl)
theorem dX0_laysSits_13 : decode cX0_laysSits 13 = .ok (.aload_n 0, 1) := dk_42 (dk_at dksX0_laysSits_0 13 rfl rfl)
theorem dX0_laysSits_14 : decode cX0_laysSits 14 = .ok (.getfield 53, 3) := dk_180 0 53 (dk_at dksX0_laysSits_0 14 rfl rfl)
theorem dX0_laysSits_17 : decode cX0_laysSits 17 = .ok (.bipush 8, 2) := dk_16 8 (dk_at dksX0_laysSits_0 17 rfl rfl)
theorem dX0_laysSits_19 : decode cX0_laysSits 19 = .ok (.iload_n 1, 1) := dk_27 (dk_at dksX0_laysSits_0 19 rfl rfl)
theorem dX0_laysSits_20 : decode cX0_laysSits 20 = .ok (.imul, 1) := dk_104 (dk_at dksX0_laysSits_0 20 rfl rfl)
theorem dX0_laysSits_21 : decode cX0_laysSits 21 = .ok (.aload_n 0, 1) := dk_42 (dk_at dksX0_laysSits_0 21 rfl rfl)
theorem dX0_laysSits_22 : decode cX0_laysSits 22 = .ok (.getfield 22, 3) := dk_180 0 22 (dk_at dksX0_laysSits_1 0 rfl rfl)
theorem dX0_laysSits_25 : decode cX0_laysSits 25 = .ok (.iload_n 1, 1) := dk_27 (dk_at dksX0_laysSits_1 3 rfl rfl)
theorem dX0_laysSits_26 : decode cX0_laysSits 26 = .ok (.invokevirtual 150, 3) := dk_182 0 150 (dk_at dksX0_laysSits_1 4 rfl rfl)
theorem dX0_laysSits_29 : decode cX0_laysSits 29 = .ok (.checkcast 122, 3) := dk_192 0 122 (dk_at dksX0_laysSits_1 7 rfl rfl)
theorem dX0_laysSits_32 : decode cX0_laysSits 32 = .ok (.getfield 177, 3) := dk_180 0 177 (dk_at dksX0_laysSits_1 10 rfl rfl)
theorem dX0_laysSits_35 : decode cX0_laysSits 35 = .ok (.iconst 0, 1) := dk_3 (dk_at dksX0_laysSits_1 13 rfl rfl)
theorem dX0_laysSits_36 : decode cX0_laysSits 36 = .ok (.bipush 8, 2) := dk_16 8 (dk_at dksX0_laysSits_1 14 rfl rfl)
theorem dX0_laysSits_38 : decode cX0_laysSits 38 = .ok (.invokestatic 314, 3) := dk_184 1 58 (dk_at dksX0_laysSits_1 16 rfl rfl)
theorem dX0_laysSits_41 : decode cX0_laysSits 41 = .ok (.iinc 1 1, 3) := dk_132 1 1 (dk_at dksX0_laysSits_1 19 rfl rfl)
theorem dX0_laysSits_44 : decode cX0_laysSits 44 = .ok (.goto (-42), 3) := dk_167 255 214 (dk_at dksX0_laysSits_2 0 rfl rfl)
theorem dX0_laysSits_47 : decode cX0_laysSits 47 = .ok (.return_, 1) := dk_177 (dk_at dksX0_laysSits_2 3 rfl rfl)
abbrev cX0_needs : ByteArray := prog_1_method_52_code
def yX0_needs : MethodName := ⟨RX0, "needs", "(I)I"⟩
def dkwX0_needs_0 : List UInt8 := [42, 27, 182, 0, 146, 153, 0, 12, 42, 27, 3, 182, 1, 112, 167, 0, 5, 16, 251, 172]
abbrev dktX0_needs_0 : List UInt8 := dkwX0_needs_0 ++ []
theorem dksX0_needs_0 : cX0_needs.data.toList.drop 0 = dktX0_needs_0 := by decide +kernel
theorem dX0_needs_0 : decode cX0_needs 0 = .ok (.aload_n 0, 1) := dk_42 (dk_at dksX0_needs_0 0 rfl rfl)
theorem dX0_needs_1 : decode cX0_needs 1 = .ok (.iload_n 1, 1) := dk_27 (dk_at dksX0_needs_0 1 rfl rfl)
theorem dX0_needs_2 : decode cX0_needs 2 = .ok (.invokevirtual 146, 3) := dk_182 0 146 (dk_at dksX0_needs_0 2 rfl rfl)
theorem dX0_needs_5 : decode cX0_needs 5 = .ok (.ifCond .eq 12, 3) := dk_153 0 12 (dk_at dksX0_needs_0 5 rfl rfl)
theorem dX0_needs_8 : decode cX0_needs 8 = .ok (.aload_n 0, 1) := dk_42 (dk_at dksX0_needs_0 8 rfl rfl)
theorem dX0_needs_9 : decode cX0_needs 9 = .ok (.iload_n 1, 1) := dk_27 (dk_at dksX0_needs_0 9 rfl rfl)
theorem dX0_needs_10 : decode cX0_needs 10 = .ok (.iconst 0, 1) := dk_3 (dk_at dksX0_needs_0 10 rfl rfl)
theorem dX0_needs_11 : decode cX0_needs 11 = .ok (.invokevirtual 368, 3) := dk_182 1 112 (dk_at dksX0_needs_0 11 rfl rfl)
theorem dX0_needs_14 : decode cX0_needs 14 = .ok (.goto 5, 3) := dk_167 0 5 (dk_at dksX0_needs_0 14 rfl rfl)
theorem dX0_needs_17 : decode cX0_needs 17 = .ok (.bipush (-5), 2) := dk_16 251 (dk_at dksX0_needs_0 17 rfl rfl)
theorem dX0_needs_19 : decode cX0_needs 19 = .ok (.ireturn, 1) := dk_172 (dk_at dksX0_needs_0 19 rfl rfl)
abbrev cX0_leastFloor : ByteArray := prog_1_method_51_code
def yX0_leastFloor : MethodName := ⟨RX0, "leastFloor", "(II)I"⟩
def dkwX0_leastFloor_3 : List UInt8 := [180, 0, 26, 27, 29, 79, 25, 6, 191]
abbrev dktX0_leastFloor_3 : List UInt8 := dkwX0_leastFloor_3 ++ []
def dkwX0_leastFloor_2 : List UInt8 := [132, 4, 1, 167, 255, 216, 2, 54, 4, 42, 180, 0, 26, 27, 29, 79, 21, 4, 172, 58, 6, 42]
abbrev dktX0_leastFloor_2 : List UInt8 := dkwX0_leastFloor_2 ++ dktX0_leastFloor_3
def dkwX0_leastFloor_1 : List UInt8 := [79, 42, 27, 182, 1, 64, 153, 0, 17, 21, 4, 54, 5, 42, 180, 0, 26, 27, 29, 79, 21, 5, 172]
abbrev dktX0_leastFloor_1 : List UInt8 := dkwX0_leastFloor_1 ++ dktX0_leastFloor_2
def dkwX0_leastFloor_0 : List UInt8 := [42, 180, 0, 26, 27, 46, 62, 28, 54, 4, 21, 4, 16, 99, 163, 0, 39, 42, 180, 0, 26, 27, 21, 4]
abbrev dktX0_leastFloor_0 : List UInt8 := dkwX0_leastFloor_0 ++ dktX0_leastFloor_1
theorem dksX0_leastFloor_0 : cX0_leastFloor.data.toList.drop 0 = dktX0_leastFloor_0 := by decide +kernel
theorem dksX0_leastFloor_1 : cX0_leastFloor.data.toList.drop 24 = dktX0_leastFloor_1 := dk_seg dksX0_leastFloor_0 24 rfl rfl
theorem dksX0_leastFloor_2 : cX0_leastFloor.data.toList.drop 47 = dktX0_leastFloor_2 := dk_seg dksX0_leastFloor_1 23 rfl rfl
theorem dksX0_leastFloor_3 : cX0_leastFloor.data.toList.drop 69 = dktX0_leastFloor_3 := dk_seg dksX0_leastFloor_2 22 rfl rfl
theorem dX0_leastFloor_0 : decode cX0_leastFloor 0 = .ok (.aload_n 0, 1) := dk_42 (dk_at dksX0_leastFloor_0 0 rfl rfl)
theorem dX0_leastFloor_1 : decode cX0_leastFloor 1 = .ok (.getfield 26, 3) := dk_180 0 26 (dk_at dksX0_leastFloor_0 1 rfl rfl)
theorem dX0_leastFloor_4 : decode cX0_leastFloor 4 = .ok (.iload_n 1, 1) := dk_27 (dk_at dksX0_leastFloor_0 4 rfl rfl)
theorem dX0_leastFloor_5 : decode cX0_leastFloor 5 = .ok (.iaload, 1) := dk_46 (dk_at dksX0_leastFloor_0 5 rfl rfl)
theorem dX0_leastFloor_6 : decode cX0_leastFloor 6 = .ok (.istore_n 3, 1) := dk_62 (dk_at dksX0_leastFloor_0 6 rfl rfl)
theorem dX0_leastFloor_7 : decode cX0_leastFloor 7 = .ok (.iload_n 2, 1) := dk_28 (dk_at dksX0_leastFloor_0 7 rfl rfl)
theorem dX0_leastFloor_8 : decode cX0_leastFloor 8 = .ok (.istore 4, 2) := dk_54 4 (dk_at dksX0_leastFloor_0 8 rfl rfl)
theorem dX0_leastFloor_10 : decode cX0_leastFloor 10 = .ok (.iload 4, 2) := dk_21 4 (dk_at dksX0_leastFloor_0 10 rfl rfl)
theorem dX0_leastFloor_12 : decode cX0_leastFloor 12 = .ok (.bipush 99, 2) := dk_16 99 (dk_at dksX0_leastFloor_0 12 rfl rfl)
theorem dX0_leastFloor_14 : decode cX0_leastFloor 14 = .ok (.if_icmp .gt 39, 3) := dk_163 0 39 (dk_at dksX0_leastFloor_0 14 rfl rfl)
theorem dX0_leastFloor_17 : decode cX0_leastFloor 17 = .ok (.aload_n 0, 1) := dk_42 (dk_at dksX0_leastFloor_0 17 rfl rfl)
theorem dX0_leastFloor_18 : decode cX0_leastFloor 18 = .ok (.getfield 26, 3) := dk_180 0 26 (dk_at dksX0_leastFloor_0 18 rfl rfl)
theorem dX0_leastFloor_21 : decode cX0_leastFloor 21 = .ok (.iload_n 1, 1) := dk_27 (dk_at dksX0_leastFloor_0 21 rfl rfl)
theorem dX0_leastFloor_22 : decode cX0_leastFloor 22 = .ok (.iload 4, 2) := dk_21 4 (dk_at dksX0_leastFloor_0 22 rfl rfl)
theorem dX0_leastFloor_24 : decode cX0_leastFloor 24 = .ok (.iastore, 1) := dk_79 (dk_at dksX0_leastFloor_1 0 rfl rfl)
theorem dX0_leastFloor_25 : decode cX0_leastFloor 25 = .ok (.aload_n 0, 1) := dk_42 (dk_at dksX0_leastFloor_1 1 rfl rfl)
theorem dX0_leastFloor_26 : decode cX0_leastFloor 26 = .ok (.iload_n 1, 1) := dk_27 (dk_at dksX0_leastFloor_1 2 rfl rfl)
theorem dX0_leastFloor_27 : decode cX0_leastFloor 27 = .ok (.invokevirtual 320, 3) := dk_182 1 64 (dk_at dksX0_leastFloor_1 3 rfl rfl)
theorem dX0_leastFloor_30 : decode cX0_leastFloor 30 = .ok (.ifCond .eq 17, 3) := dk_153 0 17 (dk_at dksX0_leastFloor_1 6 rfl rfl)
theorem dX0_leastFloor_33 : decode cX0_leastFloor 33 = .ok (.iload 4, 2) := dk_21 4 (dk_at dksX0_leastFloor_1 9 rfl rfl)
theorem dX0_leastFloor_35 : decode cX0_leastFloor 35 = .ok (.istore 5, 2) := dk_54 5 (dk_at dksX0_leastFloor_1 11 rfl rfl)
theorem dX0_leastFloor_37 : decode cX0_leastFloor 37 = .ok (.aload_n 0, 1) := dk_42 (dk_at dksX0_leastFloor_1 13 rfl rfl)
theorem dX0_leastFloor_38 : decode cX0_leastFloor 38 = .ok (.getfield 26, 3) := dk_180 0 26 (dk_at dksX0_leastFloor_1 14 rfl rfl)
theorem dX0_leastFloor_41 : decode cX0_leastFloor 41 = .ok (.iload_n 1, 1) := dk_27 (dk_at dksX0_leastFloor_1 17 rfl rfl)
theorem dX0_leastFloor_42 : decode cX0_leastFloor 42 = .ok (.iload_n 3, 1) := dk_29 (dk_at dksX0_leastFloor_1 18 rfl rfl)
theorem dX0_leastFloor_43 : decode cX0_leastFloor 43 = .ok (.iastore, 1) := dk_79 (dk_at dksX0_leastFloor_1 19 rfl rfl)
theorem dX0_leastFloor_44 : decode cX0_leastFloor 44 = .ok (.iload 5, 2) := dk_21 5 (dk_at dksX0_leastFloor_1 20 rfl rfl)
theorem dX0_leastFloor_46 : decode cX0_leastFloor 46 = .ok (.ireturn, 1) := dk_172 (dk_at dksX0_leastFloor_1 22 rfl rfl)
theorem dX0_leastFloor_47 : decode cX0_leastFloor 47 = .ok (.iinc 4 1, 3) := dk_132 4 1 (dk_at dksX0_leastFloor_2 0 rfl rfl)
theorem dX0_leastFloor_50 : decode cX0_leastFloor 50 = .ok (.goto (-40), 3) := dk_167 255 216 (dk_at dksX0_leastFloor_2 3 rfl rfl)
theorem dX0_leastFloor_53 : decode cX0_leastFloor 53 = .ok (.iconst (-1), 1) := dk_2 (dk_at dksX0_leastFloor_2 6 rfl rfl)
theorem dX0_leastFloor_54 : decode cX0_leastFloor 54 = .ok (.istore 4, 2) := dk_54 4 (dk_at dksX0_leastFloor_2 7 rfl rfl)
theorem dX0_leastFloor_56 : decode cX0_leastFloor 56 = .ok (.aload_n 0, 1) := dk_42 (dk_at dksX0_leastFloor_2 9 rfl rfl)
theorem dX0_leastFloor_57 : decode cX0_leastFloor 57 = .ok (.getfield 26, 3) := dk_180 0 26 (dk_at dksX0_leastFloor_2 10 rfl rfl)
theorem dX0_leastFloor_60 : decode cX0_leastFloor 60 = .ok (.iload_n 1, 1) := dk_27 (dk_at dksX0_leastFloor_2 13 rfl rfl)
theorem dX0_leastFloor_61 : decode cX0_leastFloor 61 = .ok (.iload_n 3, 1) := dk_29 (dk_at dksX0_leastFloor_2 14 rfl rfl)
theorem dX0_leastFloor_62 : decode cX0_leastFloor 62 = .ok (.iastore, 1) := dk_79 (dk_at dksX0_leastFloor_2 15 rfl rfl)
theorem dX0_leastFloor_63 : decode cX0_leastFloor 63 = .ok (.iload 4, 2) := dk_21 4 (dk_at dksX0_leastFloor_2 16 rfl rfl)
theorem dX0_leastFloor_65 : decode cX0_leastFloor 65 = .ok (.ireturn, 1) := dk_172 (dk_at dksX0_leastFloor_2 18 rfl rfl)
theorem dX0_leastFloor_66 : decode cX0_leastFloor 66 = .ok (.astore 6, 2) := dk_58 6 (dk_at dksX0_leastFloor_2 19 rfl rfl)
theorem dX0_leastFloor_68 : decode cX0_leastFloor 68 = .ok (.aload_n 0, 1) := dk_42 (dk_at dksX0_leastFloor_2 21 rfl rfl)
theorem dX0_leastFloor_69 : decode cX0_leastFloor 69 = .ok (.getfield 26, 3) := dk_180 0 26 (dk_at dksX0_leastFloor_3 0 rfl rfl)
theorem dX0_leastFloor_72 : decode cX0_leastFloor 72 = .ok (.iload_n 1, 1) := dk_27 (dk_at dksX0_leastFloor_3 3 rfl rfl)
theorem dX0_leastFloor_73 : decode cX0_leastFloor 73 = .ok (.iload_n 3, 1) := dk_29 (dk_at dksX0_leastFloor_3 4 rfl rfl)
theorem dX0_leastFloor_74 : decode cX0_leastFloor 74 = .ok (.iastore, 1) := dk_79 (dk_at dksX0_leastFloor_3 5 rfl rfl)
theorem dX0_leastFloor_75 : decode cX0_leastFloor 75 = .ok (.aload 6, 2) := dk_25 6 (dk_at dksX0_leastFloor_3 6 rfl rfl)
theorem dX0_leastFloor_77 : decode cX0_leastFloor 77 = .ok (.athrow, 1) := dk_191 (dk_at dksX0_leastFloor_3 8 rfl rfl)
abbrev cX0_proof : ByteArray := prog_1_method_53_code
def yX0_proof : MethodName := ⟨RX0, "proof", "(I)I"⟩
def dkwX0_proof_4 : List UInt8 := [191]
abbrev dktX0_proof_4 : List UInt8 := dkwX0_proof_4 ++ []
def dkwX0_proof_3 : List UInt8 := [167, 255, 204, 42, 180, 0, 26, 27, 46, 61, 42, 182, 1, 67, 28, 172, 58, 5, 42, 182, 1, 67, 25, 5]
abbrev dktX0_proof_3 : List UInt8 := dkwX0_proof_3 ++ dktX0_proof_4
def dkwX0_proof_2 : List UInt8 := [160, 0, 13, 2, 54, 4, 42, 182, 1, 67, 21, 4, 172, 42, 180, 0, 26, 28, 29, 79, 132, 2, 1]
abbrev dktX0_proof_2 : List UInt8 := dkwX0_proof_2 ++ dktX0_proof_3
def dkwX0_proof_1 : List UInt8 := [28, 154, 0, 7, 3, 167, 0, 11, 42, 180, 0, 26, 28, 4, 100, 46, 182, 1, 112, 62, 29, 2]
abbrev dktX0_proof_1 : List UInt8 := dkwX0_proof_1 ++ dktX0_proof_2
def dkwX0_proof_0 : List UInt8 := [42, 27, 182, 0, 146, 154, 0, 6, 16, 251, 172, 42, 182, 1, 55, 3, 61, 28, 27, 163, 0, 53, 42, 28]
abbrev dktX0_proof_0 : List UInt8 := dkwX0_proof_0 ++ dktX0_proof_1
theorem dksX0_proof_0 : cX0_proof.data.toList.drop 0 = dktX0_proof_0 := by decide +kernel
theorem dksX0_proof_1 : cX0_proof.data.toList.drop 24 = dktX0_proof_1 := dk_seg dksX0_proof_0 24 rfl rfl
theorem dksX0_proof_2 : cX0_proof.data.toList.drop 46 = dktX0_proof_2 := dk_seg dksX0_proof_1 22 rfl rfl
theorem dksX0_proof_3 : cX0_proof.data.toList.drop 69 = dktX0_proof_3 := dk_seg dksX0_proof_2 23 rfl rfl
theorem dksX0_proof_4 : cX0_proof.data.toList.drop 93 = dktX0_proof_4 := dk_seg dksX0_proof_3 24 rfl rfl
theorem dX0_proof_0 : decode cX0_proof 0 = .ok (.aload_n 0, 1) := dk_42 (dk_at dksX0_proof_0 0 rfl rfl)
theorem dX0_proof_1 : decode cX0_proof 1 = .ok (.iload_n 1, 1) := dk_27 (dk_at dksX0_proof_0 1 rfl rfl)
theorem dX0_proof_2 : decode cX0_proof 2 = .ok (.invokevirtual 146, 3) := dk_182 0 146 (dk_at dksX0_proof_0 2 rfl rfl)
theorem dX0_proof_5 : decode cX0_proof 5 = .ok (.ifCond .ne 6, 3) := dk_154 0 6 (dk_at dksX0_proof_0 5 rfl rfl)
theorem dX0_proof_8 : decode cX0_proof 8 = .ok (.bipush (-5), 2) := dk_16 251 (dk_at dksX0_proof_0 8 rfl rfl)
theorem dX0_proof_10 : decode cX0_proof 10 = .ok (.ireturn, 1) := dk_172 (dk_at dksX0_proof_0 10 rfl rfl)
theorem dX0_proof_11 : decode cX0_proof 11 = .ok (.aload_n 0, 1) := dk_42 (dk_at dksX0_proof_0 11 rfl rfl)
theorem dX0_proof_12 : decode cX0_proof 12 = .ok (.invokevirtual 311, 3) := dk_182 1 55 (dk_at dksX0_proof_0 12 rfl rfl)
theorem dX0_proof_15 : decode cX0_proof 15 = .ok (.iconst 0, 1) := dk_3 (dk_at dksX0_proof_0 15 rfl rfl)
theorem dX0_proof_16 : decode cX0_proof 16 = .ok (.istore_n 2, 1) := dk_61 (dk_at dksX0_proof_0 16 rfl rfl)
theorem dX0_proof_17 : decode cX0_proof 17 = .ok (.iload_n 2, 1) := dk_28 (dk_at dksX0_proof_0 17 rfl rfl)
theorem dX0_proof_18 : decode cX0_proof 18 = .ok (.iload_n 1, 1) := dk_27 (dk_at dksX0_proof_0 18 rfl rfl)
theorem dX0_proof_19 : decode cX0_proof 19 = .ok (.if_icmp .gt 53, 3) := dk_163 0 53 (dk_at dksX0_proof_0 19 rfl rfl)
theorem dX0_proof_22 : decode cX0_proof 22 = .ok (.aload_n 0, 1) := dk_42 (dk_at dksX0_proof_0 22 rfl rfl)
theorem dX0_proof_23 : decode cX0_proof 23 = .ok (.iload_n 2, 1) := dk_28 (dk_at dksX0_proof_0 23 rfl rfl)
theorem dX0_proof_24 : decode cX0_proof 24 = .ok (.iload_n 2, 1) := dk_28 (dk_at dksX0_proof_1 0 rfl rfl)
theorem dX0_proof_25 : decode cX0_proof 25 = .ok (.ifCond .ne 7, 3) := dk_154 0 7 (dk_at dksX0_proof_1 1 rfl rfl)
theorem dX0_proof_28 : decode cX0_proof 28 = .ok (.iconst 0, 1) := dk_3 (dk_at dksX0_proof_1 4 rfl rfl)
theorem dX0_proof_29 : decode cX0_proof 29 = .ok (.goto 11, 3) := dk_167 0 11 (dk_at dksX0_proof_1 5 rfl rfl)
theorem dX0_proof_32 : decode cX0_proof 32 = .ok (.aload_n 0, 1) := dk_42 (dk_at dksX0_proof_1 8 rfl rfl)
theorem dX0_proof_33 : decode cX0_proof 33 = .ok (.getfield 26, 3) := dk_180 0 26 (dk_at dksX0_proof_1 9 rfl rfl)
theorem dX0_proof_36 : decode cX0_proof 36 = .ok (.iload_n 2, 1) := dk_28 (dk_at dksX0_proof_1 12 rfl rfl)
theorem dX0_proof_37 : decode cX0_proof 37 = .ok (.iconst 1, 1) := dk_4 (dk_at dksX0_proof_1 13 rfl rfl)
theorem dX0_proof_38 : decode cX0_proof 38 = .ok (.isub, 1) := dk_100 (dk_at dksX0_proof_1 14 rfl rfl)
theorem dX0_proof_39 : decode cX0_proof 39 = .ok (.iaload, 1) := dk_46 (dk_at dksX0_proof_1 15 rfl rfl)
theorem dX0_proof_40 : decode cX0_proof 40 = .ok (.invokevirtual 368, 3) := dk_182 1 112 (dk_at dksX0_proof_1 16 rfl rfl)
theorem dX0_proof_43 : decode cX0_proof 43 = .ok (.istore_n 3, 1) := dk_62 (dk_at dksX0_proof_1 19 rfl rfl)
theorem dX0_proof_44 : decode cX0_proof 44 = .ok (.iload_n 3, 1) := dk_29 (dk_at dksX0_proof_1 20 rfl rfl)
theorem dX0_proof_45 : decode cX0_proof 45 = .ok (.iconst (-1), 1) := dk_2 (dk_at dksX0_proof_1 21 rfl rfl)
theorem dX0_proof_46 : decode cX0_proof 46 = .ok (.if_icmp .ne 13, 3) := dk_160 0 13 (dk_at dksX0_proof_2 0 rfl rfl)
theorem dX0_proof_49 : decode cX0_proof 49 = .ok (.iconst (-1), 1) := dk_2 (dk_at dksX0_proof_2 3 rfl rfl)
theorem dX0_proof_50 : decode cX0_proof 50 = .ok (.istore 4, 2) := dk_54 4 (dk_at dksX0_proof_2 4 rfl rfl)
theorem dX0_proof_52 : decode cX0_proof 52 = .ok (.aload_n 0, 1) := dk_42 (dk_at dksX0_proof_2 6 rfl rfl)
theorem dX0_proof_53 : decode cX0_proof 53 = .ok (.invokevirtual 323, 3) := dk_182 1 67 (dk_at dksX0_proof_2 7 rfl rfl)
theorem dX0_proof_56 : decode cX0_proof 56 = .ok (.iload 4, 2) := dk_21 4 (dk_at dksX0_proof_2 10 rfl rfl)
theorem dX0_proof_58 : decode cX0_proof 58 = .ok (.ireturn, 1) := dk_172 (dk_at dksX0_proof_2 12 rfl rfl)
theorem dX0_proof_59 : decode cX0_proof 59 = .ok (.aload_n 0, 1) := dk_42 (dk_at dksX0_proof_2 13 rfl rfl)
theorem dX0_proof_60 : decode cX0_proof 60 = .ok (.getfield 26, 3) := dk_180 0 26 (dk_at dksX0_proof_2 14 rfl rfl)
theorem dX0_proof_63 : decode cX0_proof 63 = .ok (.iload_n 2, 1) := dk_28 (dk_at dksX0_proof_2 17 rfl rfl)
theorem dX0_proof_64 : decode cX0_proof 64 = .ok (.iload_n 3, 1) := dk_29 (dk_at dksX0_proof_2 18 rfl rfl)
theorem dX0_proof_65 : decode cX0_proof 65 = .ok (.iastore, 1) := dk_79 (dk_at dksX0_proof_2 19 rfl rfl)
theorem dX0_proof_66 : decode cX0_proof 66 = .ok (.iinc 2 1, 3) := dk_132 2 1 (dk_at dksX0_proof_2 20 rfl rfl)
theorem dX0_proof_69 : decode cX0_proof 69 = .ok (.goto (-52), 3) := dk_167 255 204 (dk_at dksX0_proof_3 0 rfl rfl)
theorem dX0_proof_72 : decode cX0_proof 72 = .ok (.aload_n 0, 1) := dk_42 (dk_at dksX0_proof_3 3 rfl rfl)
theorem dX0_proof_73 : decode cX0_proof 73 = .ok (.getfield 26, 3) := dk_180 0 26 (dk_at dksX0_proof_3 4 rfl rfl)
theorem dX0_proof_76 : decode cX0_proof 76 = .ok (.iload_n 1, 1) := dk_27 (dk_at dksX0_proof_3 7 rfl rfl)
theorem dX0_proof_77 : decode cX0_proof 77 = .ok (.iaload, 1) := dk_46 (dk_at dksX0_proof_3 8 rfl rfl)
theorem dX0_proof_78 : decode cX0_proof 78 = .ok (.istore_n 2, 1) := dk_61 (dk_at dksX0_proof_3 9 rfl rfl)
theorem dX0_proof_79 : decode cX0_proof 79 = .ok (.aload_n 0, 1) := dk_42 (dk_at dksX0_proof_3 10 rfl rfl)
theorem dX0_proof_80 : decode cX0_proof 80 = .ok (.invokevirtual 323, 3) := dk_182 1 67 (dk_at dksX0_proof_3 11 rfl rfl)
theorem dX0_proof_83 : decode cX0_proof 83 = .ok (.iload_n 2, 1) := dk_28 (dk_at dksX0_proof_3 14 rfl rfl)
theorem dX0_proof_84 : decode cX0_proof 84 = .ok (.ireturn, 1) := dk_172 (dk_at dksX0_proof_3 15 rfl rfl)
theorem dX0_proof_85 : decode cX0_proof 85 = .ok (.astore 5, 2) := dk_58 5 (dk_at dksX0_proof_3 16 rfl rfl)
theorem dX0_proof_87 : decode cX0_proof 87 = .ok (.aload_n 0, 1) := dk_42 (dk_at dksX0_proof_3 18 rfl rfl)
theorem dX0_proof_88 : decode cX0_proof 88 = .ok (.invokevirtual 323, 3) := dk_182 1 67 (dk_at dksX0_proof_3 19 rfl rfl)
theorem dX0_proof_91 : decode cX0_proof 91 = .ok (.aload 5, 2) := dk_25 5 (dk_at dksX0_proof_3 22 rfl rfl)
theorem dX0_proof_93 : decode cX0_proof 93 = .ok (.athrow, 1) := dk_191 (dk_at dksX0_proof_4 0 rfl rfl)
abbrev cX0_shifts : ByteArray := prog_1_method_54_code
def yX0_shifts : MethodName := ⟨RX0, "shifts", "(I)I"⟩
def dkwX0_shifts_6 : List UInt8 := [180, 1, 115, 172]
abbrev dktX0_shifts_6 : List UInt8 := dkwX0_shifts_6 ++ []
def dkwX0_shifts_5 : List UInt8 := [180, 0, 29, 3, 16, 6, 184, 1, 58, 25, 4, 191, 27, 154, 0, 10, 42, 180, 1, 122, 167, 0, 7, 42]
abbrev dktX0_shifts_5 : List UInt8 := dkwX0_shifts_5 ++ dktX0_shifts_6
def dkwX0_shifts_4 : List UInt8 := [3, 42, 180, 0, 29, 3, 16, 6, 184, 1, 58, 167, 0, 23, 58, 4, 42, 180, 0, 57, 3, 42]
abbrev dktX0_shifts_4 : List UInt8 := dkwX0_shifts_4 ++ dktX0_shifts_5
def dkwX0_shifts_3 : List UInt8 := [4, 126, 79, 132, 3, 1, 167, 255, 231, 42, 28, 182, 1, 118, 132, 2, 1, 167, 255, 205, 42, 180, 0, 57]
abbrev dktX0_shifts_3 : List UInt8 := dkwX0_shifts_3 ++ dktX0_shifts_4
def dkwX0_shifts_2 : List UInt8 := [162, 0, 44, 3, 62, 29, 42, 180, 0, 22, 182, 0, 142, 162, 0, 20, 42, 180, 0, 29, 29, 28, 29, 122]
abbrev dktX0_shifts_2 : List UInt8 := dkwX0_shifts_2 ++ dktX0_shifts_3
def dkwX0_shifts_1 : List UInt8 := [16, 6, 184, 1, 58, 42, 2, 181, 1, 115, 3, 61, 28, 4, 42, 180, 0, 22, 182, 0, 142, 120]
abbrev dktX0_shifts_1 : List UInt8 := dkwX0_shifts_1 ++ dktX0_shifts_2
def dkwX0_shifts_0 : List UInt8 := [27, 133, 9, 10, 184, 0, 112, 154, 0, 6, 16, 254, 172, 42, 180, 0, 29, 3, 42, 180, 0, 57, 3]
abbrev dktX0_shifts_0 : List UInt8 := dkwX0_shifts_0 ++ dktX0_shifts_1
theorem dksX0_shifts_0 : cX0_shifts.data.toList.drop 0 = dktX0_shifts_0 := by decide +kernel
theorem dksX0_shifts_1 : cX0_shifts.data.toList.drop 23 = dktX0_shifts_1 := dk_seg dksX0_shifts_0 23 rfl rfl
theorem dksX0_shifts_2 : cX0_shifts.data.toList.drop 45 = dktX0_shifts_2 := dk_seg dksX0_shifts_1 22 rfl rfl
theorem dksX0_shifts_3 : cX0_shifts.data.toList.drop 69 = dktX0_shifts_3 := dk_seg dksX0_shifts_2 24 rfl rfl
theorem dksX0_shifts_4 : cX0_shifts.data.toList.drop 93 = dktX0_shifts_4 := dk_seg dksX0_shifts_3 24 rfl rfl
theorem dksX0_shifts_5 : cX0_shifts.data.toList.drop 115 = dktX0_shifts_5 := dk_seg dksX0_shifts_4 22 rfl rfl
theorem dksX0_shifts_6 : cX0_shifts.data.toList.drop 139 = dktX0_shifts_6 := dk_seg dksX0_shifts_5 24 rfl rfl
theorem dX0_shifts_0 : decode cX0_shifts 0 = .ok (.iload_n 1, 1) := dk_27 (dk_at dksX0_shifts_0 0 rfl rfl)
theorem dX0_shifts_1 : decode cX0_shifts 1 = .ok (.i2l, 1) := dk_133 (dk_at dksX0_shifts_0 1 rfl rfl)
theorem dX0_shifts_2 : decode cX0_shifts 2 = .ok (.lconst 0, 1) := dk_9 (dk_at dksX0_shifts_0 2 rfl rfl)
theorem dX0_shifts_3 : decode cX0_shifts 3 = .ok (.lconst 1, 1) := dk_10 (dk_at dksX0_shifts_0 3 rfl rfl)
theorem dX0_shifts_4 : decode cX0_shifts 4 = .ok (.invokestatic 112, 3) := dk_184 0 112 (dk_at dksX0_shifts_0 4 rfl rfl)
theorem dX0_shifts_7 : decode cX0_shifts 7 = .ok (.ifCond .ne 6, 3) := dk_154 0 6 (dk_at dksX0_shifts_0 7 rfl rfl)
theorem dX0_shifts_10 : decode cX0_shifts 10 = .ok (.bipush (-2), 2) := dk_16 254 (dk_at dksX0_shifts_0 10 rfl rfl)
theorem dX0_shifts_12 : decode cX0_shifts 12 = .ok (.ireturn, 1) := dk_172 (dk_at dksX0_shifts_0 12 rfl rfl)
theorem dX0_shifts_13 : decode cX0_shifts 13 = .ok (.aload_n 0, 1) := dk_42 (dk_at dksX0_shifts_0 13 rfl rfl)
theorem dX0_shifts_14 : decode cX0_shifts 14 = .ok (.getfield 29, 3) := dk_180 0 29 (dk_at dksX0_shifts_0 14 rfl rfl)
theorem dX0_shifts_17 : decode cX0_shifts 17 = .ok (.iconst 0, 1) := dk_3 (dk_at dksX0_shifts_0 17 rfl rfl)
theorem dX0_shifts_18 : decode cX0_shifts 18 = .ok (.aload_n 0, 1) := dk_42 (dk_at dksX0_shifts_0 18 rfl rfl)
theorem dX0_shifts_19 : decode cX0_shifts 19 = .ok (.getfield 57, 3) := dk_180 0 57 (dk_at dksX0_shifts_0 19 rfl rfl)
theorem dX0_shifts_22 : decode cX0_shifts 22 = .ok (.iconst 0, 1) := dk_3 (dk_at dksX0_shifts_0 22 rfl rfl)
theorem dX0_shifts_23 : decode cX0_shifts 23 = .ok (.bipush 6, 2) := dk_16 6 (dk_at dksX0_shifts_1 0 rfl rfl)
theorem dX0_shifts_25 : decode cX0_shifts 25 = .ok (.invokestatic 314, 3) := dk_184 1 58 (dk_at dksX0_shifts_1 2 rfl rfl)
theorem dX0_shifts_28 : decode cX0_shifts 28 = .ok (.aload_n 0, 1) := dk_42 (dk_at dksX0_shifts_1 5 rfl rfl)
theorem dX0_shifts_29 : decode cX0_shifts 29 = .ok (.iconst (-1), 1) := dk_2 (dk_at dksX0_shifts_1 6 rfl rfl)
theorem dX0_shifts_30 : decode cX0_shifts 30 = .ok (.putfield 371, 3) := dk_181 1 115 (dk_at dksX0_shifts_1 7 rfl rfl)
theorem dX0_shifts_33 : decode cX0_shifts 33 = .ok (.iconst 0, 1) := dk_3 (dk_at dksX0_shifts_1 10 rfl rfl)
theorem dX0_shifts_34 : decode cX0_shifts 34 = .ok (.istore_n 2, 1) := dk_61 (dk_at dksX0_shifts_1 11 rfl rfl)
theorem dX0_shifts_35 : decode cX0_shifts 35 = .ok (.iload_n 2, 1) := dk_28 (dk_at dksX0_shifts_1 12 rfl rfl)
theorem dX0_shifts_36 : decode cX0_shifts 36 = .ok (.iconst 1, 1) := dk_4 (dk_at dksX0_shifts_1 13 rfl rfl)
theorem dX0_shifts_37 : decode cX0_shifts 37 = .ok (.aload_n 0, 1) := dk_42 (dk_at dksX0_shifts_1 14 rfl rfl)
theorem dX0_shifts_38 : decode cX0_shifts 38 = .ok (.getfield 22, 3) := dk_180 0 22 (dk_at dksX0_shifts_1 15 rfl rfl)
theorem dX0_shifts_41 : decode cX0_shifts 41 = .ok (.invokevirtual 142, 3) := dk_182 0 142 (dk_at dksX0_shifts_1 18 rfl rfl)
theorem dX0_shifts_44 : decode cX0_shifts 44 = .ok (.ishl, 1) := dk_120 (dk_at dksX0_shifts_1 21 rfl rfl)
theorem dX0_shifts_45 : decode cX0_shifts 45 = .ok (.if_icmp .ge 44, 3) := dk_162 0 44 (dk_at dksX0_shifts_2 0 rfl rfl)
theorem dX0_shifts_48 : decode cX0_shifts 48 = .ok (.iconst 0, 1) := dk_3 (dk_at dksX0_shifts_2 3 rfl rfl)
theorem dX0_shifts_49 : decode cX0_shifts 49 = .ok (.istore_n 3, 1) := dk_62 (dk_at dksX0_shifts_2 4 rfl rfl)
theorem dX0_shifts_50 : decode cX0_shifts 50 = .ok (.iload_n 3, 1) := dk_29 (dk_at dksX0_shifts_2 5 rfl rfl)
theorem dX0_shifts_51 : decode cX0_shifts 51 = .ok (.aload_n 0, 1) := dk_42 (dk_at dksX0_shifts_2 6 rfl rfl)
theorem dX0_shifts_52 : decode cX0_shifts 52 = .ok (.getfield 22, 3) := dk_180 0 22 (dk_at dksX0_shifts_2 7 rfl rfl)
theorem dX0_shifts_55 : decode cX0_shifts 55 = .ok (.invokevirtual 142, 3) := dk_182 0 142 (dk_at dksX0_shifts_2 10 rfl rfl)
theorem dX0_shifts_58 : decode cX0_shifts 58 = .ok (.if_icmp .ge 20, 3) := dk_162 0 20 (dk_at dksX0_shifts_2 13 rfl rfl)
theorem dX0_shifts_61 : decode cX0_shifts 61 = .ok (.aload_n 0, 1) := dk_42 (dk_at dksX0_shifts_2 16 rfl rfl)
theorem dX0_shifts_62 : decode cX0_shifts 62 = .ok (.getfield 29, 3) := dk_180 0 29 (dk_at dksX0_shifts_2 17 rfl rfl)
theorem dX0_shifts_65 : decode cX0_shifts 65 = .ok (.iload_n 3, 1) := dk_29 (dk_at dksX0_shifts_2 20 rfl rfl)
theorem dX0_shifts_66 : decode cX0_shifts 66 = .ok (.iload_n 2, 1) := dk_28 (dk_at dksX0_shifts_2 21 rfl rfl)
theorem dX0_shifts_67 : decode cX0_shifts 67 = .ok (.iload_n 3, 1) := dk_29 (dk_at dksX0_shifts_2 22 rfl rfl)
theorem dX0_shifts_68 : decode cX0_shifts 68 = .ok (.ishr, 1) := dk_122 (dk_at dksX0_shifts_2 23 rfl rfl)
theorem dX0_shifts_69 : decode cX0_shifts 69 = .ok (.iconst 1, 1) := dk_4 (dk_at dksX0_shifts_3 0 rfl rfl)
theorem dX0_shifts_70 : decode cX0_shifts 70 = .ok (.iand, 1) := dk_126 (dk_at dksX0_shifts_3 1 rfl rfl)
theorem dX0_shifts_71 : decode cX0_shifts 71 = .ok (.iastore, 1) := dk_79 (dk_at dksX0_shifts_3 2 rfl rfl)
theorem dX0_shifts_72 : decode cX0_shifts 72 = .ok (.iinc 3 1, 3) := dk_132 3 1 (dk_at dksX0_shifts_3 3 rfl rfl)
theorem dX0_shifts_75 : decode cX0_shifts 75 = .ok (.goto (-25), 3) := dk_167 255 231 (dk_at dksX0_shifts_3 6 rfl rfl)
theorem dX0_shifts_78 : decode cX0_shifts 78 = .ok (.aload_n 0, 1) := dk_42 (dk_at dksX0_shifts_3 9 rfl rfl)
theorem dX0_shifts_79 : decode cX0_shifts 79 = .ok (.iload_n 2, 1) := dk_28 (dk_at dksX0_shifts_3 10 rfl rfl)
theorem dX0_shifts_80 : decode cX0_shifts 80 = .ok (.invokevirtual 374, 3) := dk_182 1 118 (dk_at dksX0_shifts_3 11 rfl rfl)
theorem dX0_shifts_83 : decode cX0_shifts 83 = .ok (.iinc 2 1, 3) := dk_132 2 1 (dk_at dksX0_shifts_3 14 rfl rfl)
theorem dX0_shifts_86 : decode cX0_shifts 86 = .ok (.goto (-51), 3) := dk_167 255 205 (dk_at dksX0_shifts_3 17 rfl rfl)
theorem dX0_shifts_89 : decode cX0_shifts 89 = .ok (.aload_n 0, 1) := dk_42 (dk_at dksX0_shifts_3 20 rfl rfl)
theorem dX0_shifts_90 : decode cX0_shifts 90 = .ok (.getfield 57, 3) := dk_180 0 57 (dk_at dksX0_shifts_3 21 rfl rfl)
theorem dX0_shifts_93 : decode cX0_shifts 93 = .ok (.iconst 0, 1) := dk_3 (dk_at dksX0_shifts_4 0 rfl rfl)
theorem dX0_shifts_94 : decode cX0_shifts 94 = .ok (.aload_n 0, 1) := dk_42 (dk_at dksX0_shifts_4 1 rfl rfl)
theorem dX0_shifts_95 : decode cX0_shifts 95 = .ok (.getfield 29, 3) := dk_180 0 29 (dk_at dksX0_shifts_4 2 rfl rfl)
theorem dX0_shifts_98 : decode cX0_shifts 98 = .ok (.iconst 0, 1) := dk_3 (dk_at dksX0_shifts_4 5 rfl rfl)
theorem dX0_shifts_99 : decode cX0_shifts 99 = .ok (.bipush 6, 2) := dk_16 6 (dk_at dksX0_shifts_4 6 rfl rfl)
theorem dX0_shifts_101 : decode cX0_shifts 101 = .ok (.invokestatic 314, 3) := dk_184 1 58 (dk_at dksX0_shifts_4 8 rfl rfl)
theorem dX0_shifts_104 : decode cX0_shifts 104 = .ok (.goto 23, 3) := dk_167 0 23 (dk_at dksX0_shifts_4 11 rfl rfl)
theorem dX0_shifts_107 : decode cX0_shifts 107 = .ok (.astore 4, 2) := dk_58 4 (dk_at dksX0_shifts_4 14 rfl rfl)
theorem dX0_shifts_109 : decode cX0_shifts 109 = .ok (.aload_n 0, 1) := dk_42 (dk_at dksX0_shifts_4 16 rfl rfl)
theorem dX0_shifts_110 : decode cX0_shifts 110 = .ok (.getfield 57, 3) := dk_180 0 57 (dk_at dksX0_shifts_4 17 rfl rfl)
theorem dX0_shifts_113 : decode cX0_shifts 113 = .ok (.iconst 0, 1) := dk_3 (dk_at dksX0_shifts_4 20 rfl rfl)
theorem dX0_shifts_114 : decode cX0_shifts 114 = .ok (.aload_n 0, 1) := dk_42 (dk_at dksX0_shifts_4 21 rfl rfl)
theorem dX0_shifts_115 : decode cX0_shifts 115 = .ok (.getfield 29, 3) := dk_180 0 29 (dk_at dksX0_shifts_5 0 rfl rfl)
theorem dX0_shifts_118 : decode cX0_shifts 118 = .ok (.iconst 0, 1) := dk_3 (dk_at dksX0_shifts_5 3 rfl rfl)
theorem dX0_shifts_119 : decode cX0_shifts 119 = .ok (.bipush 6, 2) := dk_16 6 (dk_at dksX0_shifts_5 4 rfl rfl)
theorem dX0_shifts_121 : decode cX0_shifts 121 = .ok (.invokestatic 314, 3) := dk_184 1 58 (dk_at dksX0_shifts_5 6 rfl rfl)
theorem dX0_shifts_124 : decode cX0_shifts 124 = .ok (.aload 4, 2) := dk_25 4 (dk_at dksX0_shifts_5 9 rfl rfl)
theorem dX0_shifts_126 : decode cX0_shifts 126 = .ok (.athrow, 1) := dk_191 (dk_at dksX0_shifts_5 11 rfl rfl)
theorem dX0_shifts_127 : decode cX0_shifts 127 = .ok (.iload_n 1, 1) := dk_27 (dk_at dksX0_shifts_5 12 rfl rfl)
theorem dX0_shifts_128 : decode cX0_shifts 128 = .ok (.ifCond .ne 10, 3) := dk_154 0 10 (dk_at dksX0_shifts_5 13 rfl rfl)
theorem dX0_shifts_131 : decode cX0_shifts 131 = .ok (.aload_n 0, 1) := dk_42 (dk_at dksX0_shifts_5 16 rfl rfl)
theorem dX0_shifts_132 : decode cX0_shifts 132 = .ok (.getfield 378, 3) := dk_180 1 122 (dk_at dksX0_shifts_5 17 rfl rfl)
theorem dX0_shifts_135 : decode cX0_shifts 135 = .ok (.goto 7, 3) := dk_167 0 7 (dk_at dksX0_shifts_5 20 rfl rfl)
theorem dX0_shifts_138 : decode cX0_shifts 138 = .ok (.aload_n 0, 1) := dk_42 (dk_at dksX0_shifts_5 23 rfl rfl)
theorem dX0_shifts_139 : decode cX0_shifts 139 = .ok (.getfield 371, 3) := dk_180 1 115 (dk_at dksX0_shifts_6 0 rfl rfl)
theorem dX0_shifts_142 : decode cX0_shifts 142 = .ok (.ireturn, 1) := dk_172 (dk_at dksX0_shifts_6 3 rfl rfl)
abbrev cX0_keeps : ByteArray := prog_1_method_55_code
def yX0_keeps : MethodName := ⟨RX0, "keeps", "(I)V"⟩
def dkwX0_keeps_1 : List UInt8 := [177]
abbrev dktX0_keeps_1 : List UInt8 := dkwX0_keeps_1 ++ []
def dkwX0_keeps_0 : List UInt8 := [42, 182, 1, 106, 61, 28, 42, 180, 1, 115, 163, 0, 4, 177, 42, 28, 181, 1, 115, 42, 27, 181, 1, 122]
abbrev dktX0_keeps_0 : List UInt8 := dkwX0_keeps_0 ++ dktX0_keeps_1
theorem dksX0_keeps_0 : cX0_keeps.data.toList.drop 0 = dktX0_keeps_0 := by decide +kernel
theorem dksX0_keeps_1 : cX0_keeps.data.toList.drop 24 = dktX0_keeps_1 := dk_seg dksX0_keeps_0 24 rfl rfl
theorem dX0_keeps_0 : decode cX0_keeps 0 = .ok (.aload_n 0, 1) := dk_42 (dk_at dksX0_keeps_0 0 rfl rfl)
theorem dX0_keeps_1 : decode cX0_keeps 1 = .ok (.invokevirtual 362, 3) := dk_182 1 106 (dk_at dksX0_keeps_0 1 rfl rfl)
theorem dX0_keeps_4 : decode cX0_keeps 4 = .ok (.istore_n 2, 1) := dk_61 (dk_at dksX0_keeps_0 4 rfl rfl)
theorem dX0_keeps_5 : decode cX0_keeps 5 = .ok (.iload_n 2, 1) := dk_28 (dk_at dksX0_keeps_0 5 rfl rfl)
theorem dX0_keeps_6 : decode cX0_keeps 6 = .ok (.aload_n 0, 1) := dk_42 (dk_at dksX0_keeps_0 6 rfl rfl)
theorem dX0_keeps_7 : decode cX0_keeps 7 = .ok (.getfield 371, 3) := dk_180 1 115 (dk_at dksX0_keeps_0 7 rfl rfl)
theorem dX0_keeps_10 : decode cX0_keeps 10 = .ok (.if_icmp .gt 4, 3) := dk_163 0 4 (dk_at dksX0_keeps_0 10 rfl rfl)
theorem dX0_keeps_13 : decode cX0_keeps 13 = .ok (.return_, 1) := dk_177 (dk_at dksX0_keeps_0 13 rfl rfl)
theorem dX0_keeps_14 : decode cX0_keeps 14 = .ok (.aload_n 0, 1) := dk_42 (dk_at dksX0_keeps_0 14 rfl rfl)
theorem dX0_keeps_15 : decode cX0_keeps 15 = .ok (.iload_n 2, 1) := dk_28 (dk_at dksX0_keeps_0 15 rfl rfl)
theorem dX0_keeps_16 : decode cX0_keeps 16 = .ok (.putfield 371, 3) := dk_181 1 115 (dk_at dksX0_keeps_0 16 rfl rfl)
theorem dX0_keeps_19 : decode cX0_keeps 19 = .ok (.aload_n 0, 1) := dk_42 (dk_at dksX0_keeps_0 19 rfl rfl)
theorem dX0_keeps_20 : decode cX0_keeps 20 = .ok (.iload_n 1, 1) := dk_27 (dk_at dksX0_keeps_0 20 rfl rfl)
theorem dX0_keeps_21 : decode cX0_keeps 21 = .ok (.putfield 378, 3) := dk_181 1 122 (dk_at dksX0_keeps_0 21 rfl rfl)
theorem dX0_keeps_24 : decode cX0_keeps 24 = .ok (.return_, 1) := dk_177 (dk_at dksX0_keeps_1 0 rfl rfl)
abbrev cX0_coin : ByteArray := prog_1_method_56_code
def yX0_coin : MethodName := ⟨RX0, "coin", "(II)I"⟩
def dkwX0_coin_7 : List UInt8 := [42, 182, 1, 67, 25, 8, 191, 28, 154, 0, 10, 42, 180, 1, 122, 167, 0, 7, 42, 180, 1, 115, 172]
abbrev dktX0_coin_7 : List UInt8 := dkwX0_coin_7 ++ []
def dkwX0_coin_6 : List UInt8 := [163, 0, 9, 42, 21, 5, 182, 1, 118, 132, 4, 1, 167, 255, 154, 42, 182, 1, 67, 167, 0, 12, 58, 8]
abbrev dktX0_coin_6 : List UInt8 := dkwX0_coin_6 ++ dktX0_coin_7
def dkwX0_coin_5 : List UInt8 := [42, 180, 0, 26, 21, 7, 46, 16, 6, 108, 96, 54, 5, 132, 7, 1, 167, 255, 229, 42, 182, 1, 41, 27]
abbrev dktX0_coin_5 : List UInt8 := dkwX0_coin_5 ++ dktX0_coin_6
def dkwX0_coin_4 : List UInt8 := [6, 108, 54, 6, 132, 7, 255, 167, 255, 228, 3, 54, 7, 21, 7, 29, 162, 0, 27, 16, 10, 21, 5, 104]
abbrev dktX0_coin_4 : List UInt8 := dkwX0_coin_4 ++ dktX0_coin_5
def dkwX0_coin_3 : List UInt8 := [100, 54, 7, 21, 7, 155, 0, 29, 42, 180, 0, 26, 21, 7, 16, 6, 21, 6, 6, 112, 104, 79, 21, 6]
abbrev dktX0_coin_3 : List UInt8 := dkwX0_coin_3 ++ dktX0_coin_4
def dkwX0_coin_2 : List UInt8 := [181, 1, 122, 3, 54, 4, 21, 4, 29, 184, 1, 127, 162, 0, 99, 3, 54, 5, 21, 4, 54, 6, 29, 4]
abbrev dktX0_coin_2 : List UInt8 := dkwX0_coin_2 ++ dktX0_coin_3
def dkwX0_coin_1 : List UInt8 := [172, 7, 42, 180, 0, 22, 182, 0, 142, 184, 1, 14, 62, 42, 182, 1, 55, 42, 2, 181, 1, 115, 42, 2]
abbrev dktX0_coin_1 : List UInt8 := dkwX0_coin_1 ++ dktX0_coin_2
def dkwX0_coin_0 : List UInt8 := [27, 133, 9, 20, 1, 125, 184, 0, 112, 153, 0, 13, 28, 133, 9, 10, 184, 0, 112, 154, 0, 6, 16, 254]
abbrev dktX0_coin_0 : List UInt8 := dkwX0_coin_0 ++ dktX0_coin_1
theorem dksX0_coin_0 : cX0_coin.data.toList.drop 0 = dktX0_coin_0 := by decide +kernel
theorem dksX0_coin_1 : cX0_coin.data.toList.drop 24 = dktX0_coin_1 := dk_seg dksX0_coin_0 24 rfl rfl
theorem dksX0_coin_2 : cX0_coin.data.toList.drop 48 = dktX0_coin_2 := dk_seg dksX0_coin_1 24 rfl rfl
theorem dksX0_coin_3 : cX0_coin.data.toList.drop 72 = dktX0_coin_3 := dk_seg dksX0_coin_2 24 rfl rfl
theorem dksX0_coin_4 : cX0_coin.data.toList.drop 96 = dktX0_coin_4 := dk_seg dksX0_coin_3 24 rfl rfl
theorem dksX0_coin_5 : cX0_coin.data.toList.drop 120 = dktX0_coin_5 := dk_seg dksX0_coin_4 24 rfl rfl
theorem dksX0_coin_6 : cX0_coin.data.toList.drop 144 = dktX0_coin_6 := dk_seg dksX0_coin_5 24 rfl rfl
theorem dksX0_coin_7 : cX0_coin.data.toList.drop 168 = dktX0_coin_7 := dk_seg dksX0_coin_6 24 rfl rfl
theorem dX0_coin_0 : decode cX0_coin 0 = .ok (.iload_n 1, 1) := dk_27 (dk_at dksX0_coin_0 0 rfl rfl)
theorem dX0_coin_1 : decode cX0_coin 1 = .ok (.i2l, 1) := dk_133 (dk_at dksX0_coin_0 1 rfl rfl)
theorem dX0_coin_2 : decode cX0_coin 2 = .ok (.lconst 0, 1) := dk_9 (dk_at dksX0_coin_0 2 rfl rfl)
theorem dX0_coin_3 : decode cX0_coin 3 = .ok (.ldc2_w 381, 3) := dk_20 1 125 (dk_at dksX0_coin_0 3 rfl rfl)
theorem dX0_coin_6 : decode cX0_coin 6 = .ok (.invokestatic 112, 3) := dk_184 0 112 (dk_at dksX0_coin_0 6 rfl rfl)
theorem dX0_coin_9 : decode cX0_coin 9 = .ok (.ifCond .eq 13, 3) := dk_153 0 13 (dk_at dksX0_coin_0 9 rfl rfl)
theorem dX0_coin_12 : decode cX0_coin 12 = .ok (.iload_n 2, 1) := dk_28 (dk_at dksX0_coin_0 12 rfl rfl)
theorem dX0_coin_13 : decode cX0_coin 13 = .ok (.i2l, 1) := dk_133 (dk_at dksX0_coin_0 13 rfl rfl)
theorem dX0_coin_14 : decode cX0_coin 14 = .ok (.lconst 0, 1) := dk_9 (dk_at dksX0_coin_0 14 rfl rfl)
theorem dX0_coin_15 : decode cX0_coin 15 = .ok (.lconst 1, 1) := dk_10 (dk_at dksX0_coin_0 15 rfl rfl)
theorem dX0_coin_16 : decode cX0_coin 16 = .ok (.invokestatic 112, 3) := dk_184 0 112 (dk_at dksX0_coin_0 16 rfl rfl)
theorem dX0_coin_19 : decode cX0_coin 19 = .ok (.ifCond .ne 6, 3) := dk_154 0 6 (dk_at dksX0_coin_0 19 rfl rfl)
theorem dX0_coin_22 : decode cX0_coin 22 = .ok (.bipush (-2), 2) := dk_16 254 (dk_at dksX0_coin_0 22 rfl rfl)
theorem dX0_coin_24 : decode cX0_coin 24 = .ok (.ireturn, 1) := dk_172 (dk_at dksX0_coin_1 0 rfl rfl)
theorem dX0_coin_25 : decode cX0_coin 25 = .ok (.iconst 4, 1) := dk_7 (dk_at dksX0_coin_1 1 rfl rfl)
theorem dX0_coin_26 : decode cX0_coin 26 = .ok (.aload_n 0, 1) := dk_42 (dk_at dksX0_coin_1 2 rfl rfl)
theorem dX0_coin_27 : decode cX0_coin 27 = .ok (.getfield 22, 3) := dk_180 0 22 (dk_at dksX0_coin_1 3 rfl rfl)
theorem dX0_coin_30 : decode cX0_coin 30 = .ok (.invokevirtual 142, 3) := dk_182 0 142 (dk_at dksX0_coin_1 6 rfl rfl)
theorem dX0_coin_33 : decode cX0_coin 33 = .ok (.invokestatic 270, 3) := dk_184 1 14 (dk_at dksX0_coin_1 9 rfl rfl)
theorem dX0_coin_36 : decode cX0_coin 36 = .ok (.istore_n 3, 1) := dk_62 (dk_at dksX0_coin_1 12 rfl rfl)
theorem dX0_coin_37 : decode cX0_coin 37 = .ok (.aload_n 0, 1) := dk_42 (dk_at dksX0_coin_1 13 rfl rfl)
theorem dX0_coin_38 : decode cX0_coin 38 = .ok (.invokevirtual 311, 3) := dk_182 1 55 (dk_at dksX0_coin_1 14 rfl rfl)
theorem dX0_coin_41 : decode cX0_coin 41 = .ok (.aload_n 0, 1) := dk_42 (dk_at dksX0_coin_1 17 rfl rfl)
theorem dX0_coin_42 : decode cX0_coin 42 = .ok (.iconst (-1), 1) := dk_2 (dk_at dksX0_coin_1 18 rfl rfl)
theorem dX0_coin_43 : decode cX0_coin 43 = .ok (.putfield 371, 3) := dk_181 1 115 (dk_at dksX0_coin_1 19 rfl rfl)
theorem dX0_coin_46 : decode cX0_coin 46 = .ok (.aload_n 0, 1) := dk_42 (dk_at dksX0_coin_1 22 rfl rfl)
theorem dX0_coin_47 : decode cX0_coin 47 = .ok (.iconst (-1), 1) := dk_2 (dk_at dksX0_coin_1 23 rfl rfl)
theorem dX0_coin_48 : decode cX0_coin 48 = .ok (.putfield 378, 3) := dk_181 1 122 (dk_at dksX0_coin_2 0 rfl rfl)
theorem dX0_coin_51 : decode cX0_coin 51 = .ok (.iconst 0, 1) := dk_3 (dk_at dksX0_coin_2 3 rfl rfl)
theorem dX0_coin_52 : decode cX0_coin 52 = .ok (.istore 4, 2) := dk_54 4 (dk_at dksX0_coin_2 4 rfl rfl)
theorem dX0_coin_54 : decode cX0_coin 54 = .ok (.iload 4, 2) := dk_21 4 (dk_at dksX0_coin_2 6 rfl rfl)
theorem dX0_coin_56 : decode cX0_coin 56 = .ok (.iload_n 3, 1) := dk_29 (dk_at dksX0_coin_2 8 rfl rfl)
theorem dX0_coin_57 : decode cX0_coin 57 = .ok (.invokestatic 383, 3) := dk_184 1 127 (dk_at dksX0_coin_2 9 rfl rfl)
theorem dX0_coin_60 : decode cX0_coin 60 = .ok (.if_icmp .ge 99, 3) := dk_162 0 99 (dk_at dksX0_coin_2 12 rfl rfl)
theorem dX0_coin_63 : decode cX0_coin 63 = .ok (.iconst 0, 1) := dk_3 (dk_at dksX0_coin_2 15 rfl rfl)
theorem dX0_coin_64 : decode cX0_coin 64 = .ok (.istore 5, 2) := dk_54 5 (dk_at dksX0_coin_2 16 rfl rfl)
theorem dX0_coin_66 : decode cX0_coin 66 = .ok (.iload 4, 2) := dk_21 4 (dk_at dksX0_coin_2 18 rfl rfl)
theorem dX0_coin_68 : decode cX0_coin 68 = .ok (.istore 6, 2) := dk_54 6 (dk_at dksX0_coin_2 20 rfl rfl)
theorem dX0_coin_70 : decode cX0_coin 70 = .ok (.iload_n 3, 1) := dk_29 (dk_at dksX0_coin_2 22 rfl rfl)
theorem dX0_coin_71 : decode cX0_coin 71 = .ok (.iconst 1, 1) := dk_4 (dk_at dksX0_coin_2 23 rfl rfl)
theorem dX0_coin_72 : decode cX0_coin 72 = .ok (.isub, 1) := dk_100 (dk_at dksX0_coin_3 0 rfl rfl)
theorem dX0_coin_73 : decode cX0_coin 73 = .ok (.istore 7, 2) := dk_54 7 (dk_at dksX0_coin_3 1 rfl rfl)
theorem dX0_coin_75 : decode cX0_coin 75 = .ok (.iload 7, 2) := dk_21 7 (dk_at dksX0_coin_3 3 rfl rfl)
theorem dX0_coin_77 : decode cX0_coin 77 = .ok (.ifCond .lt 29, 3) := dk_155 0 29 (dk_at dksX0_coin_3 5 rfl rfl)
theorem dX0_coin_80 : decode cX0_coin 80 = .ok (.aload_n 0, 1) := dk_42 (dk_at dksX0_coin_3 8 rfl rfl)
theorem dX0_coin_81 : decode cX0_coin 81 = .ok (.getfield 26, 3) := dk_180 0 26 (dk_at dksX0_coin_3 9 rfl rfl)
theorem dX0_coin_84 : decode cX0_coin 84 = .ok (.iload 7, 2) := dk_21 7 (dk_at dksX0_coin_3 12 rfl rfl)
theorem dX0_coin_86 : decode cX0_coin 86 = .ok (.bipush 6, 2) := dk_16 6 (dk_at dksX0_coin_3 14 rfl rfl)
theorem dX0_coin_88 : decode cX0_coin 88 = .ok (.iload 6, 2) := dk_21 6 (dk_at dksX0_coin_3 16 rfl rfl)
theorem dX0_coin_90 : decode cX0_coin 90 = .ok (.iconst 3, 1) := dk_6 (dk_at dksX0_coin_3 18 rfl rfl)
theorem dX0_coin_91 : decode cX0_coin 91 = .ok (.irem, 1) := dk_112 (dk_at dksX0_coin_3 19 rfl rfl)
theorem dX0_coin_92 : decode cX0_coin 92 = .ok (.imul, 1) := dk_104 (dk_at dksX0_coin_3 20 rfl rfl)
theorem dX0_coin_93 : decode cX0_coin 93 = .ok (.iastore, 1) := dk_79 (dk_at dksX0_coin_3 21 rfl rfl)
theorem dX0_coin_94 : decode cX0_coin 94 = .ok (.iload 6, 2) := dk_21 6 (dk_at dksX0_coin_3 22 rfl rfl)
theorem dX0_coin_96 : decode cX0_coin 96 = .ok (.iconst 3, 1) := dk_6 (dk_at dksX0_coin_4 0 rfl rfl)
theorem dX0_coin_97 : decode cX0_coin 97 = .ok (.idiv, 1) := dk_108 (dk_at dksX0_coin_4 1 rfl rfl)
theorem dX0_coin_98 : decode cX0_coin 98 = .ok (.istore 6, 2) := dk_54 6 (dk_at dksX0_coin_4 2 rfl rfl)
theorem dX0_coin_100 : decode cX0_coin 100 = .ok (.iinc 7 (-1), 3) := dk_132 7 255 (dk_at dksX0_coin_4 4 rfl rfl)
theorem dX0_coin_103 : decode cX0_coin 103 = .ok (.goto (-28), 3) := dk_167 255 228 (dk_at dksX0_coin_4 7 rfl rfl)
theorem dX0_coin_106 : decode cX0_coin 106 = .ok (.iconst 0, 1) := dk_3 (dk_at dksX0_coin_4 10 rfl rfl)
theorem dX0_coin_107 : decode cX0_coin 107 = .ok (.istore 7, 2) := dk_54 7 (dk_at dksX0_coin_4 11 rfl rfl)
theorem dX0_coin_109 : decode cX0_coin 109 = .ok (.iload 7, 2) := dk_21 7 (dk_at dksX0_coin_4 13 rfl rfl)
theorem dX0_coin_111 : decode cX0_coin 111 = .ok (.iload_n 3, 1) := dk_29 (dk_at dksX0_coin_4 15 rfl rfl)
theorem dX0_coin_112 : decode cX0_coin 112 = .ok (.if_icmp .ge 27, 3) := dk_162 0 27 (dk_at dksX0_coin_4 16 rfl rfl)
theorem dX0_coin_115 : decode cX0_coin 115 = .ok (.bipush 10, 2) := dk_16 10 (dk_at dksX0_coin_4 19 rfl rfl)
theorem dX0_coin_117 : decode cX0_coin 117 = .ok (.iload 5, 2) := dk_21 5 (dk_at dksX0_coin_4 21 rfl rfl)
theorem dX0_coin_119 : decode cX0_coin 119 = .ok (.imul, 1) := dk_104 (dk_at dksX0_coin_4 23 rfl rfl)
theorem dX0_coin_120 : decode cX0_coin 120 = .ok (.aload_n 0, 1) := dk_42 (dk_at dksX0_coin_5 0 rfl rfl)
theorem dX0_coin_121 : decode cX0_coin 121 = .ok (.getfield 26, 3) := dk_180 0 26 (dk_at dksX0_coin_5 1 rfl rfl)
theorem dX0_coin_124 : decode cX0_coin 124 = .ok (.iload 7, 2) := dk_21 7 (dk_at dksX0_coin_5 4 rfl rfl)
theorem dX0_coin_126 : decode cX0_coin 126 = .ok (.iaload, 1) := dk_46 (dk_at dksX0_coin_5 6 rfl rfl)
theorem dX0_coin_127 : decode cX0_coin 127 = .ok (.bipush 6, 2) := dk_16 6 (dk_at dksX0_coin_5 7 rfl rfl)
theorem dX0_coin_129 : decode cX0_coin 129 = .ok (.idiv, 1) := dk_108 (dk_at dksX0_coin_5 9 rfl rfl)
theorem dX0_coin_130 : decode cX0_coin 130 = .ok (.iadd, 1) := dk_96 (dk_at dksX0_coin_5 10 rfl rfl)
theorem dX0_coin_131 : decode cX0_coin 131 = .ok (.istore 5, 2) := dk_54 5 (dk_at dksX0_coin_5 11 rfl rfl)
theorem dX0_coin_133 : decode cX0_coin 133 = .ok (.iinc 7 1, 3) := dk_132 7 1 (dk_at dksX0_coin_5 13 rfl rfl)
theorem dX0_coin_136 : decode cX0_coin 136 = .ok (.goto (-27), 3) := dk_167 255 229 (dk_at dksX0_coin_5 16 rfl rfl)
theorem dX0_coin_139 : decode cX0_coin 139 = .ok (.aload_n 0, 1) := dk_42 (dk_at dksX0_coin_5 19 rfl rfl)
theorem dX0_coin_140 : decode cX0_coin 140 = .ok (.invokevirtual 297, 3) := dk_182 1 41 (dk_at dksX0_coin_5 20 rfl rfl)
theorem dX0_coin_143 : decode cX0_coin 143 = .ok (.iload_n 1, 1) := dk_27 (dk_at dksX0_coin_5 23 rfl rfl)
theorem dX0_coin_144 : decode cX0_coin 144 = .ok (.if_icmp .gt 9, 3) := dk_163 0 9 (dk_at dksX0_coin_6 0 rfl rfl)
theorem dX0_coin_147 : decode cX0_coin 147 = .ok (.aload_n 0, 1) := dk_42 (dk_at dksX0_coin_6 3 rfl rfl)
theorem dX0_coin_148 : decode cX0_coin 148 = .ok (.iload 5, 2) := dk_21 5 (dk_at dksX0_coin_6 4 rfl rfl)
theorem dX0_coin_150 : decode cX0_coin 150 = .ok (.invokevirtual 374, 3) := dk_182 1 118 (dk_at dksX0_coin_6 6 rfl rfl)
theorem dX0_coin_153 : decode cX0_coin 153 = .ok (.iinc 4 1, 3) := dk_132 4 1 (dk_at dksX0_coin_6 9 rfl rfl)
theorem dX0_coin_156 : decode cX0_coin 156 = .ok (.goto (-102), 3) := dk_167 255 154 (dk_at dksX0_coin_6 12 rfl rfl)
theorem dX0_coin_159 : decode cX0_coin 159 = .ok (.aload_n 0, 1) := dk_42 (dk_at dksX0_coin_6 15 rfl rfl)
theorem dX0_coin_160 : decode cX0_coin 160 = .ok (.invokevirtual 323, 3) := dk_182 1 67 (dk_at dksX0_coin_6 16 rfl rfl)
theorem dX0_coin_163 : decode cX0_coin 163 = .ok (.goto 12, 3) := dk_167 0 12 (dk_at dksX0_coin_6 19 rfl rfl)
theorem dX0_coin_166 : decode cX0_coin 166 = .ok (.astore 8, 2) := dk_58 8 (dk_at dksX0_coin_6 22 rfl rfl)
theorem dX0_coin_168 : decode cX0_coin 168 = .ok (.aload_n 0, 1) := dk_42 (dk_at dksX0_coin_7 0 rfl rfl)
theorem dX0_coin_169 : decode cX0_coin 169 = .ok (.invokevirtual 323, 3) := dk_182 1 67 (dk_at dksX0_coin_7 1 rfl rfl)
theorem dX0_coin_172 : decode cX0_coin 172 = .ok (.aload 8, 2) := dk_25 8 (dk_at dksX0_coin_7 4 rfl rfl)
theorem dX0_coin_174 : decode cX0_coin 174 = .ok (.athrow, 1) := dk_191 (dk_at dksX0_coin_7 6 rfl rfl)
theorem dX0_coin_175 : decode cX0_coin 175 = .ok (.iload_n 2, 1) := dk_28 (dk_at dksX0_coin_7 7 rfl rfl)
theorem dX0_coin_176 : decode cX0_coin 176 = .ok (.ifCond .ne 10, 3) := dk_154 0 10 (dk_at dksX0_coin_7 8 rfl rfl)
theorem dX0_coin_179 : decode cX0_coin 179 = .ok (.aload_n 0, 1) := dk_42 (dk_at dksX0_coin_7 11 rfl rfl)
theorem dX0_coin_180 : decode cX0_coin 180 = .ok (.getfield 378, 3) := dk_180 1 122 (dk_at dksX0_coin_7 12 rfl rfl)
theorem dX0_coin_183 : decode cX0_coin 183 = .ok (.goto 7, 3) := dk_167 0 7 (dk_at dksX0_coin_7 15 rfl rfl)
theorem dX0_coin_186 : decode cX0_coin 186 = .ok (.aload_n 0, 1) := dk_42 (dk_at dksX0_coin_7 18 rfl rfl)
theorem dX0_coin_187 : decode cX0_coin 187 = .ok (.getfield 371, 3) := dk_180 1 115 (dk_at dksX0_coin_7 19 rfl rfl)
theorem dX0_coin_190 : decode cX0_coin 190 = .ok (.ireturn, 1) := dk_172 (dk_at dksX0_coin_7 22 rfl rfl)
abbrev cX0_ways3 : ByteArray := prog_1_method_57_code
def yX0_ways3 : MethodName := ⟨RX0, "ways3", "(I)I"⟩
def dkwX0_ways3_0 : List UInt8 := [4, 60, 3, 61, 28, 26, 162, 0, 13, 27, 6, 104, 60, 132, 2, 1, 167, 255, 244, 27, 172]
abbrev dktX0_ways3_0 : List UInt8 := dkwX0_ways3_0 ++ []
theorem dksX0_ways3_0 : cX0_ways3.data.toList.drop 0 = dktX0_ways3_0 := by decide +kernel
theorem dX0_ways3_0 : decode cX0_ways3 0 = .ok (.iconst 1, 1) := dk_4 (dk_at dksX0_ways3_0 0 rfl rfl)
theorem dX0_ways3_1 : decode cX0_ways3 1 = .ok (.istore_n 1, 1) := dk_60 (dk_at dksX0_ways3_0 1 rfl rfl)
theorem dX0_ways3_2 : decode cX0_ways3 2 = .ok (.iconst 0, 1) := dk_3 (dk_at dksX0_ways3_0 2 rfl rfl)
theorem dX0_ways3_3 : decode cX0_ways3 3 = .ok (.istore_n 2, 1) := dk_61 (dk_at dksX0_ways3_0 3 rfl rfl)
theorem dX0_ways3_4 : decode cX0_ways3 4 = .ok (.iload_n 2, 1) := dk_28 (dk_at dksX0_ways3_0 4 rfl rfl)
theorem dX0_ways3_5 : decode cX0_ways3 5 = .ok (.iload_n 0, 1) := dk_26 (dk_at dksX0_ways3_0 5 rfl rfl)
theorem dX0_ways3_6 : decode cX0_ways3 6 = .ok (.if_icmp .ge 13, 3) := dk_162 0 13 (dk_at dksX0_ways3_0 6 rfl rfl)
theorem dX0_ways3_9 : decode cX0_ways3 9 = .ok (.iload_n 1, 1) := dk_27 (dk_at dksX0_ways3_0 9 rfl rfl)
theorem dX0_ways3_10 : decode cX0_ways3 10 = .ok (.iconst 3, 1) := dk_6 (dk_at dksX0_ways3_0 10 rfl rfl)
theorem dX0_ways3_11 : decode cX0_ways3 11 = .ok (.imul, 1) := dk_104 (dk_at dksX0_ways3_0 11 rfl rfl)
theorem dX0_ways3_12 : decode cX0_ways3 12 = .ok (.istore_n 1, 1) := dk_60 (dk_at dksX0_ways3_0 12 rfl rfl)
theorem dX0_ways3_13 : decode cX0_ways3 13 = .ok (.iinc 2 1, 3) := dk_132 2 1 (dk_at dksX0_ways3_0 13 rfl rfl)
theorem dX0_ways3_16 : decode cX0_ways3 16 = .ok (.goto (-12), 3) := dk_167 255 244 (dk_at dksX0_ways3_0 16 rfl rfl)
theorem dX0_ways3_19 : decode cX0_ways3 19 = .ok (.iload_n 1, 1) := dk_27 (dk_at dksX0_ways3_0 19 rfl rfl)
theorem dX0_ways3_20 : decode cX0_ways3 20 = .ok (.ireturn, 1) := dk_172 (dk_at dksX0_ways3_0 20 rfl rfl)
abbrev cX0_stage : ByteArray := prog_1_method_58_code
def yX0_stage : MethodName := ⟨RX0, "stage", "()I"⟩
def dkwX0_stage_4 : List UInt8 := [180, 0, 35, 3, 16, 6, 184, 1, 58, 45, 191, 42, 180, 1, 122, 172]
abbrev dktX0_stage_4 : List UInt8 := dkwX0_stage_4 ++ []
def dkwX0_stage_3 : List UInt8 := [180, 0, 60, 3, 42, 180, 0, 35, 3, 16, 6, 184, 1, 58, 167, 0, 21, 78, 42, 180, 0, 60, 3, 42]
abbrev dktX0_stage_3 : List UInt8 := dkwX0_stage_3 ++ dktX0_stage_4
def dkwX0_stage_2 : List UInt8 := [28, 46, 27, 96, 79, 132, 2, 1, 167, 255, 231, 42, 27, 182, 1, 118, 132, 1, 1, 167, 255, 212, 42]
abbrev dktX0_stage_2 : List UInt8 := dkwX0_stage_2 ++ dktX0_stage_3
def dkwX0_stage_1 : List UInt8 := [16, 10, 163, 0, 44, 3, 61, 28, 42, 180, 0, 203, 162, 0, 23, 42, 180, 0, 35, 28, 42, 180, 0, 60]
abbrev dktX0_stage_1 : List UInt8 := dkwX0_stage_1 ++ dktX0_stage_2
def dkwX0_stage_0 : List UInt8 := [42, 180, 0, 35, 3, 42, 180, 0, 60, 3, 16, 6, 184, 1, 58, 42, 2, 181, 1, 115, 3, 60, 27]
abbrev dktX0_stage_0 : List UInt8 := dkwX0_stage_0 ++ dktX0_stage_1
theorem dksX0_stage_0 : cX0_stage.data.toList.drop 0 = dktX0_stage_0 := by decide +kernel
theorem dksX0_stage_1 : cX0_stage.data.toList.drop 23 = dktX0_stage_1 := dk_seg dksX0_stage_0 23 rfl rfl
theorem dksX0_stage_2 : cX0_stage.data.toList.drop 47 = dktX0_stage_2 := dk_seg dksX0_stage_1 24 rfl rfl
theorem dksX0_stage_3 : cX0_stage.data.toList.drop 70 = dktX0_stage_3 := dk_seg dksX0_stage_2 23 rfl rfl
theorem dksX0_stage_4 : cX0_stage.data.toList.drop 94 = dktX0_stage_4 := dk_seg dksX0_stage_3 24 rfl rfl
theorem dX0_stage_0 : decode cX0_stage 0 = .ok (.aload_n 0, 1) := dk_42 (dk_at dksX0_stage_0 0 rfl rfl)
theorem dX0_stage_1 : decode cX0_stage 1 = .ok (.getfield 35, 3) := dk_180 0 35 (dk_at dksX0_stage_0 1 rfl rfl)
theorem dX0_stage_4 : decode cX0_stage 4 = .ok (.iconst 0, 1) := dk_3 (dk_at dksX0_stage_0 4 rfl rfl)
theorem dX0_stage_5 : decode cX0_stage 5 = .ok (.aload_n 0, 1) := dk_42 (dk_at dksX0_stage_0 5 rfl rfl)
theorem dX0_stage_6 : decode cX0_stage 6 = .ok (.getfield 60, 3) := dk_180 0 60 (dk_at dksX0_stage_0 6 rfl rfl)
theorem dX0_stage_9 : decode cX0_stage 9 = .ok (.iconst 0, 1) := dk_3 (dk_at dksX0_stage_0 9 rfl rfl)
theorem dX0_stage_10 : decode cX0_stage 10 = .ok (.bipush 6, 2) := dk_16 6 (dk_at dksX0_stage_0 10 rfl rfl)
theorem dX0_stage_12 : decode cX0_stage 12 = .ok (.invokestatic 314, 3) := dk_184 1 58 (dk_at dksX0_stage_0 12 rfl rfl)
theorem dX0_stage_15 : decode cX0_stage 15 = .ok (.aload_n 0, 1) := dk_42 (dk_at dksX0_stage_0 15 rfl rfl)
theorem dX0_stage_16 : decode cX0_stage 16 = .ok (.iconst (-1), 1) := dk_2 (dk_at dksX0_stage_0 16 rfl rfl)
theorem dX0_stage_17 : decode cX0_stage 17 = .ok (.putfield 371, 3) := dk_181 1 115 (dk_at dksX0_stage_0 17 rfl rfl)
theorem dX0_stage_20 : decode cX0_stage 20 = .ok (.iconst 0, 1) := dk_3 (dk_at dksX0_stage_0 20 rfl rfl)
theorem dX0_stage_21 : decode cX0_stage 21 = .ok (.istore_n 1, 1) := dk_60 (dk_at dksX0_stage_0 21 rfl rfl)
theorem dX0_stage_22 : decode cX0_stage 22 = .ok (.iload_n 1, 1) := dk_27 (dk_at dksX0_stage_0 22 rfl rfl)
theorem dX0_stage_23 : decode cX0_stage 23 = .ok (.bipush 10, 2) := dk_16 10 (dk_at dksX0_stage_1 0 rfl rfl)
theorem dX0_stage_25 : decode cX0_stage 25 = .ok (.if_icmp .gt 44, 3) := dk_163 0 44 (dk_at dksX0_stage_1 2 rfl rfl)
theorem dX0_stage_28 : decode cX0_stage 28 = .ok (.iconst 0, 1) := dk_3 (dk_at dksX0_stage_1 5 rfl rfl)
theorem dX0_stage_29 : decode cX0_stage 29 = .ok (.istore_n 2, 1) := dk_61 (dk_at dksX0_stage_1 6 rfl rfl)
theorem dX0_stage_30 : decode cX0_stage 30 = .ok (.iload_n 2, 1) := dk_28 (dk_at dksX0_stage_1 7 rfl rfl)
theorem dX0_stage_31 : decode cX0_stage 31 = .ok (.aload_n 0, 1) := dk_42 (dk_at dksX0_stage_1 8 rfl rfl)
theorem dX0_stage_32 : decode cX0_stage 32 = .ok (.getfield 203, 3) := dk_180 0 203 (dk_at dksX0_stage_1 9 rfl rfl)
theorem dX0_stage_35 : decode cX0_stage 35 = .ok (.if_icmp .ge 23, 3) := dk_162 0 23 (dk_at dksX0_stage_1 12 rfl rfl)
theorem dX0_stage_38 : decode cX0_stage 38 = .ok (.aload_n 0, 1) := dk_42 (dk_at dksX0_stage_1 15 rfl rfl)
theorem dX0_stage_39 : decode cX0_stage 39 = .ok (.getfield 35, 3) := dk_180 0 35 (dk_at dksX0_stage_1 16 rfl rfl)
theorem dX0_stage_42 : decode cX0_stage 42 = .ok (.iload_n 2, 1) := dk_28 (dk_at dksX0_stage_1 19 rfl rfl)
theorem dX0_stage_43 : decode cX0_stage 43 = .ok (.aload_n 0, 1) := dk_42 (dk_at dksX0_stage_1 20 rfl rfl)
theorem dX0_stage_44 : decode cX0_stage 44 = .ok (.getfield 60, 3) := dk_180 0 60 (dk_at dksX0_stage_1 21 rfl rfl)
theorem dX0_stage_47 : decode cX0_stage 47 = .ok (.iload_n 2, 1) := dk_28 (dk_at dksX0_stage_2 0 rfl rfl)
theorem dX0_stage_48 : decode cX0_stage 48 = .ok (.iaload, 1) := dk_46 (dk_at dksX0_stage_2 1 rfl rfl)
theorem dX0_stage_49 : decode cX0_stage 49 = .ok (.iload_n 1, 1) := dk_27 (dk_at dksX0_stage_2 2 rfl rfl)
theorem dX0_stage_50 : decode cX0_stage 50 = .ok (.iadd, 1) := dk_96 (dk_at dksX0_stage_2 3 rfl rfl)
theorem dX0_stage_51 : decode cX0_stage 51 = .ok (.iastore, 1) := dk_79 (dk_at dksX0_stage_2 4 rfl rfl)
theorem dX0_stage_52 : decode cX0_stage 52 = .ok (.iinc 2 1, 3) := dk_132 2 1 (dk_at dksX0_stage_2 5 rfl rfl)
theorem dX0_stage_55 : decode cX0_stage 55 = .ok (.goto (-25), 3) := dk_167 255 231 (dk_at dksX0_stage_2 8 rfl rfl)
theorem dX0_stage_58 : decode cX0_stage 58 = .ok (.aload_n 0, 1) := dk_42 (dk_at dksX0_stage_2 11 rfl rfl)
theorem dX0_stage_59 : decode cX0_stage 59 = .ok (.iload_n 1, 1) := dk_27 (dk_at dksX0_stage_2 12 rfl rfl)
theorem dX0_stage_60 : decode cX0_stage 60 = .ok (.invokevirtual 374, 3) := dk_182 1 118 (dk_at dksX0_stage_2 13 rfl rfl)
theorem dX0_stage_63 : decode cX0_stage 63 = .ok (.iinc 1 1, 3) := dk_132 1 1 (dk_at dksX0_stage_2 16 rfl rfl)
theorem dX0_stage_66 : decode cX0_stage 66 = .ok (.goto (-44), 3) := dk_167 255 212 (dk_at dksX0_stage_2 19 rfl rfl)
theorem dX0_stage_69 : decode cX0_stage 69 = .ok (.aload_n 0, 1) := dk_42 (dk_at dksX0_stage_2 22 rfl rfl)
theorem dX0_stage_70 : decode cX0_stage 70 = .ok (.getfield 60, 3) := dk_180 0 60 (dk_at dksX0_stage_3 0 rfl rfl)
theorem dX0_stage_73 : decode cX0_stage 73 = .ok (.iconst 0, 1) := dk_3 (dk_at dksX0_stage_3 3 rfl rfl)
theorem dX0_stage_74 : decode cX0_stage 74 = .ok (.aload_n 0, 1) := dk_42 (dk_at dksX0_stage_3 4 rfl rfl)
theorem dX0_stage_75 : decode cX0_stage 75 = .ok (.getfield 35, 3) := dk_180 0 35 (dk_at dksX0_stage_3 5 rfl rfl)
theorem dX0_stage_78 : decode cX0_stage 78 = .ok (.iconst 0, 1) := dk_3 (dk_at dksX0_stage_3 8 rfl rfl)
theorem dX0_stage_79 : decode cX0_stage 79 = .ok (.bipush 6, 2) := dk_16 6 (dk_at dksX0_stage_3 9 rfl rfl)
theorem dX0_stage_81 : decode cX0_stage 81 = .ok (.invokestatic 314, 3) := dk_184 1 58 (dk_at dksX0_stage_3 11 rfl rfl)
theorem dX0_stage_84 : decode cX0_stage 84 = .ok (.goto 21, 3) := dk_167 0 21 (dk_at dksX0_stage_3 14 rfl rfl)
theorem dX0_stage_87 : decode cX0_stage 87 = .ok (.astore_n 3, 1) := dk_78 (dk_at dksX0_stage_3 17 rfl rfl)
theorem dX0_stage_88 : decode cX0_stage 88 = .ok (.aload_n 0, 1) := dk_42 (dk_at dksX0_stage_3 18 rfl rfl)
theorem dX0_stage_89 : decode cX0_stage 89 = .ok (.getfield 60, 3) := dk_180 0 60 (dk_at dksX0_stage_3 19 rfl rfl)
theorem dX0_stage_92 : decode cX0_stage 92 = .ok (.iconst 0, 1) := dk_3 (dk_at dksX0_stage_3 22 rfl rfl)
theorem dX0_stage_93 : decode cX0_stage 93 = .ok (.aload_n 0, 1) := dk_42 (dk_at dksX0_stage_3 23 rfl rfl)
theorem dX0_stage_94 : decode cX0_stage 94 = .ok (.getfield 35, 3) := dk_180 0 35 (dk_at dksX0_stage_4 0 rfl rfl)
theorem dX0_stage_97 : decode cX0_stage 97 = .ok (.iconst 0, 1) := dk_3 (dk_at dksX0_stage_4 3 rfl rfl)
theorem dX0_stage_98 : decode cX0_stage 98 = .ok (.bipush 6, 2) := dk_16 6 (dk_at dksX0_stage_4 4 rfl rfl)
theorem dX0_stage_100 : decode cX0_stage 100 = .ok (.invokestatic 314, 3) := dk_184 1 58 (dk_at dksX0_stage_4 6 rfl rfl)
theorem dX0_stage_103 : decode cX0_stage 103 = .ok (.aload_n 3, 1) := dk_45 (dk_at dksX0_stage_4 9 rfl rfl)
theorem dX0_stage_104 : decode cX0_stage 104 = .ok (.athrow, 1) := dk_191 (dk_at dksX0_stage_4 10 rfl rfl)
theorem dX0_stage_105 : decode cX0_stage 105 = .ok (.aload_n 0, 1) := dk_42 (dk_at dksX0_stage_4 11 rfl rfl)
theorem dX0_stage_106 : decode cX0_stage 106 = .ok (.getfield 378, 3) := dk_180 1 122 (dk_at dksX0_stage_4 12 rfl rfl)
theorem dX0_stage_109 : decode cX0_stage 109 = .ok (.ireturn, 1) := dk_172 (dk_at dksX0_stage_4 15 rfl rfl)
abbrev cX0_swap : ByteArray := prog_1_method_60_code
def yX0_swap : MethodName := ⟨RX0, "swap", "(IIII)I"⟩
def dkwX0_swap_5 : List UInt8 := [180, 0, 22, 29, 182, 0, 150, 192, 0, 122, 21, 4, 182, 1, 131, 25, 7, 191]
abbrev dktX0_swap_5 : List UInt8 := dkwX0_swap_5 ++ []
def dkwX0_swap_4 : List UInt8 := [182, 1, 131, 21, 6, 172, 58, 7, 42, 42, 180, 0, 22, 27, 182, 0, 150, 192, 0, 122, 28, 42]
abbrev dktX0_swap_4 : List UInt8 := dkwX0_swap_4 ++ dktX0_swap_5
def dkwX0_swap_3 : List UInt8 := [180, 0, 22, 27, 182, 0, 150, 192, 0, 122, 28, 42, 180, 0, 22, 29, 182, 0, 150, 192, 0, 122, 21, 4]
abbrev dktX0_swap_3 : List UInt8 := dkwX0_swap_3 ++ dktX0_swap_4
def dkwX0_swap_2 : List UInt8 := [182, 0, 150, 192, 0, 122, 21, 4, 182, 1, 131, 42, 182, 1, 106, 21, 5, 100, 54, 6, 42, 42]
abbrev dktX0_swap_2 : List UInt8 := dkwX0_swap_2 ++ dktX0_swap_3
def dkwX0_swap_1 : List UInt8 := [182, 1, 106, 54, 5, 42, 42, 180, 0, 22, 27, 182, 0, 150, 192, 0, 122, 28, 42, 180, 0, 22, 29]
abbrev dktX0_swap_1 : List UInt8 := dkwX0_swap_1 ++ dktX0_swap_2
def dkwX0_swap_0 : List UInt8 := [42, 27, 28, 182, 0, 173, 153, 0, 13, 42, 29, 21, 4, 182, 0, 173, 154, 0, 7, 19, 1, 130, 172, 42]
abbrev dktX0_swap_0 : List UInt8 := dkwX0_swap_0 ++ dktX0_swap_1
theorem dksX0_swap_0 : cX0_swap.data.toList.drop 0 = dktX0_swap_0 := by decide +kernel
theorem dksX0_swap_1 : cX0_swap.data.toList.drop 24 = dktX0_swap_1 := dk_seg dksX0_swap_0 24 rfl rfl
theorem dksX0_swap_2 : cX0_swap.data.toList.drop 47 = dktX0_swap_2 := dk_seg dksX0_swap_1 23 rfl rfl
theorem dksX0_swap_3 : cX0_swap.data.toList.drop 69 = dktX0_swap_3 := dk_seg dksX0_swap_2 22 rfl rfl
theorem dksX0_swap_4 : cX0_swap.data.toList.drop 93 = dktX0_swap_4 := dk_seg dksX0_swap_3 24 rfl rfl
theorem dksX0_swap_5 : cX0_swap.data.toList.drop 115 = dktX0_swap_5 := dk_seg dksX0_swap_4 22 rfl rfl
theorem dX0_swap_0 : decode cX0_swap 0 = .ok (.aload_n 0, 1) := dk_42 (dk_at dksX0_swap_0 0 rfl rfl)
theorem dX0_swap_1 : decode cX0_swap 1 = .ok (.iload_n 1, 1) := dk_27 (dk_at dksX0_swap_0 1 rfl rfl)
theorem dX0_swap_2 : decode cX0_swap 2 = .ok (.iload_n 2, 1) := dk_28 (dk_at dksX0_swap_0 2 rfl rfl)
theorem dX0_swap_3 : decode cX0_swap 3 = .ok (.invokevirtual 173, 3) := dk_182 0 173 (dk_at dksX0_swap_0 3 rfl rfl)
theorem dX0_swap_6 : decode cX0_swap 6 = .ok (.ifCond .eq 13, 3) := dk_153 0 13 (dk_at dksX0_swap_0 6 rfl rfl)
theorem dX0_swap_9 : decode cX0_swap 9 = .ok (.aload_n 0, 1) := dk_42 (dk_at dksX0_swap_0 9 rfl rfl)
theorem dX0_swap_10 : decode cX0_swap 10 = .ok (.iload_n 3, 1) := dk_29 (dk_at dksX0_swap_0 10 rfl rfl)
theorem dX0_swap_11 : decode cX0_swap 11 = .ok (.iload 4, 2) := dk_21 4 (dk_at dksX0_swap_0 11 rfl rfl)
theorem dX0_swap_13 : decode cX0_swap 13 = .ok (.invokevirtual 173, 3) := dk_182 0 173 (dk_at dksX0_swap_0 13 rfl rfl)
theorem dX0_swap_16 : decode cX0_swap 16 = .ok (.ifCond .ne 7, 3) := dk_154 0 7 (dk_at dksX0_swap_0 16 rfl rfl)
theorem dX0_swap_19 : decode cX0_swap 19 = .ok (.ldc_w 386, 3) := dk_19 1 130 (dk_at dksX0_swap_0 19 rfl rfl)
theorem dX0_swap_22 : decode cX0_swap 22 = .ok (.ireturn, 1) := dk_172 (dk_at dksX0_swap_0 22 rfl rfl)
theorem dX0_swap_23 : decode cX0_swap 23 = .ok (.aload_n 0, 1) := dk_42 (dk_at dksX0_swap_0 23 rfl rfl)
theorem dX0_swap_24 : decode cX0_swap 24 = .ok (.invokevirtual 362, 3) := dk_182 1 106 (dk_at dksX0_swap_1 0 rfl rfl)
theorem dX0_swap_27 : decode cX0_swap 27 = .ok (.istore 5, 2) := dk_54 5 (dk_at dksX0_swap_1 3 rfl rfl)
theorem dX0_swap_29 : decode cX0_swap 29 = .ok (.aload_n 0, 1) := dk_42 (dk_at dksX0_swap_1 5 rfl rfl)
theorem dX0_swap_30 : decode cX0_swap 30 = .ok (.aload_n 0, 1) := dk_42 (dk_at dksX0_swap_1 6 rfl rfl)
theorem dX0_swap_31 : decode cX0_swap 31 = .ok (.getfield 22, 3) := dk_180 0 22 (dk_at dksX0_swap_1 7 rfl rfl)
theorem dX0_swap_34 : decode cX0_swap 34 = .ok (.iload_n 1, 1) := dk_27 (dk_at dksX0_swap_1 10 rfl rfl)
theorem dX0_swap_35 : decode cX0_swap 35 = .ok (.invokevirtual 150, 3) := dk_182 0 150 (dk_at dksX0_swap_1 11 rfl rfl)
theorem dX0_swap_38 : decode cX0_swap 38 = .ok (.checkcast 122, 3) := dk_192 0 122 (dk_at dksX0_swap_1 14 rfl rfl)
theorem dX0_swap_41 : decode cX0_swap 41 = .ok (.iload_n 2, 1) := dk_28 (dk_at dksX0_swap_1 17 rfl rfl)
theorem dX0_swap_42 : decode cX0_swap 42 = .ok (.aload_n 0, 1) := dk_42 (dk_at dksX0_swap_1 18 rfl rfl)
theorem dX0_swap_43 : decode cX0_swap 43 = .ok (.getfield 22, 3) := dk_180 0 22 (dk_at dksX0_swap_1 19 rfl rfl)
theorem dX0_swap_46 : decode cX0_swap 46 = .ok (.iload_n 3, 1) := dk_29 (dk_at dksX0_swap_1 22 rfl rfl)
theorem dX0_swap_47 : decode cX0_swap 47 = .ok (.invokevirtual 150, 3) := dk_182 0 150 (dk_at dksX0_swap_2 0 rfl rfl)
theorem dX0_swap_50 : decode cX0_swap 50 = .ok (.checkcast 122, 3) := dk_192 0 122 (dk_at dksX0_swap_2 3 rfl rfl)
theorem dX0_swap_53 : decode cX0_swap 53 = .ok (.iload 4, 2) := dk_21 4 (dk_at dksX0_swap_2 6 rfl rfl)
theorem dX0_swap_55 : decode cX0_swap 55 = .ok (.invokevirtual 387, 3) := dk_182 1 131 (dk_at dksX0_swap_2 8 rfl rfl)
theorem dX0_swap_58 : decode cX0_swap 58 = .ok (.aload_n 0, 1) := dk_42 (dk_at dksX0_swap_2 11 rfl rfl)
theorem dX0_swap_59 : decode cX0_swap 59 = .ok (.invokevirtual 362, 3) := dk_182 1 106 (dk_at dksX0_swap_2 12 rfl rfl)
theorem dX0_swap_62 : decode cX0_swap 62 = .ok (.iload 5, 2) := dk_21 5 (dk_at dksX0_swap_2 15 rfl rfl)
theorem dX0_swap_64 : decode cX0_swap 64 = .ok (.isub, 1) := dk_100 (dk_at dksX0_swap_2 17 rfl rfl)
theorem dX0_swap_65 : decode cX0_swap 65 = .ok (.istore 6, 2) := dk_54 6 (dk_at dksX0_swap_2 18 rfl rfl)
theorem dX0_swap_67 : decode cX0_swap 67 = .ok (.aload_n 0, 1) := dk_42 (dk_at dksX0_swap_2 20 rfl rfl)
theorem dX0_swap_68 : decode cX0_swap 68 = .ok (.aload_n 0, 1) := dk_42 (dk_at dksX0_swap_2 21 rfl rfl)
theorem dX0_swap_69 : decode cX0_swap 69 = .ok (.getfield 22, 3) := dk_180 0 22 (dk_at dksX0_swap_3 0 rfl rfl)
theorem dX0_swap_72 : decode cX0_swap 72 = .ok (.iload_n 1, 1) := dk_27 (dk_at dksX0_swap_3 3 rfl rfl)
theorem dX0_swap_73 : decode cX0_swap 73 = .ok (.invokevirtual 150, 3) := dk_182 0 150 (dk_at dksX0_swap_3 4 rfl rfl)
theorem dX0_swap_76 : decode cX0_swap 76 = .ok (.checkcast 122, 3) := dk_192 0 122 (dk_at dksX0_swap_3 7 rfl rfl)
theorem dX0_swap_79 : decode cX0_swap 79 = .ok (.iload_n 2, 1) := dk_28 (dk_at dksX0_swap_3 10 rfl rfl)
theorem dX0_swap_80 : decode cX0_swap 80 = .ok (.aload_n 0, 1) := dk_42 (dk_at dksX0_swap_3 11 rfl rfl)
theorem dX0_swap_81 : decode cX0_swap 81 = .ok (.getfield 22, 3) := dk_180 0 22 (dk_at dksX0_swap_3 12 rfl rfl)
theorem dX0_swap_84 : decode cX0_swap 84 = .ok (.iload_n 3, 1) := dk_29 (dk_at dksX0_swap_3 15 rfl rfl)
theorem dX0_swap_85 : decode cX0_swap 85 = .ok (.invokevirtual 150, 3) := dk_182 0 150 (dk_at dksX0_swap_3 16 rfl rfl)
theorem dX0_swap_88 : decode cX0_swap 88 = .ok (.checkcast 122, 3) := dk_192 0 122 (dk_at dksX0_swap_3 19 rfl rfl)
theorem dX0_swap_91 : decode cX0_swap 91 = .ok (.iload 4, 2) := dk_21 4 (dk_at dksX0_swap_3 22 rfl rfl)
theorem dX0_swap_93 : decode cX0_swap 93 = .ok (.invokevirtual 387, 3) := dk_182 1 131 (dk_at dksX0_swap_4 0 rfl rfl)
theorem dX0_swap_96 : decode cX0_swap 96 = .ok (.iload 6, 2) := dk_21 6 (dk_at dksX0_swap_4 3 rfl rfl)
theorem dX0_swap_98 : decode cX0_swap 98 = .ok (.ireturn, 1) := dk_172 (dk_at dksX0_swap_4 5 rfl rfl)
theorem dX0_swap_99 : decode cX0_swap 99 = .ok (.astore 7, 2) := dk_58 7 (dk_at dksX0_swap_4 6 rfl rfl)
theorem dX0_swap_101 : decode cX0_swap 101 = .ok (.aload_n 0, 1) := dk_42 (dk_at dksX0_swap_4 8 rfl rfl)
theorem dX0_swap_102 : decode cX0_swap 102 = .ok (.aload_n 0, 1) := dk_42 (dk_at dksX0_swap_4 9 rfl rfl)
theorem dX0_swap_103 : decode cX0_swap 103 = .ok (.getfield 22, 3) := dk_180 0 22 (dk_at dksX0_swap_4 10 rfl rfl)
theorem dX0_swap_106 : decode cX0_swap 106 = .ok (.iload_n 1, 1) := dk_27 (dk_at dksX0_swap_4 13 rfl rfl)
theorem dX0_swap_107 : decode cX0_swap 107 = .ok (.invokevirtual 150, 3) := dk_182 0 150 (dk_at dksX0_swap_4 14 rfl rfl)
theorem dX0_swap_110 : decode cX0_swap 110 = .ok (.checkcast 122, 3) := dk_192 0 122 (dk_at dksX0_swap_4 17 rfl rfl)
theorem dX0_swap_113 : decode cX0_swap 113 = .ok (.iload_n 2, 1) := dk_28 (dk_at dksX0_swap_4 20 rfl rfl)
theorem dX0_swap_114 : decode cX0_swap 114 = .ok (.aload_n 0, 1) := dk_42 (dk_at dksX0_swap_4 21 rfl rfl)
theorem dX0_swap_115 : decode cX0_swap 115 = .ok (.getfield 22, 3) := dk_180 0 22 (dk_at dksX0_swap_5 0 rfl rfl)
theorem dX0_swap_118 : decode cX0_swap 118 = .ok (.iload_n 3, 1) := dk_29 (dk_at dksX0_swap_5 3 rfl rfl)
theorem dX0_swap_119 : decode cX0_swap 119 = .ok (.invokevirtual 150, 3) := dk_182 0 150 (dk_at dksX0_swap_5 4 rfl rfl)
theorem dX0_swap_122 : decode cX0_swap 122 = .ok (.checkcast 122, 3) := dk_192 0 122 (dk_at dksX0_swap_5 7 rfl rfl)
theorem dX0_swap_125 : decode cX0_swap 125 = .ok (.iload 4, 2) := dk_21 4 (dk_at dksX0_swap_5 10 rfl rfl)
theorem dX0_swap_127 : decode cX0_swap 127 = .ok (.invokevirtual 387, 3) := dk_182 1 131 (dk_at dksX0_swap_5 12 rfl rfl)
theorem dX0_swap_130 : decode cX0_swap 130 = .ok (.aload 7, 2) := dk_25 7 (dk_at dksX0_swap_5 15 rfl rfl)
theorem dX0_swap_132 : decode cX0_swap 132 = .ok (.athrow, 1) := dk_191 (dk_at dksX0_swap_5 17 rfl rfl)
abbrev cX0_changes : ByteArray := prog_1_method_59_code
def yX0_changes : MethodName := ⟨RX0, "changes", "(LOverTheHeads$Row;ILOverTheHeads$Row;I)V"⟩
def dkwX0_changes_1 : List UInt8 := [180, 0, 177, 21, 4, 21, 5, 84, 177]
abbrev dktX0_changes_1 : List UInt8 := dkwX0_changes_1 ++ []
def dkwX0_changes_0 : List UInt8 := [43, 180, 0, 177, 28, 51, 54, 5, 43, 180, 0, 177, 28, 45, 180, 0, 177, 21, 4, 51, 84, 45]
abbrev dktX0_changes_0 : List UInt8 := dkwX0_changes_0 ++ dktX0_changes_1
theorem dksX0_changes_0 : cX0_changes.data.toList.drop 0 = dktX0_changes_0 := by decide +kernel
theorem dksX0_changes_1 : cX0_changes.data.toList.drop 22 = dktX0_changes_1 := dk_seg dksX0_changes_0 22 rfl rfl
theorem dX0_changes_0 : decode cX0_changes 0 = .ok (.aload_n 1, 1) := dk_43 (dk_at dksX0_changes_0 0 rfl rfl)
theorem dX0_changes_1 : decode cX0_changes 1 = .ok (.getfield 177, 3) := dk_180 0 177 (dk_at dksX0_changes_0 1 rfl rfl)
theorem dX0_changes_4 : decode cX0_changes 4 = .ok (.iload_n 2, 1) := dk_28 (dk_at dksX0_changes_0 4 rfl rfl)
theorem dX0_changes_5 : decode cX0_changes 5 = .ok (.baload, 1) := dk_51 (dk_at dksX0_changes_0 5 rfl rfl)
theorem dX0_changes_6 : decode cX0_changes 6 = .ok (.istore 5, 2) := dk_54 5 (dk_at dksX0_changes_0 6 rfl rfl)
theorem dX0_changes_8 : decode cX0_changes 8 = .ok (.aload_n 1, 1) := dk_43 (dk_at dksX0_changes_0 8 rfl rfl)
theorem dX0_changes_9 : decode cX0_changes 9 = .ok (.getfield 177, 3) := dk_180 0 177 (dk_at dksX0_changes_0 9 rfl rfl)
theorem dX0_changes_12 : decode cX0_changes 12 = .ok (.iload_n 2, 1) := dk_28 (dk_at dksX0_changes_0 12 rfl rfl)
theorem dX0_changes_13 : decode cX0_changes 13 = .ok (.aload_n 3, 1) := dk_45 (dk_at dksX0_changes_0 13 rfl rfl)
theorem dX0_changes_14 : decode cX0_changes 14 = .ok (.getfield 177, 3) := dk_180 0 177 (dk_at dksX0_changes_0 14 rfl rfl)
theorem dX0_changes_17 : decode cX0_changes 17 = .ok (.iload 4, 2) := dk_21 4 (dk_at dksX0_changes_0 17 rfl rfl)
theorem dX0_changes_19 : decode cX0_changes 19 = .ok (.baload, 1) := dk_51 (dk_at dksX0_changes_0 19 rfl rfl)
theorem dX0_changes_20 : decode cX0_changes 20 = .ok (.bastore, 1) := dk_84 (dk_at dksX0_changes_0 20 rfl rfl)
theorem dX0_changes_21 : decode cX0_changes 21 = .ok (.aload_n 3, 1) := dk_45 (dk_at dksX0_changes_0 21 rfl rfl)
theorem dX0_changes_22 : decode cX0_changes 22 = .ok (.getfield 177, 3) := dk_180 0 177 (dk_at dksX0_changes_1 0 rfl rfl)
theorem dX0_changes_25 : decode cX0_changes 25 = .ok (.iload 4, 2) := dk_21 4 (dk_at dksX0_changes_1 3 rfl rfl)
theorem dX0_changes_27 : decode cX0_changes 27 = .ok (.iload 5, 2) := dk_21 5 (dk_at dksX0_changes_1 5 rfl rfl)
theorem dX0_changes_29 : decode cX0_changes 29 = .ok (.bastore, 1) := dk_84 (dk_at dksX0_changes_1 7 rfl rfl)
theorem dX0_changes_30 : decode cX0_changes 30 = .ok (.return_, 1) := dk_177 (dk_at dksX0_changes_1 8 rfl rfl)
abbrev cX0_people : ByteArray := prog_1_method_62_code
def yX0_people : MethodName := ⟨RX0, "people", "(II)I"⟩
def dkwX0_people_1 : List UInt8 := [42, 27, 182, 1, 141, 28, 154, 0, 10, 42, 180, 1, 135, 167, 0, 7, 42, 180, 1, 138, 172]
abbrev dktX0_people_1 : List UInt8 := dkwX0_people_1 ++ []
def dkwX0_people_0 : List UInt8 := [42, 27, 182, 0, 146, 154, 0, 6, 16, 251, 172, 28, 133, 9, 10, 184, 0, 112, 154, 0, 6, 16, 249, 172]
abbrev dktX0_people_0 : List UInt8 := dkwX0_people_0 ++ dktX0_people_1
theorem dksX0_people_0 : cX0_people.data.toList.drop 0 = dktX0_people_0 := by decide +kernel
theorem dksX0_people_1 : cX0_people.data.toList.drop 24 = dktX0_people_1 := dk_seg dksX0_people_0 24 rfl rfl
theorem dX0_people_0 : decode cX0_people 0 = .ok (.aload_n 0, 1) := dk_42 (dk_at dksX0_people_0 0 rfl rfl)
theorem dX0_people_1 : decode cX0_people 1 = .ok (.iload_n 1, 1) := dk_27 (dk_at dksX0_people_0 1 rfl rfl)
theorem dX0_people_2 : decode cX0_people 2 = .ok (.invokevirtual 146, 3) := dk_182 0 146 (dk_at dksX0_people_0 2 rfl rfl)
theorem dX0_people_5 : decode cX0_people 5 = .ok (.ifCond .ne 6, 3) := dk_154 0 6 (dk_at dksX0_people_0 5 rfl rfl)
theorem dX0_people_8 : decode cX0_people 8 = .ok (.bipush (-5), 2) := dk_16 251 (dk_at dksX0_people_0 8 rfl rfl)
theorem dX0_people_10 : decode cX0_people 10 = .ok (.ireturn, 1) := dk_172 (dk_at dksX0_people_0 10 rfl rfl)
theorem dX0_people_11 : decode cX0_people 11 = .ok (.iload_n 2, 1) := dk_28 (dk_at dksX0_people_0 11 rfl rfl)
theorem dX0_people_12 : decode cX0_people 12 = .ok (.i2l, 1) := dk_133 (dk_at dksX0_people_0 12 rfl rfl)
theorem dX0_people_13 : decode cX0_people 13 = .ok (.lconst 0, 1) := dk_9 (dk_at dksX0_people_0 13 rfl rfl)
theorem dX0_people_14 : decode cX0_people 14 = .ok (.lconst 1, 1) := dk_10 (dk_at dksX0_people_0 14 rfl rfl)
theorem dX0_people_15 : decode cX0_people 15 = .ok (.invokestatic 112, 3) := dk_184 0 112 (dk_at dksX0_people_0 15 rfl rfl)
theorem dX0_people_18 : decode cX0_people 18 = .ok (.ifCond .ne 6, 3) := dk_154 0 6 (dk_at dksX0_people_0 18 rfl rfl)
theorem dX0_people_21 : decode cX0_people 21 = .ok (.bipush (-7), 2) := dk_16 249 (dk_at dksX0_people_0 21 rfl rfl)
theorem dX0_people_23 : decode cX0_people 23 = .ok (.ireturn, 1) := dk_172 (dk_at dksX0_people_0 23 rfl rfl)
theorem dX0_people_24 : decode cX0_people 24 = .ok (.aload_n 0, 1) := dk_42 (dk_at dksX0_people_1 0 rfl rfl)
theorem dX0_people_25 : decode cX0_people 25 = .ok (.iload_n 1, 1) := dk_27 (dk_at dksX0_people_1 1 rfl rfl)
theorem dX0_people_26 : decode cX0_people 26 = .ok (.invokevirtual 397, 3) := dk_182 1 141 (dk_at dksX0_people_1 2 rfl rfl)
theorem dX0_people_29 : decode cX0_people 29 = .ok (.iload_n 2, 1) := dk_28 (dk_at dksX0_people_1 5 rfl rfl)
theorem dX0_people_30 : decode cX0_people 30 = .ok (.ifCond .ne 10, 3) := dk_154 0 10 (dk_at dksX0_people_1 6 rfl rfl)
theorem dX0_people_33 : decode cX0_people 33 = .ok (.aload_n 0, 1) := dk_42 (dk_at dksX0_people_1 9 rfl rfl)
theorem dX0_people_34 : decode cX0_people 34 = .ok (.getfield 391, 3) := dk_180 1 135 (dk_at dksX0_people_1 10 rfl rfl)
theorem dX0_people_37 : decode cX0_people 37 = .ok (.goto 7, 3) := dk_167 0 7 (dk_at dksX0_people_1 13 rfl rfl)
theorem dX0_people_40 : decode cX0_people 40 = .ok (.aload_n 0, 1) := dk_42 (dk_at dksX0_people_1 16 rfl rfl)
theorem dX0_people_41 : decode cX0_people 41 = .ok (.getfield 394, 3) := dk_180 1 138 (dk_at dksX0_people_1 17 rfl rfl)
theorem dX0_people_44 : decode cX0_people 44 = .ok (.ireturn, 1) := dk_172 (dk_at dksX0_people_1 20 rfl rfl)
abbrev cX0_seeks : ByteArray := prog_1_method_61_code
def yX0_seeks : MethodName := ⟨RX0, "seeks", "(I)V"⟩
def dkwX0_seeks_6 : List UInt8 := [167, 255, 145, 177]
abbrev dktX0_seeks_6 : List UInt8 := dkwX0_seeks_6 ++ []
def dkwX0_seeks_5 : List UInt8 := [181, 1, 138, 42, 16, 10, 21, 4, 104, 21, 5, 96, 181, 1, 135, 132, 5, 1, 167, 255, 166, 132, 4, 1]
abbrev dktX0_seeks_5 : List UInt8 := dkwX0_seeks_5 ++ dktX0_seeks_6
def dkwX0_seeks_4 : List UInt8 := [21, 4, 44, 21, 5, 182, 1, 131, 21, 6, 42, 180, 1, 138, 163, 0, 6, 167, 0, 21, 42, 21, 6]
abbrev dktX0_seeks_4 : List UInt8 := dkwX0_seeks_4 ++ dktX0_seeks_5
def dkwX0_seeks_3 : List UInt8 := [167, 0, 61, 42, 44, 21, 4, 44, 21, 5, 182, 1, 131, 42, 182, 1, 106, 29, 100, 54, 6, 42, 44]
abbrev dktX0_seeks_3 : List UInt8 := dkwX0_seeks_3 ++ dktX0_seeks_4
def dkwX0_seeks_2 : List UInt8 := [180, 0, 154, 162, 0, 87, 44, 180, 0, 177, 21, 4, 51, 44, 180, 0, 177, 21, 5, 51, 160, 0, 6]
abbrev dktX0_seeks_2 : List UInt8 := dkwX0_seeks_2 ++ dktX0_seeks_3
def dkwX0_seeks_1 : List UInt8 := [181, 1, 138, 3, 54, 4, 21, 4, 44, 180, 0, 154, 162, 0, 108, 21, 4, 4, 96, 54, 5, 21, 5, 44]
abbrev dktX0_seeks_1 : List UInt8 := dkwX0_seeks_1 ++ dktX0_seeks_2
def dkwX0_seeks_0 : List UInt8 := [42, 180, 0, 22, 27, 182, 0, 150, 192, 0, 122, 77, 42, 182, 1, 106, 62, 42, 2, 181, 1, 135, 42, 3]
abbrev dktX0_seeks_0 : List UInt8 := dkwX0_seeks_0 ++ dktX0_seeks_1
theorem dksX0_seeks_0 : cX0_seeks.data.toList.drop 0 = dktX0_seeks_0 := by decide +kernel
theorem dksX0_seeks_1 : cX0_seeks.data.toList.drop 24 = dktX0_seeks_1 := dk_seg dksX0_seeks_0 24 rfl rfl
theorem dksX0_seeks_2 : cX0_seeks.data.toList.drop 48 = dktX0_seeks_2 := dk_seg dksX0_seeks_1 24 rfl rfl
theorem dksX0_seeks_3 : cX0_seeks.data.toList.drop 71 = dktX0_seeks_3 := dk_seg dksX0_seeks_2 23 rfl rfl
theorem dksX0_seeks_4 : cX0_seeks.data.toList.drop 94 = dktX0_seeks_4 := dk_seg dksX0_seeks_3 23 rfl rfl
theorem dksX0_seeks_5 : cX0_seeks.data.toList.drop 117 = dktX0_seeks_5 := dk_seg dksX0_seeks_4 23 rfl rfl
theorem dksX0_seeks_6 : cX0_seeks.data.toList.drop 141 = dktX0_seeks_6 := dk_seg dksX0_seeks_5 24 rfl rfl
theorem dX0_seeks_0 : decode cX0_seeks 0 = .ok (.aload_n 0, 1) := dk_42 (dk_at dksX0_seeks_0 0 rfl rfl)
theorem dX0_seeks_1 : decode cX0_seeks 1 = .ok (.getfield 22, 3) := dk_180 0 22 (dk_at dksX0_seeks_0 1 rfl rfl)
theorem dX0_seeks_4 : decode cX0_seeks 4 = .ok (.iload_n 1, 1) := dk_27 (dk_at dksX0_seeks_0 4 rfl rfl)
theorem dX0_seeks_5 : decode cX0_seeks 5 = .ok (.invokevirtual 150, 3) := dk_182 0 150 (dk_at dksX0_seeks_0 5 rfl rfl)
theorem dX0_seeks_8 : decode cX0_seeks 8 = .ok (.checkcast 122, 3) := dk_192 0 122 (dk_at dksX0_seeks_0 8 rfl rfl)
theorem dX0_seeks_11 : decode cX0_seeks 11 = .ok (.astore_n 2, 1) := dk_77 (dk_at dksX0_seeks_0 11 rfl rfl)
theorem dX0_seeks_12 : decode cX0_seeks 12 = .ok (.aload_n 0, 1) := dk_42 (dk_at dksX0_seeks_0 12 rfl rfl)
theorem dX0_seeks_13 : decode cX0_seeks 13 = .ok (.invokevirtual 362, 3) := dk_182 1 106 (dk_at dksX0_seeks_0 13 rfl rfl)
theorem dX0_seeks_16 : decode cX0_seeks 16 = .ok (.istore_n 3, 1) := dk_62 (dk_at dksX0_seeks_0 16 rfl rfl)
theorem dX0_seeks_17 : decode cX0_seeks 17 = .ok (.aload_n 0, 1) := dk_42 (dk_at dksX0_seeks_0 17 rfl rfl)
theorem dX0_seeks_18 : decode cX0_seeks 18 = .ok (.iconst (-1), 1) := dk_2 (dk_at dksX0_seeks_0 18 rfl rfl)
theorem dX0_seeks_19 : decode cX0_seeks 19 = .ok (.putfield 391, 3) := dk_181 1 135 (dk_at dksX0_seeks_0 19 rfl rfl)
theorem dX0_seeks_22 : decode cX0_seeks 22 = .ok (.aload_n 0, 1) := dk_42 (dk_at dksX0_seeks_0 22 rfl rfl)
theorem dX0_seeks_23 : decode cX0_seeks 23 = .ok (.iconst 0, 1) := dk_3 (dk_at dksX0_seeks_0 23 rfl rfl)
theorem dX0_seeks_24 : decode cX0_seeks 24 = .ok (.putfield 394, 3) := dk_181 1 138 (dk_at dksX0_seeks_1 0 rfl rfl)
theorem dX0_seeks_27 : decode cX0_seeks 27 = .ok (.iconst 0, 1) := dk_3 (dk_at dksX0_seeks_1 3 rfl rfl)
theorem dX0_seeks_28 : decode cX0_seeks 28 = .ok (.istore 4, 2) := dk_54 4 (dk_at dksX0_seeks_1 4 rfl rfl)
theorem dX0_seeks_30 : decode cX0_seeks 30 = .ok (.iload 4, 2) := dk_21 4 (dk_at dksX0_seeks_1 6 rfl rfl)
theorem dX0_seeks_32 : decode cX0_seeks 32 = .ok (.aload_n 2, 1) := dk_44 (dk_at dksX0_seeks_1 8 rfl rfl)
theorem dX0_seeks_33 : decode cX0_seeks 33 = .ok (.getfield 154, 3) := dk_180 0 154 (dk_at dksX0_seeks_1 9 rfl rfl)
theorem dX0_seeks_36 : decode cX0_seeks 36 = .ok (.if_icmp .ge 108, 3) := dk_162 0 108 (dk_at dksX0_seeks_1 12 rfl rfl)
theorem dX0_seeks_39 : decode cX0_seeks 39 = .ok (.iload 4, 2) := dk_21 4 (dk_at dksX0_seeks_1 15 rfl rfl)
theorem dX0_seeks_41 : decode cX0_seeks 41 = .ok (.iconst 1, 1) := dk_4 (dk_at dksX0_seeks_1 17 rfl rfl)
theorem dX0_seeks_42 : decode cX0_seeks 42 = .ok (.iadd, 1) := dk_96 (dk_at dksX0_seeks_1 18 rfl rfl)
theorem dX0_seeks_43 : decode cX0_seeks 43 = .ok (.istore 5, 2) := dk_54 5 (dk_at dksX0_seeks_1 19 rfl rfl)
theorem dX0_seeks_45 : decode cX0_seeks 45 = .ok (.iload 5, 2) := dk_21 5 (dk_at dksX0_seeks_1 21 rfl rfl)
theorem dX0_seeks_47 : decode cX0_seeks 47 = .ok (.aload_n 2, 1) := dk_44 (dk_at dksX0_seeks_1 23 rfl rfl)
theorem dX0_seeks_48 : decode cX0_seeks 48 = .ok (.getfield 154, 3) := dk_180 0 154 (dk_at dksX0_seeks_2 0 rfl rfl)
theorem dX0_seeks_51 : decode cX0_seeks 51 = .ok (.if_icmp .ge 87, 3) := dk_162 0 87 (dk_at dksX0_seeks_2 3 rfl rfl)
theorem dX0_seeks_54 : decode cX0_seeks 54 = .ok (.aload_n 2, 1) := dk_44 (dk_at dksX0_seeks_2 6 rfl rfl)
theorem dX0_seeks_55 : decode cX0_seeks 55 = .ok (.getfield 177, 3) := dk_180 0 177 (dk_at dksX0_seeks_2 7 rfl rfl)
theorem dX0_seeks_58 : decode cX0_seeks 58 = .ok (.iload 4, 2) := dk_21 4 (dk_at dksX0_seeks_2 10 rfl rfl)
theorem dX0_seeks_60 : decode cX0_seeks 60 = .ok (.baload, 1) := dk_51 (dk_at dksX0_seeks_2 12 rfl rfl)
theorem dX0_seeks_61 : decode cX0_seeks 61 = .ok (.aload_n 2, 1) := dk_44 (dk_at dksX0_seeks_2 13 rfl rfl)
theorem dX0_seeks_62 : decode cX0_seeks 62 = .ok (.getfield 177, 3) := dk_180 0 177 (dk_at dksX0_seeks_2 14 rfl rfl)
theorem dX0_seeks_65 : decode cX0_seeks 65 = .ok (.iload 5, 2) := dk_21 5 (dk_at dksX0_seeks_2 17 rfl rfl)
theorem dX0_seeks_67 : decode cX0_seeks 67 = .ok (.baload, 1) := dk_51 (dk_at dksX0_seeks_2 19 rfl rfl)
theorem dX0_seeks_68 : decode cX0_seeks 68 = .ok (.if_icmp .ne 6, 3) := dk_160 0 6 (dk_at dksX0_seeks_2 20 rfl rfl)
theorem dX0_seeks_71 : decode cX0_seeks 71 = .ok (.goto 61, 3) := dk_167 0 61 (dk_at dksX0_seeks_3 0 rfl rfl)
theorem dX0_seeks_74 : decode cX0_seeks 74 = .ok (.aload_n 0, 1) := dk_42 (dk_at dksX0_seeks_3 3 rfl rfl)
theorem dX0_seeks_75 : decode cX0_seeks 75 = .ok (.aload_n 2, 1) := dk_44 (dk_at dksX0_seeks_3 4 rfl rfl)
theorem dX0_seeks_76 : decode cX0_seeks 76 = .ok (.iload 4, 2) := dk_21 4 (dk_at dksX0_seeks_3 5 rfl rfl)
theorem dX0_seeks_78 : decode cX0_seeks 78 = .ok (.aload_n 2, 1) := dk_44 (dk_at dksX0_seeks_3 7 rfl rfl)
theorem dX0_seeks_79 : decode cX0_seeks 79 = .ok (.iload 5, 2) := dk_21 5 (dk_at dksX0_seeks_3 8 rfl rfl)
theorem dX0_seeks_81 : decode cX0_seeks 81 = .ok (.invokevirtual 387, 3) := dk_182 1 131 (dk_at dksX0_seeks_3 10 rfl rfl)
theorem dX0_seeks_84 : decode cX0_seeks 84 = .ok (.aload_n 0, 1) := dk_42 (dk_at dksX0_seeks_3 13 rfl rfl)
theorem dX0_seeks_85 : decode cX0_seeks 85 = .ok (.invokevirtual 362, 3) := dk_182 1 106 (dk_at dksX0_seeks_3 14 rfl rfl)
theorem dX0_seeks_88 : decode cX0_seeks 88 = .ok (.iload_n 3, 1) := dk_29 (dk_at dksX0_seeks_3 17 rfl rfl)
theorem dX0_seeks_89 : decode cX0_seeks 89 = .ok (.isub, 1) := dk_100 (dk_at dksX0_seeks_3 18 rfl rfl)
theorem dX0_seeks_90 : decode cX0_seeks 90 = .ok (.istore 6, 2) := dk_54 6 (dk_at dksX0_seeks_3 19 rfl rfl)
theorem dX0_seeks_92 : decode cX0_seeks 92 = .ok (.aload_n 0, 1) := dk_42 (dk_at dksX0_seeks_3 21 rfl rfl)
theorem dX0_seeks_93 : decode cX0_seeks 93 = .ok (.aload_n 2, 1) := dk_44 (dk_at dksX0_seeks_3 22 rfl rfl)
theorem dX0_seeks_94 : decode cX0_seeks 94 = .ok (.iload 4, 2) := dk_21 4 (dk_at dksX0_seeks_4 0 rfl rfl)
theorem dX0_seeks_96 : decode cX0_seeks 96 = .ok (.aload_n 2, 1) := dk_44 (dk_at dksX0_seeks_4 2 rfl rfl)
theorem dX0_seeks_97 : decode cX0_seeks 97 = .ok (.iload 5, 2) := dk_21 5 (dk_at dksX0_seeks_4 3 rfl rfl)
theorem dX0_seeks_99 : decode cX0_seeks 99 = .ok (.invokevirtual 387, 3) := dk_182 1 131 (dk_at dksX0_seeks_4 5 rfl rfl)
theorem dX0_seeks_102 : decode cX0_seeks 102 = .ok (.iload 6, 2) := dk_21 6 (dk_at dksX0_seeks_4 8 rfl rfl)
theorem dX0_seeks_104 : decode cX0_seeks 104 = .ok (.aload_n 0, 1) := dk_42 (dk_at dksX0_seeks_4 10 rfl rfl)
theorem dX0_seeks_105 : decode cX0_seeks 105 = .ok (.getfield 394, 3) := dk_180 1 138 (dk_at dksX0_seeks_4 11 rfl rfl)
theorem dX0_seeks_108 : decode cX0_seeks 108 = .ok (.if_icmp .gt 6, 3) := dk_163 0 6 (dk_at dksX0_seeks_4 14 rfl rfl)
theorem dX0_seeks_111 : decode cX0_seeks 111 = .ok (.goto 21, 3) := dk_167 0 21 (dk_at dksX0_seeks_4 17 rfl rfl)
theorem dX0_seeks_114 : decode cX0_seeks 114 = .ok (.aload_n 0, 1) := dk_42 (dk_at dksX0_seeks_4 20 rfl rfl)
theorem dX0_seeks_115 : decode cX0_seeks 115 = .ok (.iload 6, 2) := dk_21 6 (dk_at dksX0_seeks_4 21 rfl rfl)
theorem dX0_seeks_117 : decode cX0_seeks 117 = .ok (.putfield 394, 3) := dk_181 1 138 (dk_at dksX0_seeks_5 0 rfl rfl)
theorem dX0_seeks_120 : decode cX0_seeks 120 = .ok (.aload_n 0, 1) := dk_42 (dk_at dksX0_seeks_5 3 rfl rfl)
theorem dX0_seeks_121 : decode cX0_seeks 121 = .ok (.bipush 10, 2) := dk_16 10 (dk_at dksX0_seeks_5 4 rfl rfl)
theorem dX0_seeks_123 : decode cX0_seeks 123 = .ok (.iload 4, 2) := dk_21 4 (dk_at dksX0_seeks_5 6 rfl rfl)
theorem dX0_seeks_125 : decode cX0_seeks 125 = .ok (.imul, 1) := dk_104 (dk_at dksX0_seeks_5 8 rfl rfl)
theorem dX0_seeks_126 : decode cX0_seeks 126 = .ok (.iload 5, 2) := dk_21 5 (dk_at dksX0_seeks_5 9 rfl rfl)
theorem dX0_seeks_128 : decode cX0_seeks 128 = .ok (.iadd, 1) := dk_96 (dk_at dksX0_seeks_5 11 rfl rfl)
theorem dX0_seeks_129 : decode cX0_seeks 129 = .ok (.putfield 391, 3) := dk_181 1 135 (dk_at dksX0_seeks_5 12 rfl rfl)
theorem dX0_seeks_132 : decode cX0_seeks 132 = .ok (.iinc 5 1, 3) := dk_132 5 1 (dk_at dksX0_seeks_5 15 rfl rfl)
theorem dX0_seeks_135 : decode cX0_seeks 135 = .ok (.goto (-90), 3) := dk_167 255 166 (dk_at dksX0_seeks_5 18 rfl rfl)
theorem dX0_seeks_138 : decode cX0_seeks 138 = .ok (.iinc 4 1, 3) := dk_132 4 1 (dk_at dksX0_seeks_5 21 rfl rfl)
theorem dX0_seeks_141 : decode cX0_seeks 141 = .ok (.goto (-111), 3) := dk_167 255 145 (dk_at dksX0_seeks_6 0 rfl rfl)
theorem dX0_seeks_144 : decode cX0_seeks 144 = .ok (.return_, 1) := dk_177 (dk_at dksX0_seeks_6 3 rfl rfl)
abbrev cX0_settle : ByteArray := prog_1_method_63_code
def yX0_settle : MethodName := ⟨RX0, "settle", "(II)I"⟩
def dkwX0_settle_3 : List UInt8 := [25, 4, 42, 180, 1, 135, 16, 10, 112, 182, 1, 131, 132, 3, 1, 167, 255, 211, 29, 172]
abbrev dktX0_settle_3 : List UInt8 := dkwX0_settle_3 ++ []
def dkwX0_settle_2 : List UInt8 := [27, 182, 1, 141, 42, 180, 1, 135, 2, 160, 0, 5, 29, 172, 42, 25, 4, 42, 180, 1, 135, 16, 10, 108]
abbrev dktX0_settle_2 : List UInt8 := dkwX0_settle_2 ++ dktX0_settle_3
def dkwX0_settle_1 : List UInt8 := [16, 249, 172, 3, 62, 42, 180, 0, 22, 27, 182, 0, 150, 192, 0, 122, 58, 4, 29, 28, 162, 0, 46, 42]
abbrev dktX0_settle_1 : List UInt8 := dkwX0_settle_1 ++ dktX0_settle_2
def dkwX0_settle_0 : List UInt8 := [42, 27, 182, 0, 146, 154, 0, 6, 16, 251, 172, 28, 133, 9, 20, 0, 157, 184, 0, 112, 154, 0, 6]
abbrev dktX0_settle_0 : List UInt8 := dkwX0_settle_0 ++ dktX0_settle_1
theorem dksX0_settle_0 : cX0_settle.data.toList.drop 0 = dktX0_settle_0 := by decide +kernel
theorem dksX0_settle_1 : cX0_settle.data.toList.drop 23 = dktX0_settle_1 := dk_seg dksX0_settle_0 23 rfl rfl
theorem dksX0_settle_2 : cX0_settle.data.toList.drop 47 = dktX0_settle_2 := dk_seg dksX0_settle_1 24 rfl rfl
theorem dksX0_settle_3 : cX0_settle.data.toList.drop 71 = dktX0_settle_3 := dk_seg dksX0_settle_2 24 rfl rfl
theorem dX0_settle_0 : decode cX0_settle 0 = .ok (.aload_n 0, 1) := dk_42 (dk_at dksX0_settle_0 0 rfl rfl)
theorem dX0_settle_1 : decode cX0_settle 1 = .ok (.iload_n 1, 1) := dk_27 (dk_at dksX0_settle_0 1 rfl rfl)
theorem dX0_settle_2 : decode cX0_settle 2 = .ok (.invokevirtual 146, 3) := dk_182 0 146 (dk_at dksX0_settle_0 2 rfl rfl)
theorem dX0_settle_5 : decode cX0_settle 5 = .ok (.ifCond .ne 6, 3) := dk_154 0 6 (dk_at dksX0_settle_0 5 rfl rfl)
theorem dX0_settle_8 : decode cX0_settle 8 = .ok (.bipush (-5), 2) := dk_16 251 (dk_at dksX0_settle_0 8 rfl rfl)
theorem dX0_settle_10 : decode cX0_settle 10 = .ok (.ireturn, 1) := dk_172 (dk_at dksX0_settle_0 10 rfl rfl)
theorem dX0_settle_11 : decode cX0_settle 11 = .ok (.iload_n 2, 1) := dk_28 (dk_at dksX0_settle_0 11 rfl rfl)
theorem dX0_settle_12 : decode cX0_settle 12 = .ok (.i2l, 1) := dk_133 (dk_at dksX0_settle_0 12 rfl rfl)
theorem dX0_settle_13 : decode cX0_settle 13 = .ok (.lconst 0, 1) := dk_9 (dk_at dksX0_settle_0 13 rfl rfl)
theorem dX0_settle_14 : decode cX0_settle 14 = .ok (.ldc2_w 157, 3) := dk_20 0 157 (dk_at dksX0_settle_0 14 rfl rfl)
theorem dX0_settle_17 : decode cX0_settle 17 = .ok (.invokestatic 112, 3) := dk_184 0 112 (dk_at dksX0_settle_0 17 rfl rfl)
theorem dX0_settle_20 : decode cX0_settle 20 = .ok (.ifCond .ne 6, 3) := dk_154 0 6 (dk_at dksX0_settle_0 20 rfl rfl)
theorem dX0_settle_23 : decode cX0_settle 23 = .ok (.bipush (-7), 2) := dk_16 249 (dk_at dksX0_settle_1 0 rfl rfl)
theorem dX0_settle_25 : decode cX0_settle 25 = .ok (.ireturn, 1) := dk_172 (dk_at dksX0_settle_1 2 rfl rfl)
theorem dX0_settle_26 : decode cX0_settle 26 = .ok (.iconst 0, 1) := dk_3 (dk_at dksX0_settle_1 3 rfl rfl)
theorem dX0_settle_27 : decode cX0_settle 27 = .ok (.istore_n 3, 1) := dk_62 (dk_at dksX0_settle_1 4 rfl rfl)
theorem dX0_settle_28 : decode cX0_settle 28 = .ok (.aload_n 0, 1) := dk_42 (dk_at dksX0_settle_1 5 rfl rfl)
theorem dX0_settle_29 : decode cX0_settle 29 = .ok (.getfield 22, 3) := dk_180 0 22 (dk_at dksX0_settle_1 6 rfl rfl)
theorem dX0_settle_32 : decode cX0_settle 32 = .ok (.iload_n 1, 1) := dk_27 (dk_at dksX0_settle_1 9 rfl rfl)
theorem dX0_settle_33 : decode cX0_settle 33 = .ok (.invokevirtual 150, 3) := dk_182 0 150 (dk_at dksX0_settle_1 10 rfl rfl)
theorem dX0_settle_36 : decode cX0_settle 36 = .ok (.checkcast 122, 3) := dk_192 0 122 (dk_at dksX0_settle_1 13 rfl rfl)
theorem dX0_settle_39 : decode cX0_settle 39 = .ok (.astore 4, 2) := dk_58 4 (dk_at dksX0_settle_1 16 rfl rfl)
theorem dX0_settle_41 : decode cX0_settle 41 = .ok (.iload_n 3, 1) := dk_29 (dk_at dksX0_settle_1 18 rfl rfl)
theorem dX0_settle_42 : decode cX0_settle 42 = .ok (.iload_n 2, 1) := dk_28 (dk_at dksX0_settle_1 19 rfl rfl)
theorem dX0_settle_43 : decode cX0_settle 43 = .ok (.if_icmp .ge 46, 3) := dk_162 0 46 (dk_at dksX0_settle_1 20 rfl rfl)
theorem dX0_settle_46 : decode cX0_settle 46 = .ok (.aload_n 0, 1) := dk_42 (dk_at dksX0_settle_1 23 rfl rfl)
theorem dX0_settle_47 : decode cX0_settle 47 = .ok (.iload_n 1, 1) := dk_27 (dk_at dksX0_settle_2 0 rfl rfl)
theorem dX0_settle_48 : decode cX0_settle 48 = .ok (.invokevirtual 397, 3) := dk_182 1 141 (dk_at dksX0_settle_2 1 rfl rfl)
theorem dX0_settle_51 : decode cX0_settle 51 = .ok (.aload_n 0, 1) := dk_42 (dk_at dksX0_settle_2 4 rfl rfl)
theorem dX0_settle_52 : decode cX0_settle 52 = .ok (.getfield 391, 3) := dk_180 1 135 (dk_at dksX0_settle_2 5 rfl rfl)
theorem dX0_settle_55 : decode cX0_settle 55 = .ok (.iconst (-1), 1) := dk_2 (dk_at dksX0_settle_2 8 rfl rfl)
theorem dX0_settle_56 : decode cX0_settle 56 = .ok (.if_icmp .ne 5, 3) := dk_160 0 5 (dk_at dksX0_settle_2 9 rfl rfl)
theorem dX0_settle_59 : decode cX0_settle 59 = .ok (.iload_n 3, 1) := dk_29 (dk_at dksX0_settle_2 12 rfl rfl)
theorem dX0_settle_60 : decode cX0_settle 60 = .ok (.ireturn, 1) := dk_172 (dk_at dksX0_settle_2 13 rfl rfl)
theorem dX0_settle_61 : decode cX0_settle 61 = .ok (.aload_n 0, 1) := dk_42 (dk_at dksX0_settle_2 14 rfl rfl)
theorem dX0_settle_62 : decode cX0_settle 62 = .ok (.aload 4, 2) := dk_25 4 (dk_at dksX0_settle_2 15 rfl rfl)
theorem dX0_settle_64 : decode cX0_settle 64 = .ok (.aload_n 0, 1) := dk_42 (dk_at dksX0_settle_2 17 rfl rfl)
theorem dX0_settle_65 : decode cX0_settle 65 = .ok (.getfield 391, 3) := dk_180 1 135 (dk_at dksX0_settle_2 18 rfl rfl)
theorem dX0_settle_68 : decode cX0_settle 68 = .ok (.bipush 10, 2) := dk_16 10 (dk_at dksX0_settle_2 21 rfl rfl)
theorem dX0_settle_70 : decode cX0_settle 70 = .ok (.idiv, 1) := dk_108 (dk_at dksX0_settle_2 23 rfl rfl)
theorem dX0_settle_71 : decode cX0_settle 71 = .ok (.aload 4, 2) := dk_25 4 (dk_at dksX0_settle_3 0 rfl rfl)
theorem dX0_settle_73 : decode cX0_settle 73 = .ok (.aload_n 0, 1) := dk_42 (dk_at dksX0_settle_3 2 rfl rfl)
theorem dX0_settle_74 : decode cX0_settle 74 = .ok (.getfield 391, 3) := dk_180 1 135 (dk_at dksX0_settle_3 3 rfl rfl)
theorem dX0_settle_77 : decode cX0_settle 77 = .ok (.bipush 10, 2) := dk_16 10 (dk_at dksX0_settle_3 6 rfl rfl)
theorem dX0_settle_79 : decode cX0_settle 79 = .ok (.irem, 1) := dk_112 (dk_at dksX0_settle_3 8 rfl rfl)
theorem dX0_settle_80 : decode cX0_settle 80 = .ok (.invokevirtual 387, 3) := dk_182 1 131 (dk_at dksX0_settle_3 9 rfl rfl)
theorem dX0_settle_83 : decode cX0_settle 83 = .ok (.iinc 3 1, 3) := dk_132 3 1 (dk_at dksX0_settle_3 12 rfl rfl)
theorem dX0_settle_86 : decode cX0_settle 86 = .ok (.goto (-45), 3) := dk_167 255 211 (dk_at dksX0_settle_3 15 rfl rfl)
theorem dX0_settle_89 : decode cX0_settle 89 = .ok (.iload_n 3, 1) := dk_29 (dk_at dksX0_settle_3 18 rfl rfl)
theorem dX0_settle_90 : decode cX0_settle 90 = .ok (.ireturn, 1) := dk_172 (dk_at dksX0_settle_3 19 rfl rfl)
abbrev cX0_hat : ByteArray := prog_1_method_64_code
def yX0_hat : MethodName := ⟨RX0, "hat", "(III)I"⟩
def dkwX0_hat_3 : List UInt8 := [25, 6, 191]
abbrev dktX0_hat_3 : List UInt8 := dkwX0_hat_3 ++ []
def dkwX0_hat_2 : List UInt8 := [21, 4, 42, 182, 1, 106, 100, 54, 5, 42, 2, 181, 0, 63, 21, 5, 172, 58, 6, 42, 2, 181, 0, 63]
abbrev dktX0_hat_2 : List UInt8 := dkwX0_hat_2 ++ dktX0_hat_3
def dkwX0_hat_1 : List UInt8 := [16, 249, 172, 42, 182, 1, 106, 54, 4, 42, 27, 181, 0, 63, 42, 28, 181, 0, 239, 42, 29, 181, 0, 242]
abbrev dktX0_hat_1 : List UInt8 := dkwX0_hat_1 ++ dktX0_hat_2
def dkwX0_hat_0 : List UInt8 := [42, 27, 28, 182, 0, 173, 154, 0, 6, 16, 251, 172, 29, 133, 9, 20, 0, 120, 184, 0, 112, 154, 0, 6]
abbrev dktX0_hat_0 : List UInt8 := dkwX0_hat_0 ++ dktX0_hat_1
theorem dksX0_hat_0 : cX0_hat.data.toList.drop 0 = dktX0_hat_0 := by decide +kernel
theorem dksX0_hat_1 : cX0_hat.data.toList.drop 24 = dktX0_hat_1 := dk_seg dksX0_hat_0 24 rfl rfl
theorem dksX0_hat_2 : cX0_hat.data.toList.drop 48 = dktX0_hat_2 := dk_seg dksX0_hat_1 24 rfl rfl
theorem dksX0_hat_3 : cX0_hat.data.toList.drop 72 = dktX0_hat_3 := dk_seg dksX0_hat_2 24 rfl rfl
theorem dX0_hat_0 : decode cX0_hat 0 = .ok (.aload_n 0, 1) := dk_42 (dk_at dksX0_hat_0 0 rfl rfl)
theorem dX0_hat_1 : decode cX0_hat 1 = .ok (.iload_n 1, 1) := dk_27 (dk_at dksX0_hat_0 1 rfl rfl)
theorem dX0_hat_2 : decode cX0_hat 2 = .ok (.iload_n 2, 1) := dk_28 (dk_at dksX0_hat_0 2 rfl rfl)
theorem dX0_hat_3 : decode cX0_hat 3 = .ok (.invokevirtual 173, 3) := dk_182 0 173 (dk_at dksX0_hat_0 3 rfl rfl)
theorem dX0_hat_6 : decode cX0_hat 6 = .ok (.ifCond .ne 6, 3) := dk_154 0 6 (dk_at dksX0_hat_0 6 rfl rfl)
theorem dX0_hat_9 : decode cX0_hat 9 = .ok (.bipush (-5), 2) := dk_16 251 (dk_at dksX0_hat_0 9 rfl rfl)
theorem dX0_hat_11 : decode cX0_hat 11 = .ok (.ireturn, 1) := dk_172 (dk_at dksX0_hat_0 11 rfl rfl)
theorem dX0_hat_12 : decode cX0_hat 12 = .ok (.iload_n 3, 1) := dk_29 (dk_at dksX0_hat_0 12 rfl rfl)
theorem dX0_hat_13 : decode cX0_hat 13 = .ok (.i2l, 1) := dk_133 (dk_at dksX0_hat_0 13 rfl rfl)
theorem dX0_hat_14 : decode cX0_hat 14 = .ok (.lconst 0, 1) := dk_9 (dk_at dksX0_hat_0 14 rfl rfl)
theorem dX0_hat_15 : decode cX0_hat 15 = .ok (.ldc2_w 120, 3) := dk_20 0 120 (dk_at dksX0_hat_0 15 rfl rfl)
theorem dX0_hat_18 : decode cX0_hat 18 = .ok (.invokestatic 112, 3) := dk_184 0 112 (dk_at dksX0_hat_0 18 rfl rfl)
theorem dX0_hat_21 : decode cX0_hat 21 = .ok (.ifCond .ne 6, 3) := dk_154 0 6 (dk_at dksX0_hat_0 21 rfl rfl)
theorem dX0_hat_24 : decode cX0_hat 24 = .ok (.bipush (-7), 2) := dk_16 249 (dk_at dksX0_hat_1 0 rfl rfl)
theorem dX0_hat_26 : decode cX0_hat 26 = .ok (.ireturn, 1) := dk_172 (dk_at dksX0_hat_1 2 rfl rfl)
theorem dX0_hat_27 : decode cX0_hat 27 = .ok (.aload_n 0, 1) := dk_42 (dk_at dksX0_hat_1 3 rfl rfl)
theorem dX0_hat_28 : decode cX0_hat 28 = .ok (.invokevirtual 362, 3) := dk_182 1 106 (dk_at dksX0_hat_1 4 rfl rfl)
theorem dX0_hat_31 : decode cX0_hat 31 = .ok (.istore 4, 2) := dk_54 4 (dk_at dksX0_hat_1 7 rfl rfl)
theorem dX0_hat_33 : decode cX0_hat 33 = .ok (.aload_n 0, 1) := dk_42 (dk_at dksX0_hat_1 9 rfl rfl)
theorem dX0_hat_34 : decode cX0_hat 34 = .ok (.iload_n 1, 1) := dk_27 (dk_at dksX0_hat_1 10 rfl rfl)
theorem dX0_hat_35 : decode cX0_hat 35 = .ok (.putfield 63, 3) := dk_181 0 63 (dk_at dksX0_hat_1 11 rfl rfl)
theorem dX0_hat_38 : decode cX0_hat 38 = .ok (.aload_n 0, 1) := dk_42 (dk_at dksX0_hat_1 14 rfl rfl)
theorem dX0_hat_39 : decode cX0_hat 39 = .ok (.iload_n 2, 1) := dk_28 (dk_at dksX0_hat_1 15 rfl rfl)
theorem dX0_hat_40 : decode cX0_hat 40 = .ok (.putfield 239, 3) := dk_181 0 239 (dk_at dksX0_hat_1 16 rfl rfl)
theorem dX0_hat_43 : decode cX0_hat 43 = .ok (.aload_n 0, 1) := dk_42 (dk_at dksX0_hat_1 19 rfl rfl)
theorem dX0_hat_44 : decode cX0_hat 44 = .ok (.iload_n 3, 1) := dk_29 (dk_at dksX0_hat_1 20 rfl rfl)
theorem dX0_hat_45 : decode cX0_hat 45 = .ok (.putfield 242, 3) := dk_181 0 242 (dk_at dksX0_hat_1 21 rfl rfl)
theorem dX0_hat_48 : decode cX0_hat 48 = .ok (.iload 4, 2) := dk_21 4 (dk_at dksX0_hat_2 0 rfl rfl)
theorem dX0_hat_50 : decode cX0_hat 50 = .ok (.aload_n 0, 1) := dk_42 (dk_at dksX0_hat_2 2 rfl rfl)
theorem dX0_hat_51 : decode cX0_hat 51 = .ok (.invokevirtual 362, 3) := dk_182 1 106 (dk_at dksX0_hat_2 3 rfl rfl)
theorem dX0_hat_54 : decode cX0_hat 54 = .ok (.isub, 1) := dk_100 (dk_at dksX0_hat_2 6 rfl rfl)
theorem dX0_hat_55 : decode cX0_hat 55 = .ok (.istore 5, 2) := dk_54 5 (dk_at dksX0_hat_2 7 rfl rfl)
theorem dX0_hat_57 : decode cX0_hat 57 = .ok (.aload_n 0, 1) := dk_42 (dk_at dksX0_hat_2 9 rfl rfl)
theorem dX0_hat_58 : decode cX0_hat 58 = .ok (.iconst (-1), 1) := dk_2 (dk_at dksX0_hat_2 10 rfl rfl)
theorem dX0_hat_59 : decode cX0_hat 59 = .ok (.putfield 63, 3) := dk_181 0 63 (dk_at dksX0_hat_2 11 rfl rfl)
theorem dX0_hat_62 : decode cX0_hat 62 = .ok (.iload 5, 2) := dk_21 5 (dk_at dksX0_hat_2 14 rfl rfl)
theorem dX0_hat_64 : decode cX0_hat 64 = .ok (.ireturn, 1) := dk_172 (dk_at dksX0_hat_2 16 rfl rfl)
theorem dX0_hat_65 : decode cX0_hat 65 = .ok (.astore 6, 2) := dk_58 6 (dk_at dksX0_hat_2 17 rfl rfl)
theorem dX0_hat_67 : decode cX0_hat 67 = .ok (.aload_n 0, 1) := dk_42 (dk_at dksX0_hat_2 19 rfl rfl)
theorem dX0_hat_68 : decode cX0_hat 68 = .ok (.iconst (-1), 1) := dk_2 (dk_at dksX0_hat_2 20 rfl rfl)
theorem dX0_hat_69 : decode cX0_hat 69 = .ok (.putfield 63, 3) := dk_181 0 63 (dk_at dksX0_hat_2 21 rfl rfl)
theorem dX0_hat_72 : decode cX0_hat 72 = .ok (.aload 6, 2) := dk_25 6 (dk_at dksX0_hat_3 0 rfl rfl)
theorem dX0_hat_74 : decode cX0_hat 74 = .ok (.athrow, 1) := dk_191 (dk_at dksX0_hat_3 2 rfl rfl)
abbrev cX0_least : ByteArray := prog_1_method_65_code
def yX0_least : MethodName := ⟨RX0, "least", "(I)I"⟩
def dkwX0_least_3 : List UInt8 := [58, 4, 42, 180, 0, 41, 27, 28, 79, 25, 4, 191]
abbrev dktX0_least_3 : List UInt8 := dkwX0_least_3 ++ []
def dkwX0_least_2 : List UInt8 := [182, 1, 118, 132, 3, 1, 167, 255, 235, 42, 180, 1, 122, 62, 42, 180, 0, 41, 27, 28, 79, 29, 172]
abbrev dktX0_least_2 : List UInt8 := dkwX0_least_2 ++ dktX0_least_3
def dkwX0_least_1 : List UInt8 := [46, 61, 42, 2, 181, 1, 115, 3, 62, 29, 16, 20, 163, 0, 21, 42, 180, 0, 41, 27, 29, 79, 42, 29]
abbrev dktX0_least_1 : List UInt8 := dkwX0_least_1 ++ dktX0_least_2
def dkwX0_least_0 : List UInt8 := [27, 133, 9, 42, 180, 0, 210, 133, 10, 101, 184, 0, 112, 154, 0, 6, 16, 251, 172, 42, 180, 0, 41, 27]
abbrev dktX0_least_0 : List UInt8 := dkwX0_least_0 ++ dktX0_least_1
theorem dksX0_least_0 : cX0_least.data.toList.drop 0 = dktX0_least_0 := by decide +kernel
theorem dksX0_least_1 : cX0_least.data.toList.drop 24 = dktX0_least_1 := dk_seg dksX0_least_0 24 rfl rfl
theorem dksX0_least_2 : cX0_least.data.toList.drop 48 = dktX0_least_2 := dk_seg dksX0_least_1 24 rfl rfl
theorem dksX0_least_3 : cX0_least.data.toList.drop 71 = dktX0_least_3 := dk_seg dksX0_least_2 23 rfl rfl
theorem dX0_least_0 : decode cX0_least 0 = .ok (.iload_n 1, 1) := dk_27 (dk_at dksX0_least_0 0 rfl rfl)
theorem dX0_least_1 : decode cX0_least 1 = .ok (.i2l, 1) := dk_133 (dk_at dksX0_least_0 1 rfl rfl)
theorem dX0_least_2 : decode cX0_least 2 = .ok (.lconst 0, 1) := dk_9 (dk_at dksX0_least_0 2 rfl rfl)
theorem dX0_least_3 : decode cX0_least 3 = .ok (.aload_n 0, 1) := dk_42 (dk_at dksX0_least_0 3 rfl rfl)
theorem dX0_least_4 : decode cX0_least 4 = .ok (.getfield 210, 3) := dk_180 0 210 (dk_at dksX0_least_0 4 rfl rfl)
theorem dX0_least_7 : decode cX0_least 7 = .ok (.i2l, 1) := dk_133 (dk_at dksX0_least_0 7 rfl rfl)
theorem dX0_least_8 : decode cX0_least 8 = .ok (.lconst 1, 1) := dk_10 (dk_at dksX0_least_0 8 rfl rfl)
theorem dX0_least_9 : decode cX0_least 9 = .ok (.lsub, 1) := dk_101 (dk_at dksX0_least_0 9 rfl rfl)
theorem dX0_least_10 : decode cX0_least 10 = .ok (.invokestatic 112, 3) := dk_184 0 112 (dk_at dksX0_least_0 10 rfl rfl)
theorem dX0_least_13 : decode cX0_least 13 = .ok (.ifCond .ne 6, 3) := dk_154 0 6 (dk_at dksX0_least_0 13 rfl rfl)
theorem dX0_least_16 : decode cX0_least 16 = .ok (.bipush (-5), 2) := dk_16 251 (dk_at dksX0_least_0 16 rfl rfl)
theorem dX0_least_18 : decode cX0_least 18 = .ok (.ireturn, 1) := dk_172 (dk_at dksX0_least_0 18 rfl rfl)
theorem dX0_least_19 : decode cX0_least 19 = .ok (.aload_n 0, 1) := dk_42 (dk_at dksX0_least_0 19 rfl rfl)
theorem dX0_least_20 : decode cX0_least 20 = .ok (.getfield 41, 3) := dk_180 0 41 (dk_at dksX0_least_0 20 rfl rfl)
theorem dX0_least_23 : decode cX0_least 23 = .ok (.iload_n 1, 1) := dk_27 (dk_at dksX0_least_0 23 rfl rfl)
theorem dX0_least_24 : decode cX0_least 24 = .ok (.iaload, 1) := dk_46 (dk_at dksX0_least_1 0 rfl rfl)
theorem dX0_least_25 : decode cX0_least 25 = .ok (.istore_n 2, 1) := dk_61 (dk_at dksX0_least_1 1 rfl rfl)
theorem dX0_least_26 : decode cX0_least 26 = .ok (.aload_n 0, 1) := dk_42 (dk_at dksX0_least_1 2 rfl rfl)
theorem dX0_least_27 : decode cX0_least 27 = .ok (.iconst (-1), 1) := dk_2 (dk_at dksX0_least_1 3 rfl rfl)
theorem dX0_least_28 : decode cX0_least 28 = .ok (.putfield 371, 3) := dk_181 1 115 (dk_at dksX0_least_1 4 rfl rfl)
theorem dX0_least_31 : decode cX0_least 31 = .ok (.iconst 0, 1) := dk_3 (dk_at dksX0_least_1 7 rfl rfl)
theorem dX0_least_32 : decode cX0_least 32 = .ok (.istore_n 3, 1) := dk_62 (dk_at dksX0_least_1 8 rfl rfl)
theorem dX0_least_33 : decode cX0_least 33 = .ok (.iload_n 3, 1) := dk_29 (dk_at dksX0_least_1 9 rfl rfl)
theorem dX0_least_34 : decode cX0_least 34 = .ok (.bipush 20, 2) := dk_16 20 (dk_at dksX0_least_1 10 rfl rfl)
theorem dX0_least_36 : decode cX0_least 36 = .ok (.if_icmp .gt 21, 3) := dk_163 0 21 (dk_at dksX0_least_1 12 rfl rfl)
theorem dX0_least_39 : decode cX0_least 39 = .ok (.aload_n 0, 1) := dk_42 (dk_at dksX0_least_1 15 rfl rfl)
theorem dX0_least_40 : decode cX0_least 40 = .ok (.getfield 41, 3) := dk_180 0 41 (dk_at dksX0_least_1 16 rfl rfl)
theorem dX0_least_43 : decode cX0_least 43 = .ok (.iload_n 1, 1) := dk_27 (dk_at dksX0_least_1 19 rfl rfl)
theorem dX0_least_44 : decode cX0_least 44 = .ok (.iload_n 3, 1) := dk_29 (dk_at dksX0_least_1 20 rfl rfl)
theorem dX0_least_45 : decode cX0_least 45 = .ok (.iastore, 1) := dk_79 (dk_at dksX0_least_1 21 rfl rfl)
theorem dX0_least_46 : decode cX0_least 46 = .ok (.aload_n 0, 1) := dk_42 (dk_at dksX0_least_1 22 rfl rfl)
theorem dX0_least_47 : decode cX0_least 47 = .ok (.iload_n 3, 1) := dk_29 (dk_at dksX0_least_1 23 rfl rfl)
theorem dX0_least_48 : decode cX0_least 48 = .ok (.invokevirtual 374, 3) := dk_182 1 118 (dk_at dksX0_least_2 0 rfl rfl)
theorem dX0_least_51 : decode cX0_least 51 = .ok (.iinc 3 1, 3) := dk_132 3 1 (dk_at dksX0_least_2 3 rfl rfl)
theorem dX0_least_54 : decode cX0_least 54 = .ok (.goto (-21), 3) := dk_167 255 235 (dk_at dksX0_least_2 6 rfl rfl)
theorem dX0_least_57 : decode cX0_least 57 = .ok (.aload_n 0, 1) := dk_42 (dk_at dksX0_least_2 9 rfl rfl)
theorem dX0_least_58 : decode cX0_least 58 = .ok (.getfield 378, 3) := dk_180 1 122 (dk_at dksX0_least_2 10 rfl rfl)
theorem dX0_least_61 : decode cX0_least 61 = .ok (.istore_n 3, 1) := dk_62 (dk_at dksX0_least_2 13 rfl rfl)
theorem dX0_least_62 : decode cX0_least 62 = .ok (.aload_n 0, 1) := dk_42 (dk_at dksX0_least_2 14 rfl rfl)
theorem dX0_least_63 : decode cX0_least 63 = .ok (.getfield 41, 3) := dk_180 0 41 (dk_at dksX0_least_2 15 rfl rfl)
theorem dX0_least_66 : decode cX0_least 66 = .ok (.iload_n 1, 1) := dk_27 (dk_at dksX0_least_2 18 rfl rfl)
theorem dX0_least_67 : decode cX0_least 67 = .ok (.iload_n 2, 1) := dk_28 (dk_at dksX0_least_2 19 rfl rfl)
theorem dX0_least_68 : decode cX0_least 68 = .ok (.iastore, 1) := dk_79 (dk_at dksX0_least_2 20 rfl rfl)
theorem dX0_least_69 : decode cX0_least 69 = .ok (.iload_n 3, 1) := dk_29 (dk_at dksX0_least_2 21 rfl rfl)
theorem dX0_least_70 : decode cX0_least 70 = .ok (.ireturn, 1) := dk_172 (dk_at dksX0_least_2 22 rfl rfl)
theorem dX0_least_71 : decode cX0_least 71 = .ok (.astore 4, 2) := dk_58 4 (dk_at dksX0_least_3 0 rfl rfl)
theorem dX0_least_73 : decode cX0_least 73 = .ok (.aload_n 0, 1) := dk_42 (dk_at dksX0_least_3 2 rfl rfl)
theorem dX0_least_74 : decode cX0_least 74 = .ok (.getfield 41, 3) := dk_180 0 41 (dk_at dksX0_least_3 3 rfl rfl)
theorem dX0_least_77 : decode cX0_least 77 = .ok (.iload_n 1, 1) := dk_27 (dk_at dksX0_least_3 6 rfl rfl)
theorem dX0_least_78 : decode cX0_least 78 = .ok (.iload_n 2, 1) := dk_28 (dk_at dksX0_least_3 7 rfl rfl)
theorem dX0_least_79 : decode cX0_least 79 = .ok (.iastore, 1) := dk_79 (dk_at dksX0_least_3 8 rfl rfl)
theorem dX0_least_80 : decode cX0_least 80 = .ok (.aload 4, 2) := dk_25 4 (dk_at dksX0_least_3 9 rfl rfl)
theorem dX0_least_82 : decode cX0_least 82 = .ok (.athrow, 1) := dk_191 (dk_at dksX0_least_3 11 rfl rfl)
abbrev cX0_sell : ByteArray := prog_1_method_66_code
def yX0_sell : MethodName := ⟨RX0, "sell", "(I)I"⟩
def dkwX0_sell_3 : List UInt8 := [172]
abbrev dktX0_sell_3 : List UInt8 := dkwX0_sell_3 ++ []
def dkwX0_sell_2 : List UInt8 := [167, 0, 9, 21, 5, 62, 21, 4, 61, 132, 4, 1, 167, 255, 219, 27, 154, 0, 7, 28, 167, 0, 4, 29]
abbrev dktX0_sell_2 : List UInt8 := dkwX0_sell_2 ++ dktX0_sell_3
def dkwX0_sell_1 : List UInt8 := [17, 3, 232, 162, 0, 35, 21, 4, 42, 21, 4, 182, 1, 144, 104, 54, 5, 21, 5, 29, 163, 0, 6]
abbrev dktX0_sell_1 : List UInt8 := dkwX0_sell_1 ++ dktX0_sell_2
def dkwX0_sell_0 : List UInt8 := [27, 133, 9, 10, 184, 0, 112, 154, 0, 6, 16, 254, 172, 3, 61, 3, 62, 4, 54, 4, 21, 4]
abbrev dktX0_sell_0 : List UInt8 := dkwX0_sell_0 ++ dktX0_sell_1
theorem dksX0_sell_0 : cX0_sell.data.toList.drop 0 = dktX0_sell_0 := by decide +kernel
theorem dksX0_sell_1 : cX0_sell.data.toList.drop 22 = dktX0_sell_1 := dk_seg dksX0_sell_0 22 rfl rfl
theorem dksX0_sell_2 : cX0_sell.data.toList.drop 45 = dktX0_sell_2 := dk_seg dksX0_sell_1 23 rfl rfl
theorem dksX0_sell_3 : cX0_sell.data.toList.drop 69 = dktX0_sell_3 := dk_seg dksX0_sell_2 24 rfl rfl
theorem dX0_sell_0 : decode cX0_sell 0 = .ok (.iload_n 1, 1) := dk_27 (dk_at dksX0_sell_0 0 rfl rfl)
theorem dX0_sell_1 : decode cX0_sell 1 = .ok (.i2l, 1) := dk_133 (dk_at dksX0_sell_0 1 rfl rfl)
theorem dX0_sell_2 : decode cX0_sell 2 = .ok (.lconst 0, 1) := dk_9 (dk_at dksX0_sell_0 2 rfl rfl)
theorem dX0_sell_3 : decode cX0_sell 3 = .ok (.lconst 1, 1) := dk_10 (dk_at dksX0_sell_0 3 rfl rfl)
theorem dX0_sell_4 : decode cX0_sell 4 = .ok (.invokestatic 112, 3) := dk_184 0 112 (dk_at dksX0_sell_0 4 rfl rfl)
theorem dX0_sell_7 : decode cX0_sell 7 = .ok (.ifCond .ne 6, 3) := dk_154 0 6 (dk_at dksX0_sell_0 7 rfl rfl)
theorem dX0_sell_10 : decode cX0_sell 10 = .ok (.bipush (-2), 2) := dk_16 254 (dk_at dksX0_sell_0 10 rfl rfl)
theorem dX0_sell_12 : decode cX0_sell 12 = .ok (.ireturn, 1) := dk_172 (dk_at dksX0_sell_0 12 rfl rfl)
theorem dX0_sell_13 : decode cX0_sell 13 = .ok (.iconst 0, 1) := dk_3 (dk_at dksX0_sell_0 13 rfl rfl)
theorem dX0_sell_14 : decode cX0_sell 14 = .ok (.istore_n 2, 1) := dk_61 (dk_at dksX0_sell_0 14 rfl rfl)
theorem dX0_sell_15 : decode cX0_sell 15 = .ok (.iconst 0, 1) := dk_3 (dk_at dksX0_sell_0 15 rfl rfl)
theorem dX0_sell_16 : decode cX0_sell 16 = .ok (.istore_n 3, 1) := dk_62 (dk_at dksX0_sell_0 16 rfl rfl)
theorem dX0_sell_17 : decode cX0_sell 17 = .ok (.iconst 1, 1) := dk_4 (dk_at dksX0_sell_0 17 rfl rfl)
theorem dX0_sell_18 : decode cX0_sell 18 = .ok (.istore 4, 2) := dk_54 4 (dk_at dksX0_sell_0 18 rfl rfl)
theorem dX0_sell_20 : decode cX0_sell 20 = .ok (.iload 4, 2) := dk_21 4 (dk_at dksX0_sell_0 20 rfl rfl)
theorem dX0_sell_22 : decode cX0_sell 22 = .ok (.sipush 1000, 3) := dk_17 3 232 (dk_at dksX0_sell_1 0 rfl rfl)
theorem dX0_sell_25 : decode cX0_sell 25 = .ok (.if_icmp .ge 35, 3) := dk_162 0 35 (dk_at dksX0_sell_1 3 rfl rfl)
theorem dX0_sell_28 : decode cX0_sell 28 = .ok (.iload 4, 2) := dk_21 4 (dk_at dksX0_sell_1 6 rfl rfl)
theorem dX0_sell_30 : decode cX0_sell 30 = .ok (.aload_n 0, 1) := dk_42 (dk_at dksX0_sell_1 8 rfl rfl)
theorem dX0_sell_31 : decode cX0_sell 31 = .ok (.iload 4, 2) := dk_21 4 (dk_at dksX0_sell_1 9 rfl rfl)
theorem dX0_sell_33 : decode cX0_sell 33 = .ok (.invokevirtual 400, 3) := dk_182 1 144 (dk_at dksX0_sell_1 11 rfl rfl)
theorem dX0_sell_36 : decode cX0_sell 36 = .ok (.imul, 1) := dk_104 (dk_at dksX0_sell_1 14 rfl rfl)
theorem dX0_sell_37 : decode cX0_sell 37 = .ok (.istore 5, 2) := dk_54 5 (dk_at dksX0_sell_1 15 rfl rfl)
theorem dX0_sell_39 : decode cX0_sell 39 = .ok (.iload 5, 2) := dk_21 5 (dk_at dksX0_sell_1 17 rfl rfl)
theorem dX0_sell_41 : decode cX0_sell 41 = .ok (.iload_n 3, 1) := dk_29 (dk_at dksX0_sell_1 19 rfl rfl)
theorem dX0_sell_42 : decode cX0_sell 42 = .ok (.if_icmp .gt 6, 3) := dk_163 0 6 (dk_at dksX0_sell_1 20 rfl rfl)
theorem dX0_sell_45 : decode cX0_sell 45 = .ok (.goto 9, 3) := dk_167 0 9 (dk_at dksX0_sell_2 0 rfl rfl)
theorem dX0_sell_48 : decode cX0_sell 48 = .ok (.iload 5, 2) := dk_21 5 (dk_at dksX0_sell_2 3 rfl rfl)
theorem dX0_sell_50 : decode cX0_sell 50 = .ok (.istore_n 3, 1) := dk_62 (dk_at dksX0_sell_2 5 rfl rfl)
theorem dX0_sell_51 : decode cX0_sell 51 = .ok (.iload 4, 2) := dk_21 4 (dk_at dksX0_sell_2 6 rfl rfl)
theorem dX0_sell_53 : decode cX0_sell 53 = .ok (.istore_n 2, 1) := dk_61 (dk_at dksX0_sell_2 8 rfl rfl)
theorem dX0_sell_54 : decode cX0_sell 54 = .ok (.iinc 4 1, 3) := dk_132 4 1 (dk_at dksX0_sell_2 9 rfl rfl)
theorem dX0_sell_57 : decode cX0_sell 57 = .ok (.goto (-37), 3) := dk_167 255 219 (dk_at dksX0_sell_2 12 rfl rfl)
theorem dX0_sell_60 : decode cX0_sell 60 = .ok (.iload_n 1, 1) := dk_27 (dk_at dksX0_sell_2 15 rfl rfl)
theorem dX0_sell_61 : decode cX0_sell 61 = .ok (.ifCond .ne 7, 3) := dk_154 0 7 (dk_at dksX0_sell_2 16 rfl rfl)
theorem dX0_sell_64 : decode cX0_sell 64 = .ok (.iload_n 2, 1) := dk_28 (dk_at dksX0_sell_2 19 rfl rfl)
theorem dX0_sell_65 : decode cX0_sell 65 = .ok (.goto 4, 3) := dk_167 0 4 (dk_at dksX0_sell_2 20 rfl rfl)
theorem dX0_sell_68 : decode cX0_sell 68 = .ok (.iload_n 3, 1) := dk_29 (dk_at dksX0_sell_2 23 rfl rfl)
theorem dX0_sell_69 : decode cX0_sell 69 = .ok (.ireturn, 1) := dk_172 (dk_at dksX0_sell_3 0 rfl rfl)
abbrev cX0_buyers : ByteArray := prog_1_method_67_code
def yX0_buyers : MethodName := ⟨RX0, "buyers", "(I)I"⟩
def dkwX0_buyers_3 : List UInt8 := [132, 2, 1, 132, 3, 1, 132, 5, 1, 167, 255, 198, 132, 4, 1, 167, 255, 177, 28, 172]
abbrev dktX0_buyers_3 : List UInt8 := dkwX0_buyers_3 ++ []
def dkwX0_buyers_2 : List UInt8 := [180, 0, 67, 29, 42, 21, 4, 21, 5, 182, 1, 35, 79, 42, 180, 0, 67, 29, 46, 27, 161, 0, 6]
abbrev dktX0_buyers_2 : List UInt8 := dkwX0_buyers_2 ++ dktX0_buyers_3
def dkwX0_buyers_1 : List UInt8 := [42, 180, 0, 22, 21, 4, 182, 0, 150, 192, 0, 122, 180, 0, 154, 162, 0, 44, 27, 4, 160, 0, 17, 42]
abbrev dktX0_buyers_1 : List UInt8 := dkwX0_buyers_1 ++ dktX0_buyers_2
def dkwX0_buyers_0 : List UInt8 := [3, 61, 3, 62, 3, 54, 4, 21, 4, 42, 180, 0, 22, 182, 0, 142, 162, 0, 73, 3, 54, 5, 21, 5]
abbrev dktX0_buyers_0 : List UInt8 := dkwX0_buyers_0 ++ dktX0_buyers_1
theorem dksX0_buyers_0 : cX0_buyers.data.toList.drop 0 = dktX0_buyers_0 := by decide +kernel
theorem dksX0_buyers_1 : cX0_buyers.data.toList.drop 24 = dktX0_buyers_1 := dk_seg dksX0_buyers_0 24 rfl rfl
theorem dksX0_buyers_2 : cX0_buyers.data.toList.drop 48 = dktX0_buyers_2 := dk_seg dksX0_buyers_1 24 rfl rfl
theorem dksX0_buyers_3 : cX0_buyers.data.toList.drop 71 = dktX0_buyers_3 := dk_seg dksX0_buyers_2 23 rfl rfl
theorem dX0_buyers_0 : decode cX0_buyers 0 = .ok (.iconst 0, 1) := dk_3 (dk_at dksX0_buyers_0 0 rfl rfl)
theorem dX0_buyers_1 : decode cX0_buyers 1 = .ok (.istore_n 2, 1) := dk_61 (dk_at dksX0_buyers_0 1 rfl rfl)
theorem dX0_buyers_2 : decode cX0_buyers 2 = .ok (.iconst 0, 1) := dk_3 (dk_at dksX0_buyers_0 2 rfl rfl)
theorem dX0_buyers_3 : decode cX0_buyers 3 = .ok (.istore_n 3, 1) := dk_62 (dk_at dksX0_buyers_0 3 rfl rfl)
theorem dX0_buyers_4 : decode cX0_buyers 4 = .ok (.iconst 0, 1) := dk_3 (dk_at dksX0_buyers_0 4 rfl rfl)
theorem dX0_buyers_5 : decode cX0_buyers 5 = .ok (.istore 4, 2) := dk_54 4 (dk_at dksX0_buyers_0 5 rfl rfl)
theorem dX0_buyers_7 : decode cX0_buyers 7 = .ok (.iload 4, 2) := dk_21 4 (dk_at dksX0_buyers_0 7 rfl rfl)
theorem dX0_buyers_9 : decode cX0_buyers 9 = .ok (.aload_n 0, 1) := dk_42 (dk_at dksX0_buyers_0 9 rfl rfl)
theorem dX0_buyers_10 : decode cX0_buyers 10 = .ok (.getfield 22, 3) := dk_180 0 22 (dk_at dksX0_buyers_0 10 rfl rfl)
theorem dX0_buyers_13 : decode cX0_buyers 13 = .ok (.invokevirtual 142, 3) := dk_182 0 142 (dk_at dksX0_buyers_0 13 rfl rfl)
theorem dX0_buyers_16 : decode cX0_buyers 16 = .ok (.if_icmp .ge 73, 3) := dk_162 0 73 (dk_at dksX0_buyers_0 16 rfl rfl)
theorem dX0_buyers_19 : decode cX0_buyers 19 = .ok (.iconst 0, 1) := dk_3 (dk_at dksX0_buyers_0 19 rfl rfl)
theorem dX0_buyers_20 : decode cX0_buyers 20 = .ok (.istore 5, 2) := dk_54 5 (dk_at dksX0_buyers_0 20 rfl rfl)
theorem dX0_buyers_22 : decode cX0_buyers 22 = .ok (.iload 5, 2) := dk_21 5 (dk_at dksX0_buyers_0 22 rfl rfl)
theorem dX0_buyers_24 : decode cX0_buyers 24 = .ok (.aload_n 0, 1) := dk_42 (dk_at dksX0_buyers_1 0 rfl rfl)
theorem dX0_buyers_25 : decode cX0_buyers 25 = .ok (.getfield 22, 3) := dk_180 0 22 (dk_at dksX0_buyers_1 1 rfl rfl)
theorem dX0_buyers_28 : decode cX0_buyers 28 = .ok (.iload 4, 2) := dk_21 4 (dk_at dksX0_buyers_1 4 rfl rfl)
theorem dX0_buyers_30 : decode cX0_buyers 30 = .ok (.invokevirtual 150, 3) := dk_182 0 150 (dk_at dksX0_buyers_1 6 rfl rfl)
theorem dX0_buyers_33 : decode cX0_buyers 33 = .ok (.checkcast 122, 3) := dk_192 0 122 (dk_at dksX0_buyers_1 9 rfl rfl)
theorem dX0_buyers_36 : decode cX0_buyers 36 = .ok (.getfield 154, 3) := dk_180 0 154 (dk_at dksX0_buyers_1 12 rfl rfl)
theorem dX0_buyers_39 : decode cX0_buyers 39 = .ok (.if_icmp .ge 44, 3) := dk_162 0 44 (dk_at dksX0_buyers_1 15 rfl rfl)
theorem dX0_buyers_42 : decode cX0_buyers 42 = .ok (.iload_n 1, 1) := dk_27 (dk_at dksX0_buyers_1 18 rfl rfl)
theorem dX0_buyers_43 : decode cX0_buyers 43 = .ok (.iconst 1, 1) := dk_4 (dk_at dksX0_buyers_1 19 rfl rfl)
theorem dX0_buyers_44 : decode cX0_buyers 44 = .ok (.if_icmp .ne 17, 3) := dk_160 0 17 (dk_at dksX0_buyers_1 20 rfl rfl)
theorem dX0_buyers_47 : decode cX0_buyers 47 = .ok (.aload_n 0, 1) := dk_42 (dk_at dksX0_buyers_1 23 rfl rfl)
theorem dX0_buyers_48 : decode cX0_buyers 48 = .ok (.getfield 67, 3) := dk_180 0 67 (dk_at dksX0_buyers_2 0 rfl rfl)
theorem dX0_buyers_51 : decode cX0_buyers 51 = .ok (.iload_n 3, 1) := dk_29 (dk_at dksX0_buyers_2 3 rfl rfl)
theorem dX0_buyers_52 : decode cX0_buyers 52 = .ok (.aload_n 0, 1) := dk_42 (dk_at dksX0_buyers_2 4 rfl rfl)
theorem dX0_buyers_53 : decode cX0_buyers 53 = .ok (.iload 4, 2) := dk_21 4 (dk_at dksX0_buyers_2 5 rfl rfl)
theorem dX0_buyers_55 : decode cX0_buyers 55 = .ok (.iload 5, 2) := dk_21 5 (dk_at dksX0_buyers_2 7 rfl rfl)
theorem dX0_buyers_57 : decode cX0_buyers 57 = .ok (.invokevirtual 291, 3) := dk_182 1 35 (dk_at dksX0_buyers_2 9 rfl rfl)
theorem dX0_buyers_60 : decode cX0_buyers 60 = .ok (.iastore, 1) := dk_79 (dk_at dksX0_buyers_2 12 rfl rfl)
theorem dX0_buyers_61 : decode cX0_buyers 61 = .ok (.aload_n 0, 1) := dk_42 (dk_at dksX0_buyers_2 13 rfl rfl)
theorem dX0_buyers_62 : decode cX0_buyers 62 = .ok (.getfield 67, 3) := dk_180 0 67 (dk_at dksX0_buyers_2 14 rfl rfl)
theorem dX0_buyers_65 : decode cX0_buyers 65 = .ok (.iload_n 3, 1) := dk_29 (dk_at dksX0_buyers_2 17 rfl rfl)
theorem dX0_buyers_66 : decode cX0_buyers 66 = .ok (.iaload, 1) := dk_46 (dk_at dksX0_buyers_2 18 rfl rfl)
theorem dX0_buyers_67 : decode cX0_buyers 67 = .ok (.iload_n 1, 1) := dk_27 (dk_at dksX0_buyers_2 19 rfl rfl)
theorem dX0_buyers_68 : decode cX0_buyers 68 = .ok (.if_icmp .lt 6, 3) := dk_161 0 6 (dk_at dksX0_buyers_2 20 rfl rfl)
theorem dX0_buyers_71 : decode cX0_buyers 71 = .ok (.iinc 2 1, 3) := dk_132 2 1 (dk_at dksX0_buyers_3 0 rfl rfl)
theorem dX0_buyers_74 : decode cX0_buyers 74 = .ok (.iinc 3 1, 3) := dk_132 3 1 (dk_at dksX0_buyers_3 3 rfl rfl)
theorem dX0_buyers_77 : decode cX0_buyers 77 = .ok (.iinc 5 1, 3) := dk_132 5 1 (dk_at dksX0_buyers_3 6 rfl rfl)
theorem dX0_buyers_80 : decode cX0_buyers 80 = .ok (.goto (-58), 3) := dk_167 255 198 (dk_at dksX0_buyers_3 9 rfl rfl)
theorem dX0_buyers_83 : decode cX0_buyers 83 = .ok (.iinc 4 1, 3) := dk_132 4 1 (dk_at dksX0_buyers_3 12 rfl rfl)
theorem dX0_buyers_86 : decode cX0_buyers 86 = .ok (.goto (-79), 3) := dk_167 255 177 (dk_at dksX0_buyers_3 15 rfl rfl)
theorem dX0_buyers_89 : decode cX0_buyers 89 = .ok (.iload_n 2, 1) := dk_28 (dk_at dksX0_buyers_3 18 rfl rfl)
theorem dX0_buyers_90 : decode cX0_buyers 90 = .ok (.ireturn, 1) := dk_172 (dk_at dksX0_buyers_3 19 rfl rfl)
abbrev cX0_flat : ByteArray := prog_1_method_68_code
def yX0_flat : MethodName := ⟨RX0, "flat", "()I"⟩
def dkwX0_flat_2 : List UInt8 := [132, 2, 1, 167, 255, 209, 27, 172]
abbrev dktX0_flat_2 : List UInt8 := dkwX0_flat_2 ++ []
def dkwX0_flat_1 : List UInt8 := [28, 153, 0, 20, 42, 180, 0, 26, 28, 4, 100, 46, 42, 180, 0, 26, 28, 46, 159, 0, 6, 132, 1, 1]
abbrev dktX0_flat_1 : List UInt8 := dkwX0_flat_1 ++ dktX0_flat_2
def dkwX0_flat_0 : List UInt8 := [3, 60, 3, 61, 28, 42, 180, 0, 22, 182, 0, 142, 162, 0, 42, 42, 180, 0, 26, 28, 46, 158, 0, 27]
abbrev dktX0_flat_0 : List UInt8 := dkwX0_flat_0 ++ dktX0_flat_1
theorem dksX0_flat_0 : cX0_flat.data.toList.drop 0 = dktX0_flat_0 := by decide +kernel
theorem dksX0_flat_1 : cX0_flat.data.toList.drop 24 = dktX0_flat_1 := dk_seg dksX0_flat_0 24 rfl rfl
theorem dksX0_flat_2 : cX0_flat.data.toList.drop 48 = dktX0_flat_2 := dk_seg dksX0_flat_1 24 rfl rfl
theorem dX0_flat_0 : decode cX0_flat 0 = .ok (.iconst 0, 1) := dk_3 (dk_at dksX0_flat_0 0 rfl rfl)
theorem dX0_flat_1 : decode cX0_flat 1 = .ok (.istore_n 1, 1) := dk_60 (dk_at dksX0_flat_0 1 rfl rfl)
theorem dX0_flat_2 : decode cX0_flat 2 = .ok (.iconst 0, 1) := dk_3 (dk_at dksX0_flat_0 2 rfl rfl)
theorem dX0_flat_3 : decode cX0_flat 3 = .ok (.istore_n 2, 1) := dk_61 (dk_at dksX0_flat_0 3 rfl rfl)
theorem dX0_flat_4 : decode cX0_flat 4 = .ok (.iload_n 2, 1) := dk_28 (dk_at dksX0_flat_0 4 rfl rfl)
theorem dX0_flat_5 : decode cX0_flat 5 = .ok (.aload_n 0, 1) := dk_42 (dk_at dksX0_flat_0 5 rfl rfl)
theorem dX0_flat_6 : decode cX0_flat 6 = .ok (.getfield 22, 3) := dk_180 0 22 (dk_at dksX0_flat_0 6 rfl rfl)
theorem dX0_flat_9 : decode cX0_flat 9 = .ok (.invokevirtual 142, 3) := dk_182 0 142 (dk_at dksX0_flat_0 9 rfl rfl)
theorem dX0_flat_12 : decode cX0_flat 12 = .ok (.if_icmp .ge 42, 3) := dk_162 0 42 (dk_at dksX0_flat_0 12 rfl rfl)
theorem dX0_flat_15 : decode cX0_flat 15 = .ok (.aload_n 0, 1) := dk_42 (dk_at dksX0_flat_0 15 rfl rfl)
theorem dX0_flat_16 : decode cX0_flat 16 = .ok (.getfield 26, 3) := dk_180 0 26 (dk_at dksX0_flat_0 16 rfl rfl)
theorem dX0_flat_19 : decode cX0_flat 19 = .ok (.iload_n 2, 1) := dk_28 (dk_at dksX0_flat_0 19 rfl rfl)
theorem dX0_flat_20 : decode cX0_flat 20 = .ok (.iaload, 1) := dk_46 (dk_at dksX0_flat_0 20 rfl rfl)
theorem dX0_flat_21 : decode cX0_flat 21 = .ok (.ifCond .le 27, 3) := dk_158 0 27 (dk_at dksX0_flat_0 21 rfl rfl)
theorem dX0_flat_24 : decode cX0_flat 24 = .ok (.iload_n 2, 1) := dk_28 (dk_at dksX0_flat_1 0 rfl rfl)
theorem dX0_flat_25 : decode cX0_flat 25 = .ok (.ifCond .eq 20, 3) := dk_153 0 20 (dk_at dksX0_flat_1 1 rfl rfl)
theorem dX0_flat_28 : decode cX0_flat 28 = .ok (.aload_n 0, 1) := dk_42 (dk_at dksX0_flat_1 4 rfl rfl)
theorem dX0_flat_29 : decode cX0_flat 29 = .ok (.getfield 26, 3) := dk_180 0 26 (dk_at dksX0_flat_1 5 rfl rfl)
theorem dX0_flat_32 : decode cX0_flat 32 = .ok (.iload_n 2, 1) := dk_28 (dk_at dksX0_flat_1 8 rfl rfl)
theorem dX0_flat_33 : decode cX0_flat 33 = .ok (.iconst 1, 1) := dk_4 (dk_at dksX0_flat_1 9 rfl rfl)
theorem dX0_flat_34 : decode cX0_flat 34 = .ok (.isub, 1) := dk_100 (dk_at dksX0_flat_1 10 rfl rfl)
theorem dX0_flat_35 : decode cX0_flat 35 = .ok (.iaload, 1) := dk_46 (dk_at dksX0_flat_1 11 rfl rfl)
theorem dX0_flat_36 : decode cX0_flat 36 = .ok (.aload_n 0, 1) := dk_42 (dk_at dksX0_flat_1 12 rfl rfl)
theorem dX0_flat_37 : decode cX0_flat 37 = .ok (.getfield 26, 3) := dk_180 0 26 (dk_at dksX0_flat_1 13 rfl rfl)
theorem dX0_flat_40 : decode cX0_flat 40 = .ok (.iload_n 2, 1) := dk_28 (dk_at dksX0_flat_1 16 rfl rfl)
theorem dX0_flat_41 : decode cX0_flat 41 = .ok (.iaload, 1) := dk_46 (dk_at dksX0_flat_1 17 rfl rfl)
theorem dX0_flat_42 : decode cX0_flat 42 = .ok (.if_icmp .eq 6, 3) := dk_159 0 6 (dk_at dksX0_flat_1 18 rfl rfl)
theorem dX0_flat_45 : decode cX0_flat 45 = .ok (.iinc 1 1, 3) := dk_132 1 1 (dk_at dksX0_flat_1 21 rfl rfl)
theorem dX0_flat_48 : decode cX0_flat 48 = .ok (.iinc 2 1, 3) := dk_132 2 1 (dk_at dksX0_flat_2 0 rfl rfl)
theorem dX0_flat_51 : decode cX0_flat 51 = .ok (.goto (-47), 3) := dk_167 255 209 (dk_at dksX0_flat_2 3 rfl rfl)
theorem dX0_flat_54 : decode cX0_flat 54 = .ok (.iload_n 1, 1) := dk_27 (dk_at dksX0_flat_2 6 rfl rfl)
theorem dX0_flat_55 : decode cX0_flat 55 = .ok (.ireturn, 1) := dk_172 (dk_at dksX0_flat_2 7 rfl rfl)
abbrev cX0_thursday : ByteArray := prog_1_method_69_code
def yX0_thursday : MethodName := ⟨RX0, "thursday", "(I)I"⟩
def dkwX0_thursday_3 : List UInt8 := [46, 159, 0, 6, 132, 3, 1, 132, 4, 1, 167, 255, 224, 29, 172]
abbrev dktX0_thursday_3 : List UInt8 := dkwX0_thursday_3 ++ []
def dkwX0_thursday_2 : List UInt8 := [54, 4, 21, 4, 44, 180, 1, 50, 162, 0, 29, 44, 180, 1, 52, 21, 4, 46, 42, 180, 0, 26, 21, 4]
abbrev dktX0_thursday_2 : List UInt8 := dkwX0_thursday_2 ++ dktX0_thursday_3
def dkwX0_thursday_1 : List UInt8 := [16, 245, 172, 44, 180, 1, 50, 42, 180, 0, 22, 182, 0, 142, 159, 0, 6, 16, 254, 172, 3, 62, 3]
abbrev dktX0_thursday_1 : List UInt8 := dkwX0_thursday_1 ++ dktX0_thursday_2
def dkwX0_thursday_0 : List UInt8 := [27, 184, 1, 44, 154, 0, 6, 16, 254, 172, 42, 180, 0, 97, 27, 50, 77, 44, 180, 1, 47, 156, 0, 6]
abbrev dktX0_thursday_0 : List UInt8 := dkwX0_thursday_0 ++ dktX0_thursday_1
theorem dksX0_thursday_0 : cX0_thursday.data.toList.drop 0 = dktX0_thursday_0 := by decide +kernel
theorem dksX0_thursday_1 : cX0_thursday.data.toList.drop 24 = dktX0_thursday_1 := dk_seg dksX0_thursday_0 24 rfl rfl
theorem dksX0_thursday_2 : cX0_thursday.data.toList.drop 47 = dktX0_thursday_2 := dk_seg dksX0_thursday_1 23 rfl rfl
theorem dksX0_thursday_3 : cX0_thursday.data.toList.drop 71 = dktX0_thursday_3 := dk_seg dksX0_thursday_2 24 rfl rfl
theorem dX0_thursday_0 : decode cX0_thursday 0 = .ok (.iload_n 1, 1) := dk_27 (dk_at dksX0_thursday_0 0 rfl rfl)
theorem dX0_thursday_1 : decode cX0_thursday 1 = .ok (.invokestatic 300, 3) := dk_184 1 44 (dk_at dksX0_thursday_0 1 rfl rfl)
theorem dX0_thursday_4 : decode cX0_thursday 4 = .ok (.ifCond .ne 6, 3) := dk_154 0 6 (dk_at dksX0_thursday_0 4 rfl rfl)
theorem dX0_thursday_7 : decode cX0_thursday 7 = .ok (.bipush (-2), 2) := dk_16 254 (dk_at dksX0_thursday_0 7 rfl rfl)
theorem dX0_thursday_9 : decode cX0_thursday 9 = .ok (.ireturn, 1) := dk_172 (dk_at dksX0_thursday_0 9 rfl rfl)
theorem dX0_thursday_10 : decode cX0_thursday 10 = .ok (.aload_n 0, 1) := dk_42 (dk_at dksX0_thursday_0 10 rfl rfl)
theorem dX0_thursday_11 : decode cX0_thursday 11 = .ok (.getfield 97, 3) := dk_180 0 97 (dk_at dksX0_thursday_0 11 rfl rfl)
theorem dX0_thursday_14 : decode cX0_thursday 14 = .ok (.iload_n 1, 1) := dk_27 (dk_at dksX0_thursday_0 14 rfl rfl)
theorem dX0_thursday_15 : decode cX0_thursday 15 = .ok (.aaload, 1) := dk_50 (dk_at dksX0_thursday_0 15 rfl rfl)
theorem dX0_thursday_16 : decode cX0_thursday 16 = .ok (.astore_n 2, 1) := dk_77 (dk_at dksX0_thursday_0 16 rfl rfl)
theorem dX0_thursday_17 : decode cX0_thursday 17 = .ok (.aload_n 2, 1) := dk_44 (dk_at dksX0_thursday_0 17 rfl rfl)
theorem dX0_thursday_18 : decode cX0_thursday 18 = .ok (.getfield 303, 3) := dk_180 1 47 (dk_at dksX0_thursday_0 18 rfl rfl)
theorem dX0_thursday_21 : decode cX0_thursday 21 = .ok (.ifCond .ge 6, 3) := dk_156 0 6 (dk_at dksX0_thursday_0 21 rfl rfl)
theorem dX0_thursday_24 : decode cX0_thursday 24 = .ok (.bipush (-11), 2) := dk_16 245 (dk_at dksX0_thursday_1 0 rfl rfl)
theorem dX0_thursday_26 : decode cX0_thursday 26 = .ok (.ireturn, 1) := dk_172 (dk_at dksX0_thursday_1 2 rfl rfl)
theorem dX0_thursday_27 : decode cX0_thursday 27 = .ok (.aload_n 2, 1) := dk_44 (dk_at dksX0_thursday_1 3 rfl rfl)
theorem dX0_thursday_28 : decode cX0_thursday 28 = .ok (.getfield 306, 3) := dk_180 1 50 (dk_at dksX0_thursday_1 4 rfl rfl)
theorem dX0_thursday_31 : decode cX0_thursday 31 = .ok (.aload_n 0, 1) := dk_42 (dk_at dksX0_thursday_1 7 rfl rfl)
theorem dX0_thursday_32 : decode cX0_thursday 32 = .ok (.getfield 22, 3) := dk_180 0 22 (dk_at dksX0_thursday_1 8 rfl rfl)
theorem dX0_thursday_35 : decode cX0_thursday 35 = .ok (.invokevirtual 142, 3) := dk_182 0 142 (dk_at dksX0_thursday_1 11 rfl rfl)
theorem dX0_thursday_38 : decode cX0_thursday 38 = .ok (.if_icmp .eq 6, 3) := dk_159 0 6 (dk_at dksX0_thursday_1 14 rfl rfl)
theorem dX0_thursday_41 : decode cX0_thursday 41 = .ok (.bipush (-2), 2) := dk_16 254 (dk_at dksX0_thursday_1 17 rfl rfl)
theorem dX0_thursday_43 : decode cX0_thursday 43 = .ok (.ireturn, 1) := dk_172 (dk_at dksX0_thursday_1 19 rfl rfl)
theorem dX0_thursday_44 : decode cX0_thursday 44 = .ok (.iconst 0, 1) := dk_3 (dk_at dksX0_thursday_1 20 rfl rfl)
theorem dX0_thursday_45 : decode cX0_thursday 45 = .ok (.istore_n 3, 1) := dk_62 (dk_at dksX0_thursday_1 21 rfl rfl)
theorem dX0_thursday_46 : decode cX0_thursday 46 = .ok (.iconst 0, 1) := dk_3 (dk_at dksX0_thursday_1 22 rfl rfl)
theorem dX0_thursday_47 : decode cX0_thursday 47 = .ok (.istore 4, 2) := dk_54 4 (dk_at dksX0_thursday_2 0 rfl rfl)
theorem dX0_thursday_49 : decode cX0_thursday 49 = .ok (.iload 4, 2) := dk_21 4 (dk_at dksX0_thursday_2 2 rfl rfl)
theorem dX0_thursday_51 : decode cX0_thursday 51 = .ok (.aload_n 2, 1) := dk_44 (dk_at dksX0_thursday_2 4 rfl rfl)
theorem dX0_thursday_52 : decode cX0_thursday 52 = .ok (.getfield 306, 3) := dk_180 1 50 (dk_at dksX0_thursday_2 5 rfl rfl)
theorem dX0_thursday_55 : decode cX0_thursday 55 = .ok (.if_icmp .ge 29, 3) := dk_162 0 29 (dk_at dksX0_thursday_2 8 rfl rfl)
theorem dX0_thursday_58 : decode cX0_thursday 58 = .ok (.aload_n 2, 1) := dk_44 (dk_at dksX0_thursday_2 11 rfl rfl)
theorem dX0_thursday_59 : decode cX0_thursday 59 = .ok (.getfield 308, 3) := dk_180 1 52 (dk_at dksX0_thursday_2 12 rfl rfl)
theorem dX0_thursday_62 : decode cX0_thursday 62 = .ok (.iload 4, 2) := dk_21 4 (dk_at dksX0_thursday_2 15 rfl rfl)
theorem dX0_thursday_64 : decode cX0_thursday 64 = .ok (.iaload, 1) := dk_46 (dk_at dksX0_thursday_2 17 rfl rfl)
theorem dX0_thursday_65 : decode cX0_thursday 65 = .ok (.aload_n 0, 1) := dk_42 (dk_at dksX0_thursday_2 18 rfl rfl)
theorem dX0_thursday_66 : decode cX0_thursday 66 = .ok (.getfield 26, 3) := dk_180 0 26 (dk_at dksX0_thursday_2 19 rfl rfl)
theorem dX0_thursday_69 : decode cX0_thursday 69 = .ok (.iload 4, 2) := dk_21 4 (dk_at dksX0_thursday_2 22 rfl rfl)
theorem dX0_thursday_71 : decode cX0_thursday 71 = .ok (.iaload, 1) := dk_46 (dk_at dksX0_thursday_3 0 rfl rfl)
theorem dX0_thursday_72 : decode cX0_thursday 72 = .ok (.if_icmp .eq 6, 3) := dk_159 0 6 (dk_at dksX0_thursday_3 1 rfl rfl)
theorem dX0_thursday_75 : decode cX0_thursday 75 = .ok (.iinc 3 1, 3) := dk_132 3 1 (dk_at dksX0_thursday_3 4 rfl rfl)
theorem dX0_thursday_78 : decode cX0_thursday 78 = .ok (.iinc 4 1, 3) := dk_132 4 1 (dk_at dksX0_thursday_3 7 rfl rfl)
theorem dX0_thursday_81 : decode cX0_thursday 81 = .ok (.goto (-32), 3) := dk_167 255 224 (dk_at dksX0_thursday_3 10 rfl rfl)
theorem dX0_thursday_84 : decode cX0_thursday 84 = .ok (.iload_n 3, 1) := dk_29 (dk_at dksX0_thursday_3 13 rfl rfl)
theorem dX0_thursday_85 : decode cX0_thursday 85 = .ok (.ireturn, 1) := dk_172 (dk_at dksX0_thursday_3 14 rfl rfl)
abbrev cX0_image : ByteArray := prog_1_method_70_code
def yX0_image : MethodName := ⟨RX0, "image", "()I"⟩
def dkwX0_image_7 : List UInt8 := [132, 1, 1, 167, 255, 217, 42, 180, 0, 82, 172]
abbrev dktX0_image_7 : List UInt8 := dkwX0_image_7 ++ []
def dkwX0_image_6 : List UInt8 := [27, 182, 0, 150, 192, 0, 122, 180, 0, 177, 3, 42, 180, 0, 79, 16, 8, 27, 104, 16, 8, 184, 1, 58]
abbrev dktX0_image_6 : List UInt8 := dkwX0_image_6 ++ dktX0_image_7
def dkwX0_image_5 : List UInt8 := [3, 42, 180, 0, 76, 7, 7, 184, 1, 58, 3, 60, 27, 42, 180, 0, 82, 162, 0, 37, 42, 180, 0, 22]
abbrev dktX0_image_5 : List UInt8 := dkwX0_image_5 ++ dktX0_image_6
def dkwX0_image_4 : List UInt8 := [16, 8, 7, 184, 1, 58, 42, 180, 0, 41, 3, 42, 180, 0, 76, 3, 7, 184, 1, 58, 42, 180, 0, 44]
abbrev dktX0_image_4 : List UInt8 := dkwX0_image_4 ++ dktX0_image_5
def dkwX0_image_3 : List UInt8 := [42, 180, 0, 13, 3, 42, 180, 0, 73, 7, 7, 184, 1, 58, 42, 180, 0, 16, 3, 42, 180, 0, 73]
abbrev dktX0_image_3 : List UInt8 := dkwX0_image_3 ++ dktX0_image_4
def dkwX0_image_2 : List UInt8 := [180, 0, 70, 16, 6, 16, 6, 184, 1, 58, 42, 180, 0, 7, 3, 42, 180, 0, 73, 3, 7, 184, 1, 58]
abbrev dktX0_image_2 : List UInt8 := dkwX0_image_2 ++ dktX0_image_3
def dkwX0_image_1 : List UInt8 := [181, 1, 150, 42, 180, 0, 26, 3, 42, 180, 0, 70, 3, 16, 6, 184, 1, 58, 42, 180, 0, 29, 3, 42]
abbrev dktX0_image_1 : List UInt8 := dkwX0_image_1 ++ dktX0_image_2
def dkwX0_image_0 : List UInt8 := [42, 42, 180, 0, 22, 182, 0, 142, 181, 0, 82, 42, 42, 180, 0, 210, 181, 1, 147, 42, 42, 180, 0, 213]
abbrev dktX0_image_0 : List UInt8 := dkwX0_image_0 ++ dktX0_image_1
theorem dksX0_image_0 : cX0_image.data.toList.drop 0 = dktX0_image_0 := by decide +kernel
theorem dksX0_image_1 : cX0_image.data.toList.drop 24 = dktX0_image_1 := dk_seg dksX0_image_0 24 rfl rfl
theorem dksX0_image_2 : cX0_image.data.toList.drop 48 = dktX0_image_2 := dk_seg dksX0_image_1 24 rfl rfl
theorem dksX0_image_3 : cX0_image.data.toList.drop 72 = dktX0_image_3 := dk_seg dksX0_image_2 24 rfl rfl
theorem dksX0_image_4 : cX0_image.data.toList.drop 95 = dktX0_image_4 := dk_seg dksX0_image_3 23 rfl rfl
theorem dksX0_image_5 : cX0_image.data.toList.drop 119 = dktX0_image_5 := dk_seg dksX0_image_4 24 rfl rfl
theorem dksX0_image_6 : cX0_image.data.toList.drop 143 = dktX0_image_6 := dk_seg dksX0_image_5 24 rfl rfl
theorem dksX0_image_7 : cX0_image.data.toList.drop 167 = dktX0_image_7 := dk_seg dksX0_image_6 24 rfl rfl
theorem dX0_image_0 : decode cX0_image 0 = .ok (.aload_n 0, 1) := dk_42 (dk_at dksX0_image_0 0 rfl rfl)
theorem dX0_image_1 : decode cX0_image 1 = .ok (.aload_n 0, 1) := dk_42 (dk_at dksX0_image_0 1 rfl rfl)
theorem dX0_image_2 : decode cX0_image 2 = .ok (.getfield 22, 3) := dk_180 0 22 (dk_at dksX0_image_0 2 rfl rfl)
theorem dX0_image_5 : decode cX0_image 5 = .ok (.invokevirtual 142, 3) := dk_182 0 142 (dk_at dksX0_image_0 5 rfl rfl)
theorem dX0_image_8 : decode cX0_image 8 = .ok (.putfield 82, 3) := dk_181 0 82 (dk_at dksX0_image_0 8 rfl rfl)
theorem dX0_image_11 : decode cX0_image 11 = .ok (.aload_n 0, 1) := dk_42 (dk_at dksX0_image_0 11 rfl rfl)
theorem dX0_image_12 : decode cX0_image 12 = .ok (.aload_n 0, 1) := dk_42 (dk_at dksX0_image_0 12 rfl rfl)
theorem dX0_image_13 : decode cX0_image 13 = .ok (.getfield 210, 3) := dk_180 0 210 (dk_at dksX0_image_0 13 rfl rfl)
theorem dX0_image_16 : decode cX0_image 16 = .ok (.putfield 403, 3) := dk_181 1 147 (dk_at dksX0_image_0 16 rfl rfl)
theorem dX0_image_19 : decode cX0_image 19 = .ok (.aload_n 0, 1) := dk_42 (dk_at dksX0_image_0 19 rfl rfl)
theorem dX0_image_20 : decode cX0_image 20 = .ok (.aload_n 0, 1) := dk_42 (dk_at dksX0_image_0 20 rfl rfl)
theorem dX0_image_21 : decode cX0_image 21 = .ok (.getfield 213, 3) := dk_180 0 213 (dk_at dksX0_image_0 21 rfl rfl)
theorem dX0_image_24 : decode cX0_image 24 = .ok (.putfield 406, 3) := dk_181 1 150 (dk_at dksX0_image_1 0 rfl rfl)
theorem dX0_image_27 : decode cX0_image 27 = .ok (.aload_n 0, 1) := dk_42 (dk_at dksX0_image_1 3 rfl rfl)
theorem dX0_image_28 : decode cX0_image 28 = .ok (.getfield 26, 3) := dk_180 0 26 (dk_at dksX0_image_1 4 rfl rfl)
theorem dX0_image_31 : decode cX0_image 31 = .ok (.iconst 0, 1) := dk_3 (dk_at dksX0_image_1 7 rfl rfl)
theorem dX0_image_32 : decode cX0_image 32 = .ok (.aload_n 0, 1) := dk_42 (dk_at dksX0_image_1 8 rfl rfl)
theorem dX0_image_33 : decode cX0_image 33 = .ok (.getfield 70, 3) := dk_180 0 70 (dk_at dksX0_image_1 9 rfl rfl)
theorem dX0_image_36 : decode cX0_image 36 = .ok (.iconst 0, 1) := dk_3 (dk_at dksX0_image_1 12 rfl rfl)
theorem dX0_image_37 : decode cX0_image 37 = .ok (.bipush 6, 2) := dk_16 6 (dk_at dksX0_image_1 13 rfl rfl)
theorem dX0_image_39 : decode cX0_image 39 = .ok (.invokestatic 314, 3) := dk_184 1 58 (dk_at dksX0_image_1 15 rfl rfl)
theorem dX0_image_42 : decode cX0_image 42 = .ok (.aload_n 0, 1) := dk_42 (dk_at dksX0_image_1 18 rfl rfl)
theorem dX0_image_43 : decode cX0_image 43 = .ok (.getfield 29, 3) := dk_180 0 29 (dk_at dksX0_image_1 19 rfl rfl)
theorem dX0_image_46 : decode cX0_image 46 = .ok (.iconst 0, 1) := dk_3 (dk_at dksX0_image_1 22 rfl rfl)
theorem dX0_image_47 : decode cX0_image 47 = .ok (.aload_n 0, 1) := dk_42 (dk_at dksX0_image_1 23 rfl rfl)
theorem dX0_image_48 : decode cX0_image 48 = .ok (.getfield 70, 3) := dk_180 0 70 (dk_at dksX0_image_2 0 rfl rfl)
theorem dX0_image_51 : decode cX0_image 51 = .ok (.bipush 6, 2) := dk_16 6 (dk_at dksX0_image_2 3 rfl rfl)
theorem dX0_image_53 : decode cX0_image 53 = .ok (.bipush 6, 2) := dk_16 6 (dk_at dksX0_image_2 5 rfl rfl)
theorem dX0_image_55 : decode cX0_image 55 = .ok (.invokestatic 314, 3) := dk_184 1 58 (dk_at dksX0_image_2 7 rfl rfl)
theorem dX0_image_58 : decode cX0_image 58 = .ok (.aload_n 0, 1) := dk_42 (dk_at dksX0_image_2 10 rfl rfl)
theorem dX0_image_59 : decode cX0_image 59 = .ok (.getfield 7, 3) := dk_180 0 7 (dk_at dksX0_image_2 11 rfl rfl)
theorem dX0_image_62 : decode cX0_image 62 = .ok (.iconst 0, 1) := dk_3 (dk_at dksX0_image_2 14 rfl rfl)
theorem dX0_image_63 : decode cX0_image 63 = .ok (.aload_n 0, 1) := dk_42 (dk_at dksX0_image_2 15 rfl rfl)
theorem dX0_image_64 : decode cX0_image 64 = .ok (.getfield 73, 3) := dk_180 0 73 (dk_at dksX0_image_2 16 rfl rfl)
theorem dX0_image_67 : decode cX0_image 67 = .ok (.iconst 0, 1) := dk_3 (dk_at dksX0_image_2 19 rfl rfl)
theorem dX0_image_68 : decode cX0_image 68 = .ok (.iconst 4, 1) := dk_7 (dk_at dksX0_image_2 20 rfl rfl)
theorem dX0_image_69 : decode cX0_image 69 = .ok (.invokestatic 314, 3) := dk_184 1 58 (dk_at dksX0_image_2 21 rfl rfl)
theorem dX0_image_72 : decode cX0_image 72 = .ok (.aload_n 0, 1) := dk_42 (dk_at dksX0_image_3 0 rfl rfl)
theorem dX0_image_73 : decode cX0_image 73 = .ok (.getfield 13, 3) := dk_180 0 13 (dk_at dksX0_image_3 1 rfl rfl)
theorem dX0_image_76 : decode cX0_image 76 = .ok (.iconst 0, 1) := dk_3 (dk_at dksX0_image_3 4 rfl rfl)
theorem dX0_image_77 : decode cX0_image 77 = .ok (.aload_n 0, 1) := dk_42 (dk_at dksX0_image_3 5 rfl rfl)
theorem dX0_image_78 : decode cX0_image 78 = .ok (.getfield 73, 3) := dk_180 0 73 (dk_at dksX0_image_3 6 rfl rfl)
theorem dX0_image_81 : decode cX0_image 81 = .ok (.iconst 4, 1) := dk_7 (dk_at dksX0_image_3 9 rfl rfl)
theorem dX0_image_82 : decode cX0_image 82 = .ok (.iconst 4, 1) := dk_7 (dk_at dksX0_image_3 10 rfl rfl)
theorem dX0_image_83 : decode cX0_image 83 = .ok (.invokestatic 314, 3) := dk_184 1 58 (dk_at dksX0_image_3 11 rfl rfl)
theorem dX0_image_86 : decode cX0_image 86 = .ok (.aload_n 0, 1) := dk_42 (dk_at dksX0_image_3 14 rfl rfl)
theorem dX0_image_87 : decode cX0_image 87 = .ok (.getfield 16, 3) := dk_180 0 16 (dk_at dksX0_image_3 15 rfl rfl)
theorem dX0_image_90 : decode cX0_image 90 = .ok (.iconst 0, 1) := dk_3 (dk_at dksX0_image_3 18 rfl rfl)
theorem dX0_image_91 : decode cX0_image 91 = .ok (.aload_n 0, 1) := dk_42 (dk_at dksX0_image_3 19 rfl rfl)
theorem dX0_image_92 : decode cX0_image 92 = .ok (.getfield 73, 3) := dk_180 0 73 (dk_at dksX0_image_3 20 rfl rfl)
theorem dX0_image_95 : decode cX0_image 95 = .ok (.bipush 8, 2) := dk_16 8 (dk_at dksX0_image_4 0 rfl rfl)
theorem dX0_image_97 : decode cX0_image 97 = .ok (.iconst 4, 1) := dk_7 (dk_at dksX0_image_4 2 rfl rfl)
theorem dX0_image_98 : decode cX0_image 98 = .ok (.invokestatic 314, 3) := dk_184 1 58 (dk_at dksX0_image_4 3 rfl rfl)
theorem dX0_image_101 : decode cX0_image 101 = .ok (.aload_n 0, 1) := dk_42 (dk_at dksX0_image_4 6 rfl rfl)
theorem dX0_image_102 : decode cX0_image 102 = .ok (.getfield 41, 3) := dk_180 0 41 (dk_at dksX0_image_4 7 rfl rfl)
theorem dX0_image_105 : decode cX0_image 105 = .ok (.iconst 0, 1) := dk_3 (dk_at dksX0_image_4 10 rfl rfl)
theorem dX0_image_106 : decode cX0_image 106 = .ok (.aload_n 0, 1) := dk_42 (dk_at dksX0_image_4 11 rfl rfl)
theorem dX0_image_107 : decode cX0_image 107 = .ok (.getfield 76, 3) := dk_180 0 76 (dk_at dksX0_image_4 12 rfl rfl)
theorem dX0_image_110 : decode cX0_image 110 = .ok (.iconst 0, 1) := dk_3 (dk_at dksX0_image_4 15 rfl rfl)
theorem dX0_image_111 : decode cX0_image 111 = .ok (.iconst 4, 1) := dk_7 (dk_at dksX0_image_4 16 rfl rfl)
theorem dX0_image_112 : decode cX0_image 112 = .ok (.invokestatic 314, 3) := dk_184 1 58 (dk_at dksX0_image_4 17 rfl rfl)
theorem dX0_image_115 : decode cX0_image 115 = .ok (.aload_n 0, 1) := dk_42 (dk_at dksX0_image_4 20 rfl rfl)
theorem dX0_image_116 : decode cX0_image 116 = .ok (.getfield 44, 3) := dk_180 0 44 (dk_at dksX0_image_4 21 rfl rfl)
theorem dX0_image_119 : decode cX0_image 119 = .ok (.iconst 0, 1) := dk_3 (dk_at dksX0_image_5 0 rfl rfl)
theorem dX0_image_120 : decode cX0_image 120 = .ok (.aload_n 0, 1) := dk_42 (dk_at dksX0_image_5 1 rfl rfl)
theorem dX0_image_121 : decode cX0_image 121 = .ok (.getfield 76, 3) := dk_180 0 76 (dk_at dksX0_image_5 2 rfl rfl)
theorem dX0_image_124 : decode cX0_image 124 = .ok (.iconst 4, 1) := dk_7 (dk_at dksX0_image_5 5 rfl rfl)
theorem dX0_image_125 : decode cX0_image 125 = .ok (.iconst 4, 1) := dk_7 (dk_at dksX0_image_5 6 rfl rfl)
theorem dX0_image_126 : decode cX0_image 126 = .ok (.invokestatic 314, 3) := dk_184 1 58 (dk_at dksX0_image_5 7 rfl rfl)
theorem dX0_image_129 : decode cX0_image 129 = .ok (.iconst 0, 1) := dk_3 (dk_at dksX0_image_5 10 rfl rfl)
theorem dX0_image_130 : decode cX0_image 130 = .ok (.istore_n 1, 1) := dk_60 (dk_at dksX0_image_5 11 rfl rfl)
theorem dX0_image_131 : decode cX0_image 131 = .ok (.iload_n 1, 1) := dk_27 (dk_at dksX0_image_5 12 rfl rfl)
theorem dX0_image_132 : decode cX0_image 132 = .ok (.aload_n 0, 1) := dk_42 (dk_at dksX0_image_5 13 rfl rfl)
theorem dX0_image_133 : decode cX0_image 133 = .ok (.getfield 82, 3) := dk_180 0 82 (dk_at dksX0_image_5 14 rfl rfl)
theorem dX0_image_136 : decode cX0_image 136 = .ok (.if_icmp .ge 37, 3) := dk_162 0 37 (dk_at dksX0_image_5 17 rfl rfl)
theorem dX0_image_139 : decode cX0_image 139 = .ok (.aload_n 0, 1) := dk_42 (dk_at dksX0_image_5 20 rfl rfl)
theorem dX0_image_140 : decode cX0_image 140 = .ok (.getfield 22, 3) := dk_180 0 22 (dk_at dksX0_image_5 21 rfl rfl)
theorem dX0_image_143 : decode cX0_image 143 = .ok (.iload_n 1, 1) := dk_27 (dk_at dksX0_image_6 0 rfl rfl)
theorem dX0_image_144 : decode cX0_image 144 = .ok (.invokevirtual 150, 3) := dk_182 0 150 (dk_at dksX0_image_6 1 rfl rfl)
theorem dX0_image_147 : decode cX0_image 147 = .ok (.checkcast 122, 3) := dk_192 0 122 (dk_at dksX0_image_6 4 rfl rfl)
theorem dX0_image_150 : decode cX0_image 150 = .ok (.getfield 177, 3) := dk_180 0 177 (dk_at dksX0_image_6 7 rfl rfl)
theorem dX0_image_153 : decode cX0_image 153 = .ok (.iconst 0, 1) := dk_3 (dk_at dksX0_image_6 10 rfl rfl)
theorem dX0_image_154 : decode cX0_image 154 = .ok (.aload_n 0, 1) := dk_42 (dk_at dksX0_image_6 11 rfl rfl)
theorem dX0_image_155 : decode cX0_image 155 = .ok (.getfield 79, 3) := dk_180 0 79 (dk_at dksX0_image_6 12 rfl rfl)
theorem dX0_image_158 : decode cX0_image 158 = .ok (.bipush 8, 2) := dk_16 8 (dk_at dksX0_image_6 15 rfl rfl)
theorem dX0_image_160 : decode cX0_image 160 = .ok (.iload_n 1, 1) := dk_27 (dk_at dksX0_image_6 17 rfl rfl)
theorem dX0_image_161 : decode cX0_image 161 = .ok (.imul, 1) := dk_104 (dk_at dksX0_image_6 18 rfl rfl)
theorem dX0_image_162 : decode cX0_image 162 = .ok (.bipush 8, 2) := dk_16 8 (dk_at dksX0_image_6 19 rfl rfl)
theorem dX0_image_164 : decode cX0_image 164 = .ok (.invokestatic 314, 3) := dk_184 1 58 (dk_at dksX0_image_6 21 rfl rfl)
theorem dX0_image_167 : decode cX0_image 167 = .ok (.iinc 1 1, 3) := dk_132 1 1 (dk_at dksX0_image_7 0 rfl rfl)
theorem dX0_image_170 : decode cX0_image 170 = .ok (.goto (-39), 3) := dk_167 255 217 (dk_at dksX0_image_7 3 rfl rfl)
theorem dX0_image_173 : decode cX0_image 173 = .ok (.aload_n 0, 1) := dk_42 (dk_at dksX0_image_7 6 rfl rfl)
theorem dX0_image_174 : decode cX0_image 174 = .ok (.getfield 82, 3) := dk_180 0 82 (dk_at dksX0_image_7 7 rfl rfl)
theorem dX0_image_177 : decode cX0_image 177 = .ok (.ireturn, 1) := dk_172 (dk_at dksX0_image_7 10 rfl rfl)
abbrev cX0_back : ByteArray := prog_1_method_71_code
def yX0_back : MethodName := ⟨RX0, "back", "()I"⟩
def dkwX0_back_7 : List UInt8 := [184, 1, 58, 132, 1, 1, 167, 255, 217, 42, 180, 0, 22, 182, 0, 142, 172]
abbrev dktX0_back_7 : List UInt8 := dkwX0_back_7 ++ []
def dkwX0_back_6 : List UInt8 := [180, 0, 79, 16, 8, 27, 104, 42, 180, 0, 22, 27, 182, 0, 150, 192, 0, 122, 180, 0, 177, 3, 16, 8]
abbrev dktX0_back_6 : List UInt8 := dkwX0_back_6 ++ dktX0_back_7
def dkwX0_back_5 : List UInt8 := [7, 42, 180, 0, 44, 3, 42, 180, 1, 147, 184, 1, 58, 3, 60, 27, 42, 180, 0, 82, 162, 0, 37, 42]
abbrev dktX0_back_5 : List UInt8 := dkwX0_back_5 ++ dktX0_back_6
def dkwX0_back_4 : List UInt8 := [184, 1, 58, 42, 180, 0, 76, 3, 42, 180, 0, 41, 3, 42, 180, 1, 147, 184, 1, 58, 42, 180, 0, 76]
abbrev dktX0_back_4 : List UInt8 := dkwX0_back_4 ++ dktX0_back_5
def dkwX0_back_3 : List UInt8 := [7, 42, 180, 0, 13, 3, 7, 184, 1, 58, 42, 180, 0, 73, 16, 8, 42, 180, 0, 16, 3, 7]
abbrev dktX0_back_3 : List UInt8 := dkwX0_back_3 ++ dktX0_back_4
def dkwX0_back_2 : List UInt8 := [180, 0, 82, 184, 1, 58, 42, 180, 0, 73, 3, 42, 180, 0, 7, 3, 7, 184, 1, 58, 42, 180, 0, 73]
abbrev dktX0_back_2 : List UInt8 := dkwX0_back_2 ++ dktX0_back_3
def dkwX0_back_1 : List UInt8 := [42, 180, 0, 26, 3, 42, 180, 0, 82, 184, 1, 58, 42, 180, 0, 70, 16, 6, 42, 180, 0, 29, 3, 42]
abbrev dktX0_back_1 : List UInt8 := dkwX0_back_1 ++ dktX0_back_2
def dkwX0_back_0 : List UInt8 := [42, 180, 0, 82, 2, 160, 0, 6, 16, 253, 172, 42, 42, 180, 1, 150, 181, 0, 213, 42, 180, 0, 70, 3]
abbrev dktX0_back_0 : List UInt8 := dkwX0_back_0 ++ dktX0_back_1
theorem dksX0_back_0 : cX0_back.data.toList.drop 0 = dktX0_back_0 := by decide +kernel
theorem dksX0_back_1 : cX0_back.data.toList.drop 24 = dktX0_back_1 := dk_seg dksX0_back_0 24 rfl rfl
theorem dksX0_back_2 : cX0_back.data.toList.drop 48 = dktX0_back_2 := dk_seg dksX0_back_1 24 rfl rfl
theorem dksX0_back_3 : cX0_back.data.toList.drop 72 = dktX0_back_3 := dk_seg dksX0_back_2 24 rfl rfl
theorem dksX0_back_4 : cX0_back.data.toList.drop 94 = dktX0_back_4 := dk_seg dksX0_back_3 22 rfl rfl
theorem dksX0_back_5 : cX0_back.data.toList.drop 118 = dktX0_back_5 := dk_seg dksX0_back_4 24 rfl rfl
theorem dksX0_back_6 : cX0_back.data.toList.drop 142 = dktX0_back_6 := dk_seg dksX0_back_5 24 rfl rfl
theorem dksX0_back_7 : cX0_back.data.toList.drop 166 = dktX0_back_7 := dk_seg dksX0_back_6 24 rfl rfl
theorem dX0_back_0 : decode cX0_back 0 = .ok (.aload_n 0, 1) := dk_42 (dk_at dksX0_back_0 0 rfl rfl)
theorem dX0_back_1 : decode cX0_back 1 = .ok (.getfield 82, 3) := dk_180 0 82 (dk_at dksX0_back_0 1 rfl rfl)
theorem dX0_back_4 : decode cX0_back 4 = .ok (.iconst (-1), 1) := dk_2 (dk_at dksX0_back_0 4 rfl rfl)
theorem dX0_back_5 : decode cX0_back 5 = .ok (.if_icmp .ne 6, 3) := dk_160 0 6 (dk_at dksX0_back_0 5 rfl rfl)
theorem dX0_back_8 : decode cX0_back 8 = .ok (.bipush (-3), 2) := dk_16 253 (dk_at dksX0_back_0 8 rfl rfl)
theorem dX0_back_10 : decode cX0_back 10 = .ok (.ireturn, 1) := dk_172 (dk_at dksX0_back_0 10 rfl rfl)
theorem dX0_back_11 : decode cX0_back 11 = .ok (.aload_n 0, 1) := dk_42 (dk_at dksX0_back_0 11 rfl rfl)
theorem dX0_back_12 : decode cX0_back 12 = .ok (.aload_n 0, 1) := dk_42 (dk_at dksX0_back_0 12 rfl rfl)
theorem dX0_back_13 : decode cX0_back 13 = .ok (.getfield 406, 3) := dk_180 1 150 (dk_at dksX0_back_0 13 rfl rfl)
theorem dX0_back_16 : decode cX0_back 16 = .ok (.putfield 213, 3) := dk_181 0 213 (dk_at dksX0_back_0 16 rfl rfl)
theorem dX0_back_19 : decode cX0_back 19 = .ok (.aload_n 0, 1) := dk_42 (dk_at dksX0_back_0 19 rfl rfl)
theorem dX0_back_20 : decode cX0_back 20 = .ok (.getfield 70, 3) := dk_180 0 70 (dk_at dksX0_back_0 20 rfl rfl)
theorem dX0_back_23 : decode cX0_back 23 = .ok (.iconst 0, 1) := dk_3 (dk_at dksX0_back_0 23 rfl rfl)
theorem dX0_back_24 : decode cX0_back 24 = .ok (.aload_n 0, 1) := dk_42 (dk_at dksX0_back_1 0 rfl rfl)
theorem dX0_back_25 : decode cX0_back 25 = .ok (.getfield 26, 3) := dk_180 0 26 (dk_at dksX0_back_1 1 rfl rfl)
theorem dX0_back_28 : decode cX0_back 28 = .ok (.iconst 0, 1) := dk_3 (dk_at dksX0_back_1 4 rfl rfl)
theorem dX0_back_29 : decode cX0_back 29 = .ok (.aload_n 0, 1) := dk_42 (dk_at dksX0_back_1 5 rfl rfl)
theorem dX0_back_30 : decode cX0_back 30 = .ok (.getfield 82, 3) := dk_180 0 82 (dk_at dksX0_back_1 6 rfl rfl)
theorem dX0_back_33 : decode cX0_back 33 = .ok (.invokestatic 314, 3) := dk_184 1 58 (dk_at dksX0_back_1 9 rfl rfl)
theorem dX0_back_36 : decode cX0_back 36 = .ok (.aload_n 0, 1) := dk_42 (dk_at dksX0_back_1 12 rfl rfl)
theorem dX0_back_37 : decode cX0_back 37 = .ok (.getfield 70, 3) := dk_180 0 70 (dk_at dksX0_back_1 13 rfl rfl)
theorem dX0_back_40 : decode cX0_back 40 = .ok (.bipush 6, 2) := dk_16 6 (dk_at dksX0_back_1 16 rfl rfl)
theorem dX0_back_42 : decode cX0_back 42 = .ok (.aload_n 0, 1) := dk_42 (dk_at dksX0_back_1 18 rfl rfl)
theorem dX0_back_43 : decode cX0_back 43 = .ok (.getfield 29, 3) := dk_180 0 29 (dk_at dksX0_back_1 19 rfl rfl)
theorem dX0_back_46 : decode cX0_back 46 = .ok (.iconst 0, 1) := dk_3 (dk_at dksX0_back_1 22 rfl rfl)
theorem dX0_back_47 : decode cX0_back 47 = .ok (.aload_n 0, 1) := dk_42 (dk_at dksX0_back_1 23 rfl rfl)
theorem dX0_back_48 : decode cX0_back 48 = .ok (.getfield 82, 3) := dk_180 0 82 (dk_at dksX0_back_2 0 rfl rfl)
theorem dX0_back_51 : decode cX0_back 51 = .ok (.invokestatic 314, 3) := dk_184 1 58 (dk_at dksX0_back_2 3 rfl rfl)
theorem dX0_back_54 : decode cX0_back 54 = .ok (.aload_n 0, 1) := dk_42 (dk_at dksX0_back_2 6 rfl rfl)
theorem dX0_back_55 : decode cX0_back 55 = .ok (.getfield 73, 3) := dk_180 0 73 (dk_at dksX0_back_2 7 rfl rfl)
theorem dX0_back_58 : decode cX0_back 58 = .ok (.iconst 0, 1) := dk_3 (dk_at dksX0_back_2 10 rfl rfl)
theorem dX0_back_59 : decode cX0_back 59 = .ok (.aload_n 0, 1) := dk_42 (dk_at dksX0_back_2 11 rfl rfl)
theorem dX0_back_60 : decode cX0_back 60 = .ok (.getfield 7, 3) := dk_180 0 7 (dk_at dksX0_back_2 12 rfl rfl)
theorem dX0_back_63 : decode cX0_back 63 = .ok (.iconst 0, 1) := dk_3 (dk_at dksX0_back_2 15 rfl rfl)
theorem dX0_back_64 : decode cX0_back 64 = .ok (.iconst 4, 1) := dk_7 (dk_at dksX0_back_2 16 rfl rfl)
theorem dX0_back_65 : decode cX0_back 65 = .ok (.invokestatic 314, 3) := dk_184 1 58 (dk_at dksX0_back_2 17 rfl rfl)
theorem dX0_back_68 : decode cX0_back 68 = .ok (.aload_n 0, 1) := dk_42 (dk_at dksX0_back_2 20 rfl rfl)
theorem dX0_back_69 : decode cX0_back 69 = .ok (.getfield 73, 3) := dk_180 0 73 (dk_at dksX0_back_2 21 rfl rfl)
theorem dX0_back_72 : decode cX0_back 72 = .ok (.iconst 4, 1) := dk_7 (dk_at dksX0_back_3 0 rfl rfl)
theorem dX0_back_73 : decode cX0_back 73 = .ok (.aload_n 0, 1) := dk_42 (dk_at dksX0_back_3 1 rfl rfl)
theorem dX0_back_74 : decode cX0_back 74 = .ok (.getfield 13, 3) := dk_180 0 13 (dk_at dksX0_back_3 2 rfl rfl)
theorem dX0_back_77 : decode cX0_back 77 = .ok (.iconst 0, 1) := dk_3 (dk_at dksX0_back_3 5 rfl rfl)
theorem dX0_back_78 : decode cX0_back 78 = .ok (.iconst 4, 1) := dk_7 (dk_at dksX0_back_3 6 rfl rfl)
theorem dX0_back_79 : decode cX0_back 79 = .ok (.invokestatic 314, 3) := dk_184 1 58 (dk_at dksX0_back_3 7 rfl rfl)
theorem dX0_back_82 : decode cX0_back 82 = .ok (.aload_n 0, 1) := dk_42 (dk_at dksX0_back_3 10 rfl rfl)
theorem dX0_back_83 : decode cX0_back 83 = .ok (.getfield 73, 3) := dk_180 0 73 (dk_at dksX0_back_3 11 rfl rfl)
theorem dX0_back_86 : decode cX0_back 86 = .ok (.bipush 8, 2) := dk_16 8 (dk_at dksX0_back_3 14 rfl rfl)
theorem dX0_back_88 : decode cX0_back 88 = .ok (.aload_n 0, 1) := dk_42 (dk_at dksX0_back_3 16 rfl rfl)
theorem dX0_back_89 : decode cX0_back 89 = .ok (.getfield 16, 3) := dk_180 0 16 (dk_at dksX0_back_3 17 rfl rfl)
theorem dX0_back_92 : decode cX0_back 92 = .ok (.iconst 0, 1) := dk_3 (dk_at dksX0_back_3 20 rfl rfl)
theorem dX0_back_93 : decode cX0_back 93 = .ok (.iconst 4, 1) := dk_7 (dk_at dksX0_back_3 21 rfl rfl)
theorem dX0_back_94 : decode cX0_back 94 = .ok (.invokestatic 314, 3) := dk_184 1 58 (dk_at dksX0_back_4 0 rfl rfl)
theorem dX0_back_97 : decode cX0_back 97 = .ok (.aload_n 0, 1) := dk_42 (dk_at dksX0_back_4 3 rfl rfl)
theorem dX0_back_98 : decode cX0_back 98 = .ok (.getfield 76, 3) := dk_180 0 76 (dk_at dksX0_back_4 4 rfl rfl)
theorem dX0_back_101 : decode cX0_back 101 = .ok (.iconst 0, 1) := dk_3 (dk_at dksX0_back_4 7 rfl rfl)
theorem dX0_back_102 : decode cX0_back 102 = .ok (.aload_n 0, 1) := dk_42 (dk_at dksX0_back_4 8 rfl rfl)
theorem dX0_back_103 : decode cX0_back 103 = .ok (.getfield 41, 3) := dk_180 0 41 (dk_at dksX0_back_4 9 rfl rfl)
theorem dX0_back_106 : decode cX0_back 106 = .ok (.iconst 0, 1) := dk_3 (dk_at dksX0_back_4 12 rfl rfl)
theorem dX0_back_107 : decode cX0_back 107 = .ok (.aload_n 0, 1) := dk_42 (dk_at dksX0_back_4 13 rfl rfl)
theorem dX0_back_108 : decode cX0_back 108 = .ok (.getfield 403, 3) := dk_180 1 147 (dk_at dksX0_back_4 14 rfl rfl)
theorem dX0_back_111 : decode cX0_back 111 = .ok (.invokestatic 314, 3) := dk_184 1 58 (dk_at dksX0_back_4 17 rfl rfl)
theorem dX0_back_114 : decode cX0_back 114 = .ok (.aload_n 0, 1) := dk_42 (dk_at dksX0_back_4 20 rfl rfl)
theorem dX0_back_115 : decode cX0_back 115 = .ok (.getfield 76, 3) := dk_180 0 76 (dk_at dksX0_back_4 21 rfl rfl)
theorem dX0_back_118 : decode cX0_back 118 = .ok (.iconst 4, 1) := dk_7 (dk_at dksX0_back_5 0 rfl rfl)
theorem dX0_back_119 : decode cX0_back 119 = .ok (.aload_n 0, 1) := dk_42 (dk_at dksX0_back_5 1 rfl rfl)
theorem dX0_back_120 : decode cX0_back 120 = .ok (.getfield 44, 3) := dk_180 0 44 (dk_at dksX0_back_5 2 rfl rfl)
theorem dX0_back_123 : decode cX0_back 123 = .ok (.iconst 0, 1) := dk_3 (dk_at dksX0_back_5 5 rfl rfl)
theorem dX0_back_124 : decode cX0_back 124 = .ok (.aload_n 0, 1) := dk_42 (dk_at dksX0_back_5 6 rfl rfl)
theorem dX0_back_125 : decode cX0_back 125 = .ok (.getfield 403, 3) := dk_180 1 147 (dk_at dksX0_back_5 7 rfl rfl)
theorem dX0_back_128 : decode cX0_back 128 = .ok (.invokestatic 314, 3) := dk_184 1 58 (dk_at dksX0_back_5 10 rfl rfl)
theorem dX0_back_131 : decode cX0_back 131 = .ok (.iconst 0, 1) := dk_3 (dk_at dksX0_back_5 13 rfl rfl)
theorem dX0_back_132 : decode cX0_back 132 = .ok (.istore_n 1, 1) := dk_60 (dk_at dksX0_back_5 14 rfl rfl)
theorem dX0_back_133 : decode cX0_back 133 = .ok (.iload_n 1, 1) := dk_27 (dk_at dksX0_back_5 15 rfl rfl)
theorem dX0_back_134 : decode cX0_back 134 = .ok (.aload_n 0, 1) := dk_42 (dk_at dksX0_back_5 16 rfl rfl)
theorem dX0_back_135 : decode cX0_back 135 = .ok (.getfield 82, 3) := dk_180 0 82 (dk_at dksX0_back_5 17 rfl rfl)
theorem dX0_back_138 : decode cX0_back 138 = .ok (.if_icmp .ge 37, 3) := dk_162 0 37 (dk_at dksX0_back_5 20 rfl rfl)
theorem dX0_back_141 : decode cX0_back 141 = .ok (.aload_n 0, 1) := dk_42 (dk_at dksX0_back_5 23 rfl rfl)
theorem dX0_back_142 : decode cX0_back 142 = .ok (.getfield 79, 3) := dk_180 0 79 (dk_at dksX0_back_6 0 rfl rfl)
theorem dX0_back_145 : decode cX0_back 145 = .ok (.bipush 8, 2) := dk_16 8 (dk_at dksX0_back_6 3 rfl rfl)
theorem dX0_back_147 : decode cX0_back 147 = .ok (.iload_n 1, 1) := dk_27 (dk_at dksX0_back_6 5 rfl rfl)
theorem dX0_back_148 : decode cX0_back 148 = .ok (.imul, 1) := dk_104 (dk_at dksX0_back_6 6 rfl rfl)
theorem dX0_back_149 : decode cX0_back 149 = .ok (.aload_n 0, 1) := dk_42 (dk_at dksX0_back_6 7 rfl rfl)
theorem dX0_back_150 : decode cX0_back 150 = .ok (.getfield 22, 3) := dk_180 0 22 (dk_at dksX0_back_6 8 rfl rfl)
theorem dX0_back_153 : decode cX0_back 153 = .ok (.iload_n 1, 1) := dk_27 (dk_at dksX0_back_6 11 rfl rfl)
theorem dX0_back_154 : decode cX0_back 154 = .ok (.invokevirtual 150, 3) := dk_182 0 150 (dk_at dksX0_back_6 12 rfl rfl)
theorem dX0_back_157 : decode cX0_back 157 = .ok (.checkcast 122, 3) := dk_192 0 122 (dk_at dksX0_back_6 15 rfl rfl)
theorem dX0_back_160 : decode cX0_back 160 = .ok (.getfield 177, 3) := dk_180 0 177 (dk_at dksX0_back_6 18 rfl rfl)
theorem dX0_back_163 : decode cX0_back 163 = .ok (.iconst 0, 1) := dk_3 (dk_at dksX0_back_6 21 rfl rfl)
theorem dX0_back_164 : decode cX0_back 164 = .ok (.bipush 8, 2) := dk_16 8 (dk_at dksX0_back_6 22 rfl rfl)
theorem dX0_back_166 : decode cX0_back 166 = .ok (.invokestatic 314, 3) := dk_184 1 58 (dk_at dksX0_back_7 0 rfl rfl)
theorem dX0_back_169 : decode cX0_back 169 = .ok (.iinc 1 1, 3) := dk_132 1 1 (dk_at dksX0_back_7 3 rfl rfl)
theorem dX0_back_172 : decode cX0_back 172 = .ok (.goto (-39), 3) := dk_167 255 217 (dk_at dksX0_back_7 6 rfl rfl)
theorem dX0_back_175 : decode cX0_back 175 = .ok (.aload_n 0, 1) := dk_42 (dk_at dksX0_back_7 9 rfl rfl)
theorem dX0_back_176 : decode cX0_back 176 = .ok (.getfield 22, 3) := dk_180 0 22 (dk_at dksX0_back_7 10 rfl rfl)
theorem dX0_back_179 : decode cX0_back 179 = .ok (.invokevirtual 142, 3) := dk_182 0 142 (dk_at dksX0_back_7 13 rfl rfl)
theorem dX0_back_182 : decode cX0_back 182 = .ok (.ireturn, 1) := dk_172 (dk_at dksX0_back_7 16 rfl rfl)
abbrev cX0_feed : ByteArray := prog_1_method_73_code
def yX0_feed : MethodName := ⟨RX0, "feed", "(JI)I"⟩
def dkwX0_feed_3 : List UInt8 := [167, 255, 220, 42, 180, 0, 216, 172]
abbrev dktX0_feed_3 : List UInt8 := dkwX0_feed_3 ++ []
def dkwX0_feed_2 : List UInt8 := [31, 16, 8, 21, 4, 104, 123, 136, 145, 84, 42, 89, 180, 0, 216, 4, 96, 181, 0, 216, 132, 4, 255]
abbrev dktX0_feed_2 : List UInt8 := dkwX0_feed_2 ++ dktX0_feed_3
def dkwX0_feed_1 : List UInt8 := [164, 0, 6, 16, 252, 172, 29, 4, 100, 54, 4, 21, 4, 155, 0, 37, 42, 180, 0, 91, 42, 180, 0, 216]
abbrev dktX0_feed_1 : List UInt8 := dkwX0_feed_1 ++ dktX0_feed_2
def dkwX0_feed_0 : List UInt8 := [29, 133, 10, 20, 0, 159, 184, 0, 112, 154, 0, 6, 16, 254, 172, 42, 180, 0, 216, 29, 96, 17, 0, 160]
abbrev dktX0_feed_0 : List UInt8 := dkwX0_feed_0 ++ dktX0_feed_1
theorem dksX0_feed_0 : cX0_feed.data.toList.drop 0 = dktX0_feed_0 := by decide +kernel
theorem dksX0_feed_1 : cX0_feed.data.toList.drop 24 = dktX0_feed_1 := dk_seg dksX0_feed_0 24 rfl rfl
theorem dksX0_feed_2 : cX0_feed.data.toList.drop 48 = dktX0_feed_2 := dk_seg dksX0_feed_1 24 rfl rfl
theorem dksX0_feed_3 : cX0_feed.data.toList.drop 71 = dktX0_feed_3 := dk_seg dksX0_feed_2 23 rfl rfl
theorem dX0_feed_0 : decode cX0_feed 0 = .ok (.iload_n 3, 1) := dk_29 (dk_at dksX0_feed_0 0 rfl rfl)
theorem dX0_feed_1 : decode cX0_feed 1 = .ok (.i2l, 1) := dk_133 (dk_at dksX0_feed_0 1 rfl rfl)
theorem dX0_feed_2 : decode cX0_feed 2 = .ok (.lconst 1, 1) := dk_10 (dk_at dksX0_feed_0 2 rfl rfl)
theorem dX0_feed_3 : decode cX0_feed 3 = .ok (.ldc2_w 159, 3) := dk_20 0 159 (dk_at dksX0_feed_0 3 rfl rfl)
theorem dX0_feed_6 : decode cX0_feed 6 = .ok (.invokestatic 112, 3) := dk_184 0 112 (dk_at dksX0_feed_0 6 rfl rfl)
theorem dX0_feed_9 : decode cX0_feed 9 = .ok (.ifCond .ne 6, 3) := dk_154 0 6 (dk_at dksX0_feed_0 9 rfl rfl)
theorem dX0_feed_12 : decode cX0_feed 12 = .ok (.bipush (-2), 2) := dk_16 254 (dk_at dksX0_feed_0 12 rfl rfl)
theorem dX0_feed_14 : decode cX0_feed 14 = .ok (.ireturn, 1) := dk_172 (dk_at dksX0_feed_0 14 rfl rfl)
theorem dX0_feed_15 : decode cX0_feed 15 = .ok (.aload_n 0, 1) := dk_42 (dk_at dksX0_feed_0 15 rfl rfl)
theorem dX0_feed_16 : decode cX0_feed 16 = .ok (.getfield 216, 3) := dk_180 0 216 (dk_at dksX0_feed_0 16 rfl rfl)
theorem dX0_feed_19 : decode cX0_feed 19 = .ok (.iload_n 3, 1) := dk_29 (dk_at dksX0_feed_0 19 rfl rfl)
theorem dX0_feed_20 : decode cX0_feed 20 = .ok (.iadd, 1) := dk_96 (dk_at dksX0_feed_0 20 rfl rfl)
theorem dX0_feed_21 : decode cX0_feed 21 = .ok (.sipush 160, 3) := dk_17 0 160 (dk_at dksX0_feed_0 21 rfl rfl)
theorem dX0_feed_24 : decode cX0_feed 24 = .ok (.if_icmp .le 6, 3) := dk_164 0 6 (dk_at dksX0_feed_1 0 rfl rfl)
theorem dX0_feed_27 : decode cX0_feed 27 = .ok (.bipush (-4), 2) := dk_16 252 (dk_at dksX0_feed_1 3 rfl rfl)
theorem dX0_feed_29 : decode cX0_feed 29 = .ok (.ireturn, 1) := dk_172 (dk_at dksX0_feed_1 5 rfl rfl)
theorem dX0_feed_30 : decode cX0_feed 30 = .ok (.iload_n 3, 1) := dk_29 (dk_at dksX0_feed_1 6 rfl rfl)
theorem dX0_feed_31 : decode cX0_feed 31 = .ok (.iconst 1, 1) := dk_4 (dk_at dksX0_feed_1 7 rfl rfl)
theorem dX0_feed_32 : decode cX0_feed 32 = .ok (.isub, 1) := dk_100 (dk_at dksX0_feed_1 8 rfl rfl)
theorem dX0_feed_33 : decode cX0_feed 33 = .ok (.istore 4, 2) := dk_54 4 (dk_at dksX0_feed_1 9 rfl rfl)
theorem dX0_feed_35 : decode cX0_feed 35 = .ok (.iload 4, 2) := dk_21 4 (dk_at dksX0_feed_1 11 rfl rfl)
theorem dX0_feed_37 : decode cX0_feed 37 = .ok (.ifCond .lt 37, 3) := dk_155 0 37 (dk_at dksX0_feed_1 13 rfl rfl)
theorem dX0_feed_40 : decode cX0_feed 40 = .ok (.aload_n 0, 1) := dk_42 (dk_at dksX0_feed_1 16 rfl rfl)
theorem dX0_feed_41 : decode cX0_feed 41 = .ok (.getfield 91, 3) := dk_180 0 91 (dk_at dksX0_feed_1 17 rfl rfl)
theorem dX0_feed_44 : decode cX0_feed 44 = .ok (.aload_n 0, 1) := dk_42 (dk_at dksX0_feed_1 20 rfl rfl)
theorem dX0_feed_45 : decode cX0_feed 45 = .ok (.getfield 216, 3) := dk_180 0 216 (dk_at dksX0_feed_1 21 rfl rfl)
theorem dX0_feed_48 : decode cX0_feed 48 = .ok (.lload_n 1, 1) := dk_31 (dk_at dksX0_feed_2 0 rfl rfl)
theorem dX0_feed_49 : decode cX0_feed 49 = .ok (.bipush 8, 2) := dk_16 8 (dk_at dksX0_feed_2 1 rfl rfl)
theorem dX0_feed_51 : decode cX0_feed 51 = .ok (.iload 4, 2) := dk_21 4 (dk_at dksX0_feed_2 3 rfl rfl)
theorem dX0_feed_53 : decode cX0_feed 53 = .ok (.imul, 1) := dk_104 (dk_at dksX0_feed_2 5 rfl rfl)
theorem dX0_feed_54 : decode cX0_feed 54 = .ok (.lshr, 1) := dk_123 (dk_at dksX0_feed_2 6 rfl rfl)
theorem dX0_feed_55 : decode cX0_feed 55 = .ok (.l2i, 1) := dk_136 (dk_at dksX0_feed_2 7 rfl rfl)
theorem dX0_feed_56 : decode cX0_feed 56 = .ok (.i2b, 1) := dk_145 (dk_at dksX0_feed_2 8 rfl rfl)
theorem dX0_feed_57 : decode cX0_feed 57 = .ok (.bastore, 1) := dk_84 (dk_at dksX0_feed_2 9 rfl rfl)
theorem dX0_feed_58 : decode cX0_feed 58 = .ok (.aload_n 0, 1) := dk_42 (dk_at dksX0_feed_2 10 rfl rfl)
theorem dX0_feed_59 : decode cX0_feed 59 = .ok (.dup, 1) := dk_89 (dk_at dksX0_feed_2 11 rfl rfl)
theorem dX0_feed_60 : decode cX0_feed 60 = .ok (.getfield 216, 3) := dk_180 0 216 (dk_at dksX0_feed_2 12 rfl rfl)
theorem dX0_feed_63 : decode cX0_feed 63 = .ok (.iconst 1, 1) := dk_4 (dk_at dksX0_feed_2 15 rfl rfl)
theorem dX0_feed_64 : decode cX0_feed 64 = .ok (.iadd, 1) := dk_96 (dk_at dksX0_feed_2 16 rfl rfl)
theorem dX0_feed_65 : decode cX0_feed 65 = .ok (.putfield 216, 3) := dk_181 0 216 (dk_at dksX0_feed_2 17 rfl rfl)
theorem dX0_feed_68 : decode cX0_feed 68 = .ok (.iinc 4 (-1), 3) := dk_132 4 255 (dk_at dksX0_feed_2 20 rfl rfl)
theorem dX0_feed_71 : decode cX0_feed 71 = .ok (.goto (-36), 3) := dk_167 255 220 (dk_at dksX0_feed_3 0 rfl rfl)
theorem dX0_feed_74 : decode cX0_feed 74 = .ok (.aload_n 0, 1) := dk_42 (dk_at dksX0_feed_3 3 rfl rfl)
theorem dX0_feed_75 : decode cX0_feed 75 = .ok (.getfield 216, 3) := dk_180 0 216 (dk_at dksX0_feed_3 4 rfl rfl)
theorem dX0_feed_78 : decode cX0_feed 78 = .ok (.ireturn, 1) := dk_172 (dk_at dksX0_feed_3 7 rfl rfl)
abbrev cX0_text : ByteArray := prog_1_method_74_code
def yX0_text : MethodName := ⟨RX0, "text", "()I"⟩
def dkwX0_text_3 : List UInt8 := [89, 180, 0, 107, 4, 96, 181, 0, 107, 42, 180, 0, 107, 4, 100, 172]
abbrev dktX0_text_3 : List UInt8 := dkwX0_text_3 ++ []
def dkwX0_text_2 : List UInt8 := [16, 156, 43, 180, 1, 173, 100, 61, 42, 3, 181, 0, 216, 28, 172, 78, 42, 3, 181, 0, 216, 45, 191, 42]
abbrev dktX0_text_2 : List UInt8 := dkwX0_text_2 ++ dktX0_text_3
def dkwX0_text_1 : List UInt8 := [42, 180, 0, 91, 42, 180, 0, 216, 183, 1, 164, 182, 1, 167, 83, 42, 3, 181, 0, 216, 167, 0, 27, 76]
abbrev dktX0_text_1 : List UInt8 := dkwX0_text_1 ++ dktX0_text_2
def dkwX0_text_0 : List UInt8 := [42, 180, 0, 107, 16, 6, 160, 0, 6, 16, 252, 172, 42, 180, 0, 87, 42, 180, 0, 107, 187, 1, 162, 89]
abbrev dktX0_text_0 : List UInt8 := dkwX0_text_0 ++ dktX0_text_1
theorem dksX0_text_0 : cX0_text.data.toList.drop 0 = dktX0_text_0 := by decide +kernel
theorem dksX0_text_1 : cX0_text.data.toList.drop 24 = dktX0_text_1 := dk_seg dksX0_text_0 24 rfl rfl
theorem dksX0_text_2 : cX0_text.data.toList.drop 48 = dktX0_text_2 := dk_seg dksX0_text_1 24 rfl rfl
theorem dksX0_text_3 : cX0_text.data.toList.drop 72 = dktX0_text_3 := dk_seg dksX0_text_2 24 rfl rfl
theorem dX0_text_0 : decode cX0_text 0 = .ok (.aload_n 0, 1) := dk_42 (dk_at dksX0_text_0 0 rfl rfl)
theorem dX0_text_1 : decode cX0_text 1 = .ok (.getfield 107, 3) := dk_180 0 107 (dk_at dksX0_text_0 1 rfl rfl)
theorem dX0_text_4 : decode cX0_text 4 = .ok (.bipush 6, 2) := dk_16 6 (dk_at dksX0_text_0 4 rfl rfl)
theorem dX0_text_6 : decode cX0_text 6 = .ok (.if_icmp .ne 6, 3) := dk_160 0 6 (dk_at dksX0_text_0 6 rfl rfl)
theorem dX0_text_9 : decode cX0_text 9 = .ok (.bipush (-4), 2) := dk_16 252 (dk_at dksX0_text_0 9 rfl rfl)
theorem dX0_text_11 : decode cX0_text 11 = .ok (.ireturn, 1) := dk_172 (dk_at dksX0_text_0 11 rfl rfl)
theorem dX0_text_12 : decode cX0_text 12 = .ok (.aload_n 0, 1) := dk_42 (dk_at dksX0_text_0 12 rfl rfl)
theorem dX0_text_13 : decode cX0_text 13 = .ok (.getfield 87, 3) := dk_180 0 87 (dk_at dksX0_text_0 13 rfl rfl)
theorem dX0_text_16 : decode cX0_text 16 = .ok (.aload_n 0, 1) := dk_42 (dk_at dksX0_text_0 16 rfl rfl)
theorem dX0_text_17 : decode cX0_text 17 = .ok (.getfield 107, 3) := dk_180 0 107 (dk_at dksX0_text_0 17 rfl rfl)
theorem dX0_text_20 : decode cX0_text 20 = .ok (.new 418, 3) := dk_187 1 162 (dk_at dksX0_text_0 20 rfl rfl)
theorem dX0_text_23 : decode cX0_text 23 = .ok (.dup, 1) := dk_89 (dk_at dksX0_text_0 23 rfl rfl)
theorem dX0_text_24 : decode cX0_text 24 = .ok (.aload_n 0, 1) := dk_42 (dk_at dksX0_text_1 0 rfl rfl)
theorem dX0_text_25 : decode cX0_text 25 = .ok (.getfield 91, 3) := dk_180 0 91 (dk_at dksX0_text_1 1 rfl rfl)
theorem dX0_text_28 : decode cX0_text 28 = .ok (.aload_n 0, 1) := dk_42 (dk_at dksX0_text_1 4 rfl rfl)
theorem dX0_text_29 : decode cX0_text 29 = .ok (.getfield 216, 3) := dk_180 0 216 (dk_at dksX0_text_1 5 rfl rfl)
theorem dX0_text_32 : decode cX0_text 32 = .ok (.invokespecial 420, 3) := dk_183 1 164 (dk_at dksX0_text_1 8 rfl rfl)
theorem dX0_text_35 : decode cX0_text 35 = .ok (.invokevirtual 423, 3) := dk_182 1 167 (dk_at dksX0_text_1 11 rfl rfl)
theorem dX0_text_38 : decode cX0_text 38 = .ok (.aastore, 1) := dk_83 (dk_at dksX0_text_1 14 rfl rfl)
theorem dX0_text_39 : decode cX0_text 39 = .ok (.aload_n 0, 1) := dk_42 (dk_at dksX0_text_1 15 rfl rfl)
theorem dX0_text_40 : decode cX0_text 40 = .ok (.iconst 0, 1) := dk_3 (dk_at dksX0_text_1 16 rfl rfl)
theorem dX0_text_41 : decode cX0_text 41 = .ok (.putfield 216, 3) := dk_181 0 216 (dk_at dksX0_text_1 17 rfl rfl)
theorem dX0_text_44 : decode cX0_text 44 = .ok (.goto 27, 3) := dk_167 0 27 (dk_at dksX0_text_1 20 rfl rfl)
theorem dX0_text_47 : decode cX0_text 47 = .ok (.astore_n 1, 1) := dk_76 (dk_at dksX0_text_1 23 rfl rfl)
theorem dX0_text_48 : decode cX0_text 48 = .ok (.bipush (-100), 2) := dk_16 156 (dk_at dksX0_text_2 0 rfl rfl)
theorem dX0_text_50 : decode cX0_text 50 = .ok (.aload_n 1, 1) := dk_43 (dk_at dksX0_text_2 2 rfl rfl)
theorem dX0_text_51 : decode cX0_text 51 = .ok (.getfield 429, 3) := dk_180 1 173 (dk_at dksX0_text_2 3 rfl rfl)
theorem dX0_text_54 : decode cX0_text 54 = .ok (.isub, 1) := dk_100 (dk_at dksX0_text_2 6 rfl rfl)
theorem dX0_text_55 : decode cX0_text 55 = .ok (.istore_n 2, 1) := dk_61 (dk_at dksX0_text_2 7 rfl rfl)
theorem dX0_text_56 : decode cX0_text 56 = .ok (.aload_n 0, 1) := dk_42 (dk_at dksX0_text_2 8 rfl rfl)
theorem dX0_text_57 : decode cX0_text 57 = .ok (.iconst 0, 1) := dk_3 (dk_at dksX0_text_2 9 rfl rfl)
theorem dX0_text_58 : decode cX0_text 58 = .ok (.putfield 216, 3) := dk_181 0 216 (dk_at dksX0_text_2 10 rfl rfl)
theorem dX0_text_61 : decode cX0_text 61 = .ok (.iload_n 2, 1) := dk_28 (dk_at dksX0_text_2 13 rfl rfl)
theorem dX0_text_62 : decode cX0_text 62 = .ok (.ireturn, 1) := dk_172 (dk_at dksX0_text_2 14 rfl rfl)
theorem dX0_text_63 : decode cX0_text 63 = .ok (.astore_n 3, 1) := dk_78 (dk_at dksX0_text_2 15 rfl rfl)
theorem dX0_text_64 : decode cX0_text 64 = .ok (.aload_n 0, 1) := dk_42 (dk_at dksX0_text_2 16 rfl rfl)
theorem dX0_text_65 : decode cX0_text 65 = .ok (.iconst 0, 1) := dk_3 (dk_at dksX0_text_2 17 rfl rfl)
theorem dX0_text_66 : decode cX0_text 66 = .ok (.putfield 216, 3) := dk_181 0 216 (dk_at dksX0_text_2 18 rfl rfl)
theorem dX0_text_69 : decode cX0_text 69 = .ok (.aload_n 3, 1) := dk_45 (dk_at dksX0_text_2 21 rfl rfl)
theorem dX0_text_70 : decode cX0_text 70 = .ok (.athrow, 1) := dk_191 (dk_at dksX0_text_2 22 rfl rfl)
theorem dX0_text_71 : decode cX0_text 71 = .ok (.aload_n 0, 1) := dk_42 (dk_at dksX0_text_2 23 rfl rfl)
theorem dX0_text_72 : decode cX0_text 72 = .ok (.dup, 1) := dk_89 (dk_at dksX0_text_3 0 rfl rfl)
theorem dX0_text_73 : decode cX0_text 73 = .ok (.getfield 107, 3) := dk_180 0 107 (dk_at dksX0_text_3 1 rfl rfl)
theorem dX0_text_76 : decode cX0_text 76 = .ok (.iconst 1, 1) := dk_4 (dk_at dksX0_text_3 4 rfl rfl)
theorem dX0_text_77 : decode cX0_text 77 = .ok (.iadd, 1) := dk_96 (dk_at dksX0_text_3 5 rfl rfl)
theorem dX0_text_78 : decode cX0_text 78 = .ok (.putfield 107, 3) := dk_181 0 107 (dk_at dksX0_text_3 6 rfl rfl)
theorem dX0_text_81 : decode cX0_text 81 = .ok (.aload_n 0, 1) := dk_42 (dk_at dksX0_text_3 9 rfl rfl)
theorem dX0_text_82 : decode cX0_text 82 = .ok (.getfield 107, 3) := dk_180 0 107 (dk_at dksX0_text_3 10 rfl rfl)
theorem dX0_text_85 : decode cX0_text 85 = .ok (.iconst 1, 1) := dk_4 (dk_at dksX0_text_3 13 rfl rfl)
theorem dX0_text_86 : decode cX0_text 86 = .ok (.isub, 1) := dk_100 (dk_at dksX0_text_3 14 rfl rfl)
theorem dX0_text_87 : decode cX0_text 87 = .ok (.ireturn, 1) := dk_172 (dk_at dksX0_text_3 15 rfl rfl)
abbrev cX0_force : ByteArray := prog_1_method_75_code
def yX0_force : MethodName := ⟨RX0, "force", "(I)I"⟩
def dkwX0_force_1 : List UInt8 := [42, 27, 181, 0, 213, 28, 172]
abbrev dktX0_force_1 : List UInt8 := dkwX0_force_1 ++ []
def dkwX0_force_0 : List UInt8 := [27, 133, 9, 42, 180, 0, 107, 133, 10, 101, 184, 0, 112, 154, 0, 6, 16, 254, 172, 42, 180, 0, 213, 61]
abbrev dktX0_force_0 : List UInt8 := dkwX0_force_0 ++ dktX0_force_1
theorem dksX0_force_0 : cX0_force.data.toList.drop 0 = dktX0_force_0 := by decide +kernel
theorem dksX0_force_1 : cX0_force.data.toList.drop 24 = dktX0_force_1 := dk_seg dksX0_force_0 24 rfl rfl
theorem dX0_force_0 : decode cX0_force 0 = .ok (.iload_n 1, 1) := dk_27 (dk_at dksX0_force_0 0 rfl rfl)
theorem dX0_force_1 : decode cX0_force 1 = .ok (.i2l, 1) := dk_133 (dk_at dksX0_force_0 1 rfl rfl)
theorem dX0_force_2 : decode cX0_force 2 = .ok (.lconst 0, 1) := dk_9 (dk_at dksX0_force_0 2 rfl rfl)
theorem dX0_force_3 : decode cX0_force 3 = .ok (.aload_n 0, 1) := dk_42 (dk_at dksX0_force_0 3 rfl rfl)
theorem dX0_force_4 : decode cX0_force 4 = .ok (.getfield 107, 3) := dk_180 0 107 (dk_at dksX0_force_0 4 rfl rfl)
theorem dX0_force_7 : decode cX0_force 7 = .ok (.i2l, 1) := dk_133 (dk_at dksX0_force_0 7 rfl rfl)
theorem dX0_force_8 : decode cX0_force 8 = .ok (.lconst 1, 1) := dk_10 (dk_at dksX0_force_0 8 rfl rfl)
theorem dX0_force_9 : decode cX0_force 9 = .ok (.lsub, 1) := dk_101 (dk_at dksX0_force_0 9 rfl rfl)
theorem dX0_force_10 : decode cX0_force 10 = .ok (.invokestatic 112, 3) := dk_184 0 112 (dk_at dksX0_force_0 10 rfl rfl)
theorem dX0_force_13 : decode cX0_force 13 = .ok (.ifCond .ne 6, 3) := dk_154 0 6 (dk_at dksX0_force_0 13 rfl rfl)
theorem dX0_force_16 : decode cX0_force 16 = .ok (.bipush (-2), 2) := dk_16 254 (dk_at dksX0_force_0 16 rfl rfl)
theorem dX0_force_18 : decode cX0_force 18 = .ok (.ireturn, 1) := dk_172 (dk_at dksX0_force_0 18 rfl rfl)
theorem dX0_force_19 : decode cX0_force 19 = .ok (.aload_n 0, 1) := dk_42 (dk_at dksX0_force_0 19 rfl rfl)
theorem dX0_force_20 : decode cX0_force 20 = .ok (.getfield 213, 3) := dk_180 0 213 (dk_at dksX0_force_0 20 rfl rfl)
theorem dX0_force_23 : decode cX0_force 23 = .ok (.istore_n 2, 1) := dk_61 (dk_at dksX0_force_0 23 rfl rfl)
theorem dX0_force_24 : decode cX0_force 24 = .ok (.aload_n 0, 1) := dk_42 (dk_at dksX0_force_1 0 rfl rfl)
theorem dX0_force_25 : decode cX0_force 25 = .ok (.iload_n 1, 1) := dk_27 (dk_at dksX0_force_1 1 rfl rfl)
theorem dX0_force_26 : decode cX0_force 26 = .ok (.putfield 213, 3) := dk_181 0 213 (dk_at dksX0_force_1 2 rfl rfl)
theorem dX0_force_29 : decode cX0_force 29 = .ok (.iload_n 2, 1) := dk_28 (dk_at dksX0_force_1 5 rfl rfl)
theorem dX0_force_30 : decode cX0_force 30 = .ok (.ireturn, 1) := dk_172 (dk_at dksX0_force_1 6 rfl rfl)
abbrev cX0_sheet : ByteArray := prog_1_method_79_code
def yX0_sheet : MethodName := ⟨RX0, "sheet", "(III)I"⟩
def dkwX0_sheet_3 : List UInt8 := [181, 1, 50, 42, 180, 0, 97, 27, 50, 180, 1, 52, 3, 184, 1, 181, 4, 172]
abbrev dktX0_sheet_3 : List UInt8 := dkwX0_sheet_3 ++ []
def dkwX0_sheet_2 : List UInt8 := [180, 0, 97, 27, 50, 28, 181, 1, 47, 42, 180, 0, 97, 27, 50, 28, 156, 0, 7, 3, 167, 0, 4, 29]
abbrev dktX0_sheet_2 : List UInt8 := dkwX0_sheet_2 ++ dktX0_sheet_3
def dkwX0_sheet_1 : List UInt8 := [155, 0, 12, 29, 16, 60, 164, 0, 6, 16, 254, 172, 28, 155, 0, 10, 29, 156, 0, 6, 16, 242, 172, 42]
abbrev dktX0_sheet_1 : List UInt8 := dkwX0_sheet_1 ++ dktX0_sheet_2
def dkwX0_sheet_0 : List UInt8 := [27, 184, 1, 44, 153, 0, 27, 28, 133, 20, 1, 179, 20, 0, 116, 184, 0, 112, 153, 0, 13, 28]
abbrev dktX0_sheet_0 : List UInt8 := dkwX0_sheet_0 ++ dktX0_sheet_1
theorem dksX0_sheet_0 : cX0_sheet.data.toList.drop 0 = dktX0_sheet_0 := by decide +kernel
theorem dksX0_sheet_1 : cX0_sheet.data.toList.drop 22 = dktX0_sheet_1 := dk_seg dksX0_sheet_0 22 rfl rfl
theorem dksX0_sheet_2 : cX0_sheet.data.toList.drop 46 = dktX0_sheet_2 := dk_seg dksX0_sheet_1 24 rfl rfl
theorem dksX0_sheet_3 : cX0_sheet.data.toList.drop 70 = dktX0_sheet_3 := dk_seg dksX0_sheet_2 24 rfl rfl
theorem dX0_sheet_0 : decode cX0_sheet 0 = .ok (.iload_n 1, 1) := dk_27 (dk_at dksX0_sheet_0 0 rfl rfl)
theorem dX0_sheet_1 : decode cX0_sheet 1 = .ok (.invokestatic 300, 3) := dk_184 1 44 (dk_at dksX0_sheet_0 1 rfl rfl)
theorem dX0_sheet_4 : decode cX0_sheet 4 = .ok (.ifCond .eq 27, 3) := dk_153 0 27 (dk_at dksX0_sheet_0 4 rfl rfl)
theorem dX0_sheet_7 : decode cX0_sheet 7 = .ok (.iload_n 2, 1) := dk_28 (dk_at dksX0_sheet_0 7 rfl rfl)
theorem dX0_sheet_8 : decode cX0_sheet 8 = .ok (.i2l, 1) := dk_133 (dk_at dksX0_sheet_0 8 rfl rfl)
theorem dX0_sheet_9 : decode cX0_sheet 9 = .ok (.ldc2_w 435, 3) := dk_20 1 179 (dk_at dksX0_sheet_0 9 rfl rfl)
theorem dX0_sheet_12 : decode cX0_sheet 12 = .ok (.ldc2_w 116, 3) := dk_20 0 116 (dk_at dksX0_sheet_0 12 rfl rfl)
theorem dX0_sheet_15 : decode cX0_sheet 15 = .ok (.invokestatic 112, 3) := dk_184 0 112 (dk_at dksX0_sheet_0 15 rfl rfl)
theorem dX0_sheet_18 : decode cX0_sheet 18 = .ok (.ifCond .eq 13, 3) := dk_153 0 13 (dk_at dksX0_sheet_0 18 rfl rfl)
theorem dX0_sheet_21 : decode cX0_sheet 21 = .ok (.iload_n 2, 1) := dk_28 (dk_at dksX0_sheet_0 21 rfl rfl)
theorem dX0_sheet_22 : decode cX0_sheet 22 = .ok (.ifCond .lt 12, 3) := dk_155 0 12 (dk_at dksX0_sheet_1 0 rfl rfl)
theorem dX0_sheet_25 : decode cX0_sheet 25 = .ok (.iload_n 3, 1) := dk_29 (dk_at dksX0_sheet_1 3 rfl rfl)
theorem dX0_sheet_26 : decode cX0_sheet 26 = .ok (.bipush 60, 2) := dk_16 60 (dk_at dksX0_sheet_1 4 rfl rfl)
theorem dX0_sheet_28 : decode cX0_sheet 28 = .ok (.if_icmp .le 6, 3) := dk_164 0 6 (dk_at dksX0_sheet_1 6 rfl rfl)
theorem dX0_sheet_31 : decode cX0_sheet 31 = .ok (.bipush (-2), 2) := dk_16 254 (dk_at dksX0_sheet_1 9 rfl rfl)
theorem dX0_sheet_33 : decode cX0_sheet 33 = .ok (.ireturn, 1) := dk_172 (dk_at dksX0_sheet_1 11 rfl rfl)
theorem dX0_sheet_34 : decode cX0_sheet 34 = .ok (.iload_n 2, 1) := dk_28 (dk_at dksX0_sheet_1 12 rfl rfl)
theorem dX0_sheet_35 : decode cX0_sheet 35 = .ok (.ifCond .lt 10, 3) := dk_155 0 10 (dk_at dksX0_sheet_1 13 rfl rfl)
theorem dX0_sheet_38 : decode cX0_sheet 38 = .ok (.iload_n 3, 1) := dk_29 (dk_at dksX0_sheet_1 16 rfl rfl)
theorem dX0_sheet_39 : decode cX0_sheet 39 = .ok (.ifCond .ge 6, 3) := dk_156 0 6 (dk_at dksX0_sheet_1 17 rfl rfl)
theorem dX0_sheet_42 : decode cX0_sheet 42 = .ok (.bipush (-14), 2) := dk_16 242 (dk_at dksX0_sheet_1 20 rfl rfl)
theorem dX0_sheet_44 : decode cX0_sheet 44 = .ok (.ireturn, 1) := dk_172 (dk_at dksX0_sheet_1 22 rfl rfl)
theorem dX0_sheet_45 : decode cX0_sheet 45 = .ok (.aload_n 0, 1) := dk_42 (dk_at dksX0_sheet_1 23 rfl rfl)
theorem dX0_sheet_46 : decode cX0_sheet 46 = .ok (.getfield 97, 3) := dk_180 0 97 (dk_at dksX0_sheet_2 0 rfl rfl)
theorem dX0_sheet_49 : decode cX0_sheet 49 = .ok (.iload_n 1, 1) := dk_27 (dk_at dksX0_sheet_2 3 rfl rfl)
theorem dX0_sheet_50 : decode cX0_sheet 50 = .ok (.aaload, 1) := dk_50 (dk_at dksX0_sheet_2 4 rfl rfl)
theorem dX0_sheet_51 : decode cX0_sheet 51 = .ok (.iload_n 2, 1) := dk_28 (dk_at dksX0_sheet_2 5 rfl rfl)
theorem dX0_sheet_52 : decode cX0_sheet 52 = .ok (.putfield 303, 3) := dk_181 1 47 (dk_at dksX0_sheet_2 6 rfl rfl)
theorem dX0_sheet_55 : decode cX0_sheet 55 = .ok (.aload_n 0, 1) := dk_42 (dk_at dksX0_sheet_2 9 rfl rfl)
theorem dX0_sheet_56 : decode cX0_sheet 56 = .ok (.getfield 97, 3) := dk_180 0 97 (dk_at dksX0_sheet_2 10 rfl rfl)
theorem dX0_sheet_59 : decode cX0_sheet 59 = .ok (.iload_n 1, 1) := dk_27 (dk_at dksX0_sheet_2 13 rfl rfl)
theorem dX0_sheet_60 : decode cX0_sheet 60 = .ok (.aaload, 1) := dk_50 (dk_at dksX0_sheet_2 14 rfl rfl)
theorem dX0_sheet_61 : decode cX0_sheet 61 = .ok (.iload_n 2, 1) := dk_28 (dk_at dksX0_sheet_2 15 rfl rfl)
theorem dX0_sheet_62 : decode cX0_sheet 62 = .ok (.ifCond .ge 7, 3) := dk_156 0 7 (dk_at dksX0_sheet_2 16 rfl rfl)
theorem dX0_sheet_65 : decode cX0_sheet 65 = .ok (.iconst 0, 1) := dk_3 (dk_at dksX0_sheet_2 19 rfl rfl)
theorem dX0_sheet_66 : decode cX0_sheet 66 = .ok (.goto 4, 3) := dk_167 0 4 (dk_at dksX0_sheet_2 20 rfl rfl)
theorem dX0_sheet_69 : decode cX0_sheet 69 = .ok (.iload_n 3, 1) := dk_29 (dk_at dksX0_sheet_2 23 rfl rfl)
theorem dX0_sheet_70 : decode cX0_sheet 70 = .ok (.putfield 306, 3) := dk_181 1 50 (dk_at dksX0_sheet_3 0 rfl rfl)
theorem dX0_sheet_73 : decode cX0_sheet 73 = .ok (.aload_n 0, 1) := dk_42 (dk_at dksX0_sheet_3 3 rfl rfl)
theorem dX0_sheet_74 : decode cX0_sheet 74 = .ok (.getfield 97, 3) := dk_180 0 97 (dk_at dksX0_sheet_3 4 rfl rfl)
theorem dX0_sheet_77 : decode cX0_sheet 77 = .ok (.iload_n 1, 1) := dk_27 (dk_at dksX0_sheet_3 7 rfl rfl)
theorem dX0_sheet_78 : decode cX0_sheet 78 = .ok (.aaload, 1) := dk_50 (dk_at dksX0_sheet_3 8 rfl rfl)
theorem dX0_sheet_79 : decode cX0_sheet 79 = .ok (.getfield 308, 3) := dk_180 1 52 (dk_at dksX0_sheet_3 9 rfl rfl)
theorem dX0_sheet_82 : decode cX0_sheet 82 = .ok (.iconst 0, 1) := dk_3 (dk_at dksX0_sheet_3 12 rfl rfl)
theorem dX0_sheet_83 : decode cX0_sheet 83 = .ok (.invokestatic 437, 3) := dk_184 1 181 (dk_at dksX0_sheet_3 13 rfl rfl)
theorem dX0_sheet_86 : decode cX0_sheet 86 = .ok (.iconst 1, 1) := dk_4 (dk_at dksX0_sheet_3 16 rfl rfl)
theorem dX0_sheet_87 : decode cX0_sheet 87 = .ok (.ireturn, 1) := dk_172 (dk_at dksX0_sheet_3 17 rfl rfl)
abbrev cX0_cell : ByteArray := prog_1_method_80_code
def yX0_cell : MethodName := ⟨RX0, "cell", "(III)I"⟩
def dkwX0_cell_2 : List UInt8 := [58, 4, 25, 4, 180, 1, 196, 172]
abbrev dktX0_cell_2 : List UInt8 := dkwX0_cell_2 ++ []
def dkwX0_cell_1 : List UInt8 := [180, 1, 50, 133, 10, 101, 184, 0, 112, 16, 244, 184, 1, 188, 25, 4, 28, 29, 182, 1, 192, 4, 172]
abbrev dktX0_cell_1 : List UInt8 := dkwX0_cell_1 ++ dktX0_cell_2
def dkwX0_cell_0 : List UInt8 := [27, 184, 1, 44, 154, 0, 6, 16, 254, 172, 42, 27, 182, 1, 184, 58, 4, 28, 133, 9, 25, 4]
abbrev dktX0_cell_0 : List UInt8 := dkwX0_cell_0 ++ dktX0_cell_1
theorem dksX0_cell_0 : cX0_cell.data.toList.drop 0 = dktX0_cell_0 := by decide +kernel
theorem dksX0_cell_1 : cX0_cell.data.toList.drop 22 = dktX0_cell_1 := dk_seg dksX0_cell_0 22 rfl rfl
theorem dksX0_cell_2 : cX0_cell.data.toList.drop 45 = dktX0_cell_2 := dk_seg dksX0_cell_1 23 rfl rfl
theorem dX0_cell_0 : decode cX0_cell 0 = .ok (.iload_n 1, 1) := dk_27 (dk_at dksX0_cell_0 0 rfl rfl)
theorem dX0_cell_1 : decode cX0_cell 1 = .ok (.invokestatic 300, 3) := dk_184 1 44 (dk_at dksX0_cell_0 1 rfl rfl)
theorem dX0_cell_4 : decode cX0_cell 4 = .ok (.ifCond .ne 6, 3) := dk_154 0 6 (dk_at dksX0_cell_0 4 rfl rfl)
theorem dX0_cell_7 : decode cX0_cell 7 = .ok (.bipush (-2), 2) := dk_16 254 (dk_at dksX0_cell_0 7 rfl rfl)
theorem dX0_cell_9 : decode cX0_cell 9 = .ok (.ireturn, 1) := dk_172 (dk_at dksX0_cell_0 9 rfl rfl)
theorem dX0_cell_10 : decode cX0_cell 10 = .ok (.aload_n 0, 1) := dk_42 (dk_at dksX0_cell_0 10 rfl rfl)
theorem dX0_cell_11 : decode cX0_cell 11 = .ok (.iload_n 1, 1) := dk_27 (dk_at dksX0_cell_0 11 rfl rfl)
theorem dX0_cell_12 : decode cX0_cell 12 = .ok (.invokevirtual 440, 3) := dk_182 1 184 (dk_at dksX0_cell_0 12 rfl rfl)
theorem dX0_cell_15 : decode cX0_cell 15 = .ok (.astore 4, 2) := dk_58 4 (dk_at dksX0_cell_0 15 rfl rfl)
theorem dX0_cell_17 : decode cX0_cell 17 = .ok (.iload_n 2, 1) := dk_28 (dk_at dksX0_cell_0 17 rfl rfl)
theorem dX0_cell_18 : decode cX0_cell 18 = .ok (.i2l, 1) := dk_133 (dk_at dksX0_cell_0 18 rfl rfl)
theorem dX0_cell_19 : decode cX0_cell 19 = .ok (.lconst 0, 1) := dk_9 (dk_at dksX0_cell_0 19 rfl rfl)
theorem dX0_cell_20 : decode cX0_cell 20 = .ok (.aload 4, 2) := dk_25 4 (dk_at dksX0_cell_0 20 rfl rfl)
theorem dX0_cell_22 : decode cX0_cell 22 = .ok (.getfield 306, 3) := dk_180 1 50 (dk_at dksX0_cell_1 0 rfl rfl)
theorem dX0_cell_25 : decode cX0_cell 25 = .ok (.i2l, 1) := dk_133 (dk_at dksX0_cell_1 3 rfl rfl)
theorem dX0_cell_26 : decode cX0_cell 26 = .ok (.lconst 1, 1) := dk_10 (dk_at dksX0_cell_1 4 rfl rfl)
theorem dX0_cell_27 : decode cX0_cell 27 = .ok (.lsub, 1) := dk_101 (dk_at dksX0_cell_1 5 rfl rfl)
theorem dX0_cell_28 : decode cX0_cell 28 = .ok (.invokestatic 112, 3) := dk_184 0 112 (dk_at dksX0_cell_1 6 rfl rfl)
theorem dX0_cell_31 : decode cX0_cell 31 = .ok (.bipush (-12), 2) := dk_16 244 (dk_at dksX0_cell_1 9 rfl rfl)
theorem dX0_cell_33 : decode cX0_cell 33 = .ok (.invokestatic 444, 3) := dk_184 1 188 (dk_at dksX0_cell_1 11 rfl rfl)
theorem dX0_cell_36 : decode cX0_cell 36 = .ok (.aload 4, 2) := dk_25 4 (dk_at dksX0_cell_1 14 rfl rfl)
theorem dX0_cell_38 : decode cX0_cell 38 = .ok (.iload_n 2, 1) := dk_28 (dk_at dksX0_cell_1 16 rfl rfl)
theorem dX0_cell_39 : decode cX0_cell 39 = .ok (.iload_n 3, 1) := dk_29 (dk_at dksX0_cell_1 17 rfl rfl)
theorem dX0_cell_40 : decode cX0_cell 40 = .ok (.invokevirtual 448, 3) := dk_182 1 192 (dk_at dksX0_cell_1 18 rfl rfl)
theorem dX0_cell_43 : decode cX0_cell 43 = .ok (.iconst 1, 1) := dk_4 (dk_at dksX0_cell_1 21 rfl rfl)
theorem dX0_cell_44 : decode cX0_cell 44 = .ok (.ireturn, 1) := dk_172 (dk_at dksX0_cell_1 22 rfl rfl)
theorem dX0_cell_45 : decode cX0_cell 45 = .ok (.astore 4, 2) := dk_58 4 (dk_at dksX0_cell_2 0 rfl rfl)
theorem dX0_cell_47 : decode cX0_cell 47 = .ok (.aload 4, 2) := dk_25 4 (dk_at dksX0_cell_2 2 rfl rfl)
theorem dX0_cell_49 : decode cX0_cell 49 = .ok (.getfield 452, 3) := dk_180 1 196 (dk_at dksX0_cell_2 4 rfl rfl)
theorem dX0_cell_52 : decode cX0_cell 52 = .ok (.ireturn, 1) := dk_172 (dk_at dksX0_cell_2 7 rfl rfl)
abbrev cX0_there : ByteArray := prog_1_method_77_code
def yX0_there : MethodName := ⟨RX0, "there", "(I)LOverTheHeads$Sheet;"⟩
def dkwX0_there_1 : List UInt8 := [180, 0, 97, 27, 50, 176]
abbrev dktX0_there_1 : List UInt8 := dkwX0_there_1 ++ []
def dkwX0_there_0 : List UInt8 := [42, 180, 0, 97, 27, 50, 180, 1, 47, 156, 0, 13, 187, 1, 175, 89, 16, 245, 183, 1, 177, 191, 42]
abbrev dktX0_there_0 : List UInt8 := dkwX0_there_0 ++ dktX0_there_1
theorem dksX0_there_0 : cX0_there.data.toList.drop 0 = dktX0_there_0 := by decide +kernel
theorem dksX0_there_1 : cX0_there.data.toList.drop 23 = dktX0_there_1 := dk_seg dksX0_there_0 23 rfl rfl
theorem dX0_there_0 : decode cX0_there 0 = .ok (.aload_n 0, 1) := dk_42 (dk_at dksX0_there_0 0 rfl rfl)
theorem dX0_there_1 : decode cX0_there 1 = .ok (.getfield 97, 3) := dk_180 0 97 (dk_at dksX0_there_0 1 rfl rfl)
theorem dX0_there_4 : decode cX0_there 4 = .ok (.iload_n 1, 1) := dk_27 (dk_at dksX0_there_0 4 rfl rfl)
theorem dX0_there_5 : decode cX0_there 5 = .ok (.aaload, 1) := dk_50 (dk_at dksX0_there_0 5 rfl rfl)
theorem dX0_there_6 : decode cX0_there 6 = .ok (.getfield 303, 3) := dk_180 1 47 (dk_at dksX0_there_0 6 rfl rfl)
theorem dX0_there_9 : decode cX0_there 9 = .ok (.ifCond .ge 13, 3) := dk_156 0 13 (dk_at dksX0_there_0 9 rfl rfl)
theorem dX0_there_12 : decode cX0_there 12 = .ok (.new 431, 3) := dk_187 1 175 (dk_at dksX0_there_0 12 rfl rfl)
theorem dX0_there_15 : decode cX0_there 15 = .ok (.dup, 1) := dk_89 (dk_at dksX0_there_0 15 rfl rfl)
theorem dX0_there_16 : decode cX0_there 16 = .ok (.bipush (-11), 2) := dk_16 245 (dk_at dksX0_there_0 16 rfl rfl)
theorem dX0_there_18 : decode cX0_there 18 = .ok (.invokespecial 433, 3) := dk_183 1 177 (dk_at dksX0_there_0 18 rfl rfl)
theorem dX0_there_21 : decode cX0_there 21 = .ok (.athrow, 1) := dk_191 (dk_at dksX0_there_0 21 rfl rfl)
theorem dX0_there_22 : decode cX0_there 22 = .ok (.aload_n 0, 1) := dk_42 (dk_at dksX0_there_0 22 rfl rfl)
theorem dX0_there_23 : decode cX0_there 23 = .ok (.getfield 97, 3) := dk_180 0 97 (dk_at dksX0_there_1 0 rfl rfl)
theorem dX0_there_26 : decode cX0_there 26 = .ok (.iload_n 1, 1) := dk_27 (dk_at dksX0_there_1 3 rfl rfl)
theorem dX0_there_27 : decode cX0_there 27 = .ok (.aaload, 1) := dk_50 (dk_at dksX0_there_1 4 rfl rfl)
theorem dX0_there_28 : decode cX0_there 28 = .ok (.areturn, 1) := dk_176 (dk_at dksX0_there_1 5 rfl rfl)
abbrev cX0_need : ByteArray := prog_1_method_78_code
def yX0_need : MethodName := ⟨RX0, "need", "(ZI)V"⟩
def dkwX0_need_0 : List UInt8 := [26, 154, 0, 12, 187, 1, 175, 89, 27, 183, 1, 177, 191, 177]
abbrev dktX0_need_0 : List UInt8 := dkwX0_need_0 ++ []
theorem dksX0_need_0 : cX0_need.data.toList.drop 0 = dktX0_need_0 := by decide +kernel
theorem dX0_need_0 : decode cX0_need 0 = .ok (.iload_n 0, 1) := dk_26 (dk_at dksX0_need_0 0 rfl rfl)
theorem dX0_need_1 : decode cX0_need 1 = .ok (.ifCond .ne 12, 3) := dk_154 0 12 (dk_at dksX0_need_0 1 rfl rfl)
theorem dX0_need_4 : decode cX0_need 4 = .ok (.new 431, 3) := dk_187 1 175 (dk_at dksX0_need_0 4 rfl rfl)
theorem dX0_need_7 : decode cX0_need 7 = .ok (.dup, 1) := dk_89 (dk_at dksX0_need_0 7 rfl rfl)
theorem dX0_need_8 : decode cX0_need 8 = .ok (.iload_n 1, 1) := dk_27 (dk_at dksX0_need_0 8 rfl rfl)
theorem dX0_need_9 : decode cX0_need 9 = .ok (.invokespecial 433, 3) := dk_183 1 177 (dk_at dksX0_need_0 9 rfl rfl)
theorem dX0_need_12 : decode cX0_need 12 = .ok (.athrow, 1) := dk_191 (dk_at dksX0_need_0 12 rfl rfl)
theorem dX0_need_13 : decode cX0_need 13 = .ok (.return_, 1) := dk_177 (dk_at dksX0_need_0 13 rfl rfl)
abbrev cX0_copy : ByteArray := prog_1_method_81_code
def yX0_copy : MethodName := ⟨RX0, "copy", "(IIIII)I"⟩
def dkwX0_copy_5 : List UInt8 := [184, 1, 58, 21, 5, 172, 58, 6, 25, 6, 180, 1, 196, 172]
abbrev dktX0_copy_5 : List UInt8 := dkwX0_copy_5 ++ []
def dkwX0_copy_4 : List UInt8 := [167, 0, 4, 3, 16, 244, 184, 1, 188, 25, 6, 180, 1, 52, 28, 25, 7, 180, 1, 52, 21, 4, 21, 5]
abbrev dktX0_copy_4 : List UInt8 := dkwX0_copy_4 ++ dktX0_copy_5
def dkwX0_copy_3 : List UInt8 := [180, 1, 50, 21, 5, 100, 163, 0, 20, 21, 4, 25, 7, 180, 1, 50, 21, 5, 100, 163, 0, 7, 4]
abbrev dktX0_copy_3 : List UInt8 := dkwX0_copy_3 ++ dktX0_copy_4
def dkwX0_copy_2 : List UInt8 := [3, 16, 243, 184, 1, 188, 21, 5, 155, 0, 41, 28, 155, 0, 37, 21, 4, 155, 0, 32, 28, 25, 6]
abbrev dktX0_copy_2 : List UInt8 := dkwX0_copy_2 ++ dktX0_copy_3
def dkwX0_copy_1 : List UInt8 := [42, 29, 182, 1, 184, 58, 7, 25, 6, 180, 1, 47, 25, 7, 180, 1, 47, 160, 0, 7, 4, 167, 0, 4]
abbrev dktX0_copy_1 : List UInt8 := dkwX0_copy_1 ++ dktX0_copy_2
def dkwX0_copy_0 : List UInt8 := [27, 184, 1, 44, 153, 0, 10, 29, 184, 1, 44, 154, 0, 6, 16, 254, 172, 42, 27, 182, 1, 184, 58, 6]
abbrev dktX0_copy_0 : List UInt8 := dkwX0_copy_0 ++ dktX0_copy_1
theorem dksX0_copy_0 : cX0_copy.data.toList.drop 0 = dktX0_copy_0 := by decide +kernel
theorem dksX0_copy_1 : cX0_copy.data.toList.drop 24 = dktX0_copy_1 := dk_seg dksX0_copy_0 24 rfl rfl
theorem dksX0_copy_2 : cX0_copy.data.toList.drop 48 = dktX0_copy_2 := dk_seg dksX0_copy_1 24 rfl rfl
theorem dksX0_copy_3 : cX0_copy.data.toList.drop 71 = dktX0_copy_3 := dk_seg dksX0_copy_2 23 rfl rfl
theorem dksX0_copy_4 : cX0_copy.data.toList.drop 94 = dktX0_copy_4 := dk_seg dksX0_copy_3 23 rfl rfl
theorem dksX0_copy_5 : cX0_copy.data.toList.drop 118 = dktX0_copy_5 := dk_seg dksX0_copy_4 24 rfl rfl
theorem dX0_copy_0 : decode cX0_copy 0 = .ok (.iload_n 1, 1) := dk_27 (dk_at dksX0_copy_0 0 rfl rfl)
theorem dX0_copy_1 : decode cX0_copy 1 = .ok (.invokestatic 300, 3) := dk_184 1 44 (dk_at dksX0_copy_0 1 rfl rfl)
theorem dX0_copy_4 : decode cX0_copy 4 = .ok (.ifCond .eq 10, 3) := dk_153 0 10 (dk_at dksX0_copy_0 4 rfl rfl)
theorem dX0_copy_7 : decode cX0_copy 7 = .ok (.iload_n 3, 1) := dk_29 (dk_at dksX0_copy_0 7 rfl rfl)
theorem dX0_copy_8 : decode cX0_copy 8 = .ok (.invokestatic 300, 3) := dk_184 1 44 (dk_at dksX0_copy_0 8 rfl rfl)
theorem dX0_copy_11 : decode cX0_copy 11 = .ok (.ifCond .ne 6, 3) := dk_154 0 6 (dk_at dksX0_copy_0 11 rfl rfl)
theorem dX0_copy_14 : decode cX0_copy 14 = .ok (.bipush (-2), 2) := dk_16 254 (dk_at dksX0_copy_0 14 rfl rfl)
theorem dX0_copy_16 : decode cX0_copy 16 = .ok (.ireturn, 1) := dk_172 (dk_at dksX0_copy_0 16 rfl rfl)
theorem dX0_copy_17 : decode cX0_copy 17 = .ok (.aload_n 0, 1) := dk_42 (dk_at dksX0_copy_0 17 rfl rfl)
theorem dX0_copy_18 : decode cX0_copy 18 = .ok (.iload_n 1, 1) := dk_27 (dk_at dksX0_copy_0 18 rfl rfl)
theorem dX0_copy_19 : decode cX0_copy 19 = .ok (.invokevirtual 440, 3) := dk_182 1 184 (dk_at dksX0_copy_0 19 rfl rfl)
theorem dX0_copy_22 : decode cX0_copy 22 = .ok (.astore 6, 2) := dk_58 6 (dk_at dksX0_copy_0 22 rfl rfl)
theorem dX0_copy_24 : decode cX0_copy 24 = .ok (.aload_n 0, 1) := dk_42 (dk_at dksX0_copy_1 0 rfl rfl)
theorem dX0_copy_25 : decode cX0_copy 25 = .ok (.iload_n 3, 1) := dk_29 (dk_at dksX0_copy_1 1 rfl rfl)
theorem dX0_copy_26 : decode cX0_copy 26 = .ok (.invokevirtual 440, 3) := dk_182 1 184 (dk_at dksX0_copy_1 2 rfl rfl)
theorem dX0_copy_29 : decode cX0_copy 29 = .ok (.astore 7, 2) := dk_58 7 (dk_at dksX0_copy_1 5 rfl rfl)
theorem dX0_copy_31 : decode cX0_copy 31 = .ok (.aload 6, 2) := dk_25 6 (dk_at dksX0_copy_1 7 rfl rfl)
theorem dX0_copy_33 : decode cX0_copy 33 = .ok (.getfield 303, 3) := dk_180 1 47 (dk_at dksX0_copy_1 9 rfl rfl)
theorem dX0_copy_36 : decode cX0_copy 36 = .ok (.aload 7, 2) := dk_25 7 (dk_at dksX0_copy_1 12 rfl rfl)
theorem dX0_copy_38 : decode cX0_copy 38 = .ok (.getfield 303, 3) := dk_180 1 47 (dk_at dksX0_copy_1 14 rfl rfl)
theorem dX0_copy_41 : decode cX0_copy 41 = .ok (.if_icmp .ne 7, 3) := dk_160 0 7 (dk_at dksX0_copy_1 17 rfl rfl)
theorem dX0_copy_44 : decode cX0_copy 44 = .ok (.iconst 1, 1) := dk_4 (dk_at dksX0_copy_1 20 rfl rfl)
theorem dX0_copy_45 : decode cX0_copy 45 = .ok (.goto 4, 3) := dk_167 0 4 (dk_at dksX0_copy_1 21 rfl rfl)
theorem dX0_copy_48 : decode cX0_copy 48 = .ok (.iconst 0, 1) := dk_3 (dk_at dksX0_copy_2 0 rfl rfl)
theorem dX0_copy_49 : decode cX0_copy 49 = .ok (.bipush (-13), 2) := dk_16 243 (dk_at dksX0_copy_2 1 rfl rfl)
theorem dX0_copy_51 : decode cX0_copy 51 = .ok (.invokestatic 444, 3) := dk_184 1 188 (dk_at dksX0_copy_2 3 rfl rfl)
theorem dX0_copy_54 : decode cX0_copy 54 = .ok (.iload 5, 2) := dk_21 5 (dk_at dksX0_copy_2 6 rfl rfl)
theorem dX0_copy_56 : decode cX0_copy 56 = .ok (.ifCond .lt 41, 3) := dk_155 0 41 (dk_at dksX0_copy_2 8 rfl rfl)
theorem dX0_copy_59 : decode cX0_copy 59 = .ok (.iload_n 2, 1) := dk_28 (dk_at dksX0_copy_2 11 rfl rfl)
theorem dX0_copy_60 : decode cX0_copy 60 = .ok (.ifCond .lt 37, 3) := dk_155 0 37 (dk_at dksX0_copy_2 12 rfl rfl)
theorem dX0_copy_63 : decode cX0_copy 63 = .ok (.iload 4, 2) := dk_21 4 (dk_at dksX0_copy_2 15 rfl rfl)
theorem dX0_copy_65 : decode cX0_copy 65 = .ok (.ifCond .lt 32, 3) := dk_155 0 32 (dk_at dksX0_copy_2 17 rfl rfl)
theorem dX0_copy_68 : decode cX0_copy 68 = .ok (.iload_n 2, 1) := dk_28 (dk_at dksX0_copy_2 20 rfl rfl)
theorem dX0_copy_69 : decode cX0_copy 69 = .ok (.aload 6, 2) := dk_25 6 (dk_at dksX0_copy_2 21 rfl rfl)
theorem dX0_copy_71 : decode cX0_copy 71 = .ok (.getfield 306, 3) := dk_180 1 50 (dk_at dksX0_copy_3 0 rfl rfl)
theorem dX0_copy_74 : decode cX0_copy 74 = .ok (.iload 5, 2) := dk_21 5 (dk_at dksX0_copy_3 3 rfl rfl)
theorem dX0_copy_76 : decode cX0_copy 76 = .ok (.isub, 1) := dk_100 (dk_at dksX0_copy_3 5 rfl rfl)
theorem dX0_copy_77 : decode cX0_copy 77 = .ok (.if_icmp .gt 20, 3) := dk_163 0 20 (dk_at dksX0_copy_3 6 rfl rfl)
theorem dX0_copy_80 : decode cX0_copy 80 = .ok (.iload 4, 2) := dk_21 4 (dk_at dksX0_copy_3 9 rfl rfl)
theorem dX0_copy_82 : decode cX0_copy 82 = .ok (.aload 7, 2) := dk_25 7 (dk_at dksX0_copy_3 11 rfl rfl)
theorem dX0_copy_84 : decode cX0_copy 84 = .ok (.getfield 306, 3) := dk_180 1 50 (dk_at dksX0_copy_3 13 rfl rfl)
theorem dX0_copy_87 : decode cX0_copy 87 = .ok (.iload 5, 2) := dk_21 5 (dk_at dksX0_copy_3 16 rfl rfl)
theorem dX0_copy_89 : decode cX0_copy 89 = .ok (.isub, 1) := dk_100 (dk_at dksX0_copy_3 18 rfl rfl)
theorem dX0_copy_90 : decode cX0_copy 90 = .ok (.if_icmp .gt 7, 3) := dk_163 0 7 (dk_at dksX0_copy_3 19 rfl rfl)
theorem dX0_copy_93 : decode cX0_copy 93 = .ok (.iconst 1, 1) := dk_4 (dk_at dksX0_copy_3 22 rfl rfl)
theorem dX0_copy_94 : decode cX0_copy 94 = .ok (.goto 4, 3) := dk_167 0 4 (dk_at dksX0_copy_4 0 rfl rfl)
theorem dX0_copy_97 : decode cX0_copy 97 = .ok (.iconst 0, 1) := dk_3 (dk_at dksX0_copy_4 3 rfl rfl)
theorem dX0_copy_98 : decode cX0_copy 98 = .ok (.bipush (-12), 2) := dk_16 244 (dk_at dksX0_copy_4 4 rfl rfl)
theorem dX0_copy_100 : decode cX0_copy 100 = .ok (.invokestatic 444, 3) := dk_184 1 188 (dk_at dksX0_copy_4 6 rfl rfl)
theorem dX0_copy_103 : decode cX0_copy 103 = .ok (.aload 6, 2) := dk_25 6 (dk_at dksX0_copy_4 9 rfl rfl)
theorem dX0_copy_105 : decode cX0_copy 105 = .ok (.getfield 308, 3) := dk_180 1 52 (dk_at dksX0_copy_4 11 rfl rfl)
theorem dX0_copy_108 : decode cX0_copy 108 = .ok (.iload_n 2, 1) := dk_28 (dk_at dksX0_copy_4 14 rfl rfl)
theorem dX0_copy_109 : decode cX0_copy 109 = .ok (.aload 7, 2) := dk_25 7 (dk_at dksX0_copy_4 15 rfl rfl)
theorem dX0_copy_111 : decode cX0_copy 111 = .ok (.getfield 308, 3) := dk_180 1 52 (dk_at dksX0_copy_4 17 rfl rfl)
theorem dX0_copy_114 : decode cX0_copy 114 = .ok (.iload 4, 2) := dk_21 4 (dk_at dksX0_copy_4 20 rfl rfl)
theorem dX0_copy_116 : decode cX0_copy 116 = .ok (.iload 5, 2) := dk_21 5 (dk_at dksX0_copy_4 22 rfl rfl)
theorem dX0_copy_118 : decode cX0_copy 118 = .ok (.invokestatic 314, 3) := dk_184 1 58 (dk_at dksX0_copy_5 0 rfl rfl)
theorem dX0_copy_121 : decode cX0_copy 121 = .ok (.iload 5, 2) := dk_21 5 (dk_at dksX0_copy_5 3 rfl rfl)
theorem dX0_copy_123 : decode cX0_copy 123 = .ok (.ireturn, 1) := dk_172 (dk_at dksX0_copy_5 5 rfl rfl)
theorem dX0_copy_124 : decode cX0_copy 124 = .ok (.astore 6, 2) := dk_58 6 (dk_at dksX0_copy_5 6 rfl rfl)
theorem dX0_copy_126 : decode cX0_copy 126 = .ok (.aload 6, 2) := dk_25 6 (dk_at dksX0_copy_5 8 rfl rfl)
theorem dX0_copy_128 : decode cX0_copy 128 = .ok (.getfield 452, 3) := dk_180 1 196 (dk_at dksX0_copy_5 10 rfl rfl)
theorem dX0_copy_131 : decode cX0_copy 131 = .ok (.ireturn, 1) := dk_172 (dk_at dksX0_copy_5 13 rfl rfl)
abbrev cX0_sitters : ByteArray := prog_1_method_82_code
def yX0_sitters : MethodName := ⟨RX0, "sitters", "(IIII)I"⟩
def dkwX0_sitters_5 : List UInt8 := [167, 255, 205, 21, 5, 172, 58, 6, 25, 6, 180, 1, 196, 172]
abbrev dktX0_sitters_5 : List UInt8 := dkwX0_sitters_5 ++ []
def dkwX0_sitters_4 : List UInt8 := [29, 21, 7, 25, 6, 180, 1, 52, 21, 7, 46, 182, 1, 199, 155, 0, 6, 132, 5, 1, 132, 7, 1]
abbrev dktX0_sitters_4 : List UInt8 := dkwX0_sitters_4 ++ dktX0_sitters_5
def dkwX0_sitters_3 : List UInt8 := [162, 0, 50, 21, 7, 25, 6, 180, 1, 50, 162, 0, 7, 4, 167, 0, 4, 3, 16, 244, 184, 1, 188, 42]
abbrev dktX0_sitters_3 : List UInt8 := dkwX0_sitters_3 ++ dktX0_sitters_4
def dkwX0_sitters_2 : List UInt8 := [180, 1, 47, 28, 160, 0, 7, 4, 167, 0, 4, 3, 16, 243, 184, 1, 188, 3, 54, 7, 21, 7, 21, 4]
abbrev dktX0_sitters_2 : List UInt8 := dkwX0_sitters_2 ++ dktX0_sitters_3
def dkwX0_sitters_1 : List UInt8 := [20, 0, 159, 184, 0, 112, 154, 0, 6, 16, 254, 172, 3, 54, 5, 42, 27, 182, 1, 184, 58, 6, 25, 6]
abbrev dktX0_sitters_1 : List UInt8 := dkwX0_sitters_1 ++ dktX0_sitters_2
def dkwX0_sitters_0 : List UInt8 := [27, 184, 1, 44, 153, 0, 28, 28, 133, 9, 20, 0, 116, 184, 0, 112, 153, 0, 16, 21, 4, 133, 9]
abbrev dktX0_sitters_0 : List UInt8 := dkwX0_sitters_0 ++ dktX0_sitters_1
theorem dksX0_sitters_0 : cX0_sitters.data.toList.drop 0 = dktX0_sitters_0 := by decide +kernel
theorem dksX0_sitters_1 : cX0_sitters.data.toList.drop 23 = dktX0_sitters_1 := dk_seg dksX0_sitters_0 23 rfl rfl
theorem dksX0_sitters_2 : cX0_sitters.data.toList.drop 47 = dktX0_sitters_2 := dk_seg dksX0_sitters_1 24 rfl rfl
theorem dksX0_sitters_3 : cX0_sitters.data.toList.drop 71 = dktX0_sitters_3 := dk_seg dksX0_sitters_2 24 rfl rfl
theorem dksX0_sitters_4 : cX0_sitters.data.toList.drop 95 = dktX0_sitters_4 := dk_seg dksX0_sitters_3 24 rfl rfl
theorem dksX0_sitters_5 : cX0_sitters.data.toList.drop 118 = dktX0_sitters_5 := dk_seg dksX0_sitters_4 23 rfl rfl
theorem dX0_sitters_0 : decode cX0_sitters 0 = .ok (.iload_n 1, 1) := dk_27 (dk_at dksX0_sitters_0 0 rfl rfl)
theorem dX0_sitters_1 : decode cX0_sitters 1 = .ok (.invokestatic 300, 3) := dk_184 1 44 (dk_at dksX0_sitters_0 1 rfl rfl)
theorem dX0_sitters_4 : decode cX0_sitters 4 = .ok (.ifCond .eq 28, 3) := dk_153 0 28 (dk_at dksX0_sitters_0 4 rfl rfl)
theorem dX0_sitters_7 : decode cX0_sitters 7 = .ok (.iload_n 2, 1) := dk_28 (dk_at dksX0_sitters_0 7 rfl rfl)
theorem dX0_sitters_8 : decode cX0_sitters 8 = .ok (.i2l, 1) := dk_133 (dk_at dksX0_sitters_0 8 rfl rfl)
theorem dX0_sitters_9 : decode cX0_sitters 9 = .ok (.lconst 0, 1) := dk_9 (dk_at dksX0_sitters_0 9 rfl rfl)
theorem dX0_sitters_10 : decode cX0_sitters 10 = .ok (.ldc2_w 116, 3) := dk_20 0 116 (dk_at dksX0_sitters_0 10 rfl rfl)
theorem dX0_sitters_13 : decode cX0_sitters 13 = .ok (.invokestatic 112, 3) := dk_184 0 112 (dk_at dksX0_sitters_0 13 rfl rfl)
theorem dX0_sitters_16 : decode cX0_sitters 16 = .ok (.ifCond .eq 16, 3) := dk_153 0 16 (dk_at dksX0_sitters_0 16 rfl rfl)
theorem dX0_sitters_19 : decode cX0_sitters 19 = .ok (.iload 4, 2) := dk_21 4 (dk_at dksX0_sitters_0 19 rfl rfl)
theorem dX0_sitters_21 : decode cX0_sitters 21 = .ok (.i2l, 1) := dk_133 (dk_at dksX0_sitters_0 21 rfl rfl)
theorem dX0_sitters_22 : decode cX0_sitters 22 = .ok (.lconst 0, 1) := dk_9 (dk_at dksX0_sitters_0 22 rfl rfl)
theorem dX0_sitters_23 : decode cX0_sitters 23 = .ok (.ldc2_w 159, 3) := dk_20 0 159 (dk_at dksX0_sitters_1 0 rfl rfl)
theorem dX0_sitters_26 : decode cX0_sitters 26 = .ok (.invokestatic 112, 3) := dk_184 0 112 (dk_at dksX0_sitters_1 3 rfl rfl)
theorem dX0_sitters_29 : decode cX0_sitters 29 = .ok (.ifCond .ne 6, 3) := dk_154 0 6 (dk_at dksX0_sitters_1 6 rfl rfl)
theorem dX0_sitters_32 : decode cX0_sitters 32 = .ok (.bipush (-2), 2) := dk_16 254 (dk_at dksX0_sitters_1 9 rfl rfl)
theorem dX0_sitters_34 : decode cX0_sitters 34 = .ok (.ireturn, 1) := dk_172 (dk_at dksX0_sitters_1 11 rfl rfl)
theorem dX0_sitters_35 : decode cX0_sitters 35 = .ok (.iconst 0, 1) := dk_3 (dk_at dksX0_sitters_1 12 rfl rfl)
theorem dX0_sitters_36 : decode cX0_sitters 36 = .ok (.istore 5, 2) := dk_54 5 (dk_at dksX0_sitters_1 13 rfl rfl)
theorem dX0_sitters_38 : decode cX0_sitters 38 = .ok (.aload_n 0, 1) := dk_42 (dk_at dksX0_sitters_1 15 rfl rfl)
theorem dX0_sitters_39 : decode cX0_sitters 39 = .ok (.iload_n 1, 1) := dk_27 (dk_at dksX0_sitters_1 16 rfl rfl)
theorem dX0_sitters_40 : decode cX0_sitters 40 = .ok (.invokevirtual 440, 3) := dk_182 1 184 (dk_at dksX0_sitters_1 17 rfl rfl)
theorem dX0_sitters_43 : decode cX0_sitters 43 = .ok (.astore 6, 2) := dk_58 6 (dk_at dksX0_sitters_1 20 rfl rfl)
theorem dX0_sitters_45 : decode cX0_sitters 45 = .ok (.aload 6, 2) := dk_25 6 (dk_at dksX0_sitters_1 22 rfl rfl)
theorem dX0_sitters_47 : decode cX0_sitters 47 = .ok (.getfield 303, 3) := dk_180 1 47 (dk_at dksX0_sitters_2 0 rfl rfl)
theorem dX0_sitters_50 : decode cX0_sitters 50 = .ok (.iload_n 2, 1) := dk_28 (dk_at dksX0_sitters_2 3 rfl rfl)
theorem dX0_sitters_51 : decode cX0_sitters 51 = .ok (.if_icmp .ne 7, 3) := dk_160 0 7 (dk_at dksX0_sitters_2 4 rfl rfl)
theorem dX0_sitters_54 : decode cX0_sitters 54 = .ok (.iconst 1, 1) := dk_4 (dk_at dksX0_sitters_2 7 rfl rfl)
theorem dX0_sitters_55 : decode cX0_sitters 55 = .ok (.goto 4, 3) := dk_167 0 4 (dk_at dksX0_sitters_2 8 rfl rfl)
theorem dX0_sitters_58 : decode cX0_sitters 58 = .ok (.iconst 0, 1) := dk_3 (dk_at dksX0_sitters_2 11 rfl rfl)
theorem dX0_sitters_59 : decode cX0_sitters 59 = .ok (.bipush (-13), 2) := dk_16 243 (dk_at dksX0_sitters_2 12 rfl rfl)
theorem dX0_sitters_61 : decode cX0_sitters 61 = .ok (.invokestatic 444, 3) := dk_184 1 188 (dk_at dksX0_sitters_2 14 rfl rfl)
theorem dX0_sitters_64 : decode cX0_sitters 64 = .ok (.iconst 0, 1) := dk_3 (dk_at dksX0_sitters_2 17 rfl rfl)
theorem dX0_sitters_65 : decode cX0_sitters 65 = .ok (.istore 7, 2) := dk_54 7 (dk_at dksX0_sitters_2 18 rfl rfl)
theorem dX0_sitters_67 : decode cX0_sitters 67 = .ok (.iload 7, 2) := dk_21 7 (dk_at dksX0_sitters_2 20 rfl rfl)
theorem dX0_sitters_69 : decode cX0_sitters 69 = .ok (.iload 4, 2) := dk_21 4 (dk_at dksX0_sitters_2 22 rfl rfl)
theorem dX0_sitters_71 : decode cX0_sitters 71 = .ok (.if_icmp .ge 50, 3) := dk_162 0 50 (dk_at dksX0_sitters_3 0 rfl rfl)
theorem dX0_sitters_74 : decode cX0_sitters 74 = .ok (.iload 7, 2) := dk_21 7 (dk_at dksX0_sitters_3 3 rfl rfl)
theorem dX0_sitters_76 : decode cX0_sitters 76 = .ok (.aload 6, 2) := dk_25 6 (dk_at dksX0_sitters_3 5 rfl rfl)
theorem dX0_sitters_78 : decode cX0_sitters 78 = .ok (.getfield 306, 3) := dk_180 1 50 (dk_at dksX0_sitters_3 7 rfl rfl)
theorem dX0_sitters_81 : decode cX0_sitters 81 = .ok (.if_icmp .ge 7, 3) := dk_162 0 7 (dk_at dksX0_sitters_3 10 rfl rfl)
theorem dX0_sitters_84 : decode cX0_sitters 84 = .ok (.iconst 1, 1) := dk_4 (dk_at dksX0_sitters_3 13 rfl rfl)
theorem dX0_sitters_85 : decode cX0_sitters 85 = .ok (.goto 4, 3) := dk_167 0 4 (dk_at dksX0_sitters_3 14 rfl rfl)
theorem dX0_sitters_88 : decode cX0_sitters 88 = .ok (.iconst 0, 1) := dk_3 (dk_at dksX0_sitters_3 17 rfl rfl)
theorem dX0_sitters_89 : decode cX0_sitters 89 = .ok (.bipush (-12), 2) := dk_16 244 (dk_at dksX0_sitters_3 18 rfl rfl)
theorem dX0_sitters_91 : decode cX0_sitters 91 = .ok (.invokestatic 444, 3) := dk_184 1 188 (dk_at dksX0_sitters_3 20 rfl rfl)
theorem dX0_sitters_94 : decode cX0_sitters 94 = .ok (.aload_n 0, 1) := dk_42 (dk_at dksX0_sitters_3 23 rfl rfl)
theorem dX0_sitters_95 : decode cX0_sitters 95 = .ok (.iload_n 3, 1) := dk_29 (dk_at dksX0_sitters_4 0 rfl rfl)
theorem dX0_sitters_96 : decode cX0_sitters 96 = .ok (.iload 7, 2) := dk_21 7 (dk_at dksX0_sitters_4 1 rfl rfl)
theorem dX0_sitters_98 : decode cX0_sitters 98 = .ok (.aload 6, 2) := dk_25 6 (dk_at dksX0_sitters_4 3 rfl rfl)
theorem dX0_sitters_100 : decode cX0_sitters 100 = .ok (.getfield 308, 3) := dk_180 1 52 (dk_at dksX0_sitters_4 5 rfl rfl)
theorem dX0_sitters_103 : decode cX0_sitters 103 = .ok (.iload 7, 2) := dk_21 7 (dk_at dksX0_sitters_4 8 rfl rfl)
theorem dX0_sitters_105 : decode cX0_sitters 105 = .ok (.iaload, 1) := dk_46 (dk_at dksX0_sitters_4 10 rfl rfl)
theorem dX0_sitters_106 : decode cX0_sitters 106 = .ok (.invokevirtual 455, 3) := dk_182 1 199 (dk_at dksX0_sitters_4 11 rfl rfl)
theorem dX0_sitters_109 : decode cX0_sitters 109 = .ok (.ifCond .lt 6, 3) := dk_155 0 6 (dk_at dksX0_sitters_4 14 rfl rfl)
theorem dX0_sitters_112 : decode cX0_sitters 112 = .ok (.iinc 5 1, 3) := dk_132 5 1 (dk_at dksX0_sitters_4 17 rfl rfl)
theorem dX0_sitters_115 : decode cX0_sitters 115 = .ok (.iinc 7 1, 3) := dk_132 7 1 (dk_at dksX0_sitters_4 20 rfl rfl)
theorem dX0_sitters_118 : decode cX0_sitters 118 = .ok (.goto (-51), 3) := dk_167 255 205 (dk_at dksX0_sitters_5 0 rfl rfl)
theorem dX0_sitters_121 : decode cX0_sitters 121 = .ok (.iload 5, 2) := dk_21 5 (dk_at dksX0_sitters_5 3 rfl rfl)
theorem dX0_sitters_123 : decode cX0_sitters 123 = .ok (.ireturn, 1) := dk_172 (dk_at dksX0_sitters_5 5 rfl rfl)
theorem dX0_sitters_124 : decode cX0_sitters 124 = .ok (.astore 6, 2) := dk_58 6 (dk_at dksX0_sitters_5 6 rfl rfl)
theorem dX0_sitters_126 : decode cX0_sitters 126 = .ok (.aload 6, 2) := dk_25 6 (dk_at dksX0_sitters_5 8 rfl rfl)
theorem dX0_sitters_128 : decode cX0_sitters 128 = .ok (.getfield 452, 3) := dk_180 1 196 (dk_at dksX0_sitters_5 10 rfl rfl)
theorem dX0_sitters_131 : decode cX0_sitters 131 = .ok (.ireturn, 1) := dk_172 (dk_at dksX0_sitters_5 13 rfl rfl)
abbrev cX0_taken : ByteArray := prog_1_method_83_code
def yX0_taken : MethodName := ⟨RX0, "taken", "(II)I"⟩
def dkwX0_taken_5 : List UInt8 := [184, 1, 188, 25, 4, 180, 0, 228, 172, 78, 45, 180, 1, 196, 172]
abbrev dktX0_taken_5 : List UInt8 := dkwX0_taken_5 ++ []
def dkwX0_taken_4 : List UInt8 := [16, 6, 160, 0, 8, 45, 182, 1, 218, 172, 45, 182, 1, 220, 58, 4, 25, 4, 28, 184, 1, 224, 16, 243]
abbrev dktX0_taken_4 : List UInt8 := dkwX0_taken_4 ++ dktX0_taken_5
def dkwX0_taken_3 : List UInt8 := [145, 184, 1, 209, 167, 0, 14, 42, 180, 0, 22, 27, 16, 6, 100, 182, 0, 150, 183, 1, 215, 78, 28]
abbrev dktX0_taken_3 : List UInt8 := dkwX0_taken_3 ++ dktX0_taken_4
def dkwX0_taken_2 : List UInt8 := [182, 0, 146, 16, 245, 184, 1, 188, 187, 1, 207, 89, 27, 16, 6, 162, 0, 16, 42, 180, 0, 35, 27, 46]
abbrev dktX0_taken_2 : List UInt8 := dkwX0_taken_2 ++ dktX0_taken_3
def dkwX0_taken_1 : List UInt8 := [16, 244, 184, 1, 188, 27, 16, 6, 162, 0, 11, 42, 27, 182, 0, 253, 167, 0, 11, 42, 27, 16, 6, 100]
abbrev dktX0_taken_1 : List UInt8 := dkwX0_taken_1 ++ dktX0_taken_2
def dkwX0_taken_0 : List UInt8 := [28, 133, 9, 20, 1, 203, 184, 0, 112, 154, 0, 6, 16, 254, 172, 27, 133, 9, 20, 1, 205, 184, 0, 112]
abbrev dktX0_taken_0 : List UInt8 := dkwX0_taken_0 ++ dktX0_taken_1
theorem dksX0_taken_0 : cX0_taken.data.toList.drop 0 = dktX0_taken_0 := by decide +kernel
theorem dksX0_taken_1 : cX0_taken.data.toList.drop 24 = dktX0_taken_1 := dk_seg dksX0_taken_0 24 rfl rfl
theorem dksX0_taken_2 : cX0_taken.data.toList.drop 48 = dktX0_taken_2 := dk_seg dksX0_taken_1 24 rfl rfl
theorem dksX0_taken_3 : cX0_taken.data.toList.drop 72 = dktX0_taken_3 := dk_seg dksX0_taken_2 24 rfl rfl
theorem dksX0_taken_4 : cX0_taken.data.toList.drop 95 = dktX0_taken_4 := dk_seg dksX0_taken_3 23 rfl rfl
theorem dksX0_taken_5 : cX0_taken.data.toList.drop 119 = dktX0_taken_5 := dk_seg dksX0_taken_4 24 rfl rfl
theorem dX0_taken_0 : decode cX0_taken 0 = .ok (.iload_n 2, 1) := dk_28 (dk_at dksX0_taken_0 0 rfl rfl)
theorem dX0_taken_1 : decode cX0_taken 1 = .ok (.i2l, 1) := dk_133 (dk_at dksX0_taken_0 1 rfl rfl)
theorem dX0_taken_2 : decode cX0_taken 2 = .ok (.lconst 0, 1) := dk_9 (dk_at dksX0_taken_0 2 rfl rfl)
theorem dX0_taken_3 : decode cX0_taken 3 = .ok (.ldc2_w 459, 3) := dk_20 1 203 (dk_at dksX0_taken_0 3 rfl rfl)
theorem dX0_taken_6 : decode cX0_taken 6 = .ok (.invokestatic 112, 3) := dk_184 0 112 (dk_at dksX0_taken_0 6 rfl rfl)
theorem dX0_taken_9 : decode cX0_taken 9 = .ok (.ifCond .ne 6, 3) := dk_154 0 6 (dk_at dksX0_taken_0 9 rfl rfl)
theorem dX0_taken_12 : decode cX0_taken 12 = .ok (.bipush (-2), 2) := dk_16 254 (dk_at dksX0_taken_0 12 rfl rfl)
theorem dX0_taken_14 : decode cX0_taken 14 = .ok (.ireturn, 1) := dk_172 (dk_at dksX0_taken_0 14 rfl rfl)
theorem dX0_taken_15 : decode cX0_taken 15 = .ok (.iload_n 1, 1) := dk_27 (dk_at dksX0_taken_0 15 rfl rfl)
theorem dX0_taken_16 : decode cX0_taken 16 = .ok (.i2l, 1) := dk_133 (dk_at dksX0_taken_0 16 rfl rfl)
theorem dX0_taken_17 : decode cX0_taken 17 = .ok (.lconst 0, 1) := dk_9 (dk_at dksX0_taken_0 17 rfl rfl)
theorem dX0_taken_18 : decode cX0_taken 18 = .ok (.ldc2_w 461, 3) := dk_20 1 205 (dk_at dksX0_taken_0 18 rfl rfl)
theorem dX0_taken_21 : decode cX0_taken 21 = .ok (.invokestatic 112, 3) := dk_184 0 112 (dk_at dksX0_taken_0 21 rfl rfl)
theorem dX0_taken_24 : decode cX0_taken 24 = .ok (.bipush (-12), 2) := dk_16 244 (dk_at dksX0_taken_1 0 rfl rfl)
theorem dX0_taken_26 : decode cX0_taken 26 = .ok (.invokestatic 444, 3) := dk_184 1 188 (dk_at dksX0_taken_1 2 rfl rfl)
theorem dX0_taken_29 : decode cX0_taken 29 = .ok (.iload_n 1, 1) := dk_27 (dk_at dksX0_taken_1 5 rfl rfl)
theorem dX0_taken_30 : decode cX0_taken 30 = .ok (.bipush 6, 2) := dk_16 6 (dk_at dksX0_taken_1 6 rfl rfl)
theorem dX0_taken_32 : decode cX0_taken 32 = .ok (.if_icmp .ge 11, 3) := dk_162 0 11 (dk_at dksX0_taken_1 8 rfl rfl)
theorem dX0_taken_35 : decode cX0_taken 35 = .ok (.aload_n 0, 1) := dk_42 (dk_at dksX0_taken_1 11 rfl rfl)
theorem dX0_taken_36 : decode cX0_taken 36 = .ok (.iload_n 1, 1) := dk_27 (dk_at dksX0_taken_1 12 rfl rfl)
theorem dX0_taken_37 : decode cX0_taken 37 = .ok (.invokevirtual 253, 3) := dk_182 0 253 (dk_at dksX0_taken_1 13 rfl rfl)
theorem dX0_taken_40 : decode cX0_taken 40 = .ok (.goto 11, 3) := dk_167 0 11 (dk_at dksX0_taken_1 16 rfl rfl)
theorem dX0_taken_43 : decode cX0_taken 43 = .ok (.aload_n 0, 1) := dk_42 (dk_at dksX0_taken_1 19 rfl rfl)
theorem dX0_taken_44 : decode cX0_taken 44 = .ok (.iload_n 1, 1) := dk_27 (dk_at dksX0_taken_1 20 rfl rfl)
theorem dX0_taken_45 : decode cX0_taken 45 = .ok (.bipush 6, 2) := dk_16 6 (dk_at dksX0_taken_1 21 rfl rfl)
theorem dX0_taken_47 : decode cX0_taken 47 = .ok (.isub, 1) := dk_100 (dk_at dksX0_taken_1 23 rfl rfl)
theorem dX0_taken_48 : decode cX0_taken 48 = .ok (.invokevirtual 146, 3) := dk_182 0 146 (dk_at dksX0_taken_2 0 rfl rfl)
theorem dX0_taken_51 : decode cX0_taken 51 = .ok (.bipush (-11), 2) := dk_16 245 (dk_at dksX0_taken_2 3 rfl rfl)
theorem dX0_taken_53 : decode cX0_taken 53 = .ok (.invokestatic 444, 3) := dk_184 1 188 (dk_at dksX0_taken_2 5 rfl rfl)
theorem dX0_taken_56 : decode cX0_taken 56 = .ok (.new 463, 3) := dk_187 1 207 (dk_at dksX0_taken_2 8 rfl rfl)
theorem dX0_taken_59 : decode cX0_taken 59 = .ok (.dup, 1) := dk_89 (dk_at dksX0_taken_2 11 rfl rfl)
theorem dX0_taken_60 : decode cX0_taken 60 = .ok (.iload_n 1, 1) := dk_27 (dk_at dksX0_taken_2 12 rfl rfl)
theorem dX0_taken_61 : decode cX0_taken 61 = .ok (.bipush 6, 2) := dk_16 6 (dk_at dksX0_taken_2 13 rfl rfl)
theorem dX0_taken_63 : decode cX0_taken 63 = .ok (.if_icmp .ge 16, 3) := dk_162 0 16 (dk_at dksX0_taken_2 15 rfl rfl)
theorem dX0_taken_66 : decode cX0_taken 66 = .ok (.aload_n 0, 1) := dk_42 (dk_at dksX0_taken_2 18 rfl rfl)
theorem dX0_taken_67 : decode cX0_taken 67 = .ok (.getfield 35, 3) := dk_180 0 35 (dk_at dksX0_taken_2 19 rfl rfl)
theorem dX0_taken_70 : decode cX0_taken 70 = .ok (.iload_n 1, 1) := dk_27 (dk_at dksX0_taken_2 22 rfl rfl)
theorem dX0_taken_71 : decode cX0_taken 71 = .ok (.iaload, 1) := dk_46 (dk_at dksX0_taken_2 23 rfl rfl)
theorem dX0_taken_72 : decode cX0_taken 72 = .ok (.i2b, 1) := dk_145 (dk_at dksX0_taken_3 0 rfl rfl)
theorem dX0_taken_73 : decode cX0_taken 73 = .ok (.invokestatic 465, 3) := dk_184 1 209 (dk_at dksX0_taken_3 1 rfl rfl)
theorem dX0_taken_76 : decode cX0_taken 76 = .ok (.goto 14, 3) := dk_167 0 14 (dk_at dksX0_taken_3 4 rfl rfl)
theorem dX0_taken_79 : decode cX0_taken 79 = .ok (.aload_n 0, 1) := dk_42 (dk_at dksX0_taken_3 7 rfl rfl)
theorem dX0_taken_80 : decode cX0_taken 80 = .ok (.getfield 22, 3) := dk_180 0 22 (dk_at dksX0_taken_3 8 rfl rfl)
theorem dX0_taken_83 : decode cX0_taken 83 = .ok (.iload_n 1, 1) := dk_27 (dk_at dksX0_taken_3 11 rfl rfl)
theorem dX0_taken_84 : decode cX0_taken 84 = .ok (.bipush 6, 2) := dk_16 6 (dk_at dksX0_taken_3 12 rfl rfl)
theorem dX0_taken_86 : decode cX0_taken 86 = .ok (.isub, 1) := dk_100 (dk_at dksX0_taken_3 14 rfl rfl)
theorem dX0_taken_87 : decode cX0_taken 87 = .ok (.invokevirtual 150, 3) := dk_182 0 150 (dk_at dksX0_taken_3 15 rfl rfl)
theorem dX0_taken_90 : decode cX0_taken 90 = .ok (.invokespecial 471, 3) := dk_183 1 215 (dk_at dksX0_taken_3 18 rfl rfl)
theorem dX0_taken_93 : decode cX0_taken 93 = .ok (.astore_n 3, 1) := dk_78 (dk_at dksX0_taken_3 21 rfl rfl)
theorem dX0_taken_94 : decode cX0_taken 94 = .ok (.iload_n 2, 1) := dk_28 (dk_at dksX0_taken_3 22 rfl rfl)
theorem dX0_taken_95 : decode cX0_taken 95 = .ok (.bipush 6, 2) := dk_16 6 (dk_at dksX0_taken_4 0 rfl rfl)
theorem dX0_taken_97 : decode cX0_taken 97 = .ok (.if_icmp .ne 8, 3) := dk_160 0 8 (dk_at dksX0_taken_4 2 rfl rfl)
theorem dX0_taken_100 : decode cX0_taken 100 = .ok (.aload_n 3, 1) := dk_45 (dk_at dksX0_taken_4 5 rfl rfl)
theorem dX0_taken_101 : decode cX0_taken 101 = .ok (.invokevirtual 474, 3) := dk_182 1 218 (dk_at dksX0_taken_4 6 rfl rfl)
theorem dX0_taken_104 : decode cX0_taken 104 = .ok (.ireturn, 1) := dk_172 (dk_at dksX0_taken_4 9 rfl rfl)
theorem dX0_taken_105 : decode cX0_taken 105 = .ok (.aload_n 3, 1) := dk_45 (dk_at dksX0_taken_4 10 rfl rfl)
theorem dX0_taken_106 : decode cX0_taken 106 = .ok (.invokevirtual 476, 3) := dk_182 1 220 (dk_at dksX0_taken_4 11 rfl rfl)
theorem dX0_taken_109 : decode cX0_taken 109 = .ok (.astore 4, 2) := dk_58 4 (dk_at dksX0_taken_4 14 rfl rfl)
theorem dX0_taken_111 : decode cX0_taken 111 = .ok (.aload 4, 2) := dk_25 4 (dk_at dksX0_taken_4 16 rfl rfl)
theorem dX0_taken_113 : decode cX0_taken 113 = .ok (.iload_n 2, 1) := dk_28 (dk_at dksX0_taken_4 18 rfl rfl)
theorem dX0_taken_114 : decode cX0_taken 114 = .ok (.invokestatic 480, 3) := dk_184 1 224 (dk_at dksX0_taken_4 19 rfl rfl)
theorem dX0_taken_117 : decode cX0_taken 117 = .ok (.bipush (-13), 2) := dk_16 243 (dk_at dksX0_taken_4 22 rfl rfl)
theorem dX0_taken_119 : decode cX0_taken 119 = .ok (.invokestatic 444, 3) := dk_184 1 188 (dk_at dksX0_taken_5 0 rfl rfl)
theorem dX0_taken_122 : decode cX0_taken 122 = .ok (.aload 4, 2) := dk_25 4 (dk_at dksX0_taken_5 3 rfl rfl)
theorem dX0_taken_124 : decode cX0_taken 124 = .ok (.getfield 228, 3) := dk_180 0 228 (dk_at dksX0_taken_5 5 rfl rfl)
theorem dX0_taken_127 : decode cX0_taken 127 = .ok (.ireturn, 1) := dk_172 (dk_at dksX0_taken_5 8 rfl rfl)
theorem dX0_taken_128 : decode cX0_taken 128 = .ok (.astore_n 3, 1) := dk_78 (dk_at dksX0_taken_5 9 rfl rfl)
theorem dX0_taken_129 : decode cX0_taken 129 = .ok (.aload_n 3, 1) := dk_45 (dk_at dksX0_taken_5 10 rfl rfl)
theorem dX0_taken_130 : decode cX0_taken 130 = .ok (.getfield 452, 3) := dk_180 1 196 (dk_at dksX0_taken_5 11 rfl rfl)
theorem dX0_taken_133 : decode cX0_taken 133 = .ok (.ireturn, 1) := dk_172 (dk_at dksX0_taken_5 14 rfl rfl)
abbrev cX0_isUnder : ByteArray := prog_1_method_5_code
def yX0_isUnder : MethodName := ⟨RX0, "isUnder", "(LOverTheHeads$Row;I)Z"⟩
def dkwX0_isUnder_3 : List UInt8 := [193, 0, 139, 172]
abbrev dktX0_isUnder_3 : List UInt8 := dkwX0_isUnder_3 ++ []
def dkwX0_isUnder_2 : List UInt8 := [4, 172, 42, 193, 0, 127, 172, 42, 193, 0, 130, 172, 42, 193, 0, 133, 172, 42, 193, 0, 136, 172, 42]
abbrev dktX0_isUnder_2 : List UInt8 := dkwX0_isUnder_2 ++ dktX0_isUnder_3
def dkwX0_isUnder_1 : List UInt8 := [170, 0, 0, 0, 0, 0, 57, 0, 0, 0, 0, 0, 0, 0, 4, 0, 0, 0, 35, 0, 0, 0, 37, 0, 0, 0, 42, 0, 0, 0, 47, 0, 0, 0, 52]
abbrev dktX0_isUnder_1 : List UInt8 := dkwX0_isUnder_1 ++ dktX0_isUnder_2
def dkwX0_isUnder_0 : List UInt8 := [27]
abbrev dktX0_isUnder_0 : List UInt8 := dkwX0_isUnder_0 ++ dktX0_isUnder_1
theorem dksX0_isUnder_0 : cX0_isUnder.data.toList.drop 0 = dktX0_isUnder_0 := by decide +kernel
theorem dksX0_isUnder_1 : cX0_isUnder.data.toList.drop 1 = dktX0_isUnder_1 := dk_seg dksX0_isUnder_0 1 rfl rfl
theorem dksX0_isUnder_2 : cX0_isUnder.data.toList.drop 36 = dktX0_isUnder_2 := dk_seg dksX0_isUnder_1 35 rfl rfl
theorem dksX0_isUnder_3 : cX0_isUnder.data.toList.drop 59 = dktX0_isUnder_3 := dk_seg dksX0_isUnder_2 23 rfl rfl
theorem dX0_isUnder_0 : decode cX0_isUnder 0 = .ok (.iload_n 1, 1) := dk_27 (dk_at dksX0_isUnder_0 0 rfl rfl)
theorem dX0_isUnder_1 : decode cX0_isUnder 1 = .ok (.tableswitch 57 0 4 #[35, 37, 42, 47, 52], 35) := by decide +kernel
theorem dX0_isUnder_36 : decode cX0_isUnder 36 = .ok (.iconst 1, 1) := dk_4 (dk_at dksX0_isUnder_2 0 rfl rfl)
theorem dX0_isUnder_37 : decode cX0_isUnder 37 = .ok (.ireturn, 1) := dk_172 (dk_at dksX0_isUnder_2 1 rfl rfl)
theorem dX0_isUnder_38 : decode cX0_isUnder 38 = .ok (.aload_n 0, 1) := dk_42 (dk_at dksX0_isUnder_2 2 rfl rfl)
theorem dX0_isUnder_39 : decode cX0_isUnder 39 = .ok (.instanceof 127, 3) := dk_193 0 127 (dk_at dksX0_isUnder_2 3 rfl rfl)
theorem dX0_isUnder_42 : decode cX0_isUnder 42 = .ok (.ireturn, 1) := dk_172 (dk_at dksX0_isUnder_2 6 rfl rfl)
theorem dX0_isUnder_43 : decode cX0_isUnder 43 = .ok (.aload_n 0, 1) := dk_42 (dk_at dksX0_isUnder_2 7 rfl rfl)
theorem dX0_isUnder_44 : decode cX0_isUnder 44 = .ok (.instanceof 130, 3) := dk_193 0 130 (dk_at dksX0_isUnder_2 8 rfl rfl)
theorem dX0_isUnder_47 : decode cX0_isUnder 47 = .ok (.ireturn, 1) := dk_172 (dk_at dksX0_isUnder_2 11 rfl rfl)
theorem dX0_isUnder_48 : decode cX0_isUnder 48 = .ok (.aload_n 0, 1) := dk_42 (dk_at dksX0_isUnder_2 12 rfl rfl)
theorem dX0_isUnder_49 : decode cX0_isUnder 49 = .ok (.instanceof 133, 3) := dk_193 0 133 (dk_at dksX0_isUnder_2 13 rfl rfl)
theorem dX0_isUnder_52 : decode cX0_isUnder 52 = .ok (.ireturn, 1) := dk_172 (dk_at dksX0_isUnder_2 16 rfl rfl)
theorem dX0_isUnder_53 : decode cX0_isUnder 53 = .ok (.aload_n 0, 1) := dk_42 (dk_at dksX0_isUnder_2 17 rfl rfl)
theorem dX0_isUnder_54 : decode cX0_isUnder 54 = .ok (.instanceof 136, 3) := dk_193 0 136 (dk_at dksX0_isUnder_2 18 rfl rfl)
theorem dX0_isUnder_57 : decode cX0_isUnder 57 = .ok (.ireturn, 1) := dk_172 (dk_at dksX0_isUnder_2 21 rfl rfl)
theorem dX0_isUnder_58 : decode cX0_isUnder 58 = .ok (.aload_n 0, 1) := dk_42 (dk_at dksX0_isUnder_2 22 rfl rfl)
theorem dX0_isUnder_59 : decode cX0_isUnder 59 = .ok (.instanceof 139, 3) := dk_193 0 139 (dk_at dksX0_isUnder_3 0 rfl rfl)
theorem dX0_isUnder_62 : decode cX0_isUnder 62 = .ok (.ireturn, 1) := dk_172 (dk_at dksX0_isUnder_3 3 rfl rfl)
theorem q90 : (Jvm.Cond.initialized "OverTheHeads") ∈ lw_all := lw_g (lw_at lw_m1 1 rfl) rfl
theorem q128 : (Jvm.Cond.instantiable "OverTheHeads" (41 : Nat)) ∈ lw_all := lw_g (lw_at lw_m1 39 rfl) rfl
theorem q130 : (Jvm.Cond.instanceMethod ({ cls := "OverTheHeads", name := "<init>", desc := "()V" } : Jvm.MethodName)) ∈ lw_all := lw_g (lw_at lw_m1 41 rfl) rfl
theorem q131 : (Jvm.Cond.code ({ cls := "OverTheHeads", name := "<init>", desc := "()V" } : Jvm.MethodName) prog_1_method_2_code (1 : Nat) (Option.none : Option Jvm.ClassFile.FieldType)) ∈ lw_all := lw_g (lw_at lw_m1 42 rfl) rfl
theorem q132 : (Jvm.Cond.methodLink "OverTheHeads" (1 : Nat) ({ cls := "java/lang/Object", name := "<init>", desc := "()V" } : Jvm.MethodName)) ∈ lw_all := lw_g (lw_at lw_m1 43 rfl) rfl
theorem q135 : (Jvm.Cond.classLink "OverTheHeads" (19 : Nat) "java/util/ArrayList") ∈ lw_all := lw_g (lw_at lw_m1 46 rfl) rfl
theorem q137 : (Jvm.Cond.methodLink "OverTheHeads" (21 : Nat) ({ cls := "java/util/ArrayList", name := "<init>", desc := "()V" } : Jvm.MethodName)) ∈ lw_all := lw_g (lw_at lw_m1 48 rfl) rfl
theorem q162 : (Jvm.Cond.classLink "OverTheHeads" (85 : Nat) "[LOverTheHeads$Node;") ∈ lw_all := lw_g (lw_at lw_m1 73 rfl) rfl
theorem q164 : (Jvm.Cond.classLink "OverTheHeads" (94 : Nat) "OverTheHeads$Sheet") ∈ lw_all := lw_g (lw_at lw_m1 75 rfl) rfl
theorem q167 : (Jvm.Cond.methodLinkNest "OverTheHeads" (96 : Nat) ({ cls := "OverTheHeads$Sheet", name := "<init>", desc := "()V" } : Jvm.MethodName) "OverTheHeads") ∈ lw_tbl := lw_at lw_m1 78 rfl
theorem q172 : (Jvm.Cond.fieldLink "OverTheHeads" (303 : Nat) "OverTheHeads$Sheet" "sort" "I") ∈ lw_all := lw_g (lw_at lw_m1 83 rfl) rfl
theorem q174 : (Jvm.Cond.fieldLink "OverTheHeads" (306 : Nat) "OverTheHeads$Sheet" "size" "I") ∈ lw_all := lw_g (lw_at lw_m1 85 rfl) rfl
theorem q176 : (Jvm.Cond.fieldLink "OverTheHeads" (308 : Nat) "OverTheHeads$Sheet" "cells" "[I") ∈ lw_all := lw_g (lw_at lw_m1 87 rfl) rfl
theorem q185 : (Jvm.Cond.stringRef "OverTheHeads" (101 : Nat) "like value ; price value * 2 - row ; cost high * 3 + rise ;") ∈ lw_tbl := lw_at lw_m1 96 rfl
theorem q186 : (Jvm.Cond.methodLink "OverTheHeads" (103 : Nat) ({ cls := "OverTheHeads", name := "read", desc := "(Ljava/lang/String;)[LOverTheHeads$Node;" } : Jvm.MethodName)) ∈ lw_all := lw_g (lw_at lw_m1 97 rfl) rfl
theorem q187 : (Jvm.Cond.static ({ cls := "OverTheHeads", name := "read", desc := "(Ljava/lang/String;)[LOverTheHeads$Node;" } : Jvm.MethodName)) ∈ lw_all := lw_g (lw_at lw_m1 98 rfl) rfl
theorem q188 : (Jvm.Cond.code ({ cls := "OverTheHeads", name := "read", desc := "(Ljava/lang/String;)[LOverTheHeads$Node;" } : Jvm.MethodName) prog_1_method_72_code (3 : Nat) (Option.some (Jvm.ClassFile.FieldType.array (Jvm.ClassFile.FieldType.object "OverTheHeads$Node")))) ∈ lw_all := lw_g (lw_at lw_m1 99 rfl) rfl
theorem q189 : (Jvm.Cond.methodLink "OverTheHeads" (409 : Nat) ({ cls := "java/lang/String", name := "length", desc := "()I" } : Jvm.MethodName)) ∈ lw_all := lw_g (lw_at lw_m1 100 rfl) rfl
theorem q199 : (Jvm.Cond.methodLink "OverTheHeads" (414 : Nat) ({ cls := "java/lang/String", name := "charAt", desc := "(I)C" } : Jvm.MethodName)) ∈ lw_all := lw_g (lw_at lw_m1 110 rfl) rfl
theorem q237 : (Jvm.Cond.classLink "OverTheHeads" (418 : Nat) "OverTheHeads$Reader") ∈ lw_all := lw_g (lw_at lw_m1 148 rfl) rfl
theorem q239 : (Jvm.Cond.methodLink "OverTheHeads" (420 : Nat) ({ cls := "OverTheHeads$Reader", name := "<init>", desc := "([BI)V" } : Jvm.MethodName)) ∈ lw_all := lw_g (lw_at lw_m1 150 rfl) rfl
theorem q268 : (Jvm.Cond.methodLink "OverTheHeads" (423 : Nat) ({ cls := "OverTheHeads$Reader", name := "parts", desc := "()[LOverTheHeads$Node;" } : Jvm.MethodName)) ∈ lw_all := lw_g (lw_at lw_m1 179 rfl) rfl
theorem q273 : (Jvm.Cond.laysStatic "OverTheHeads" "KEYS" "[Ljava/lang/String;") ∈ lw_tbl := lw_at lw_m1 184 rfl
theorem q287 : (Jvm.Cond.static ({ cls := "OverTheHeads", name := "in", desc := "(JJJ)Z" } : Jvm.MethodName)) ∈ lw_all := lw_g (lw_at lw_m1 198 rfl) rfl
theorem q288 : (Jvm.Cond.code ({ cls := "OverTheHeads", name := "in", desc := "(JJJ)Z" } : Jvm.MethodName) prog_1_method_1_code (6 : Nat) (Option.some Jvm.ClassFile.FieldType.boolean)) ∈ lw_all := lw_g (lw_at lw_m1 199 rfl) rfl
theorem q510 : (Jvm.Cond.fieldLink "OverTheHeads" (429 : Nat) "OverTheHeads$Fault" "place" "I") ∈ lw_all := lw_g (lw_at lw_m2 181 rfl) rfl
theorem q650 : (Jvm.Cond.laysStatic "OverTheHeads" "NAMES" "[Ljava/lang/String;") ∈ lw_tbl := lw_at lw_m3 81 rfl
theorem q673 : (Jvm.Cond.fieldLink "OverTheHeads" (7 : Nat) "OverTheHeads" "eye" "[I") ∈ lw_all := lw_g (lw_at lw_m3 104 rfl) rfl
theorem q675 : (Jvm.Cond.fieldLink "OverTheHeads" (13 : Nat) "OverTheHeads" "head" "[I") ∈ lw_all := lw_g (lw_at lw_m3 106 rfl) rfl
theorem q677 : (Jvm.Cond.fieldLink "OverTheHeads" (16 : Nat) "OverTheHeads" "weight" "[I") ∈ lw_all := lw_g (lw_at lw_m3 108 rfl) rfl
theorem q678 : (Jvm.Cond.fieldLink "OverTheHeads" (22 : Nat) "OverTheHeads" "rows" "Ljava/util/ArrayList;") ∈ lw_all := lw_g (lw_at lw_m3 109 rfl) rfl
theorem q679 : (Jvm.Cond.fieldLink "OverTheHeads" (26 : Nat) "OverTheHeads" "rise" "[I") ∈ lw_all := lw_g (lw_at lw_m3 110 rfl) rfl
theorem q681 : (Jvm.Cond.fieldLink "OverTheHeads" (29 : Nat) "OverTheHeads" "shifted" "[I") ∈ lw_all := lw_g (lw_at lw_m3 112 rfl) rfl
theorem q683 : (Jvm.Cond.fieldLink "OverTheHeads" (32 : Nat) "OverTheHeads" "side" "[I") ∈ lw_all := lw_g (lw_at lw_m3 114 rfl) rfl
theorem q684 : (Jvm.Cond.fieldLink "OverTheHeads" (35 : Nat) "OverTheHeads" "high" "[I") ∈ lw_all := lw_g (lw_at lw_m3 115 rfl) rfl
theorem q685 : (Jvm.Cond.fieldLink "OverTheHeads" (38 : Nat) "OverTheHeads" "value" "[I") ∈ lw_all := lw_g (lw_at lw_m3 116 rfl) rfl
theorem q686 : (Jvm.Cond.fieldLink "OverTheHeads" (203 : Nat) "OverTheHeads" "points" "I") ∈ lw_all := lw_g (lw_at lw_m3 117 rfl) rfl
theorem q687 : (Jvm.Cond.fieldLink "OverTheHeads" (41 : Nat) "OverTheHeads" "postSide" "[I") ∈ lw_all := lw_g (lw_at lw_m3 118 rfl) rfl
theorem q688 : (Jvm.Cond.fieldLink "OverTheHeads" (44 : Nat) "OverTheHeads" "postFar" "[I") ∈ lw_all := lw_g (lw_at lw_m3 119 rfl) rfl
theorem q689 : (Jvm.Cond.fieldLink "OverTheHeads" (210 : Nat) "OverTheHeads" "posts" "I") ∈ lw_all := lw_g (lw_at lw_m3 120 rfl) rfl
theorem q690 : (Jvm.Cond.fieldLink "OverTheHeads" (47 : Nat) "OverTheHeads" "names" "[I") ∈ lw_all := lw_g (lw_at lw_m3 121 rfl) rfl
theorem q691 : (Jvm.Cond.fieldLink "OverTheHeads" (213 : Nat) "OverTheHeads" "law" "I") ∈ lw_all := lw_g (lw_at lw_m3 122 rfl) rfl
theorem q692 : (Jvm.Cond.fieldLink "OverTheHeads" (50 : Nat) "OverTheHeads" "riseWas" "[I") ∈ lw_all := lw_g (lw_at lw_m3 123 rfl) rfl
theorem q693 : (Jvm.Cond.fieldLink "OverTheHeads" (326 : Nat) "OverTheHeads" "ways" "J") ∈ lw_all := lw_g (lw_at lw_m3 124 rfl) rfl
theorem q694 : (Jvm.Cond.fieldLink "OverTheHeads" (330 : Nat) "OverTheHeads" "heads" "I") ∈ lw_all := lw_g (lw_at lw_m3 125 rfl) rfl
theorem q695 : (Jvm.Cond.fieldLink "OverTheHeads" (53 : Nat) "OverTheHeads" "sitsWas" "[B") ∈ lw_all := lw_g (lw_at lw_m3 126 rfl) rfl
theorem q696 : (Jvm.Cond.fieldLink "OverTheHeads" (378 : Nat) "OverTheHeads" "tried" "I") ∈ lw_all := lw_g (lw_at lw_m3 127 rfl) rfl
theorem q697 : (Jvm.Cond.fieldLink "OverTheHeads" (371 : Nat) "OverTheHeads" "triedWorth" "I") ∈ lw_all := lw_g (lw_at lw_m3 128 rfl) rfl
theorem q698 : (Jvm.Cond.fieldLink "OverTheHeads" (57 : Nat) "OverTheHeads" "shiftWas" "[I") ∈ lw_all := lw_g (lw_at lw_m3 129 rfl) rfl
theorem q699 : (Jvm.Cond.fieldLink "OverTheHeads" (60 : Nat) "OverTheHeads" "highWas" "[I") ∈ lw_all := lw_g (lw_at lw_m3 130 rfl) rfl
theorem q700 : (Jvm.Cond.fieldLink "OverTheHeads" (391 : Nat) "OverTheHeads" "changeBest" "I") ∈ lw_all := lw_g (lw_at lw_m3 131 rfl) rfl
theorem q701 : (Jvm.Cond.fieldLink "OverTheHeads" (394 : Nat) "OverTheHeads" "changeGain" "I") ∈ lw_all := lw_g (lw_at lw_m3 132 rfl) rfl
theorem q702 : (Jvm.Cond.fieldLink "OverTheHeads" (63 : Nat) "OverTheHeads" "hatRow" "I") ∈ lw_all := lw_g (lw_at lw_m3 133 rfl) rfl
theorem q703 : (Jvm.Cond.fieldLink "OverTheHeads" (239 : Nat) "OverTheHeads" "hatSeat" "I") ∈ lw_all := lw_g (lw_at lw_m3 134 rfl) rfl
theorem q704 : (Jvm.Cond.fieldLink "OverTheHeads" (242 : Nat) "OverTheHeads" "hat" "I") ∈ lw_all := lw_g (lw_at lw_m3 135 rfl) rfl
theorem q705 : (Jvm.Cond.fieldLink "OverTheHeads" (67 : Nat) "OverTheHeads" "pricesNow" "[I") ∈ lw_all := lw_g (lw_at lw_m3 136 rfl) rfl
theorem q706 : (Jvm.Cond.fieldLink "OverTheHeads" (70 : Nat) "OverTheHeads" "keptRise" "[I") ∈ lw_all := lw_g (lw_at lw_m3 137 rfl) rfl
theorem q707 : (Jvm.Cond.fieldLink "OverTheHeads" (73 : Nat) "OverTheHeads" "keptSorts" "[I") ∈ lw_all := lw_g (lw_at lw_m3 138 rfl) rfl
theorem q708 : (Jvm.Cond.fieldLink "OverTheHeads" (76 : Nat) "OverTheHeads" "keptPosts" "[I") ∈ lw_all := lw_g (lw_at lw_m3 139 rfl) rfl
theorem q709 : (Jvm.Cond.fieldLink "OverTheHeads" (79 : Nat) "OverTheHeads" "keptSits" "[B") ∈ lw_all := lw_g (lw_at lw_m3 140 rfl) rfl
theorem q710 : (Jvm.Cond.fieldLink "OverTheHeads" (82 : Nat) "OverTheHeads" "keptRows" "I") ∈ lw_all := lw_g (lw_at lw_m3 141 rfl) rfl
theorem q711 : (Jvm.Cond.fieldLink "OverTheHeads" (403 : Nat) "OverTheHeads" "keptPostMany" "I") ∈ lw_all := lw_g (lw_at lw_m3 142 rfl) rfl
theorem q712 : (Jvm.Cond.fieldLink "OverTheHeads" (406 : Nat) "OverTheHeads" "keptLaw" "I") ∈ lw_all := lw_g (lw_at lw_m3 143 rfl) rfl
theorem q713 : (Jvm.Cond.fieldLink "OverTheHeads" (87 : Nat) "OverTheHeads" "texts" "[[LOverTheHeads$Node;") ∈ lw_all := lw_g (lw_at lw_m3 144 rfl) rfl
theorem q714 : (Jvm.Cond.fieldLink "OverTheHeads" (107 : Nat) "OverTheHeads" "textCount" "I") ∈ lw_all := lw_g (lw_at lw_m3 145 rfl) rfl
theorem q715 : (Jvm.Cond.fieldLink "OverTheHeads" (91 : Nat) "OverTheHeads" "tape" "[B") ∈ lw_all := lw_g (lw_at lw_m3 146 rfl) rfl
theorem q716 : (Jvm.Cond.fieldLink "OverTheHeads" (216 : Nat) "OverTheHeads" "taped" "I") ∈ lw_all := lw_g (lw_at lw_m3 147 rfl) rfl
theorem q717 : (Jvm.Cond.fieldLink "OverTheHeads" (97 : Nat) "OverTheHeads" "sheets" "[LOverTheHeads$Sheet;") ∈ lw_all := lw_g (lw_at lw_m3 148 rfl) rfl
theorem q718 : (Jvm.Cond.laysFinal "OverTheHeads" "OverTheHeads" "eye" "[I") ∈ lw_all := lw_g (lw_at lw_m3 149 rfl) rfl
theorem q719 : (Jvm.Cond.soleField "OverTheHeads" "eye") ∈ lw_all := lw_g (lw_at lw_m3 150 rfl) rfl
theorem q720 : (Jvm.Cond.laysFinal "OverTheHeads" "OverTheHeads" "head" "[I") ∈ lw_all := lw_g (lw_at lw_m3 151 rfl) rfl
theorem q721 : (Jvm.Cond.soleField "OverTheHeads" "head") ∈ lw_all := lw_g (lw_at lw_m3 152 rfl) rfl
theorem q722 : (Jvm.Cond.laysFinal "OverTheHeads" "OverTheHeads" "weight" "[I") ∈ lw_all := lw_g (lw_at lw_m3 153 rfl) rfl
theorem q723 : (Jvm.Cond.soleField "OverTheHeads" "weight") ∈ lw_all := lw_g (lw_at lw_m3 154 rfl) rfl
theorem q724 : (Jvm.Cond.laysFinal "OverTheHeads" "OverTheHeads" "rows" "Ljava/util/ArrayList;") ∈ lw_all := lw_g (lw_at lw_m3 155 rfl) rfl
theorem q725 : (Jvm.Cond.soleField "OverTheHeads" "rows") ∈ lw_all := lw_g (lw_at lw_m3 156 rfl) rfl
theorem q726 : (Jvm.Cond.laysFinal "OverTheHeads" "OverTheHeads" "rise" "[I") ∈ lw_all := lw_g (lw_at lw_m3 157 rfl) rfl
theorem q727 : (Jvm.Cond.soleField "OverTheHeads" "rise") ∈ lw_all := lw_g (lw_at lw_m3 158 rfl) rfl
theorem q728 : (Jvm.Cond.laysFinal "OverTheHeads" "OverTheHeads" "shifted" "[I") ∈ lw_all := lw_g (lw_at lw_m3 159 rfl) rfl
theorem q729 : (Jvm.Cond.soleField "OverTheHeads" "shifted") ∈ lw_all := lw_g (lw_at lw_m3 160 rfl) rfl
theorem q730 : (Jvm.Cond.laysFinal "OverTheHeads" "OverTheHeads" "side" "[I") ∈ lw_all := lw_g (lw_at lw_m3 161 rfl) rfl
theorem q731 : (Jvm.Cond.soleField "OverTheHeads" "side") ∈ lw_all := lw_g (lw_at lw_m3 162 rfl) rfl
theorem q732 : (Jvm.Cond.laysFinal "OverTheHeads" "OverTheHeads" "high" "[I") ∈ lw_all := lw_g (lw_at lw_m3 163 rfl) rfl
theorem q733 : (Jvm.Cond.soleField "OverTheHeads" "high") ∈ lw_all := lw_g (lw_at lw_m3 164 rfl) rfl
theorem q734 : (Jvm.Cond.laysFinal "OverTheHeads" "OverTheHeads" "value" "[I") ∈ lw_all := lw_g (lw_at lw_m3 165 rfl) rfl
theorem q735 : (Jvm.Cond.soleField "OverTheHeads" "value") ∈ lw_all := lw_g (lw_at lw_m3 166 rfl) rfl
theorem q736 : (Jvm.Cond.lays "OverTheHeads" "OverTheHeads" "points" "I") ∈ lw_all := lw_g (lw_at lw_m3 167 rfl) rfl
theorem q737 : (Jvm.Cond.soleField "OverTheHeads" "points") ∈ lw_all := lw_g (lw_at lw_m3 168 rfl) rfl
theorem q738 : (Jvm.Cond.laysFinal "OverTheHeads" "OverTheHeads" "postSide" "[I") ∈ lw_all := lw_g (lw_at lw_m3 169 rfl) rfl
theorem q739 : (Jvm.Cond.soleField "OverTheHeads" "postSide") ∈ lw_all := lw_g (lw_at lw_m3 170 rfl) rfl
theorem q740 : (Jvm.Cond.laysFinal "OverTheHeads" "OverTheHeads" "postFar" "[I") ∈ lw_all := lw_g (lw_at lw_m3 171 rfl) rfl
theorem q741 : (Jvm.Cond.soleField "OverTheHeads" "postFar") ∈ lw_all := lw_g (lw_at lw_m3 172 rfl) rfl
theorem q742 : (Jvm.Cond.lays "OverTheHeads" "OverTheHeads" "posts" "I") ∈ lw_all := lw_g (lw_at lw_m3 173 rfl) rfl
theorem q743 : (Jvm.Cond.soleField "OverTheHeads" "posts") ∈ lw_all := lw_g (lw_at lw_m3 174 rfl) rfl
theorem q744 : (Jvm.Cond.laysFinal "OverTheHeads" "OverTheHeads" "names" "[I") ∈ lw_all := lw_g (lw_at lw_m3 175 rfl) rfl
theorem q745 : (Jvm.Cond.soleField "OverTheHeads" "names") ∈ lw_all := lw_g (lw_at lw_m3 176 rfl) rfl
theorem q746 : (Jvm.Cond.lays "OverTheHeads" "OverTheHeads" "law" "I") ∈ lw_all := lw_g (lw_at lw_m3 177 rfl) rfl
theorem q747 : (Jvm.Cond.soleField "OverTheHeads" "law") ∈ lw_all := lw_g (lw_at lw_m3 178 rfl) rfl
theorem q748 : (Jvm.Cond.laysFinal "OverTheHeads" "OverTheHeads" "riseWas" "[I") ∈ lw_all := lw_g (lw_at lw_m3 179 rfl) rfl
theorem q749 : (Jvm.Cond.soleField "OverTheHeads" "riseWas") ∈ lw_all := lw_g (lw_at lw_m3 180 rfl) rfl
theorem q750 : (Jvm.Cond.lays "OverTheHeads" "OverTheHeads" "ways" "J") ∈ lw_all := lw_g (lw_at lw_m3 181 rfl) rfl
theorem q751 : (Jvm.Cond.soleField "OverTheHeads" "ways") ∈ lw_all := lw_g (lw_at lw_m3 182 rfl) rfl
theorem q752 : (Jvm.Cond.lays "OverTheHeads" "OverTheHeads" "heads" "I") ∈ lw_all := lw_g (lw_at lw_m3 183 rfl) rfl
theorem q753 : (Jvm.Cond.soleField "OverTheHeads" "heads") ∈ lw_all := lw_g (lw_at lw_m3 184 rfl) rfl
theorem q754 : (Jvm.Cond.laysFinal "OverTheHeads" "OverTheHeads" "sitsWas" "[B") ∈ lw_all := lw_g (lw_at lw_m3 185 rfl) rfl
theorem q755 : (Jvm.Cond.soleField "OverTheHeads" "sitsWas") ∈ lw_all := lw_g (lw_at lw_m3 186 rfl) rfl
theorem q756 : (Jvm.Cond.lays "OverTheHeads" "OverTheHeads" "tried" "I") ∈ lw_all := lw_g (lw_at lw_m3 187 rfl) rfl
theorem q757 : (Jvm.Cond.soleField "OverTheHeads" "tried") ∈ lw_all := lw_g (lw_at lw_m3 188 rfl) rfl
theorem q758 : (Jvm.Cond.lays "OverTheHeads" "OverTheHeads" "triedWorth" "I") ∈ lw_all := lw_g (lw_at lw_m3 189 rfl) rfl
theorem q759 : (Jvm.Cond.soleField "OverTheHeads" "triedWorth") ∈ lw_all := lw_g (lw_at lw_m3 190 rfl) rfl
theorem q760 : (Jvm.Cond.laysFinal "OverTheHeads" "OverTheHeads" "shiftWas" "[I") ∈ lw_all := lw_g (lw_at lw_m3 191 rfl) rfl
theorem q761 : (Jvm.Cond.soleField "OverTheHeads" "shiftWas") ∈ lw_all := lw_g (lw_at lw_m3 192 rfl) rfl
theorem q762 : (Jvm.Cond.laysFinal "OverTheHeads" "OverTheHeads" "highWas" "[I") ∈ lw_all := lw_g (lw_at lw_m3 193 rfl) rfl
theorem q763 : (Jvm.Cond.soleField "OverTheHeads" "highWas") ∈ lw_all := lw_g (lw_at lw_m3 194 rfl) rfl
theorem q764 : (Jvm.Cond.lays "OverTheHeads" "OverTheHeads" "changeBest" "I") ∈ lw_all := lw_g (lw_at lw_m3 195 rfl) rfl
theorem q765 : (Jvm.Cond.soleField "OverTheHeads" "changeBest") ∈ lw_all := lw_g (lw_at lw_m3 196 rfl) rfl
theorem q766 : (Jvm.Cond.lays "OverTheHeads" "OverTheHeads" "changeGain" "I") ∈ lw_all := lw_g (lw_at lw_m3 197 rfl) rfl
theorem q767 : (Jvm.Cond.soleField "OverTheHeads" "changeGain") ∈ lw_all := lw_g (lw_at lw_m3 198 rfl) rfl
theorem q768 : (Jvm.Cond.lays "OverTheHeads" "OverTheHeads" "hatRow" "I") ∈ lw_all := lw_g (lw_at lw_m3 199 rfl) rfl
theorem q769 : (Jvm.Cond.soleField "OverTheHeads" "hatRow") ∈ lw_all := lw_g (lw_at lw_m3 200 rfl) rfl
theorem q770 : (Jvm.Cond.lays "OverTheHeads" "OverTheHeads" "hatSeat" "I") ∈ lw_all := lw_g (lw_at lw_m3 201 rfl) rfl
theorem q771 : (Jvm.Cond.soleField "OverTheHeads" "hatSeat") ∈ lw_all := lw_g (lw_at lw_m3 202 rfl) rfl
theorem q772 : (Jvm.Cond.lays "OverTheHeads" "OverTheHeads" "hat" "I") ∈ lw_all := lw_g (lw_at lw_m3 203 rfl) rfl
theorem q773 : (Jvm.Cond.soleField "OverTheHeads" "hat") ∈ lw_all := lw_g (lw_at lw_m3 204 rfl) rfl
theorem q774 : (Jvm.Cond.laysFinal "OverTheHeads" "OverTheHeads" "pricesNow" "[I") ∈ lw_all := lw_g (lw_at lw_m3 205 rfl) rfl
theorem q775 : (Jvm.Cond.soleField "OverTheHeads" "pricesNow") ∈ lw_all := lw_g (lw_at lw_m3 206 rfl) rfl
theorem q776 : (Jvm.Cond.laysFinal "OverTheHeads" "OverTheHeads" "keptRise" "[I") ∈ lw_all := lw_g (lw_at lw_m3 207 rfl) rfl
theorem q777 : (Jvm.Cond.soleField "OverTheHeads" "keptRise") ∈ lw_all := lw_g (lw_at lw_m3 208 rfl) rfl
theorem q778 : (Jvm.Cond.laysFinal "OverTheHeads" "OverTheHeads" "keptSorts" "[I") ∈ lw_all := lw_g (lw_at lw_m3 209 rfl) rfl
theorem q779 : (Jvm.Cond.soleField "OverTheHeads" "keptSorts") ∈ lw_all := lw_g (lw_at lw_m3 210 rfl) rfl
theorem q780 : (Jvm.Cond.laysFinal "OverTheHeads" "OverTheHeads" "keptPosts" "[I") ∈ lw_all := lw_g (lw_at lw_m3 211 rfl) rfl
theorem q781 : (Jvm.Cond.soleField "OverTheHeads" "keptPosts") ∈ lw_all := lw_g (lw_at lw_m3 212 rfl) rfl
theorem q782 : (Jvm.Cond.laysFinal "OverTheHeads" "OverTheHeads" "keptSits" "[B") ∈ lw_all := lw_g (lw_at lw_m3 213 rfl) rfl
theorem q783 : (Jvm.Cond.soleField "OverTheHeads" "keptSits") ∈ lw_all := lw_g (lw_at lw_m3 214 rfl) rfl
theorem q784 : (Jvm.Cond.lays "OverTheHeads" "OverTheHeads" "keptRows" "I") ∈ lw_all := lw_g (lw_at lw_m3 215 rfl) rfl
theorem q785 : (Jvm.Cond.soleField "OverTheHeads" "keptRows") ∈ lw_all := lw_g (lw_at lw_m3 216 rfl) rfl
theorem q786 : (Jvm.Cond.lays "OverTheHeads" "OverTheHeads" "keptPostMany" "I") ∈ lw_all := lw_g (lw_at lw_m3 217 rfl) rfl
theorem q787 : (Jvm.Cond.soleField "OverTheHeads" "keptPostMany") ∈ lw_all := lw_g (lw_at lw_m3 218 rfl) rfl
theorem q788 : (Jvm.Cond.lays "OverTheHeads" "OverTheHeads" "keptLaw" "I") ∈ lw_all := lw_g (lw_at lw_m3 219 rfl) rfl
theorem q789 : (Jvm.Cond.soleField "OverTheHeads" "keptLaw") ∈ lw_all := lw_g (lw_at lw_m3 220 rfl) rfl
theorem q790 : (Jvm.Cond.laysFinal "OverTheHeads" "OverTheHeads" "texts" "[[LOverTheHeads$Node;") ∈ lw_all := lw_g (lw_at lw_m3 221 rfl) rfl
theorem q791 : (Jvm.Cond.soleField "OverTheHeads" "texts") ∈ lw_all := lw_g (lw_at lw_m3 222 rfl) rfl
theorem q792 : (Jvm.Cond.lays "OverTheHeads" "OverTheHeads" "textCount" "I") ∈ lw_all := lw_g (lw_at lw_m3 223 rfl) rfl
theorem q793 : (Jvm.Cond.soleField "OverTheHeads" "textCount") ∈ lw_all := lw_g (lw_at lw_m3 224 rfl) rfl
theorem q794 : (Jvm.Cond.laysFinal "OverTheHeads" "OverTheHeads" "tape" "[B") ∈ lw_all := lw_g (lw_at lw_m3 225 rfl) rfl
theorem q795 : (Jvm.Cond.soleField "OverTheHeads" "tape") ∈ lw_all := lw_g (lw_at lw_m3 226 rfl) rfl
theorem q796 : (Jvm.Cond.lays "OverTheHeads" "OverTheHeads" "taped" "I") ∈ lw_all := lw_g (lw_at lw_m3 227 rfl) rfl
theorem q797 : (Jvm.Cond.soleField "OverTheHeads" "taped") ∈ lw_all := lw_g (lw_at lw_m3 228 rfl) rfl
theorem q798 : (Jvm.Cond.laysFinal "OverTheHeads" "OverTheHeads" "sheets" "[LOverTheHeads$Sheet;") ∈ lw_all := lw_g (lw_at lw_m3 229 rfl) rfl
theorem q799 : (Jvm.Cond.soleField "OverTheHeads" "sheets") ∈ lw_all := lw_g (lw_at lw_m3 230 rfl) rfl
theorem q800 : (Jvm.Cond.superclass "OverTheHeads" "java/lang/Object") ∈ lw_all := lw_g (lw_at lw_m3 231 rfl) rfl
theorem q802 : (Jvm.Cond.instanceMethod ({ cls := "OverTheHeads", name := "sort", desc := "(III)I" } : Jvm.MethodName)) ∈ lw_all := lw_g (lw_at lw_m3 233 rfl) rfl
theorem q803 : (Jvm.Cond.selects "OverTheHeads" ({ cls := "OverTheHeads", name := "sort", desc := "(III)I" } : Jvm.MethodName) ({ cls := "OverTheHeads", name := "sort", desc := "(III)I" } : Jvm.MethodName)) ∈ lw_all := lw_g (lw_at lw_m3 234 rfl) rfl
theorem q804 : (Jvm.Cond.code ({ cls := "OverTheHeads", name := "sort", desc := "(III)I" } : Jvm.MethodName) prog_1_method_3_code (6 : Nat) (Option.some Jvm.ClassFile.FieldType.int)) ∈ lw_all := lw_g (lw_at lw_m3 235 rfl) rfl
theorem q805 : (Jvm.Cond.constantLong "OverTheHeads" (110 : Nat) (3 : Int64)) ∈ lw_all := lw_g (lw_at lw_m3 236 rfl) rfl
theorem q806 : (Jvm.Cond.methodLink "OverTheHeads" (112 : Nat) ({ cls := "OverTheHeads", name := "in", desc := "(JJJ)Z" } : Jvm.MethodName)) ∈ lw_all := lw_g (lw_at lw_m3 237 rfl) rfl
theorem q807 : (Jvm.Cond.constantLong "OverTheHeads" (116 : Nat) (2 : Int64)) ∈ lw_all := lw_g (lw_at lw_m3 238 rfl) rfl
theorem q808 : (Jvm.Cond.constantLong "OverTheHeads" (118 : Nat) (9 : Int64)) ∈ lw_all := lw_g (lw_at lw_m3 239 rfl) rfl
theorem q809 : (Jvm.Cond.constantLong "OverTheHeads" (120 : Nat) (40 : Int64)) ∈ lw_all := lw_g (lw_at lw_m4 0 rfl) rfl
theorem q811 : (Jvm.Cond.instanceMethod ({ cls := "OverTheHeads", name := "row", desc := "(III)I" } : Jvm.MethodName)) ∈ lw_all := lw_g (lw_at lw_m4 2 rfl) rfl
theorem q812 : (Jvm.Cond.selects "OverTheHeads" ({ cls := "OverTheHeads", name := "row", desc := "(III)I" } : Jvm.MethodName) ({ cls := "OverTheHeads", name := "row", desc := "(III)I" } : Jvm.MethodName)) ∈ lw_all := lw_g (lw_at lw_m4 3 rfl) rfl
theorem q813 : (Jvm.Cond.code ({ cls := "OverTheHeads", name := "row", desc := "(III)I" } : Jvm.MethodName) prog_1_method_8_code (5 : Nat) (Option.some Jvm.ClassFile.FieldType.int)) ∈ lw_all := lw_g (lw_at lw_m4 4 rfl) rfl
theorem q814 : (Jvm.Cond.constantLong "OverTheHeads" (157 : Nat) (5 : Int64)) ∈ lw_all := lw_g (lw_at lw_m4 5 rfl) rfl
theorem q815 : (Jvm.Cond.constantLong "OverTheHeads" (159 : Nat) (8 : Int64)) ∈ lw_all := lw_g (lw_at lw_m4 6 rfl) rfl
theorem q816 : (Jvm.Cond.constantLong "OverTheHeads" (161 : Nat) (20 : Int64)) ∈ lw_all := lw_g (lw_at lw_m4 7 rfl) rfl
theorem q817 : (Jvm.Cond.methodLink "OverTheHeads" (142 : Nat) ({ cls := "java/util/ArrayList", name := "size", desc := "()I" } : Jvm.MethodName)) ∈ lw_all := lw_g (lw_at lw_m4 8 rfl) rfl
theorem q821 : (Jvm.Cond.methodLink "OverTheHeads" (163 : Nat) ({ cls := "OverTheHeads", name := "made", desc := "(IIII)LOverTheHeads$Row;" } : Jvm.MethodName)) ∈ lw_all := lw_g (lw_at lw_m4 12 rfl) rfl
theorem q822 : (Jvm.Cond.privateMethod ({ cls := "OverTheHeads", name := "made", desc := "(IIII)LOverTheHeads$Row;" } : Jvm.MethodName)) ∈ lw_tbl := lw_at lw_m4 13 rfl
theorem q823 : (Jvm.Cond.instanceMethod ({ cls := "OverTheHeads", name := "made", desc := "(IIII)LOverTheHeads$Row;" } : Jvm.MethodName)) ∈ lw_all := lw_g (lw_at lw_m4 14 rfl) rfl
theorem q824 : (Jvm.Cond.code ({ cls := "OverTheHeads", name := "made", desc := "(IIII)LOverTheHeads$Row;" } : Jvm.MethodName) prog_1_method_4_code (5 : Nat) (Option.some (Jvm.ClassFile.FieldType.object "OverTheHeads$Row"))) ∈ lw_all := lw_g (lw_at lw_m4 15 rfl) rfl
theorem q825 : (Jvm.Cond.classLink "OverTheHeads" (122 : Nat) "OverTheHeads$Row") ∈ lw_all := lw_g (lw_at lw_m4 16 rfl) rfl
theorem q827 : (Jvm.Cond.methodLink "OverTheHeads" (124 : Nat) ({ cls := "OverTheHeads$Row", name := "<init>", desc := "(LOverTheHeads;III)V" } : Jvm.MethodName)) ∈ lw_all := lw_g (lw_at lw_m4 18 rfl) rfl
theorem q832 : (Jvm.Cond.fieldLink "OverTheHeads" (228 : Nat) "OverTheHeads$Row" "number" "I") ∈ lw_all := lw_g (lw_at lw_m4 23 rfl) rfl
theorem q834 : (Jvm.Cond.fieldLink "OverTheHeads" (154 : Nat) "OverTheHeads$Row" "seats" "I") ∈ lw_all := lw_g (lw_at lw_m4 25 rfl) rfl
theorem q845 : (Jvm.Cond.fieldLink "OverTheHeads" (177 : Nat) "OverTheHeads$Row" "sits" "[B") ∈ lw_all := lw_g (lw_at lw_m4 36 rfl) rfl
theorem q858 : (Jvm.Cond.classLink "OverTheHeads" (127 : Nat) "OverTheHeads$Shifted") ∈ lw_all := lw_g (lw_at lw_m4 49 rfl) rfl
theorem q860 : (Jvm.Cond.methodLink "OverTheHeads" (129 : Nat) ({ cls := "OverTheHeads$Shifted", name := "<init>", desc := "(LOverTheHeads;III)V" } : Jvm.MethodName)) ∈ lw_all := lw_g (lw_at lw_m4 51 rfl) rfl
theorem q873 : (Jvm.Cond.classLink "OverTheHeads" (130 : Nat) "OverTheHeads$Raised") ∈ lw_all := lw_g (lw_at lw_m4 64 rfl) rfl
theorem q875 : (Jvm.Cond.methodLink "OverTheHeads" (132 : Nat) ({ cls := "OverTheHeads$Raised", name := "<init>", desc := "(LOverTheHeads;III)V" } : Jvm.MethodName)) ∈ lw_all := lw_g (lw_at lw_m4 66 rfl) rfl
theorem q888 : (Jvm.Cond.classLink "OverTheHeads" (133 : Nat) "OverTheHeads$Inner") ∈ lw_all := lw_g (lw_at lw_m4 79 rfl) rfl
theorem q890 : (Jvm.Cond.methodLink "OverTheHeads" (135 : Nat) ({ cls := "OverTheHeads$Inner", name := "<init>", desc := "(LOverTheHeads;III)V" } : Jvm.MethodName)) ∈ lw_all := lw_g (lw_at lw_m4 81 rfl) rfl
theorem q904 : (Jvm.Cond.classLink "OverTheHeads" (136 : Nat) "OverTheHeads$Balcony") ∈ lw_all := lw_g (lw_at lw_m4 95 rfl) rfl
theorem q906 : (Jvm.Cond.methodLink "OverTheHeads" (138 : Nat) ({ cls := "OverTheHeads$Balcony", name := "<init>", desc := "(LOverTheHeads;III)V" } : Jvm.MethodName)) ∈ lw_all := lw_g (lw_at lw_m4 97 rfl) rfl
theorem q920 : (Jvm.Cond.classLink "OverTheHeads" (139 : Nat) "OverTheHeads$Low") ∈ lw_all := lw_g (lw_at lw_m4 111 rfl) rfl
theorem q922 : (Jvm.Cond.methodLink "OverTheHeads" (141 : Nat) ({ cls := "OverTheHeads$Low", name := "<init>", desc := "(LOverTheHeads;III)V" } : Jvm.MethodName)) ∈ lw_all := lw_g (lw_at lw_m4 113 rfl) rfl
theorem q935 : (Jvm.Cond.methodLink "OverTheHeads" (167 : Nat) ({ cls := "java/util/ArrayList", name := "add", desc := "(Ljava/lang/Object;)Z" } : Jvm.MethodName)) ∈ lw_all := lw_g (lw_at lw_m4 126 rfl) rfl
theorem q958 : (Jvm.Cond.selects "OverTheHeads" ({ cls := "java/lang/Object", name := "getClass", desc := "()Ljava/lang/Class;" } : Jvm.MethodName) ({ cls := "java/lang/Object", name := "getClass", desc := "()Ljava/lang/Class;" } : Jvm.MethodName)) ∈ lw_all := lw_g (lw_at lw_m4 149 rfl) rfl
theorem q987 : (Jvm.Cond.instanceMethod ({ cls := "OverTheHeads", name := "set", desc := "(III)I" } : Jvm.MethodName)) ∈ lw_all := lw_g (lw_at lw_m4 178 rfl) rfl
theorem q988 : (Jvm.Cond.selects "OverTheHeads" ({ cls := "OverTheHeads", name := "set", desc := "(III)I" } : Jvm.MethodName) ({ cls := "OverTheHeads", name := "set", desc := "(III)I" } : Jvm.MethodName)) ∈ lw_all := lw_g (lw_at lw_m4 179 rfl) rfl
theorem q989 : (Jvm.Cond.code ({ cls := "OverTheHeads", name := "set", desc := "(III)I" } : Jvm.MethodName) prog_1_method_9_code (5 : Nat) (Option.some Jvm.ClassFile.FieldType.int)) ∈ lw_all := lw_g (lw_at lw_m4 180 rfl) rfl
theorem q990 : (Jvm.Cond.methodLink "OverTheHeads" (146 : Nat) ({ cls := "OverTheHeads", name := "isRow", desc := "(I)Z" } : Jvm.MethodName)) ∈ lw_all := lw_g (lw_at lw_m4 181 rfl) rfl
theorem q991 : (Jvm.Cond.privateMethod ({ cls := "OverTheHeads", name := "isRow", desc := "(I)Z" } : Jvm.MethodName)) ∈ lw_tbl := lw_at lw_m4 182 rfl
theorem q992 : (Jvm.Cond.instanceMethod ({ cls := "OverTheHeads", name := "isRow", desc := "(I)Z" } : Jvm.MethodName)) ∈ lw_all := lw_g (lw_at lw_m4 183 rfl) rfl
theorem q993 : (Jvm.Cond.code ({ cls := "OverTheHeads", name := "isRow", desc := "(I)Z" } : Jvm.MethodName) prog_1_method_6_code (2 : Nat) (Option.some Jvm.ClassFile.FieldType.boolean)) ∈ lw_all := lw_g (lw_at lw_m4 184 rfl) rfl
theorem q994 : (Jvm.Cond.constantLong "OverTheHeads" (171 : Nat) (99 : Int64)) ∈ lw_all := lw_g (lw_at lw_m4 185 rfl) rfl
theorem q996 : (Jvm.Cond.instanceMethod ({ cls := "OverTheHeads", name := "sit", desc := "(III)I" } : Jvm.MethodName)) ∈ lw_all := lw_g (lw_at lw_m4 187 rfl) rfl
theorem q997 : (Jvm.Cond.selects "OverTheHeads" ({ cls := "OverTheHeads", name := "sit", desc := "(III)I" } : Jvm.MethodName) ({ cls := "OverTheHeads", name := "sit", desc := "(III)I" } : Jvm.MethodName)) ∈ lw_all := lw_g (lw_at lw_m4 188 rfl) rfl
theorem q998 : (Jvm.Cond.code ({ cls := "OverTheHeads", name := "sit", desc := "(III)I" } : Jvm.MethodName) prog_1_method_10_code (5 : Nat) (Option.some Jvm.ClassFile.FieldType.int)) ∈ lw_all := lw_g (lw_at lw_m4 189 rfl) rfl
theorem q999 : (Jvm.Cond.methodLink "OverTheHeads" (173 : Nat) ({ cls := "OverTheHeads", name := "isSeat", desc := "(II)Z" } : Jvm.MethodName)) ∈ lw_all := lw_g (lw_at lw_m4 190 rfl) rfl
theorem q1000 : (Jvm.Cond.privateMethod ({ cls := "OverTheHeads", name := "isSeat", desc := "(II)Z" } : Jvm.MethodName)) ∈ lw_tbl := lw_at lw_m4 191 rfl
theorem q1001 : (Jvm.Cond.instanceMethod ({ cls := "OverTheHeads", name := "isSeat", desc := "(II)Z" } : Jvm.MethodName)) ∈ lw_all := lw_g (lw_at lw_m4 192 rfl) rfl
theorem q1002 : (Jvm.Cond.code ({ cls := "OverTheHeads", name := "isSeat", desc := "(II)Z" } : Jvm.MethodName) prog_1_method_7_code (3 : Nat) (Option.some Jvm.ClassFile.FieldType.boolean)) ∈ lw_all := lw_g (lw_at lw_m4 193 rfl) rfl
theorem q1003 : (Jvm.Cond.methodLink "OverTheHeads" (150 : Nat) ({ cls := "java/util/ArrayList", name := "get", desc := "(I)Ljava/lang/Object;" } : Jvm.MethodName)) ∈ lw_all := lw_g (lw_at lw_m4 194 rfl) rfl
theorem q1016 : (Jvm.Cond.instanceMethod ({ cls := "OverTheHeads", name := "told", desc := "(III)I" } : Jvm.MethodName)) ∈ lw_all := lw_g (lw_at lw_m4 207 rfl) rfl
theorem q1017 : (Jvm.Cond.selects "OverTheHeads" ({ cls := "OverTheHeads", name := "told", desc := "(III)I" } : Jvm.MethodName) ({ cls := "OverTheHeads", name := "told", desc := "(III)I" } : Jvm.MethodName)) ∈ lw_all := lw_g (lw_at lw_m4 208 rfl) rfl
theorem q1018 : (Jvm.Cond.code ({ cls := "OverTheHeads", name := "told", desc := "(III)I" } : Jvm.MethodName) prog_1_method_11_code (5 : Nat) (Option.some Jvm.ClassFile.FieldType.int)) ∈ lw_all := lw_g (lw_at lw_m4 209 rfl) rfl
theorem q1019 : (Jvm.Cond.methodLink "OverTheHeads" (180 : Nat) ({ cls := "OverTheHeads$Row", name := "kind", desc := "()I" } : Jvm.MethodName)) ∈ lw_all := lw_g (lw_at lw_m4 210 rfl) rfl
theorem q1042 : (Jvm.Cond.methodLink "OverTheHeads" (183 : Nat) ({ cls := "OverTheHeads$Row", name := "place", desc := "(I)I" } : Jvm.MethodName)) ∈ lw_all := lw_g (lw_at lw_m4 233 rfl) rfl
theorem q1058 : (Jvm.Cond.methodLink "OverTheHeads" (187 : Nat) ({ cls := "OverTheHeads$Row", name := "floor", desc := "()I" } : Jvm.MethodName)) ∈ lw_all := lw_g (lw_at lw_m5 9 rfl) rfl
theorem q1074 : (Jvm.Cond.methodLink "OverTheHeads" (190 : Nat) ({ cls := "OverTheHeads$Row", name := "far", desc := "()I" } : Jvm.MethodName)) ∈ lw_all := lw_g (lw_at lw_m5 25 rfl) rfl
theorem q1089 : (Jvm.Cond.methodLink "OverTheHeads" (193 : Nat) ({ cls := "OverTheHeads$Row", name := "eyes", desc := "(I)I" } : Jvm.MethodName)) ∈ lw_all := lw_g (lw_at lw_m5 40 rfl) rfl
theorem q1114 : (Jvm.Cond.methodLink "OverTheHeads" (196 : Nat) ({ cls := "OverTheHeads$Row", name := "heads", desc := "(I)I" } : Jvm.MethodName)) ∈ lw_all := lw_g (lw_at lw_m5 65 rfl) rfl
theorem q1124 : (Jvm.Cond.methodLink "OverTheHeads" (199 : Nat) ({ cls := "OverTheHeads$Row", name := "isAmong", desc := "()Z" } : Jvm.MethodName)) ∈ lw_all := lw_g (lw_at lw_m5 75 rfl) rfl
theorem q1137 : (Jvm.Cond.instanceMethod ({ cls := "OverTheHeads", name := "point", desc := "(III)I" } : Jvm.MethodName)) ∈ lw_all := lw_g (lw_at lw_m5 88 rfl) rfl
theorem q1138 : (Jvm.Cond.selects "OverTheHeads" ({ cls := "OverTheHeads", name := "point", desc := "(III)I" } : Jvm.MethodName) ({ cls := "OverTheHeads", name := "point", desc := "(III)I" } : Jvm.MethodName)) ∈ lw_all := lw_g (lw_at lw_m5 89 rfl) rfl
theorem q1139 : (Jvm.Cond.code ({ cls := "OverTheHeads", name := "point", desc := "(III)I" } : Jvm.MethodName) prog_1_method_13_code (4 : Nat) (Option.some Jvm.ClassFile.FieldType.int)) ∈ lw_all := lw_g (lw_at lw_m5 90 rfl) rfl
theorem q1140 : (Jvm.Cond.constantLong "OverTheHeads" (206 : Nat) (60 : Int64)) ∈ lw_all := lw_g (lw_at lw_m5 91 rfl) rfl
theorem q1142 : (Jvm.Cond.instanceMethod ({ cls := "OverTheHeads", name := "post", desc := "(II)I" } : Jvm.MethodName)) ∈ lw_all := lw_g (lw_at lw_m5 93 rfl) rfl
theorem q1143 : (Jvm.Cond.selects "OverTheHeads" ({ cls := "OverTheHeads", name := "post", desc := "(II)I" } : Jvm.MethodName) ({ cls := "OverTheHeads", name := "post", desc := "(II)I" } : Jvm.MethodName)) ∈ lw_all := lw_g (lw_at lw_m5 94 rfl) rfl
theorem q1144 : (Jvm.Cond.code ({ cls := "OverTheHeads", name := "post", desc := "(II)I" } : Jvm.MethodName) prog_1_method_14_code (3 : Nat) (Option.some Jvm.ClassFile.FieldType.int)) ∈ lw_all := lw_g (lw_at lw_m5 95 rfl) rfl
theorem q1145 : (Jvm.Cond.constantLong "OverTheHeads" (208 : Nat) (69 : Int64)) ∈ lw_all := lw_g (lw_at lw_m5 96 rfl) rfl
theorem q1147 : (Jvm.Cond.instanceMethod ({ cls := "OverTheHeads", name := "moves", desc := "(III)I" } : Jvm.MethodName)) ∈ lw_all := lw_g (lw_at lw_m5 98 rfl) rfl
theorem q1148 : (Jvm.Cond.selects "OverTheHeads" ({ cls := "OverTheHeads", name := "moves", desc := "(III)I" } : Jvm.MethodName) ({ cls := "OverTheHeads", name := "moves", desc := "(III)I" } : Jvm.MethodName)) ∈ lw_all := lw_g (lw_at lw_m5 99 rfl) rfl
theorem q1149 : (Jvm.Cond.code ({ cls := "OverTheHeads", name := "moves", desc := "(III)I" } : Jvm.MethodName) prog_1_method_15_code (5 : Nat) (Option.some Jvm.ClassFile.FieldType.int)) ∈ lw_all := lw_g (lw_at lw_m5 100 rfl) rfl
theorem q1151 : (Jvm.Cond.instanceMethod ({ cls := "OverTheHeads", name := "count", desc := "(I)I" } : Jvm.MethodName)) ∈ lw_all := lw_g (lw_at lw_m5 102 rfl) rfl
theorem q1152 : (Jvm.Cond.selects "OverTheHeads" ({ cls := "OverTheHeads", name := "count", desc := "(I)I" } : Jvm.MethodName) ({ cls := "OverTheHeads", name := "count", desc := "(I)I" } : Jvm.MethodName)) ∈ lw_all := lw_g (lw_at lw_m5 103 rfl) rfl
theorem q1153 : (Jvm.Cond.code ({ cls := "OverTheHeads", name := "count", desc := "(I)I" } : Jvm.MethodName) prog_1_method_16_code (2 : Nat) (Option.some Jvm.ClassFile.FieldType.int)) ∈ lw_all := lw_g (lw_at lw_m5 104 rfl) rfl
theorem q1155 : (Jvm.Cond.instanceMethod ({ cls := "OverTheHeads", name := "hidden", desc := "(III)I" } : Jvm.MethodName)) ∈ lw_all := lw_g (lw_at lw_m5 106 rfl) rfl
theorem q1156 : (Jvm.Cond.selects "OverTheHeads" ({ cls := "OverTheHeads", name := "hidden", desc := "(III)I" } : Jvm.MethodName) ({ cls := "OverTheHeads", name := "hidden", desc := "(III)I" } : Jvm.MethodName)) ∈ lw_all := lw_g (lw_at lw_m5 107 rfl) rfl
theorem q1157 : (Jvm.Cond.code ({ cls := "OverTheHeads", name := "hidden", desc := "(III)I" } : Jvm.MethodName) prog_1_method_23_code (4 : Nat) (Option.some Jvm.ClassFile.FieldType.int)) ∈ lw_all := lw_g (lw_at lw_m5 108 rfl) rfl
theorem q1158 : (Jvm.Cond.methodLink "OverTheHeads" (253 : Nat) ({ cls := "OverTheHeads", name := "isPoint", desc := "(I)Z" } : Jvm.MethodName)) ∈ lw_all := lw_g (lw_at lw_m5 109 rfl) rfl
theorem q1159 : (Jvm.Cond.privateMethod ({ cls := "OverTheHeads", name := "isPoint", desc := "(I)Z" } : Jvm.MethodName)) ∈ lw_tbl := lw_at lw_m5 110 rfl
theorem q1160 : (Jvm.Cond.instanceMethod ({ cls := "OverTheHeads", name := "isPoint", desc := "(I)Z" } : Jvm.MethodName)) ∈ lw_all := lw_g (lw_at lw_m5 111 rfl) rfl
theorem q1161 : (Jvm.Cond.code ({ cls := "OverTheHeads", name := "isPoint", desc := "(I)Z" } : Jvm.MethodName) prog_1_method_12_code (2 : Nat) (Option.some Jvm.ClassFile.FieldType.boolean)) ∈ lw_all := lw_g (lw_at lw_m5 112 rfl) rfl
theorem q1162 : (Jvm.Cond.methodLink "OverTheHeads" (256 : Nat) ({ cls := "OverTheHeads", name := "hider", desc := "(LOverTheHeads$Row;II)I" } : Jvm.MethodName)) ∈ lw_all := lw_g (lw_at lw_m5 113 rfl) rfl
theorem q1163 : (Jvm.Cond.privateMethod ({ cls := "OverTheHeads", name := "hider", desc := "(LOverTheHeads$Row;II)I" } : Jvm.MethodName)) ∈ lw_tbl := lw_at lw_m5 114 rfl
theorem q1164 : (Jvm.Cond.instanceMethod ({ cls := "OverTheHeads", name := "hider", desc := "(LOverTheHeads$Row;II)I" } : Jvm.MethodName)) ∈ lw_all := lw_g (lw_at lw_m5 115 rfl) rfl
theorem q1165 : (Jvm.Cond.code ({ cls := "OverTheHeads", name := "hider", desc := "(LOverTheHeads$Row;II)I" } : Jvm.MethodName) prog_1_method_22_code (7 : Nat) (Option.some Jvm.ClassFile.FieldType.int)) ∈ lw_all := lw_g (lw_at lw_m5 116 rfl) rfl
theorem q1166 : (Jvm.Cond.methodLink "OverTheHeads" (231 : Nat) ({ cls := "OverTheHeads", name := "isAhead", desc := "(LOverTheHeads$Row;LOverTheHeads$Row;)Z" } : Jvm.MethodName)) ∈ lw_all := lw_g (lw_at lw_m5 117 rfl) rfl
theorem q1167 : (Jvm.Cond.privateMethod ({ cls := "OverTheHeads", name := "isAhead", desc := "(LOverTheHeads$Row;LOverTheHeads$Row;)Z" } : Jvm.MethodName)) ∈ lw_tbl := lw_at lw_m5 118 rfl
theorem q1168 : (Jvm.Cond.instanceMethod ({ cls := "OverTheHeads", name := "isAhead", desc := "(LOverTheHeads$Row;LOverTheHeads$Row;)Z" } : Jvm.MethodName)) ∈ lw_all := lw_g (lw_at lw_m5 119 rfl) rfl
theorem q1169 : (Jvm.Cond.code ({ cls := "OverTheHeads", name := "isAhead", desc := "(LOverTheHeads$Row;LOverTheHeads$Row;)Z" } : Jvm.MethodName) prog_1_method_20_code (3 : Nat) (Option.some Jvm.ClassFile.FieldType.boolean)) ∈ lw_all := lw_g (lw_at lw_m5 120 rfl) rfl
theorem q1170 : (Jvm.Cond.methodLink "OverTheHeads" (235 : Nat) ({ cls := "OverTheHeads", name := "isBy", desc := "(LOverTheHeads$Row;IIII)Z" } : Jvm.MethodName)) ∈ lw_all := lw_g (lw_at lw_m5 121 rfl) rfl
theorem q1171 : (Jvm.Cond.privateMethod ({ cls := "OverTheHeads", name := "isBy", desc := "(LOverTheHeads$Row;IIII)Z" } : Jvm.MethodName)) ∈ lw_tbl := lw_at lw_m5 122 rfl
theorem q1172 : (Jvm.Cond.instanceMethod ({ cls := "OverTheHeads", name := "isBy", desc := "(LOverTheHeads$Row;IIII)Z" } : Jvm.MethodName)) ∈ lw_all := lw_g (lw_at lw_m5 123 rfl) rfl
theorem q1173 : (Jvm.Cond.code ({ cls := "OverTheHeads", name := "isBy", desc := "(LOverTheHeads$Row;IIII)Z" } : Jvm.MethodName) prog_1_method_18_code (6 : Nat) (Option.some Jvm.ClassFile.FieldType.boolean)) ∈ lw_all := lw_g (lw_at lw_m5 124 rfl) rfl
theorem q1174 : (Jvm.Cond.methodLink "OverTheHeads" (219 : Nat) ({ cls := "OverTheHeads", name := "along", desc := "(IIII)I" } : Jvm.MethodName)) ∈ lw_all := lw_g (lw_at lw_m5 125 rfl) rfl
theorem q1175 : (Jvm.Cond.static ({ cls := "OverTheHeads", name := "along", desc := "(IIII)I" } : Jvm.MethodName)) ∈ lw_all := lw_g (lw_at lw_m5 126 rfl) rfl
theorem q1176 : (Jvm.Cond.code ({ cls := "OverTheHeads", name := "along", desc := "(IIII)I" } : Jvm.MethodName) prog_1_method_17_code (4 : Nat) (Option.some Jvm.ClassFile.FieldType.int)) ∈ lw_all := lw_g (lw_at lw_m5 127 rfl) rfl
theorem q1177 : (Jvm.Cond.methodLink "OverTheHeads" (223 : Nat) ({ cls := "java/lang/Math", name := "abs", desc := "(I)I" } : Jvm.MethodName)) ∈ lw_all := lw_g (lw_at lw_m5 128 rfl) rfl
theorem q1180 : (Jvm.Cond.methodLink "OverTheHeads" (245 : Nat) ({ cls := "OverTheHeads", name := "hides", desc := "(LOverTheHeads$Row;IILOverTheHeads$Row;I)Z" } : Jvm.MethodName)) ∈ lw_all := lw_g (lw_at lw_m5 131 rfl) rfl
theorem q1181 : (Jvm.Cond.privateMethod ({ cls := "OverTheHeads", name := "hides", desc := "(LOverTheHeads$Row;IILOverTheHeads$Row;I)Z" } : Jvm.MethodName)) ∈ lw_tbl := lw_at lw_m5 132 rfl
theorem q1182 : (Jvm.Cond.instanceMethod ({ cls := "OverTheHeads", name := "hides", desc := "(LOverTheHeads$Row;IILOverTheHeads$Row;I)Z" } : Jvm.MethodName)) ∈ lw_all := lw_g (lw_at lw_m5 133 rfl) rfl
theorem q1183 : (Jvm.Cond.code ({ cls := "OverTheHeads", name := "hides", desc := "(LOverTheHeads$Row;IILOverTheHeads$Row;I)Z" } : Jvm.MethodName) prog_1_method_19_code (6 : Nat) (Option.some Jvm.ClassFile.FieldType.boolean)) ∈ lw_all := lw_g (lw_at lw_m5 134 rfl) rfl
theorem q1184 : (Jvm.Cond.methodLink "OverTheHeads" (249 : Nat) ({ cls := "OverTheHeads", name := "isPosted", desc := "(LOverTheHeads$Row;III)Z" } : Jvm.MethodName)) ∈ lw_all := lw_g (lw_at lw_m5 135 rfl) rfl
theorem q1185 : (Jvm.Cond.privateMethod ({ cls := "OverTheHeads", name := "isPosted", desc := "(LOverTheHeads$Row;III)Z" } : Jvm.MethodName)) ∈ lw_tbl := lw_at lw_m5 136 rfl
theorem q1186 : (Jvm.Cond.instanceMethod ({ cls := "OverTheHeads", name := "isPosted", desc := "(LOverTheHeads$Row;III)Z" } : Jvm.MethodName)) ∈ lw_all := lw_g (lw_at lw_m5 137 rfl) rfl
theorem q1187 : (Jvm.Cond.code ({ cls := "OverTheHeads", name := "isPosted", desc := "(LOverTheHeads$Row;III)Z" } : Jvm.MethodName) prog_1_method_21_code (5 : Nat) (Option.some Jvm.ClassFile.FieldType.boolean)) ∈ lw_all := lw_g (lw_at lw_m5 138 rfl) rfl
theorem q1189 : (Jvm.Cond.instanceMethod ({ cls := "OverTheHeads", name := "sees", desc := "(II)I" } : Jvm.MethodName)) ∈ lw_all := lw_g (lw_at lw_m5 140 rfl) rfl
theorem q1190 : (Jvm.Cond.selects "OverTheHeads" ({ cls := "OverTheHeads", name := "sees", desc := "(II)I" } : Jvm.MethodName) ({ cls := "OverTheHeads", name := "sees", desc := "(II)I" } : Jvm.MethodName)) ∈ lw_all := lw_g (lw_at lw_m5 141 rfl) rfl
theorem q1191 : (Jvm.Cond.code ({ cls := "OverTheHeads", name := "sees", desc := "(II)I" } : Jvm.MethodName) prog_1_method_25_code (3 : Nat) (Option.some Jvm.ClassFile.FieldType.int)) ∈ lw_all := lw_g (lw_at lw_m5 142 rfl) rfl
theorem q1192 : (Jvm.Cond.methodLink "OverTheHeads" (260 : Nat) ({ cls := "OverTheHeads", name := "seenBy", desc := "(LOverTheHeads$Row;I)I" } : Jvm.MethodName)) ∈ lw_all := lw_g (lw_at lw_m5 143 rfl) rfl
theorem q1193 : (Jvm.Cond.privateMethod ({ cls := "OverTheHeads", name := "seenBy", desc := "(LOverTheHeads$Row;I)I" } : Jvm.MethodName)) ∈ lw_tbl := lw_at lw_m5 144 rfl
theorem q1194 : (Jvm.Cond.instanceMethod ({ cls := "OverTheHeads", name := "seenBy", desc := "(LOverTheHeads$Row;I)I" } : Jvm.MethodName)) ∈ lw_all := lw_g (lw_at lw_m5 145 rfl) rfl
theorem q1195 : (Jvm.Cond.code ({ cls := "OverTheHeads", name := "seenBy", desc := "(LOverTheHeads$Row;I)I" } : Jvm.MethodName) prog_1_method_24_code (5 : Nat) (Option.some Jvm.ClassFile.FieldType.int)) ∈ lw_all := lw_g (lw_at lw_m5 146 rfl) rfl
theorem q1197 : (Jvm.Cond.instanceMethod ({ cls := "OverTheHeads", name := "worth", desc := "(II)I" } : Jvm.MethodName)) ∈ lw_all := lw_g (lw_at lw_m5 148 rfl) rfl
theorem q1198 : (Jvm.Cond.selects "OverTheHeads" ({ cls := "OverTheHeads", name := "worth", desc := "(II)I" } : Jvm.MethodName) ({ cls := "OverTheHeads", name := "worth", desc := "(II)I" } : Jvm.MethodName)) ∈ lw_all := lw_g (lw_at lw_m5 149 rfl) rfl
theorem q1199 : (Jvm.Cond.code ({ cls := "OverTheHeads", name := "worth", desc := "(II)I" } : Jvm.MethodName) prog_1_method_29_code (3 : Nat) (Option.some Jvm.ClassFile.FieldType.int)) ∈ lw_all := lw_g (lw_at lw_m5 150 rfl) rfl
theorem q1200 : (Jvm.Cond.methodLink "OverTheHeads" (284 : Nat) ({ cls := "OverTheHeads", name := "worthOf", desc := "(LOverTheHeads$Row;I)I" } : Jvm.MethodName)) ∈ lw_all := lw_g (lw_at lw_m5 151 rfl) rfl
theorem q1201 : (Jvm.Cond.privateMethod ({ cls := "OverTheHeads", name := "worthOf", desc := "(LOverTheHeads$Row;I)I" } : Jvm.MethodName)) ∈ lw_tbl := lw_at lw_m5 152 rfl
theorem q1202 : (Jvm.Cond.instanceMethod ({ cls := "OverTheHeads", name := "worthOf", desc := "(LOverTheHeads$Row;I)I" } : Jvm.MethodName)) ∈ lw_all := lw_g (lw_at lw_m5 153 rfl) rfl
theorem q1203 : (Jvm.Cond.code ({ cls := "OverTheHeads", name := "worthOf", desc := "(LOverTheHeads$Row;I)I" } : Jvm.MethodName) prog_1_method_28_code (6 : Nat) (Option.some Jvm.ClassFile.FieldType.int)) ∈ lw_all := lw_g (lw_at lw_m5 154 rfl) rfl
theorem q1204 : (Jvm.Cond.methodLink "OverTheHeads" (281 : Nat) ({ cls := "OverTheHeads", name := "likes", desc := "(LOverTheHeads$Row;II)I" } : Jvm.MethodName)) ∈ lw_all := lw_g (lw_at lw_m5 155 rfl) rfl
theorem q1205 : (Jvm.Cond.privateMethod ({ cls := "OverTheHeads", name := "likes", desc := "(LOverTheHeads$Row;II)I" } : Jvm.MethodName)) ∈ lw_tbl := lw_at lw_m5 156 rfl
theorem q1206 : (Jvm.Cond.instanceMethod ({ cls := "OverTheHeads", name := "likes", desc := "(LOverTheHeads$Row;II)I" } : Jvm.MethodName)) ∈ lw_all := lw_g (lw_at lw_m5 157 rfl) rfl
theorem q1207 : (Jvm.Cond.code ({ cls := "OverTheHeads", name := "likes", desc := "(LOverTheHeads$Row;II)I" } : Jvm.MethodName) prog_1_method_27_code (4 : Nat) (Option.some Jvm.ClassFile.FieldType.int)) ∈ lw_all := lw_g (lw_at lw_m5 158 rfl) rfl
theorem q1208 : (Jvm.Cond.methodLink "OverTheHeads" (277 : Nat) ({ cls := "OverTheHeads", name := "says", desc := "(IIIIIII)I" } : Jvm.MethodName)) ∈ lw_all := lw_g (lw_at lw_m5 159 rfl) rfl
theorem q1209 : (Jvm.Cond.privateMethod ({ cls := "OverTheHeads", name := "says", desc := "(IIIIIII)I" } : Jvm.MethodName)) ∈ lw_tbl := lw_at lw_m5 160 rfl
theorem q1210 : (Jvm.Cond.instanceMethod ({ cls := "OverTheHeads", name := "says", desc := "(IIIIIII)I" } : Jvm.MethodName)) ∈ lw_all := lw_g (lw_at lw_m5 161 rfl) rfl
theorem q1211 : (Jvm.Cond.code ({ cls := "OverTheHeads", name := "says", desc := "(IIIIIII)I" } : Jvm.MethodName) prog_1_method_26_code (8 : Nat) (Option.some Jvm.ClassFile.FieldType.int)) ∈ lw_all := lw_g (lw_at lw_m5 162 rfl) rfl
theorem q1212 : (Jvm.Cond.interfaceEntry "OverTheHeads" (264 : Nat)) ∈ lw_tbl := lw_at lw_m5 163 rfl
theorem q1213 : (Jvm.Cond.methodLink "OverTheHeads" (264 : Nat) ({ cls := "OverTheHeads$Node", name := "worth", desc := "([I)I" } : Jvm.MethodName)) ∈ lw_all := lw_g (lw_at lw_m5 164 rfl) rfl
theorem q1238 : (Jvm.Cond.methodLink "OverTheHeads" (270 : Nat) ({ cls := "java/lang/Math", name := "min", desc := "(II)I" } : Jvm.MethodName)) ∈ lw_all := lw_g (lw_at lw_m5 189 rfl) rfl
theorem q1239 : (Jvm.Cond.methodLink "OverTheHeads" (274 : Nat) ({ cls := "java/lang/Math", name := "max", desc := "(II)I" } : Jvm.MethodName)) ∈ lw_all := lw_g (lw_at lw_m5 190 rfl) rfl
theorem q1241 : (Jvm.Cond.instanceMethod ({ cls := "OverTheHeads", name := "price", desc := "(II)I" } : Jvm.MethodName)) ∈ lw_all := lw_g (lw_at lw_m5 192 rfl) rfl
theorem q1242 : (Jvm.Cond.selects "OverTheHeads" ({ cls := "OverTheHeads", name := "price", desc := "(II)I" } : Jvm.MethodName) ({ cls := "OverTheHeads", name := "price", desc := "(II)I" } : Jvm.MethodName)) ∈ lw_all := lw_g (lw_at lw_m5 193 rfl) rfl
theorem q1243 : (Jvm.Cond.code ({ cls := "OverTheHeads", name := "price", desc := "(II)I" } : Jvm.MethodName) prog_1_method_32_code (4 : Nat) (Option.some Jvm.ClassFile.FieldType.int)) ∈ lw_all := lw_g (lw_at lw_m5 194 rfl) rfl
theorem q1245 : (Jvm.Cond.instanceMethod ({ cls := "OverTheHeads", name := "all", desc := "(I)I" } : Jvm.MethodName)) ∈ lw_all := lw_g (lw_at lw_m5 196 rfl) rfl
theorem q1246 : (Jvm.Cond.selects "OverTheHeads" ({ cls := "OverTheHeads", name := "all", desc := "(I)I" } : Jvm.MethodName) ({ cls := "OverTheHeads", name := "all", desc := "(I)I" } : Jvm.MethodName)) ∈ lw_all := lw_g (lw_at lw_m5 197 rfl) rfl
theorem q1247 : (Jvm.Cond.code ({ cls := "OverTheHeads", name := "all", desc := "(I)I" } : Jvm.MethodName) prog_1_method_33_code (6 : Nat) (Option.some Jvm.ClassFile.FieldType.int)) ∈ lw_all := lw_g (lw_at lw_m5 198 rfl) rfl
theorem q1248 : (Jvm.Cond.methodLink "OverTheHeads" (291 : Nat) ({ cls := "OverTheHeads", name := "price", desc := "(II)I" } : Jvm.MethodName)) ∈ lw_all := lw_g (lw_at lw_m5 199 rfl) rfl
theorem q1250 : (Jvm.Cond.instanceMethod ({ cls := "OverTheHeads", name := "cost", desc := "()I" } : Jvm.MethodName)) ∈ lw_all := lw_g (lw_at lw_m5 201 rfl) rfl
theorem q1251 : (Jvm.Cond.selects "OverTheHeads" ({ cls := "OverTheHeads", name := "cost", desc := "()I" } : Jvm.MethodName) ({ cls := "OverTheHeads", name := "cost", desc := "()I" } : Jvm.MethodName)) ∈ lw_all := lw_g (lw_at lw_m5 202 rfl) rfl
theorem q1252 : (Jvm.Cond.code ({ cls := "OverTheHeads", name := "cost", desc := "()I" } : Jvm.MethodName) prog_1_method_36_code (1 : Nat) (Option.some Jvm.ClassFile.FieldType.int)) ∈ lw_all := lw_g (lw_at lw_m5 203 rfl) rfl
theorem q1253 : (Jvm.Cond.methodLink "OverTheHeads" (297 : Nat) ({ cls := "OverTheHeads", name := "costs", desc := "()I" } : Jvm.MethodName)) ∈ lw_all := lw_g (lw_at lw_m5 204 rfl) rfl
theorem q1254 : (Jvm.Cond.privateMethod ({ cls := "OverTheHeads", name := "costs", desc := "()I" } : Jvm.MethodName)) ∈ lw_tbl := lw_at lw_m5 205 rfl
theorem q1255 : (Jvm.Cond.instanceMethod ({ cls := "OverTheHeads", name := "costs", desc := "()I" } : Jvm.MethodName)) ∈ lw_all := lw_g (lw_at lw_m5 206 rfl) rfl
theorem q1256 : (Jvm.Cond.code ({ cls := "OverTheHeads", name := "costs", desc := "()I" } : Jvm.MethodName) prog_1_method_35_code (3 : Nat) (Option.some Jvm.ClassFile.FieldType.int)) ∈ lw_all := lw_g (lw_at lw_m5 207 rfl) rfl
theorem q1257 : (Jvm.Cond.methodLink "OverTheHeads" (294 : Nat) ({ cls := "OverTheHeads", name := "stepCost", desc := "(I)I" } : Jvm.MethodName)) ∈ lw_all := lw_g (lw_at lw_m5 208 rfl) rfl
theorem q1258 : (Jvm.Cond.privateMethod ({ cls := "OverTheHeads", name := "stepCost", desc := "(I)I" } : Jvm.MethodName)) ∈ lw_tbl := lw_at lw_m5 209 rfl
theorem q1259 : (Jvm.Cond.instanceMethod ({ cls := "OverTheHeads", name := "stepCost", desc := "(I)I" } : Jvm.MethodName)) ∈ lw_all := lw_g (lw_at lw_m5 210 rfl) rfl
theorem q1260 : (Jvm.Cond.code ({ cls := "OverTheHeads", name := "stepCost", desc := "(I)I" } : Jvm.MethodName) prog_1_method_34_code (3 : Nat) (Option.some Jvm.ClassFile.FieldType.int)) ∈ lw_all := lw_g (lw_at lw_m5 211 rfl) rfl
theorem q1262 : (Jvm.Cond.instanceMethod ({ cls := "OverTheHeads", name := "lawful", desc := "(I)I" } : Jvm.MethodName)) ∈ lw_all := lw_g (lw_at lw_m5 213 rfl) rfl
theorem q1263 : (Jvm.Cond.selects "OverTheHeads" ({ cls := "OverTheHeads", name := "lawful", desc := "(I)I" } : Jvm.MethodName) ({ cls := "OverTheHeads", name := "lawful", desc := "(I)I" } : Jvm.MethodName)) ∈ lw_all := lw_g (lw_at lw_m5 214 rfl) rfl
theorem q1264 : (Jvm.Cond.code ({ cls := "OverTheHeads", name := "lawful", desc := "(I)I" } : Jvm.MethodName) prog_1_method_37_code (3 : Nat) (Option.some Jvm.ClassFile.FieldType.int)) ∈ lw_all := lw_g (lw_at lw_m5 215 rfl) rfl
theorem q1266 : (Jvm.Cond.instanceMethod ({ cls := "OverTheHeads", name := "judge", desc := "(I)I" } : Jvm.MethodName)) ∈ lw_all := lw_g (lw_at lw_m5 217 rfl) rfl
theorem q1267 : (Jvm.Cond.selects "OverTheHeads" ({ cls := "OverTheHeads", name := "judge", desc := "(I)I" } : Jvm.MethodName) ({ cls := "OverTheHeads", name := "judge", desc := "(I)I" } : Jvm.MethodName)) ∈ lw_all := lw_g (lw_at lw_m5 218 rfl) rfl
theorem q1268 : (Jvm.Cond.codeWith ({ cls := "OverTheHeads", name := "judge", desc := "(I)I" } : Jvm.MethodName) prog_1_method_38_code (6 : Nat) (Option.some Jvm.ClassFile.FieldType.int) [((84 : Nat), (122 : Nat), (143 : Nat), (0 : Nat)), ((129 : Nat), (137 : Nat), (143 : Nat), (0 : Nat)), ((143 : Nat), (145 : Nat), (143 : Nat), (0 : Nat))]) ∈ lw_all := lw_g (lw_at lw_m5 219 rfl) rfl
theorem q1269 : (Jvm.Cond.methodLink "OverTheHeads" (300 : Nat) ({ cls := "OverTheHeads", name := "isSheet", desc := "(I)Z" } : Jvm.MethodName)) ∈ lw_all := lw_g (lw_at lw_m5 220 rfl) rfl
theorem q1270 : (Jvm.Cond.static ({ cls := "OverTheHeads", name := "isSheet", desc := "(I)Z" } : Jvm.MethodName)) ∈ lw_all := lw_g (lw_at lw_m5 221 rfl) rfl
theorem q1271 : (Jvm.Cond.code ({ cls := "OverTheHeads", name := "isSheet", desc := "(I)Z" } : Jvm.MethodName) prog_1_method_76_code (1 : Nat) (Option.some Jvm.ClassFile.FieldType.boolean)) ∈ lw_all := lw_g (lw_at lw_m5 222 rfl) rfl
theorem q1272 : (Jvm.Cond.methodLink "OverTheHeads" (311 : Nat) ({ cls := "OverTheHeads", name := "keepsRises", desc := "()V" } : Jvm.MethodName)) ∈ lw_all := lw_g (lw_at lw_m5 223 rfl) rfl
theorem q1273 : (Jvm.Cond.privateMethod ({ cls := "OverTheHeads", name := "keepsRises", desc := "()V" } : Jvm.MethodName)) ∈ lw_tbl := lw_at lw_m5 224 rfl
theorem q1274 : (Jvm.Cond.instanceMethod ({ cls := "OverTheHeads", name := "keepsRises", desc := "()V" } : Jvm.MethodName)) ∈ lw_all := lw_g (lw_at lw_m5 225 rfl) rfl
theorem q1275 : (Jvm.Cond.code ({ cls := "OverTheHeads", name := "keepsRises", desc := "()V" } : Jvm.MethodName) prog_1_method_39_code (1 : Nat) (Option.none : Option Jvm.ClassFile.FieldType)) ∈ lw_all := lw_g (lw_at lw_m5 226 rfl) rfl
theorem q1276 : (Jvm.Cond.methodLink "OverTheHeads" (314 : Nat) ({ cls := "java/lang/System", name := "arraycopy", desc := "(Ljava/lang/Object;ILjava/lang/Object;II)V" } : Jvm.MethodName)) ∈ lw_all := lw_g (lw_at lw_m5 227 rfl) rfl
theorem q1277 : (Jvm.Cond.methodLink "OverTheHeads" (320 : Nat) ({ cls := "OverTheHeads", name := "seesAll", desc := "(I)Z" } : Jvm.MethodName)) ∈ lw_all := lw_g (lw_at lw_m5 228 rfl) rfl
theorem q1278 : (Jvm.Cond.privateMethod ({ cls := "OverTheHeads", name := "seesAll", desc := "(I)Z" } : Jvm.MethodName)) ∈ lw_tbl := lw_at lw_m5 229 rfl
theorem q1279 : (Jvm.Cond.instanceMethod ({ cls := "OverTheHeads", name := "seesAll", desc := "(I)Z" } : Jvm.MethodName)) ∈ lw_all := lw_g (lw_at lw_m5 230 rfl) rfl
theorem q1280 : (Jvm.Cond.code ({ cls := "OverTheHeads", name := "seesAll", desc := "(I)Z" } : Jvm.MethodName) prog_1_method_41_code (3 : Nat) (Option.some Jvm.ClassFile.FieldType.boolean)) ∈ lw_all := lw_g (lw_at lw_m5 231 rfl) rfl
theorem q1281 : (Jvm.Cond.methodLink "OverTheHeads" (323 : Nat) ({ cls := "OverTheHeads", name := "laysRises", desc := "()V" } : Jvm.MethodName)) ∈ lw_all := lw_g (lw_at lw_m5 232 rfl) rfl
theorem q1282 : (Jvm.Cond.privateMethod ({ cls := "OverTheHeads", name := "laysRises", desc := "()V" } : Jvm.MethodName)) ∈ lw_tbl := lw_at lw_m5 233 rfl
theorem q1283 : (Jvm.Cond.instanceMethod ({ cls := "OverTheHeads", name := "laysRises", desc := "()V" } : Jvm.MethodName)) ∈ lw_all := lw_g (lw_at lw_m5 234 rfl) rfl
theorem q1284 : (Jvm.Cond.code ({ cls := "OverTheHeads", name := "laysRises", desc := "()V" } : Jvm.MethodName) prog_1_method_40_code (1 : Nat) (Option.none : Option Jvm.ClassFile.FieldType)) ∈ lw_all := lw_g (lw_at lw_m5 235 rfl) rfl
theorem q1286 : (Jvm.Cond.instanceMethod ({ cls := "OverTheHeads", name := "chance", desc := "(IIII)J" } : Jvm.MethodName)) ∈ lw_all := lw_g (lw_at lw_m5 237 rfl) rfl
theorem q1287 : (Jvm.Cond.selects "OverTheHeads" ({ cls := "OverTheHeads", name := "chance", desc := "(IIII)J" } : Jvm.MethodName) ({ cls := "OverTheHeads", name := "chance", desc := "(IIII)J" } : Jvm.MethodName)) ∈ lw_all := lw_g (lw_at lw_m5 238 rfl) rfl
theorem q1288 : (Jvm.Cond.code ({ cls := "OverTheHeads", name := "chance", desc := "(IIII)J" } : Jvm.MethodName) prog_1_method_46_code (5 : Nat) (Option.some Jvm.ClassFile.FieldType.long)) ∈ lw_all := lw_g (lw_at lw_m5 239 rfl) rfl
theorem q1289 : (Jvm.Cond.methodLink "OverTheHeads" (335 : Nat) ({ cls := "OverTheHeads", name := "weights", desc := "()J" } : Jvm.MethodName)) ∈ lw_all := lw_g (lw_at lw_m6 0 rfl) rfl
theorem q1290 : (Jvm.Cond.privateMethod ({ cls := "OverTheHeads", name := "weights", desc := "()J" } : Jvm.MethodName)) ∈ lw_tbl := lw_at lw_m6 1 rfl
theorem q1291 : (Jvm.Cond.instanceMethod ({ cls := "OverTheHeads", name := "weights", desc := "()J" } : Jvm.MethodName)) ∈ lw_all := lw_g (lw_at lw_m6 2 rfl) rfl
theorem q1292 : (Jvm.Cond.code ({ cls := "OverTheHeads", name := "weights", desc := "()J" } : Jvm.MethodName) prog_1_method_42_code (4 : Nat) (Option.some Jvm.ClassFile.FieldType.long)) ∈ lw_all := lw_g (lw_at lw_m6 3 rfl) rfl
theorem q1293 : (Jvm.Cond.constantLong "OverTheHeads" (339 : Nat) (-4611686018427387904 : Int64)) ∈ lw_all := lw_g (lw_at lw_m6 4 rfl) rfl
theorem q1294 : (Jvm.Cond.methodLink "OverTheHeads" (341 : Nat) ({ cls := "OverTheHeads", name := "chances", desc := "(LOverTheHeads$Row;II)V" } : Jvm.MethodName)) ∈ lw_all := lw_g (lw_at lw_m6 5 rfl) rfl
theorem q1295 : (Jvm.Cond.privateMethod ({ cls := "OverTheHeads", name := "chances", desc := "(LOverTheHeads$Row;II)V" } : Jvm.MethodName)) ∈ lw_tbl := lw_at lw_m6 6 rfl
theorem q1296 : (Jvm.Cond.instanceMethod ({ cls := "OverTheHeads", name := "chances", desc := "(LOverTheHeads$Row;II)V" } : Jvm.MethodName)) ∈ lw_all := lw_g (lw_at lw_m6 7 rfl) rfl
theorem q1297 : (Jvm.Cond.code ({ cls := "OverTheHeads", name := "chances", desc := "(LOverTheHeads$Row;II)V" } : Jvm.MethodName) prog_1_method_43_code (10 : Nat) (Option.none : Option Jvm.ClassFile.FieldType)) ∈ lw_all := lw_g (lw_at lw_m6 8 rfl) rfl
theorem q1298 : (Jvm.Cond.methodLink "OverTheHeads" (345 : Nat) ({ cls := "OverTheHeads", name := "power", desc := "(JI)J" } : Jvm.MethodName)) ∈ lw_all := lw_g (lw_at lw_m6 9 rfl) rfl
theorem q1299 : (Jvm.Cond.static ({ cls := "OverTheHeads", name := "power", desc := "(JI)J" } : Jvm.MethodName)) ∈ lw_all := lw_g (lw_at lw_m6 10 rfl) rfl
theorem q1300 : (Jvm.Cond.code ({ cls := "OverTheHeads", name := "power", desc := "(JI)J" } : Jvm.MethodName) prog_1_method_44_code (6 : Nat) (Option.some Jvm.ClassFile.FieldType.long)) ∈ lw_all := lw_g (lw_at lw_m6 11 rfl) rfl
theorem q1301 : (Jvm.Cond.methodLink "OverTheHeads" (349 : Nat) ({ cls := "OverTheHeads", name := "lowest", desc := "(JJI)J" } : Jvm.MethodName)) ∈ lw_all := lw_g (lw_at lw_m6 12 rfl) rfl
theorem q1302 : (Jvm.Cond.static ({ cls := "OverTheHeads", name := "lowest", desc := "(JJI)J" } : Jvm.MethodName)) ∈ lw_all := lw_g (lw_at lw_m6 13 rfl) rfl
theorem q1303 : (Jvm.Cond.code ({ cls := "OverTheHeads", name := "lowest", desc := "(JJI)J" } : Jvm.MethodName) prog_1_method_45_code (11 : Nat) (Option.some Jvm.ClassFile.FieldType.long)) ∈ lw_all := lw_g (lw_at lw_m6 14 rfl) rfl
theorem q1304 : (Jvm.Cond.methodLink "OverTheHeads" (332 : Nat) ({ cls := "java/lang/Math", name := "abs", desc := "(J)J" } : Jvm.MethodName)) ∈ lw_all := lw_g (lw_at lw_m6 15 rfl) rfl
theorem q1308 : (Jvm.Cond.instanceMethod ({ cls := "OverTheHeads", name := "mean", desc := "(III)J" } : Jvm.MethodName)) ∈ lw_all := lw_g (lw_at lw_m6 19 rfl) rfl
theorem q1309 : (Jvm.Cond.selects "OverTheHeads" ({ cls := "OverTheHeads", name := "mean", desc := "(III)J" } : Jvm.MethodName) ({ cls := "OverTheHeads", name := "mean", desc := "(III)J" } : Jvm.MethodName)) ∈ lw_all := lw_g (lw_at lw_m6 20 rfl) rfl
theorem q1310 : (Jvm.Cond.code ({ cls := "OverTheHeads", name := "mean", desc := "(III)J" } : Jvm.MethodName) prog_1_method_47_code (9 : Nat) (Option.some Jvm.ClassFile.FieldType.long)) ∈ lw_all := lw_g (lw_at lw_m6 21 rfl) rfl
theorem q1312 : (Jvm.Cond.instanceMethod ({ cls := "OverTheHeads", name := "tall", desc := "(I)I" } : Jvm.MethodName)) ∈ lw_all := lw_g (lw_at lw_m6 23 rfl) rfl
theorem q1313 : (Jvm.Cond.selects "OverTheHeads" ({ cls := "OverTheHeads", name := "tall", desc := "(I)I" } : Jvm.MethodName) ({ cls := "OverTheHeads", name := "tall", desc := "(I)I" } : Jvm.MethodName)) ∈ lw_all := lw_g (lw_at lw_m6 24 rfl) rfl
theorem q1314 : (Jvm.Cond.codeWith ({ cls := "OverTheHeads", name := "tall", desc := "(I)I" } : Jvm.MethodName) prog_1_method_48_code (4 : Nat) (Option.some Jvm.ClassFile.FieldType.int) [((19 : Nat), (62 : Nat), (68 : Nat), (0 : Nat))]) ∈ lw_all := lw_g (lw_at lw_m6 25 rfl) rfl
theorem q1315 : (Jvm.Cond.methodLink "OverTheHeads" (353 : Nat) ({ cls := "OverTheHeads", name := "keepsSits", desc := "()V" } : Jvm.MethodName)) ∈ lw_all := lw_g (lw_at lw_m6 26 rfl) rfl
theorem q1316 : (Jvm.Cond.privateMethod ({ cls := "OverTheHeads", name := "keepsSits", desc := "()V" } : Jvm.MethodName)) ∈ lw_tbl := lw_at lw_m6 27 rfl
theorem q1317 : (Jvm.Cond.instanceMethod ({ cls := "OverTheHeads", name := "keepsSits", desc := "()V" } : Jvm.MethodName)) ∈ lw_all := lw_g (lw_at lw_m6 28 rfl) rfl
theorem q1318 : (Jvm.Cond.code ({ cls := "OverTheHeads", name := "keepsSits", desc := "()V" } : Jvm.MethodName) prog_1_method_49_code (2 : Nat) (Option.none : Option Jvm.ClassFile.FieldType)) ∈ lw_all := lw_g (lw_at lw_m6 29 rfl) rfl
theorem q1319 : (Jvm.Cond.methodLink "OverTheHeads" (356 : Nat) ({ cls := "java/util/Arrays", name := "fill", desc := "([BB)V" } : Jvm.MethodName)) ∈ lw_all := lw_g (lw_at lw_m6 30 rfl) rfl
theorem q1322 : (Jvm.Cond.methodLink "OverTheHeads" (362 : Nat) ({ cls := "OverTheHeads", name := "allWorth", desc := "()I" } : Jvm.MethodName)) ∈ lw_all := lw_g (lw_at lw_m6 33 rfl) rfl
theorem q1323 : (Jvm.Cond.privateMethod ({ cls := "OverTheHeads", name := "allWorth", desc := "()I" } : Jvm.MethodName)) ∈ lw_tbl := lw_at lw_m6 34 rfl
theorem q1324 : (Jvm.Cond.instanceMethod ({ cls := "OverTheHeads", name := "allWorth", desc := "()I" } : Jvm.MethodName)) ∈ lw_all := lw_g (lw_at lw_m6 35 rfl) rfl
theorem q1325 : (Jvm.Cond.code ({ cls := "OverTheHeads", name := "allWorth", desc := "()I" } : Jvm.MethodName) prog_1_method_31_code (3 : Nat) (Option.some Jvm.ClassFile.FieldType.int)) ∈ lw_all := lw_g (lw_at lw_m6 36 rfl) rfl
theorem q1326 : (Jvm.Cond.methodLink "OverTheHeads" (287 : Nat) ({ cls := "OverTheHeads", name := "rowWorth", desc := "(LOverTheHeads$Row;)I" } : Jvm.MethodName)) ∈ lw_all := lw_g (lw_at lw_m6 37 rfl) rfl
theorem q1327 : (Jvm.Cond.privateMethod ({ cls := "OverTheHeads", name := "rowWorth", desc := "(LOverTheHeads$Row;)I" } : Jvm.MethodName)) ∈ lw_tbl := lw_at lw_m6 38 rfl
theorem q1328 : (Jvm.Cond.instanceMethod ({ cls := "OverTheHeads", name := "rowWorth", desc := "(LOverTheHeads$Row;)I" } : Jvm.MethodName)) ∈ lw_all := lw_g (lw_at lw_m6 39 rfl) rfl
theorem q1329 : (Jvm.Cond.code ({ cls := "OverTheHeads", name := "rowWorth", desc := "(LOverTheHeads$Row;)I" } : Jvm.MethodName) prog_1_method_30_code (4 : Nat) (Option.some Jvm.ClassFile.FieldType.int)) ∈ lw_all := lw_g (lw_at lw_m6 40 rfl) rfl
theorem q1330 : (Jvm.Cond.methodLink "OverTheHeads" (365 : Nat) ({ cls := "OverTheHeads", name := "laysSits", desc := "()V" } : Jvm.MethodName)) ∈ lw_all := lw_g (lw_at lw_m6 41 rfl) rfl
theorem q1331 : (Jvm.Cond.privateMethod ({ cls := "OverTheHeads", name := "laysSits", desc := "()V" } : Jvm.MethodName)) ∈ lw_tbl := lw_at lw_m6 42 rfl
theorem q1332 : (Jvm.Cond.instanceMethod ({ cls := "OverTheHeads", name := "laysSits", desc := "()V" } : Jvm.MethodName)) ∈ lw_all := lw_g (lw_at lw_m6 43 rfl) rfl
theorem q1333 : (Jvm.Cond.code ({ cls := "OverTheHeads", name := "laysSits", desc := "()V" } : Jvm.MethodName) prog_1_method_50_code (2 : Nat) (Option.none : Option Jvm.ClassFile.FieldType)) ∈ lw_all := lw_g (lw_at lw_m6 44 rfl) rfl
theorem q1335 : (Jvm.Cond.instanceMethod ({ cls := "OverTheHeads", name := "needs", desc := "(I)I" } : Jvm.MethodName)) ∈ lw_all := lw_g (lw_at lw_m6 46 rfl) rfl
theorem q1336 : (Jvm.Cond.selects "OverTheHeads" ({ cls := "OverTheHeads", name := "needs", desc := "(I)I" } : Jvm.MethodName) ({ cls := "OverTheHeads", name := "needs", desc := "(I)I" } : Jvm.MethodName)) ∈ lw_all := lw_g (lw_at lw_m6 47 rfl) rfl
theorem q1337 : (Jvm.Cond.code ({ cls := "OverTheHeads", name := "needs", desc := "(I)I" } : Jvm.MethodName) prog_1_method_52_code (2 : Nat) (Option.some Jvm.ClassFile.FieldType.int)) ∈ lw_all := lw_g (lw_at lw_m6 48 rfl) rfl
theorem q1338 : (Jvm.Cond.methodLink "OverTheHeads" (368 : Nat) ({ cls := "OverTheHeads", name := "leastFloor", desc := "(II)I" } : Jvm.MethodName)) ∈ lw_all := lw_g (lw_at lw_m6 49 rfl) rfl
theorem q1339 : (Jvm.Cond.privateMethod ({ cls := "OverTheHeads", name := "leastFloor", desc := "(II)I" } : Jvm.MethodName)) ∈ lw_tbl := lw_at lw_m6 50 rfl
theorem q1340 : (Jvm.Cond.instanceMethod ({ cls := "OverTheHeads", name := "leastFloor", desc := "(II)I" } : Jvm.MethodName)) ∈ lw_all := lw_g (lw_at lw_m6 51 rfl) rfl
theorem q1341 : (Jvm.Cond.codeWith ({ cls := "OverTheHeads", name := "leastFloor", desc := "(II)I" } : Jvm.MethodName) prog_1_method_51_code (7 : Nat) (Option.some Jvm.ClassFile.FieldType.int) [((7 : Nat), (37 : Nat), (66 : Nat), (0 : Nat)), ((47 : Nat), (56 : Nat), (66 : Nat), (0 : Nat)), ((66 : Nat), (68 : Nat), (66 : Nat), (0 : Nat))]) ∈ lw_all := lw_g (lw_at lw_m6 52 rfl) rfl
theorem q1343 : (Jvm.Cond.instanceMethod ({ cls := "OverTheHeads", name := "proof", desc := "(I)I" } : Jvm.MethodName)) ∈ lw_all := lw_g (lw_at lw_m6 54 rfl) rfl
theorem q1344 : (Jvm.Cond.selects "OverTheHeads" ({ cls := "OverTheHeads", name := "proof", desc := "(I)I" } : Jvm.MethodName) ({ cls := "OverTheHeads", name := "proof", desc := "(I)I" } : Jvm.MethodName)) ∈ lw_all := lw_g (lw_at lw_m6 55 rfl) rfl
theorem q1345 : (Jvm.Cond.codeWith ({ cls := "OverTheHeads", name := "proof", desc := "(I)I" } : Jvm.MethodName) prog_1_method_53_code (6 : Nat) (Option.some Jvm.ClassFile.FieldType.int) [((15 : Nat), (52 : Nat), (85 : Nat), (0 : Nat)), ((59 : Nat), (79 : Nat), (85 : Nat), (0 : Nat)), ((85 : Nat), (87 : Nat), (85 : Nat), (0 : Nat))]) ∈ lw_all := lw_g (lw_at lw_m6 56 rfl) rfl
theorem q1347 : (Jvm.Cond.instanceMethod ({ cls := "OverTheHeads", name := "shifts", desc := "(I)I" } : Jvm.MethodName)) ∈ lw_all := lw_g (lw_at lw_m6 58 rfl) rfl
theorem q1348 : (Jvm.Cond.selects "OverTheHeads" ({ cls := "OverTheHeads", name := "shifts", desc := "(I)I" } : Jvm.MethodName) ({ cls := "OverTheHeads", name := "shifts", desc := "(I)I" } : Jvm.MethodName)) ∈ lw_all := lw_g (lw_at lw_m6 59 rfl) rfl
theorem q1349 : (Jvm.Cond.codeWith ({ cls := "OverTheHeads", name := "shifts", desc := "(I)I" } : Jvm.MethodName) prog_1_method_54_code (5 : Nat) (Option.some Jvm.ClassFile.FieldType.int) [((33 : Nat), (89 : Nat), (107 : Nat), (0 : Nat)), ((107 : Nat), (109 : Nat), (107 : Nat), (0 : Nat))]) ∈ lw_all := lw_g (lw_at lw_m6 60 rfl) rfl
theorem q1350 : (Jvm.Cond.methodLink "OverTheHeads" (374 : Nat) ({ cls := "OverTheHeads", name := "keeps", desc := "(I)V" } : Jvm.MethodName)) ∈ lw_all := lw_g (lw_at lw_m6 61 rfl) rfl
theorem q1351 : (Jvm.Cond.privateMethod ({ cls := "OverTheHeads", name := "keeps", desc := "(I)V" } : Jvm.MethodName)) ∈ lw_tbl := lw_at lw_m6 62 rfl
theorem q1352 : (Jvm.Cond.instanceMethod ({ cls := "OverTheHeads", name := "keeps", desc := "(I)V" } : Jvm.MethodName)) ∈ lw_all := lw_g (lw_at lw_m6 63 rfl) rfl
theorem q1353 : (Jvm.Cond.code ({ cls := "OverTheHeads", name := "keeps", desc := "(I)V" } : Jvm.MethodName) prog_1_method_55_code (3 : Nat) (Option.none : Option Jvm.ClassFile.FieldType)) ∈ lw_all := lw_g (lw_at lw_m6 64 rfl) rfl
theorem q1355 : (Jvm.Cond.instanceMethod ({ cls := "OverTheHeads", name := "coin", desc := "(II)I" } : Jvm.MethodName)) ∈ lw_all := lw_g (lw_at lw_m6 66 rfl) rfl
theorem q1356 : (Jvm.Cond.selects "OverTheHeads" ({ cls := "OverTheHeads", name := "coin", desc := "(II)I" } : Jvm.MethodName) ({ cls := "OverTheHeads", name := "coin", desc := "(II)I" } : Jvm.MethodName)) ∈ lw_all := lw_g (lw_at lw_m6 67 rfl) rfl
theorem q1357 : (Jvm.Cond.codeWith ({ cls := "OverTheHeads", name := "coin", desc := "(II)I" } : Jvm.MethodName) prog_1_method_56_code (9 : Nat) (Option.some Jvm.ClassFile.FieldType.int) [((51 : Nat), (159 : Nat), (166 : Nat), (0 : Nat)), ((166 : Nat), (168 : Nat), (166 : Nat), (0 : Nat))]) ∈ lw_all := lw_g (lw_at lw_m6 68 rfl) rfl
theorem q1358 : (Jvm.Cond.constantLong "OverTheHeads" (381 : Nat) (99999 : Int64)) ∈ lw_all := lw_g (lw_at lw_m6 69 rfl) rfl
theorem q1359 : (Jvm.Cond.methodLink "OverTheHeads" (383 : Nat) ({ cls := "OverTheHeads", name := "ways3", desc := "(I)I" } : Jvm.MethodName)) ∈ lw_all := lw_g (lw_at lw_m6 70 rfl) rfl
theorem q1360 : (Jvm.Cond.static ({ cls := "OverTheHeads", name := "ways3", desc := "(I)I" } : Jvm.MethodName)) ∈ lw_all := lw_g (lw_at lw_m6 71 rfl) rfl
theorem q1361 : (Jvm.Cond.code ({ cls := "OverTheHeads", name := "ways3", desc := "(I)I" } : Jvm.MethodName) prog_1_method_57_code (3 : Nat) (Option.some Jvm.ClassFile.FieldType.int)) ∈ lw_all := lw_g (lw_at lw_m6 72 rfl) rfl
theorem q1363 : (Jvm.Cond.instanceMethod ({ cls := "OverTheHeads", name := "stage", desc := "()I" } : Jvm.MethodName)) ∈ lw_all := lw_g (lw_at lw_m6 74 rfl) rfl
theorem q1364 : (Jvm.Cond.selects "OverTheHeads" ({ cls := "OverTheHeads", name := "stage", desc := "()I" } : Jvm.MethodName) ({ cls := "OverTheHeads", name := "stage", desc := "()I" } : Jvm.MethodName)) ∈ lw_all := lw_g (lw_at lw_m6 75 rfl) rfl
theorem q1365 : (Jvm.Cond.codeWith ({ cls := "OverTheHeads", name := "stage", desc := "()I" } : Jvm.MethodName) prog_1_method_58_code (4 : Nat) (Option.some Jvm.ClassFile.FieldType.int) [((20 : Nat), (69 : Nat), (87 : Nat), (0 : Nat))]) ∈ lw_all := lw_g (lw_at lw_m6 76 rfl) rfl
theorem q1367 : (Jvm.Cond.instanceMethod ({ cls := "OverTheHeads", name := "swap", desc := "(IIII)I" } : Jvm.MethodName)) ∈ lw_all := lw_g (lw_at lw_m6 78 rfl) rfl
theorem q1368 : (Jvm.Cond.selects "OverTheHeads" ({ cls := "OverTheHeads", name := "swap", desc := "(IIII)I" } : Jvm.MethodName) ({ cls := "OverTheHeads", name := "swap", desc := "(IIII)I" } : Jvm.MethodName)) ∈ lw_all := lw_g (lw_at lw_m6 79 rfl) rfl
theorem q1369 : (Jvm.Cond.codeWith ({ cls := "OverTheHeads", name := "swap", desc := "(IIII)I" } : Jvm.MethodName) prog_1_method_60_code (8 : Nat) (Option.some Jvm.ClassFile.FieldType.int) [((58 : Nat), (67 : Nat), (99 : Nat), (0 : Nat)), ((99 : Nat), (101 : Nat), (99 : Nat), (0 : Nat))]) ∈ lw_all := lw_g (lw_at lw_m6 80 rfl) rfl
theorem q1370 : (Jvm.Cond.constant "OverTheHeads" (386 : Nat) (-1000000 : Int32)) ∈ lw_all := lw_g (lw_at lw_m6 81 rfl) rfl
theorem q1371 : (Jvm.Cond.methodLink "OverTheHeads" (387 : Nat) ({ cls := "OverTheHeads", name := "changes", desc := "(LOverTheHeads$Row;ILOverTheHeads$Row;I)V" } : Jvm.MethodName)) ∈ lw_all := lw_g (lw_at lw_m6 82 rfl) rfl
theorem q1372 : (Jvm.Cond.privateMethod ({ cls := "OverTheHeads", name := "changes", desc := "(LOverTheHeads$Row;ILOverTheHeads$Row;I)V" } : Jvm.MethodName)) ∈ lw_tbl := lw_at lw_m6 83 rfl
theorem q1373 : (Jvm.Cond.instanceMethod ({ cls := "OverTheHeads", name := "changes", desc := "(LOverTheHeads$Row;ILOverTheHeads$Row;I)V" } : Jvm.MethodName)) ∈ lw_all := lw_g (lw_at lw_m6 84 rfl) rfl
theorem q1374 : (Jvm.Cond.code ({ cls := "OverTheHeads", name := "changes", desc := "(LOverTheHeads$Row;ILOverTheHeads$Row;I)V" } : Jvm.MethodName) prog_1_method_59_code (6 : Nat) (Option.none : Option Jvm.ClassFile.FieldType)) ∈ lw_all := lw_g (lw_at lw_m6 85 rfl) rfl
theorem q1376 : (Jvm.Cond.instanceMethod ({ cls := "OverTheHeads", name := "people", desc := "(II)I" } : Jvm.MethodName)) ∈ lw_all := lw_g (lw_at lw_m6 87 rfl) rfl
theorem q1377 : (Jvm.Cond.selects "OverTheHeads" ({ cls := "OverTheHeads", name := "people", desc := "(II)I" } : Jvm.MethodName) ({ cls := "OverTheHeads", name := "people", desc := "(II)I" } : Jvm.MethodName)) ∈ lw_all := lw_g (lw_at lw_m6 88 rfl) rfl
theorem q1378 : (Jvm.Cond.code ({ cls := "OverTheHeads", name := "people", desc := "(II)I" } : Jvm.MethodName) prog_1_method_62_code (3 : Nat) (Option.some Jvm.ClassFile.FieldType.int)) ∈ lw_all := lw_g (lw_at lw_m6 89 rfl) rfl
theorem q1379 : (Jvm.Cond.methodLink "OverTheHeads" (397 : Nat) ({ cls := "OverTheHeads", name := "seeks", desc := "(I)V" } : Jvm.MethodName)) ∈ lw_all := lw_g (lw_at lw_m6 90 rfl) rfl
theorem q1380 : (Jvm.Cond.privateMethod ({ cls := "OverTheHeads", name := "seeks", desc := "(I)V" } : Jvm.MethodName)) ∈ lw_tbl := lw_at lw_m6 91 rfl
theorem q1381 : (Jvm.Cond.instanceMethod ({ cls := "OverTheHeads", name := "seeks", desc := "(I)V" } : Jvm.MethodName)) ∈ lw_all := lw_g (lw_at lw_m6 92 rfl) rfl
theorem q1382 : (Jvm.Cond.code ({ cls := "OverTheHeads", name := "seeks", desc := "(I)V" } : Jvm.MethodName) prog_1_method_61_code (7 : Nat) (Option.none : Option Jvm.ClassFile.FieldType)) ∈ lw_all := lw_g (lw_at lw_m6 93 rfl) rfl
theorem q1384 : (Jvm.Cond.instanceMethod ({ cls := "OverTheHeads", name := "settle", desc := "(II)I" } : Jvm.MethodName)) ∈ lw_all := lw_g (lw_at lw_m6 95 rfl) rfl
theorem q1385 : (Jvm.Cond.selects "OverTheHeads" ({ cls := "OverTheHeads", name := "settle", desc := "(II)I" } : Jvm.MethodName) ({ cls := "OverTheHeads", name := "settle", desc := "(II)I" } : Jvm.MethodName)) ∈ lw_all := lw_g (lw_at lw_m6 96 rfl) rfl
theorem q1386 : (Jvm.Cond.code ({ cls := "OverTheHeads", name := "settle", desc := "(II)I" } : Jvm.MethodName) prog_1_method_63_code (5 : Nat) (Option.some Jvm.ClassFile.FieldType.int)) ∈ lw_all := lw_g (lw_at lw_m6 97 rfl) rfl
theorem q1388 : (Jvm.Cond.instanceMethod ({ cls := "OverTheHeads", name := "hat", desc := "(III)I" } : Jvm.MethodName)) ∈ lw_all := lw_g (lw_at lw_m6 99 rfl) rfl
theorem q1389 : (Jvm.Cond.selects "OverTheHeads" ({ cls := "OverTheHeads", name := "hat", desc := "(III)I" } : Jvm.MethodName) ({ cls := "OverTheHeads", name := "hat", desc := "(III)I" } : Jvm.MethodName)) ∈ lw_all := lw_g (lw_at lw_m6 100 rfl) rfl
theorem q1390 : (Jvm.Cond.codeWith ({ cls := "OverTheHeads", name := "hat", desc := "(III)I" } : Jvm.MethodName) prog_1_method_64_code (7 : Nat) (Option.some Jvm.ClassFile.FieldType.int) [((33 : Nat), (57 : Nat), (65 : Nat), (0 : Nat)), ((65 : Nat), (67 : Nat), (65 : Nat), (0 : Nat))]) ∈ lw_all := lw_g (lw_at lw_m6 101 rfl) rfl
theorem q1392 : (Jvm.Cond.instanceMethod ({ cls := "OverTheHeads", name := "least", desc := "(I)I" } : Jvm.MethodName)) ∈ lw_all := lw_g (lw_at lw_m6 103 rfl) rfl
theorem q1393 : (Jvm.Cond.selects "OverTheHeads" ({ cls := "OverTheHeads", name := "least", desc := "(I)I" } : Jvm.MethodName) ({ cls := "OverTheHeads", name := "least", desc := "(I)I" } : Jvm.MethodName)) ∈ lw_all := lw_g (lw_at lw_m6 104 rfl) rfl
theorem q1394 : (Jvm.Cond.codeWith ({ cls := "OverTheHeads", name := "least", desc := "(I)I" } : Jvm.MethodName) prog_1_method_65_code (5 : Nat) (Option.some Jvm.ClassFile.FieldType.int) [((31 : Nat), (62 : Nat), (71 : Nat), (0 : Nat)), ((71 : Nat), (73 : Nat), (71 : Nat), (0 : Nat))]) ∈ lw_all := lw_g (lw_at lw_m6 105 rfl) rfl
theorem q1396 : (Jvm.Cond.instanceMethod ({ cls := "OverTheHeads", name := "sell", desc := "(I)I" } : Jvm.MethodName)) ∈ lw_all := lw_g (lw_at lw_m6 107 rfl) rfl
theorem q1397 : (Jvm.Cond.selects "OverTheHeads" ({ cls := "OverTheHeads", name := "sell", desc := "(I)I" } : Jvm.MethodName) ({ cls := "OverTheHeads", name := "sell", desc := "(I)I" } : Jvm.MethodName)) ∈ lw_all := lw_g (lw_at lw_m6 108 rfl) rfl
theorem q1398 : (Jvm.Cond.code ({ cls := "OverTheHeads", name := "sell", desc := "(I)I" } : Jvm.MethodName) prog_1_method_66_code (6 : Nat) (Option.some Jvm.ClassFile.FieldType.int)) ∈ lw_all := lw_g (lw_at lw_m6 109 rfl) rfl
theorem q1399 : (Jvm.Cond.methodLink "OverTheHeads" (400 : Nat) ({ cls := "OverTheHeads", name := "buyers", desc := "(I)I" } : Jvm.MethodName)) ∈ lw_all := lw_g (lw_at lw_m6 110 rfl) rfl
theorem q1400 : (Jvm.Cond.privateMethod ({ cls := "OverTheHeads", name := "buyers", desc := "(I)I" } : Jvm.MethodName)) ∈ lw_tbl := lw_at lw_m6 111 rfl
theorem q1401 : (Jvm.Cond.instanceMethod ({ cls := "OverTheHeads", name := "buyers", desc := "(I)I" } : Jvm.MethodName)) ∈ lw_all := lw_g (lw_at lw_m6 112 rfl) rfl
theorem q1402 : (Jvm.Cond.code ({ cls := "OverTheHeads", name := "buyers", desc := "(I)I" } : Jvm.MethodName) prog_1_method_67_code (6 : Nat) (Option.some Jvm.ClassFile.FieldType.int)) ∈ lw_all := lw_g (lw_at lw_m6 113 rfl) rfl
theorem q1404 : (Jvm.Cond.instanceMethod ({ cls := "OverTheHeads", name := "flat", desc := "()I" } : Jvm.MethodName)) ∈ lw_all := lw_g (lw_at lw_m6 115 rfl) rfl
theorem q1405 : (Jvm.Cond.selects "OverTheHeads" ({ cls := "OverTheHeads", name := "flat", desc := "()I" } : Jvm.MethodName) ({ cls := "OverTheHeads", name := "flat", desc := "()I" } : Jvm.MethodName)) ∈ lw_all := lw_g (lw_at lw_m6 116 rfl) rfl
theorem q1406 : (Jvm.Cond.code ({ cls := "OverTheHeads", name := "flat", desc := "()I" } : Jvm.MethodName) prog_1_method_68_code (3 : Nat) (Option.some Jvm.ClassFile.FieldType.int)) ∈ lw_all := lw_g (lw_at lw_m6 117 rfl) rfl
theorem q1408 : (Jvm.Cond.instanceMethod ({ cls := "OverTheHeads", name := "thursday", desc := "(I)I" } : Jvm.MethodName)) ∈ lw_all := lw_g (lw_at lw_m6 119 rfl) rfl
theorem q1409 : (Jvm.Cond.selects "OverTheHeads" ({ cls := "OverTheHeads", name := "thursday", desc := "(I)I" } : Jvm.MethodName) ({ cls := "OverTheHeads", name := "thursday", desc := "(I)I" } : Jvm.MethodName)) ∈ lw_all := lw_g (lw_at lw_m6 120 rfl) rfl
theorem q1410 : (Jvm.Cond.code ({ cls := "OverTheHeads", name := "thursday", desc := "(I)I" } : Jvm.MethodName) prog_1_method_69_code (5 : Nat) (Option.some Jvm.ClassFile.FieldType.int)) ∈ lw_all := lw_g (lw_at lw_m6 121 rfl) rfl
theorem q1412 : (Jvm.Cond.instanceMethod ({ cls := "OverTheHeads", name := "image", desc := "()I" } : Jvm.MethodName)) ∈ lw_all := lw_g (lw_at lw_m6 123 rfl) rfl
theorem q1413 : (Jvm.Cond.selects "OverTheHeads" ({ cls := "OverTheHeads", name := "image", desc := "()I" } : Jvm.MethodName) ({ cls := "OverTheHeads", name := "image", desc := "()I" } : Jvm.MethodName)) ∈ lw_all := lw_g (lw_at lw_m6 124 rfl) rfl
theorem q1414 : (Jvm.Cond.code ({ cls := "OverTheHeads", name := "image", desc := "()I" } : Jvm.MethodName) prog_1_method_70_code (2 : Nat) (Option.some Jvm.ClassFile.FieldType.int)) ∈ lw_all := lw_g (lw_at lw_m6 125 rfl) rfl
theorem q1416 : (Jvm.Cond.instanceMethod ({ cls := "OverTheHeads", name := "back", desc := "()I" } : Jvm.MethodName)) ∈ lw_all := lw_g (lw_at lw_m6 127 rfl) rfl
theorem q1417 : (Jvm.Cond.selects "OverTheHeads" ({ cls := "OverTheHeads", name := "back", desc := "()I" } : Jvm.MethodName) ({ cls := "OverTheHeads", name := "back", desc := "()I" } : Jvm.MethodName)) ∈ lw_all := lw_g (lw_at lw_m6 128 rfl) rfl
theorem q1418 : (Jvm.Cond.code ({ cls := "OverTheHeads", name := "back", desc := "()I" } : Jvm.MethodName) prog_1_method_71_code (2 : Nat) (Option.some Jvm.ClassFile.FieldType.int)) ∈ lw_all := lw_g (lw_at lw_m6 129 rfl) rfl
theorem q1420 : (Jvm.Cond.instanceMethod ({ cls := "OverTheHeads", name := "feed", desc := "(JI)I" } : Jvm.MethodName)) ∈ lw_all := lw_g (lw_at lw_m6 131 rfl) rfl
theorem q1421 : (Jvm.Cond.selects "OverTheHeads" ({ cls := "OverTheHeads", name := "feed", desc := "(JI)I" } : Jvm.MethodName) ({ cls := "OverTheHeads", name := "feed", desc := "(JI)I" } : Jvm.MethodName)) ∈ lw_all := lw_g (lw_at lw_m6 132 rfl) rfl
theorem q1422 : (Jvm.Cond.code ({ cls := "OverTheHeads", name := "feed", desc := "(JI)I" } : Jvm.MethodName) prog_1_method_73_code (5 : Nat) (Option.some Jvm.ClassFile.FieldType.int)) ∈ lw_all := lw_g (lw_at lw_m6 133 rfl) rfl
theorem q1424 : (Jvm.Cond.instanceMethod ({ cls := "OverTheHeads", name := "text", desc := "()I" } : Jvm.MethodName)) ∈ lw_all := lw_g (lw_at lw_m6 135 rfl) rfl
theorem q1425 : (Jvm.Cond.selects "OverTheHeads" ({ cls := "OverTheHeads", name := "text", desc := "()I" } : Jvm.MethodName) ({ cls := "OverTheHeads", name := "text", desc := "()I" } : Jvm.MethodName)) ∈ lw_all := lw_g (lw_at lw_m6 136 rfl) rfl
theorem q1426 : (Jvm.Cond.codeWith ({ cls := "OverTheHeads", name := "text", desc := "()I" } : Jvm.MethodName) prog_1_method_74_code (4 : Nat) (Option.some Jvm.ClassFile.FieldType.int) [((12 : Nat), (39 : Nat), (47 : Nat), (427 : Nat)), ((12 : Nat), (39 : Nat), (63 : Nat), (0 : Nat)), ((47 : Nat), (56 : Nat), (63 : Nat), (0 : Nat))]) ∈ lw_all := lw_g (lw_at lw_m6 137 rfl) rfl
theorem q1427 : (Jvm.Cond.classLink "OverTheHeads" (427 : Nat) "OverTheHeads$Fault") ∈ lw_all := lw_g (lw_at lw_m6 138 rfl) rfl
theorem q1429 : (Jvm.Cond.instanceMethod ({ cls := "OverTheHeads", name := "force", desc := "(I)I" } : Jvm.MethodName)) ∈ lw_all := lw_g (lw_at lw_m6 140 rfl) rfl
theorem q1430 : (Jvm.Cond.selects "OverTheHeads" ({ cls := "OverTheHeads", name := "force", desc := "(I)I" } : Jvm.MethodName) ({ cls := "OverTheHeads", name := "force", desc := "(I)I" } : Jvm.MethodName)) ∈ lw_all := lw_g (lw_at lw_m6 141 rfl) rfl
theorem q1431 : (Jvm.Cond.code ({ cls := "OverTheHeads", name := "force", desc := "(I)I" } : Jvm.MethodName) prog_1_method_75_code (3 : Nat) (Option.some Jvm.ClassFile.FieldType.int)) ∈ lw_all := lw_g (lw_at lw_m6 142 rfl) rfl
theorem q1433 : (Jvm.Cond.instanceMethod ({ cls := "OverTheHeads", name := "sheet", desc := "(III)I" } : Jvm.MethodName)) ∈ lw_all := lw_g (lw_at lw_m6 144 rfl) rfl
theorem q1434 : (Jvm.Cond.selects "OverTheHeads" ({ cls := "OverTheHeads", name := "sheet", desc := "(III)I" } : Jvm.MethodName) ({ cls := "OverTheHeads", name := "sheet", desc := "(III)I" } : Jvm.MethodName)) ∈ lw_all := lw_g (lw_at lw_m6 145 rfl) rfl
theorem q1435 : (Jvm.Cond.code ({ cls := "OverTheHeads", name := "sheet", desc := "(III)I" } : Jvm.MethodName) prog_1_method_79_code (4 : Nat) (Option.some Jvm.ClassFile.FieldType.int)) ∈ lw_all := lw_g (lw_at lw_m6 146 rfl) rfl
theorem q1436 : (Jvm.Cond.constantLong "OverTheHeads" (435 : Nat) (-1 : Int64)) ∈ lw_all := lw_g (lw_at lw_m6 147 rfl) rfl
theorem q1437 : (Jvm.Cond.methodLink "OverTheHeads" (437 : Nat) ({ cls := "java/util/Arrays", name := "fill", desc := "([II)V" } : Jvm.MethodName)) ∈ lw_all := lw_g (lw_at lw_m6 148 rfl) rfl
theorem q1441 : (Jvm.Cond.instanceMethod ({ cls := "OverTheHeads", name := "cell", desc := "(III)I" } : Jvm.MethodName)) ∈ lw_all := lw_g (lw_at lw_m6 152 rfl) rfl
theorem q1442 : (Jvm.Cond.selects "OverTheHeads" ({ cls := "OverTheHeads", name := "cell", desc := "(III)I" } : Jvm.MethodName) ({ cls := "OverTheHeads", name := "cell", desc := "(III)I" } : Jvm.MethodName)) ∈ lw_all := lw_g (lw_at lw_m6 153 rfl) rfl
theorem q1443 : (Jvm.Cond.codeWith ({ cls := "OverTheHeads", name := "cell", desc := "(III)I" } : Jvm.MethodName) prog_1_method_80_code (5 : Nat) (Option.some Jvm.ClassFile.FieldType.int) [((10 : Nat), (44 : Nat), (45 : Nat), (431 : Nat))]) ∈ lw_all := lw_g (lw_at lw_m6 154 rfl) rfl
theorem q1444 : (Jvm.Cond.classLink "OverTheHeads" (431 : Nat) "OverTheHeads$Odd") ∈ lw_all := lw_g (lw_at lw_m6 155 rfl) rfl
theorem q1445 : (Jvm.Cond.methodLink "OverTheHeads" (440 : Nat) ({ cls := "OverTheHeads", name := "there", desc := "(I)LOverTheHeads$Sheet;" } : Jvm.MethodName)) ∈ lw_all := lw_g (lw_at lw_m6 156 rfl) rfl
theorem q1446 : (Jvm.Cond.privateMethod ({ cls := "OverTheHeads", name := "there", desc := "(I)LOverTheHeads$Sheet;" } : Jvm.MethodName)) ∈ lw_tbl := lw_at lw_m6 157 rfl
theorem q1447 : (Jvm.Cond.instanceMethod ({ cls := "OverTheHeads", name := "there", desc := "(I)LOverTheHeads$Sheet;" } : Jvm.MethodName)) ∈ lw_all := lw_g (lw_at lw_m6 158 rfl) rfl
theorem q1448 : (Jvm.Cond.code ({ cls := "OverTheHeads", name := "there", desc := "(I)LOverTheHeads$Sheet;" } : Jvm.MethodName) prog_1_method_77_code (2 : Nat) (Option.some (Jvm.ClassFile.FieldType.object "OverTheHeads$Sheet"))) ∈ lw_all := lw_g (lw_at lw_m6 159 rfl) rfl
theorem q1457 : (Jvm.Cond.methodLink "OverTheHeads" (433 : Nat) ({ cls := "OverTheHeads$Odd", name := "<init>", desc := "(I)V" } : Jvm.MethodName)) ∈ lw_all := lw_g (lw_at lw_m6 168 rfl) rfl
theorem q1462 : (Jvm.Cond.fieldLink "OverTheHeads" (452 : Nat) "OverTheHeads$Odd" "code" "I") ∈ lw_all := lw_g (lw_at lw_m6 173 rfl) rfl
theorem q1467 : (Jvm.Cond.methodLink "OverTheHeads" (444 : Nat) ({ cls := "OverTheHeads", name := "need", desc := "(ZI)V" } : Jvm.MethodName)) ∈ lw_all := lw_g (lw_at lw_m6 178 rfl) rfl
theorem q1468 : (Jvm.Cond.static ({ cls := "OverTheHeads", name := "need", desc := "(ZI)V" } : Jvm.MethodName)) ∈ lw_all := lw_g (lw_at lw_m6 179 rfl) rfl
theorem q1469 : (Jvm.Cond.code ({ cls := "OverTheHeads", name := "need", desc := "(ZI)V" } : Jvm.MethodName) prog_1_method_78_code (2 : Nat) (Option.none : Option Jvm.ClassFile.FieldType)) ∈ lw_all := lw_g (lw_at lw_m6 180 rfl) rfl
theorem q1470 : (Jvm.Cond.methodLink "OverTheHeads" (448 : Nat) ({ cls := "OverTheHeads$Sheet", name := "put", desc := "(II)V" } : Jvm.MethodName)) ∈ lw_all := lw_g (lw_at lw_m6 181 rfl) rfl
theorem q1475 : (Jvm.Cond.instanceMethod ({ cls := "OverTheHeads", name := "copy", desc := "(IIIII)I" } : Jvm.MethodName)) ∈ lw_all := lw_g (lw_at lw_m6 186 rfl) rfl
theorem q1476 : (Jvm.Cond.selects "OverTheHeads" ({ cls := "OverTheHeads", name := "copy", desc := "(IIIII)I" } : Jvm.MethodName) ({ cls := "OverTheHeads", name := "copy", desc := "(IIIII)I" } : Jvm.MethodName)) ∈ lw_all := lw_g (lw_at lw_m6 187 rfl) rfl
theorem q1477 : (Jvm.Cond.codeWith ({ cls := "OverTheHeads", name := "copy", desc := "(IIIII)I" } : Jvm.MethodName) prog_1_method_81_code (8 : Nat) (Option.some Jvm.ClassFile.FieldType.int) [((17 : Nat), (123 : Nat), (124 : Nat), (431 : Nat))]) ∈ lw_all := lw_g (lw_at lw_m6 188 rfl) rfl
theorem q1479 : (Jvm.Cond.instanceMethod ({ cls := "OverTheHeads", name := "sitters", desc := "(IIII)I" } : Jvm.MethodName)) ∈ lw_all := lw_g (lw_at lw_m6 190 rfl) rfl
theorem q1480 : (Jvm.Cond.selects "OverTheHeads" ({ cls := "OverTheHeads", name := "sitters", desc := "(IIII)I" } : Jvm.MethodName) ({ cls := "OverTheHeads", name := "sitters", desc := "(IIII)I" } : Jvm.MethodName)) ∈ lw_all := lw_g (lw_at lw_m6 191 rfl) rfl
theorem q1481 : (Jvm.Cond.codeWith ({ cls := "OverTheHeads", name := "sitters", desc := "(IIII)I" } : Jvm.MethodName) prog_1_method_82_code (8 : Nat) (Option.some Jvm.ClassFile.FieldType.int) [((38 : Nat), (123 : Nat), (124 : Nat), (431 : Nat))]) ∈ lw_all := lw_g (lw_at lw_m6 192 rfl) rfl
theorem q1482 : (Jvm.Cond.methodLink "OverTheHeads" (455 : Nat) ({ cls := "OverTheHeads", name := "sit", desc := "(III)I" } : Jvm.MethodName)) ∈ lw_all := lw_g (lw_at lw_m6 193 rfl) rfl
theorem q1484 : (Jvm.Cond.instanceMethod ({ cls := "OverTheHeads", name := "taken", desc := "(II)I" } : Jvm.MethodName)) ∈ lw_all := lw_g (lw_at lw_m6 195 rfl) rfl
theorem q1485 : (Jvm.Cond.selects "OverTheHeads" ({ cls := "OverTheHeads", name := "taken", desc := "(II)I" } : Jvm.MethodName) ({ cls := "OverTheHeads", name := "taken", desc := "(II)I" } : Jvm.MethodName)) ∈ lw_all := lw_g (lw_at lw_m6 196 rfl) rfl
theorem q1486 : (Jvm.Cond.codeWith ({ cls := "OverTheHeads", name := "taken", desc := "(II)I" } : Jvm.MethodName) prog_1_method_83_code (5 : Nat) (Option.some Jvm.ClassFile.FieldType.int) [((15 : Nat), (104 : Nat), (128 : Nat), (431 : Nat)), ((105 : Nat), (127 : Nat), (128 : Nat), (431 : Nat))]) ∈ lw_all := lw_g (lw_at lw_m6 197 rfl) rfl
theorem q1487 : (Jvm.Cond.constantLong "OverTheHeads" (459 : Nat) (6 : Int64)) ∈ lw_all := lw_g (lw_at lw_m6 198 rfl) rfl
theorem q1488 : (Jvm.Cond.constantLong "OverTheHeads" (461 : Nat) (11 : Int64)) ∈ lw_all := lw_g (lw_at lw_m6 199 rfl) rfl
theorem q1489 : (Jvm.Cond.classLink "OverTheHeads" (463 : Nat) "OverTheHeads$Slot") ∈ lw_all := lw_g (lw_at lw_m6 200 rfl) rfl
theorem q1491 : (Jvm.Cond.methodLink "OverTheHeads" (465 : Nat) ({ cls := "java/lang/Byte", name := "valueOf", desc := "(B)Ljava/lang/Byte;" } : Jvm.MethodName)) ∈ lw_all := lw_g (lw_at lw_m6 202 rfl) rfl
theorem q1496 : (Jvm.Cond.methodLink "OverTheHeads" (471 : Nat) ({ cls := "OverTheHeads$Slot", name := "<init>", desc := "(Ljava/lang/Object;)V" } : Jvm.MethodName)) ∈ lw_all := lw_g (lw_at lw_m6 207 rfl) rfl
theorem q1504 : (Jvm.Cond.methodLink "OverTheHeads" (474 : Nat) ({ cls := "OverTheHeads$Slot", name := "high", desc := "()I" } : Jvm.MethodName)) ∈ lw_all := lw_g (lw_at lw_m6 215 rfl) rfl
theorem q1515 : (Jvm.Cond.methodLink "OverTheHeads" (476 : Nat) ({ cls := "OverTheHeads$Slot", name := "row", desc := "()LOverTheHeads$Row;" } : Jvm.MethodName)) ∈ lw_all := lw_g (lw_at lw_m6 226 rfl) rfl
theorem q1520 : (Jvm.Cond.methodLink "OverTheHeads" (480 : Nat) ({ cls := "OverTheHeads", name := "isUnder", desc := "(LOverTheHeads$Row;I)Z" } : Jvm.MethodName)) ∈ lw_all := lw_g (lw_at lw_m6 231 rfl) rfl
theorem q1521 : (Jvm.Cond.static ({ cls := "OverTheHeads", name := "isUnder", desc := "(LOverTheHeads$Row;I)Z" } : Jvm.MethodName)) ∈ lw_all := lw_g (lw_at lw_m6 232 rfl) rfl
theorem q1522 : (Jvm.Cond.code ({ cls := "OverTheHeads", name := "isUnder", desc := "(LOverTheHeads$Row;I)Z" } : Jvm.MethodName) prog_1_method_5_code (2 : Nat) (Option.some Jvm.ClassFile.FieldType.boolean)) ∈ lw_all := lw_g (lw_at lw_m6 233 rfl) rfl
theorem q2113 : (Jvm.Cond.castable "OverTheHeads" "java/lang/Object") ∈ lw_tbl := lw_at lw_m9 104 rfl
theorem q2144 : (Jvm.Cond.stringRef "OverTheHeads" (484 : Nat) "like") ∈ lw_tbl := lw_at lw_m9 135 rfl
theorem q2145 : (Jvm.Cond.stringRef "OverTheHeads" (486 : Nat) "price") ∈ lw_tbl := lw_at lw_m9 136 rfl
theorem q2146 : (Jvm.Cond.stringRef "OverTheHeads" (487 : Nat) "cost") ∈ lw_tbl := lw_at lw_m9 137 rfl
theorem q2148 : (Jvm.Cond.stringRef "OverTheHeads" (493 : Nat) "value") ∈ lw_tbl := lw_at lw_m9 139 rfl
theorem q2149 : (Jvm.Cond.stringRef "OverTheHeads" (494 : Nat) "high") ∈ lw_tbl := lw_at lw_m9 140 rfl
theorem q2150 : (Jvm.Cond.stringRef "OverTheHeads" (495 : Nat) "row") ∈ lw_tbl := lw_at lw_m9 141 rfl
theorem q2151 : (Jvm.Cond.stringRef "OverTheHeads" (496 : Nat) "place") ∈ lw_tbl := lw_at lw_m9 142 rfl
theorem q2152 : (Jvm.Cond.stringRef "OverTheHeads" (497 : Nat) "rise") ∈ lw_tbl := lw_at lw_m9 143 rfl
theorem q2153 : (Jvm.Cond.stringRef "OverTheHeads" (498 : Nat) "sort") ∈ lw_tbl := lw_at lw_m9 144 rfl
theorem in_X0 : ∀ w ∈ wsX00, w ∈ lw_all := lw_in wsX00 [718, 720, 722, 724, 726, 728, 730, 732, 734, 736, 738, 740, 742, 744, 746, 748, 750, 752, 754, 756, 758, 760, 762, 764, 766, 768, 770, 772, 774, 776, 778, 780, 782, 784, 786, 788, 790, 792, 794, 796, 798] (by decide +kernel) (by decide +kernel)
