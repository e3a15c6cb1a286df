/-! OverTheHeadsModel -/
set_option maxRecDepth 100000
def RX7 : String := "OverTheHeadsModel"
def TX7 : u_T := fun k => match k with
  | 0 => ("OverTheHeadsModel", "eye", "[I", true)
  | 1 => ("OverTheHeadsModel", "head", "[I", true)
  | 2 => ("OverTheHeadsModel", "counts", "[I", true)
  | 3 => ("OverTheHeadsModel", "rows", "I", false)
  | 4 => ("OverTheHeadsModel", "kind", "[I", true)
  | 5 => ("OverTheHeadsModel", "seats", "[I", true)
  | 6 => ("OverTheHeadsModel", "more", "[I", true)
  | 7 => ("OverTheHeadsModel", "rise", "[I", true)
  | 8 => ("OverTheHeadsModel", "shift", "[I", true)
  | 9 => ("OverTheHeadsModel", "sorts", "[I", true)
  | 10 => ("OverTheHeadsModel", "points", "I", false)
  | 11 => ("OverTheHeadsModel", "pointAt", "[I", true)
  | 12 => ("OverTheHeadsModel", "pointHigh", "[I", true)
  | 13 => ("OverTheHeadsModel", "pointValue", "[I", true)
  | 14 => ("OverTheHeadsModel", "posts", "I", false)
  | 15 => ("OverTheHeadsModel", "postAt", "[I", true)
  | 16 => ("OverTheHeadsModel", "postFar", "[I", true)
  | 17 => ("OverTheHeadsModel", "tape", "[I", true)
  | 18 => ("OverTheHeadsModel", "taped", "I", false)
  | 19 => ("OverTheHeadsModel", "codes", "[I", true)
  | 20 => ("OverTheHeadsModel", "starts", "[I", true)
  | 21 => ("OverTheHeadsModel", "texts", "I", false)
  | 22 => ("OverTheHeadsModel", "rule", "I", false)
  | 23 => ("OverTheHeadsModel", "hatSeat", "I", false)
  | 24 => ("OverTheHeadsModel", "hatHigh", "I", false)
  | 25 => ("OverTheHeadsModel", "hasImage", "Z", false)
  | 26 => ("OverTheHeadsModel", "imageRows", "I", false)
  | 27 => ("OverTheHeadsModel", "imagePosts", "I", false)
  | 28 => ("OverTheHeadsModel", "imageRule", "I", false)
  | 29 => ("OverTheHeadsModel", "imageEye", "[I", true)
  | 30 => ("OverTheHeadsModel", "imageHead", "[I", true)
  | 31 => ("OverTheHeadsModel", "imageCounts", "[I", true)
  | 32 => ("OverTheHeadsModel", "imageRise", "[I", true)
  | 33 => ("OverTheHeadsModel", "imageShift", "[I", true)
  | 34 => ("OverTheHeadsModel", "imageSorts", "[I", true)
  | 35 => ("OverTheHeadsModel", "imagePostAt", "[I", true)
  | 36 => ("OverTheHeadsModel", "imagePostFar", "[I", true)
  | 37 => ("OverTheHeadsModel", "sheetSort", "[I", true)
  | 38 => ("OverTheHeadsModel", "sheetSize", "[I", true)
  | 39 => ("OverTheHeadsModel", "cells", "[I", true)
  | 40 => ("OverTheHeadsModel", "at", "I", false)
  | 41 => ("OverTheHeadsModel", "begun", "I", false)
  | 42 => ("OverTheHeadsModel", "token", "I", false)
  | 43 => ("OverTheHeadsModel", "value", "I", false)
  | 44 => ("OverTheHeadsModel", "words", "[J", true)
  | 45 => ("OverTheHeadsModel", "held", "[I", true)
  | 46 => ("OverTheHeadsModel", "heldMany", "I", false)
  | 47 => ("OverTheHeadsModel", "opens", "I", false)
  | 48 => ("OverTheHeadsModel", "out", "I", false)
  | 49 => ("OverTheHeadsModel", "stack", "[I", true)
  | 50 => ("OverTheHeadsModel", "named", "[I", true)
  | 51 => ("OverTheHeadsModel", "keptRise", "[I", true)
  | 52 => ("OverTheHeadsModel", "nears", "I", false)
  | 53 => ("OverTheHeadsModel", "sound", "J", false)
  | 54 => ("OverTheHeadsModel", "keptSorts", "[I", true)
  | 55 => ("OverTheHeadsModel", "keptShift", "[I", true)
  | 56 => ("OverTheHeadsModel", "peopleBest", "I", false)
  | 57 => ("OverTheHeadsModel", "peopleGain", "I", false)
  | _ => ("OverTheHeadsModel", "sold", "[I", true)
def tyX7 : Nat → FieldType := fun k => match k with
  | 0 => .array .int
  | 1 => .array .int
  | 2 => .array .int
  | 3 => .int
  | 4 => .array .int
  | 5 => .array .int
  | 6 => .array .int
  | 7 => .array .int
  | 8 => .array .int
  | 9 => .array .int
  | 10 => .int
  | 11 => .array .int
  | 12 => .array .int
  | 13 => .array .int
  | 14 => .int
  | 15 => .array .int
  | 16 => .array .int
  | 17 => .array .int
  | 18 => .int
  | 19 => .array .int
  | 20 => .array .int
  | 21 => .int
  | 22 => .int
  | 23 => .int
  | 24 => .int
  | 25 => .boolean
  | 26 => .int
  | 27 => .int
  | 28 => .int
  | 29 => .array .int
  | 30 => .array .int
  | 31 => .array .int
  | 32 => .array .int
  | 33 => .array .int
  | 34 => .array .int
  | 35 => .array .int
  | 36 => .array .int
  | 37 => .array .int
  | 38 => .array .int
  | 39 => .array .int
  | 40 => .int
  | 41 => .int
  | 42 => .int
  | 43 => .int
  | 44 => .array .long
  | 45 => .array .int
  | 46 => .int
  | 47 => .int
  | 48 => .int
  | 49 => .array .int
  | 50 => .array .int
  | 51 => .array .int
  | 52 => .int
  | 53 => .long
  | 54 => .array .int
  | 55 => .array .int
  | 56 => .int
  | 57 => .int
  | _ => .array .int
abbrev wsX70 : List Cond := u_ws RX7 TX7 59
set_option maxRecDepth 100000 in
theorem nmX7 : ∀ a, a < 59 → ∀ b, b < 59 → a ≠ b → (TX7 a).2.1 ≠ (TX7 b).2.1 := by decide +kernel
set_option maxRecDepth 100000 in
theorem tyX7_ok : ∀ k, k < 59 → parseFieldDescriptor (TX7 k).2.2.1 = some (tyX7 k) := by decide +kernel
abbrev cX7_init : ByteArray := prog_19_method_1_code
def yX7_init : MethodName := ⟨RX7, "<init>", "()V"⟩
def dkwX7_init_21 : List UInt8 := [42, 180, 0, 58, 6, 16, 11, 79, 177]
abbrev dktX7_init_21 : List UInt8 := dkwX7_init_21 ++ []
def dkwX7_init_20 : List UInt8 := [16, 18, 7, 16, 16, 3, 182, 0, 151, 42, 180, 0, 58, 4, 4, 79, 42, 180, 0, 58, 5, 16, 6, 79]
abbrev dktX7_init_20 : List UInt8 := dkwX7_init_20 ++ dktX7_init_21
def dkwX7_init_19 : List UInt8 := [3, 3, 18, 150, 16, 18, 182, 0, 151, 42, 7, 5, 16, 17, 4, 18, 155, 182, 0, 151, 42, 16, 8]
abbrev dktX7_init_19 : List UInt8 := dkwX7_init_19 ++ dktX7_init_20
def dkwX7_init_18 : List UInt8 := [188, 10, 181, 0, 141, 42, 16, 6, 188, 10, 181, 0, 144, 42, 17, 3, 233, 188, 10, 181, 0, 147, 42, 3]
abbrev dktX7_init_18 : List UInt8 := dkwX7_init_18 ++ dktX7_init_19
def dkwX7_init_17 : List UInt8 := [188, 10, 181, 0, 132, 42, 16, 6, 188, 10, 181, 0, 135, 42, 16, 6, 188, 10, 181, 0, 138, 42, 16, 48]
abbrev dktX7_init_17 : List UInt8 := dkwX7_init_17 ++ dktX7_init_18
def dkwX7_init_16 : List UInt8 := [80, 89, 16, 11, 20, 0, 123, 80, 181, 0, 125, 42, 17, 0, 200, 188, 10, 181, 0, 129, 42, 17, 0, 200]
abbrev dktX7_init_16 : List UInt8 := dkwX7_init_16 ++ dktX7_init_17
def dkwX7_init_15 : List UInt8 := [20, 0, 115, 80, 89, 16, 8, 20, 0, 117, 80, 89, 16, 9, 20, 0, 119, 80, 89, 16, 10, 20, 0, 121]
abbrev dktX7_init_15 : List UInt8 := dkwX7_init_15 ++ dktX7_init_16
def dkwX7_init_14 : List UInt8 := [89, 7, 20, 0, 109, 80, 89, 8, 20, 0, 111, 80, 89, 16, 6, 20, 0, 113, 80, 89, 16, 7]
abbrev dktX7_init_14 : List UInt8 := dkwX7_init_14 ++ dktX7_init_15
def dkwX7_init_13 : List UInt8 := [89, 3, 20, 0, 101, 80, 89, 4, 20, 0, 103, 80, 89, 5, 20, 0, 105, 80, 89, 6, 20, 0, 107, 80]
abbrev dktX7_init_13 : List UInt8 := dkwX7_init_13 ++ dktX7_init_14
def dkwX7_init_12 : List UInt8 := [181, 0, 92, 42, 7, 188, 10, 181, 0, 95, 42, 17, 0, 240, 188, 10, 181, 0, 98, 42, 16, 12, 188, 11]
abbrev dktX7_init_12 : List UInt8 := dkwX7_init_12 ++ dktX7_init_13
def dkwX7_init_11 : List UInt8 := [181, 0, 89, 42, 7, 188, 10, 89, 3, 2, 79, 89, 4, 2, 79, 89, 5, 2, 79, 89, 6, 2, 79]
abbrev dktX7_init_11 : List UInt8 := dkwX7_init_11 ++ dktX7_init_12
def dkwX7_init_10 : List UInt8 := [188, 10, 181, 0, 80, 42, 16, 48, 188, 10, 181, 0, 83, 42, 7, 188, 10, 181, 0, 86, 42, 7, 188, 10]
abbrev dktX7_init_10 : List UInt8 := dkwX7_init_10 ++ dktX7_init_11
def dkwX7_init_9 : List UInt8 := [188, 10, 181, 0, 71, 42, 7, 188, 10, 181, 0, 74, 42, 16, 6, 188, 10, 181, 0, 77, 42, 16, 6]
abbrev dktX7_init_9 : List UInt8 := dkwX7_init_9 ++ dktX7_init_10
def dkwX7_init_8 : List UInt8 := [188, 10, 181, 0, 58, 42, 4, 181, 0, 61, 42, 2, 181, 0, 65, 42, 7, 188, 10, 181, 0, 68, 42, 7]
abbrev dktX7_init_8 : List UInt8 := dkwX7_init_8 ++ dktX7_init_9
def dkwX7_init_7 : List UInt8 := [181, 0, 49, 42, 17, 0, 160, 188, 10, 181, 0, 52, 42, 17, 4, 176, 188, 10, 181, 0, 55, 42, 16, 24]
abbrev dktX7_init_7 : List UInt8 := dkwX7_init_7 ++ dktX7_init_8
def dkwX7_init_6 : List UInt8 := [181, 0, 40, 42, 16, 6, 188, 10, 181, 0, 43, 42, 7, 188, 10, 181, 0, 46, 42, 7, 188, 10]
abbrev dktX7_init_6 : List UInt8 := dkwX7_init_6 ++ dktX7_init_7
def dkwX7_init_5 : List UInt8 := [181, 0, 31, 42, 16, 48, 188, 10, 181, 0, 34, 42, 16, 6, 188, 10, 181, 0, 37, 42, 16, 6, 188, 10]
abbrev dktX7_init_5 : List UInt8 := dkwX7_init_5 ++ dktX7_init_6
def dkwX7_init_4 : List UInt8 := [181, 0, 22, 42, 16, 6, 188, 10, 181, 0, 25, 42, 16, 6, 188, 10, 181, 0, 28, 42, 16, 6, 188, 10]
abbrev dktX7_init_4 : List UInt8 := dkwX7_init_4 ++ dktX7_init_5
def dkwX7_init_3 : List UInt8 := [5, 4, 79, 89, 6, 4, 79, 181, 0, 16, 42, 16, 6, 188, 10, 181, 0, 19, 42, 16, 6, 188, 10]
abbrev dktX7_init_3 : List UInt8 := dkwX7_init_3 ++ dktX7_init_4
def dkwX7_init_2 : List UInt8 := [16, 19, 79, 89, 6, 16, 9, 79, 181, 0, 13, 42, 7, 188, 10, 89, 3, 4, 79, 89, 4, 4, 79, 89]
abbrev dktX7_init_2 : List UInt8 := dkwX7_init_2 ++ dktX7_init_3
def dkwX7_init_1 : List UInt8 := [6, 16, 7, 79, 181, 0, 7, 42, 7, 188, 10, 89, 3, 16, 14, 79, 89, 4, 16, 16, 79, 89, 5]
abbrev dktX7_init_1 : List UInt8 := dkwX7_init_1 ++ dktX7_init_2
def dkwX7_init_0 : List UInt8 := [42, 183, 0, 1, 42, 7, 188, 10, 89, 3, 16, 10, 79, 89, 4, 16, 12, 79, 89, 5, 16, 14, 79, 89]
abbrev dktX7_init_0 : List UInt8 := dkwX7_init_0 ++ dktX7_init_1
theorem dksX7_init_0 : cX7_init.data.toList.drop 0 = dktX7_init_0 := by decide +kernel
theorem dksX7_init_1 : cX7_init.data.toList.drop 24 = dktX7_init_1 := dk_seg dksX7_init_0 24 rfl rfl
theorem dksX7_init_2 : cX7_init.data.toList.drop 47 = dktX7_init_2 := dk_seg dksX7_init_1 23 rfl rfl
theorem dksX7_init_3 : cX7_init.data.toList.drop 71 = dktX7_init_3 := dk_seg dksX7_init_2 24 rfl rfl
theorem dksX7_init_4 : cX7_init.data.toList.drop 94 = dktX7_init_4 := dk_seg dksX7_init_3 23 rfl rfl
theorem dksX7_init_5 : cX7_init.data.toList.drop 118 = dktX7_init_5 := dk_seg dksX7_init_4 24 rfl rfl
theorem dksX7_init_6 : cX7_init.data.toList.drop 142 = dktX7_init_6 := dk_seg dksX7_init_5 24 rfl rfl
theorem dksX7_init_7 : cX7_init.data.toList.drop 164 = dktX7_init_7 := dk_seg dksX7_init_6 22 rfl rfl
theorem dksX7_init_8 : cX7_init.data.toList.drop 188 = dktX7_init_8 := dk_seg dksX7_init_7 24 rfl rfl
theorem dksX7_init_9 : cX7_init.data.toList.drop 212 = dktX7_init_9 := dk_seg dksX7_init_8 24 rfl rfl
theorem dksX7_init_10 : cX7_init.data.toList.drop 235 = dktX7_init_10 := dk_seg dksX7_init_9 23 rfl rfl
theorem dksX7_init_11 : cX7_init.data.toList.drop 259 = dktX7_init_11 := dk_seg dksX7_init_10 24 rfl rfl
theorem dksX7_init_12 : cX7_init.data.toList.drop 282 = dktX7_init_12 := dk_seg dksX7_init_11 23 rfl rfl
theorem dksX7_init_13 : cX7_init.data.toList.drop 306 = dktX7_init_13 := dk_seg dksX7_init_12 24 rfl rfl
theorem dksX7_init_14 : cX7_init.data.toList.drop 330 = dktX7_init_14 := dk_seg dksX7_init_13 24 rfl rfl
theorem dksX7_init_15 : cX7_init.data.toList.drop 352 = dktX7_init_15 := dk_seg dksX7_init_14 22 rfl rfl
theorem dksX7_init_16 : cX7_init.data.toList.drop 376 = dktX7_init_16 := dk_seg dksX7_init_15 24 rfl rfl
theorem dksX7_init_17 : cX7_init.data.toList.drop 400 = dktX7_init_17 := dk_seg dksX7_init_16 24 rfl rfl
theorem dksX7_init_18 : cX7_init.data.toList.drop 424 = dktX7_init_18 := dk_seg dksX7_init_17 24 rfl rfl
theorem dksX7_init_19 : cX7_init.data.toList.drop 448 = dktX7_init_19 := dk_seg dksX7_init_18 24 rfl rfl
theorem dksX7_init_20 : cX7_init.data.toList.drop 471 = dktX7_init_20 := dk_seg dksX7_init_19 23 rfl rfl
theorem dksX7_init_21 : cX7_init.data.toList.drop 495 = dktX7_init_21 := dk_seg dksX7_init_20 24 rfl rfl
theorem dX7_init_0 : decode cX7_init 0 = .ok (.aload_n 0, 1) := dk_42 (dk_at dksX7_init_0 0 rfl rfl)
theorem dX7_init_1 : decode cX7_init 1 = .ok (.invokespecial 1, 3) := dk_183 0 1 (dk_at dksX7_init_0 1 rfl rfl)
theorem dX7_init_4 : decode cX7_init 4 = .ok (.aload_n 0, 1) := dk_42 (dk_at dksX7_init_0 4 rfl rfl)
theorem dX7_init_5 : decode cX7_init 5 = .ok (.iconst 4, 1) := dk_7 (dk_at dksX7_init_0 5 rfl rfl)
theorem dX7_init_6 : decode cX7_init 6 = .ok (.newarray .int, 2) := dk_188_10 (dk_at dksX7_init_0 6 rfl rfl)
theorem dX7_init_8 : decode cX7_init 8 = .ok (.dup, 1) := dk_89 (dk_at dksX7_init_0 8 rfl rfl)
theorem dX7_init_9 : decode cX7_init 9 = .ok (.iconst 0, 1) := dk_3 (dk_at dksX7_init_0 9 rfl rfl)
theorem dX7_init_10 : decode cX7_init 10 = .ok (.bipush 10, 2) := dk_16 10 (dk_at dksX7_init_0 10 rfl rfl)
theorem dX7_init_12 : decode cX7_init 12 = .ok (.iastore, 1) := dk_79 (dk_at dksX7_init_0 12 rfl rfl)
theorem dX7_init_13 : decode cX7_init 13 = .ok (.dup, 1) := dk_89 (dk_at dksX7_init_0 13 rfl rfl)
theorem dX7_init_14 : decode cX7_init 14 = .ok (.iconst 1, 1) := dk_4 (dk_at dksX7_init_0 14 rfl rfl)
theorem dX7_init_15 : decode cX7_init 15 = .ok (.bipush 12, 2) := dk_16 12 (dk_at dksX7_init_0 15 rfl rfl)
theorem dX7_init_17 : decode cX7_init 17 = .ok (.iastore, 1) := dk_79 (dk_at dksX7_init_0 17 rfl rfl)
theorem dX7_init_18 : decode cX7_init 18 = .ok (.dup, 1) := dk_89 (dk_at dksX7_init_0 18 rfl rfl)
theorem dX7_init_19 : decode cX7_init 19 = .ok (.iconst 2, 1) := dk_5 (dk_at dksX7_init_0 19 rfl rfl)
theorem dX7_init_20 : decode cX7_init 20 = .ok (.bipush 14, 2) := dk_16 14 (dk_at dksX7_init_0 20 rfl rfl)
theorem dX7_init_22 : decode cX7_init 22 = .ok (.iastore, 1) := dk_79 (dk_at dksX7_init_0 22 rfl rfl)
theorem dX7_init_23 : decode cX7_init 23 = .ok (.dup, 1) := dk_89 (dk_at dksX7_init_0 23 rfl rfl)
theorem dX7_init_24 : decode cX7_init 24 = .ok (.iconst 3, 1) := dk_6 (dk_at dksX7_init_1 0 rfl rfl)
theorem dX7_init_25 : decode cX7_init 25 = .ok (.bipush 7, 2) := dk_16 7 (dk_at dksX7_init_1 1 rfl rfl)
theorem dX7_init_27 : decode cX7_init 27 = .ok (.iastore, 1) := dk_79 (dk_at dksX7_init_1 3 rfl rfl)
theorem dX7_init_28 : decode cX7_init 28 = .ok (.putfield 7, 3) := dk_181 0 7 (dk_at dksX7_init_1 4 rfl rfl)
theorem dX7_init_31 : decode cX7_init 31 = .ok (.aload_n 0, 1) := dk_42 (dk_at dksX7_init_1 7 rfl rfl)
theorem dX7_init_32 : decode cX7_init 32 = .ok (.iconst 4, 1) := dk_7 (dk_at dksX7_init_1 8 rfl rfl)
theorem dX7_init_33 : decode cX7_init 33 = .ok (.newarray .int, 2) := dk_188_10 (dk_at dksX7_init_1 9 rfl rfl)
theorem dX7_init_35 : decode cX7_init 35 = .ok (.dup, 1) := dk_89 (dk_at dksX7_init_1 11 rfl rfl)
theorem dX7_init_36 : decode cX7_init 36 = .ok (.iconst 0, 1) := dk_3 (dk_at dksX7_init_1 12 rfl rfl)
theorem dX7_init_37 : decode cX7_init 37 = .ok (.bipush 14, 2) := dk_16 14 (dk_at dksX7_init_1 13 rfl rfl)
theorem dX7_init_39 : decode cX7_init 39 = .ok (.iastore, 1) := dk_79 (dk_at dksX7_init_1 15 rfl rfl)
theorem dX7_init_40 : decode cX7_init 40 = .ok (.dup, 1) := dk_89 (dk_at dksX7_init_1 16 rfl rfl)
theorem dX7_init_41 : decode cX7_init 41 = .ok (.iconst 1, 1) := dk_4 (dk_at dksX7_init_1 17 rfl rfl)
theorem dX7_init_42 : decode cX7_init 42 = .ok (.bipush 16, 2) := dk_16 16 (dk_at dksX7_init_1 18 rfl rfl)
theorem dX7_init_44 : decode cX7_init 44 = .ok (.iastore, 1) := dk_79 (dk_at dksX7_init_1 20 rfl rfl)
theorem dX7_init_45 : decode cX7_init 45 = .ok (.dup, 1) := dk_89 (dk_at dksX7_init_1 21 rfl rfl)
theorem dX7_init_46 : decode cX7_init 46 = .ok (.iconst 2, 1) := dk_5 (dk_at dksX7_init_1 22 rfl rfl)
theorem dX7_init_47 : decode cX7_init 47 = .ok (.bipush 19, 2) := dk_16 19 (dk_at dksX7_init_2 0 rfl rfl)
theorem dX7_init_49 : decode cX7_init 49 = .ok (.iastore, 1) := dk_79 (dk_at dksX7_init_2 2 rfl rfl)
theorem dX7_init_50 : decode cX7_init 50 = .ok (.dup, 1) := dk_89 (dk_at dksX7_init_2 3 rfl rfl)
theorem dX7_init_51 : decode cX7_init 51 = .ok (.iconst 3, 1) := dk_6 (dk_at dksX7_init_2 4 rfl rfl)
theorem dX7_init_52 : decode cX7_init 52 = .ok (.bipush 9, 2) := dk_16 9 (dk_at dksX7_init_2 5 rfl rfl)
theorem dX7_init_54 : decode cX7_init 54 = .ok (.iastore, 1) := dk_79 (dk_at dksX7_init_2 7 rfl rfl)
theorem dX7_init_55 : decode cX7_init 55 = .ok (.putfield 13, 3) := dk_181 0 13 (dk_at dksX7_init_2 8 rfl rfl)
theorem dX7_init_58 : decode cX7_init 58 = .ok (.aload_n 0, 1) := dk_42 (dk_at dksX7_init_2 11 rfl rfl)
theorem dX7_init_59 : decode cX7_init 59 = .ok (.iconst 4, 1) := dk_7 (dk_at dksX7_init_2 12 rfl rfl)
theorem dX7_init_60 : decode cX7_init 60 = .ok (.newarray .int, 2) := dk_188_10 (dk_at dksX7_init_2 13 rfl rfl)
theorem dX7_init_62 : decode cX7_init 62 = .ok (.dup, 1) := dk_89 (dk_at dksX7_init_2 15 rfl rfl)
theorem dX7_init_63 : decode cX7_init 63 = .ok (.iconst 0, 1) := dk_3 (dk_at dksX7_init_2 16 rfl rfl)
theorem dX7_init_64 : decode cX7_init 64 = .ok (.iconst 1, 1) := dk_4 (dk_at dksX7_init_2 17 rfl rfl)
theorem dX7_init_65 : decode cX7_init 65 = .ok (.iastore, 1) := dk_79 (dk_at dksX7_init_2 18 rfl rfl)
theorem dX7_init_66 : decode cX7_init 66 = .ok (.dup, 1) := dk_89 (dk_at dksX7_init_2 19 rfl rfl)
theorem dX7_init_67 : decode cX7_init 67 = .ok (.iconst 1, 1) := dk_4 (dk_at dksX7_init_2 20 rfl rfl)
theorem dX7_init_68 : decode cX7_init 68 = .ok (.iconst 1, 1) := dk_4 (dk_at dksX7_init_2 21 rfl rfl)
theorem dX7_init_69 : decode cX7_init 69 = .ok (.iastore, 1) := dk_79 (dk_at dksX7_init_2 22 rfl rfl)
theorem dX7_init_70 : decode cX7_init 70 = .ok (.dup, 1) := dk_89 (dk_at dksX7_init_2 23 rfl rfl)
theorem dX7_init_71 : decode cX7_init 71 = .ok (.iconst 2, 1) := dk_5 (dk_at dksX7_init_3 0 rfl rfl)
theorem dX7_init_72 : decode cX7_init 72 = .ok (.iconst 1, 1) := dk_4 (dk_at dksX7_init_3 1 rfl rfl)
theorem dX7_init_73 : decode cX7_init 73 = .ok (.iastore, 1) := dk_79 (dk_at dksX7_init_3 2 rfl rfl)
theorem dX7_init_74 : decode cX7_init 74 = .ok (.dup, 1) := dk_89 (dk_at dksX7_init_3 3 rfl rfl)
theorem dX7_init_75 : decode cX7_init 75 = .ok (.iconst 3, 1) := dk_6 (dk_at dksX7_init_3 4 rfl rfl)
theorem dX7_init_76 : decode cX7_init 76 = .ok (.iconst 1, 1) := dk_4 (dk_at dksX7_init_3 5 rfl rfl)
theorem dX7_init_77 : decode cX7_init 77 = .ok (.iastore, 1) := dk_79 (dk_at dksX7_init_3 6 rfl rfl)
theorem dX7_init_78 : decode cX7_init 78 = .ok (.putfield 16, 3) := dk_181 0 16 (dk_at dksX7_init_3 7 rfl rfl)
theorem dX7_init_81 : decode cX7_init 81 = .ok (.aload_n 0, 1) := dk_42 (dk_at dksX7_init_3 10 rfl rfl)
theorem dX7_init_82 : decode cX7_init 82 = .ok (.bipush 6, 2) := dk_16 6 (dk_at dksX7_init_3 11 rfl rfl)
theorem dX7_init_84 : decode cX7_init 84 = .ok (.newarray .int, 2) := dk_188_10 (dk_at dksX7_init_3 13 rfl rfl)
theorem dX7_init_86 : decode cX7_init 86 = .ok (.putfield 19, 3) := dk_181 0 19 (dk_at dksX7_init_3 15 rfl rfl)
theorem dX7_init_89 : decode cX7_init 89 = .ok (.aload_n 0, 1) := dk_42 (dk_at dksX7_init_3 18 rfl rfl)
theorem dX7_init_90 : decode cX7_init 90 = .ok (.bipush 6, 2) := dk_16 6 (dk_at dksX7_init_3 19 rfl rfl)
theorem dX7_init_92 : decode cX7_init 92 = .ok (.newarray .int, 2) := dk_188_10 (dk_at dksX7_init_3 21 rfl rfl)
theorem dX7_init_94 : decode cX7_init 94 = .ok (.putfield 22, 3) := dk_181 0 22 (dk_at dksX7_init_4 0 rfl rfl)
theorem dX7_init_97 : decode cX7_init 97 = .ok (.aload_n 0, 1) := dk_42 (dk_at dksX7_init_4 3 rfl rfl)
theorem dX7_init_98 : decode cX7_init 98 = .ok (.bipush 6, 2) := dk_16 6 (dk_at dksX7_init_4 4 rfl rfl)
theorem dX7_init_100 : decode cX7_init 100 = .ok (.newarray .int, 2) := dk_188_10 (dk_at dksX7_init_4 6 rfl rfl)
theorem dX7_init_102 : decode cX7_init 102 = .ok (.putfield 25, 3) := dk_181 0 25 (dk_at dksX7_init_4 8 rfl rfl)
theorem dX7_init_105 : decode cX7_init 105 = .ok (.aload_n 0, 1) := dk_42 (dk_at dksX7_init_4 11 rfl rfl)
theorem dX7_init_106 : decode cX7_init 106 = .ok (.bipush 6, 2) := dk_16 6 (dk_at dksX7_init_4 12 rfl rfl)
theorem dX7_init_108 : decode cX7_init 108 = .ok (.newarray .int, 2) := dk_188_10 (dk_at dksX7_init_4 14 rfl rfl)
theorem dX7_init_110 : decode cX7_init 110 = .ok (.putfield 28, 3) := dk_181 0 28 (dk_at dksX7_init_4 16 rfl rfl)
theorem dX7_init_113 : decode cX7_init 113 = .ok (.aload_n 0, 1) := dk_42 (dk_at dksX7_init_4 19 rfl rfl)
theorem dX7_init_114 : decode cX7_init 114 = .ok (.bipush 6, 2) := dk_16 6 (dk_at dksX7_init_4 20 rfl rfl)
theorem dX7_init_116 : decode cX7_init 116 = .ok (.newarray .int, 2) := dk_188_10 (dk_at dksX7_init_4 22 rfl rfl)
theorem dX7_init_118 : decode cX7_init 118 = .ok (.putfield 31, 3) := dk_181 0 31 (dk_at dksX7_init_5 0 rfl rfl)
theorem dX7_init_121 : decode cX7_init 121 = .ok (.aload_n 0, 1) := dk_42 (dk_at dksX7_init_5 3 rfl rfl)
theorem dX7_init_122 : decode cX7_init 122 = .ok (.bipush 48, 2) := dk_16 48 (dk_at dksX7_init_5 4 rfl rfl)
theorem dX7_init_124 : decode cX7_init 124 = .ok (.newarray .int, 2) := dk_188_10 (dk_at dksX7_init_5 6 rfl rfl)
theorem dX7_init_126 : decode cX7_init 126 = .ok (.putfield 34, 3) := dk_181 0 34 (dk_at dksX7_init_5 8 rfl rfl)
theorem dX7_init_129 : decode cX7_init 129 = .ok (.aload_n 0, 1) := dk_42 (dk_at dksX7_init_5 11 rfl rfl)
theorem dX7_init_130 : decode cX7_init 130 = .ok (.bipush 6, 2) := dk_16 6 (dk_at dksX7_init_5 12 rfl rfl)
theorem dX7_init_132 : decode cX7_init 132 = .ok (.newarray .int, 2) := dk_188_10 (dk_at dksX7_init_5 14 rfl rfl)
theorem dX7_init_134 : decode cX7_init 134 = .ok (.putfield 37, 3) := dk_181 0 37 (dk_at dksX7_init_5 16 rfl rfl)
theorem dX7_init_137 : decode cX7_init 137 = .ok (.aload_n 0, 1) := dk_42 (dk_at dksX7_init_5 19 rfl rfl)
theorem dX7_init_138 : decode cX7_init 138 = .ok (.bipush 6, 2) := dk_16 6 (dk_at dksX7_init_5 20 rfl rfl)
theorem dX7_init_140 : decode cX7_init 140 = .ok (.newarray .int, 2) := dk_188_10 (dk_at dksX7_init_5 22 rfl rfl)
theorem dX7_init_142 : decode cX7_init 142 = .ok (.putfield 40, 3) := dk_181 0 40 (dk_at dksX7_init_6 0 rfl rfl)
theorem dX7_init_145 : decode cX7_init 145 = .ok (.aload_n 0, 1) := dk_42 (dk_at dksX7_init_6 3 rfl rfl)
theorem dX7_init_146 : decode cX7_init 146 = .ok (.bipush 6, 2) := dk_16 6 (dk_at dksX7_init_6 4 rfl rfl)
theorem dX7_init_148 : decode cX7_init 148 = .ok (.newarray .int, 2) := dk_188_10 (dk_at dksX7_init_6 6 rfl rfl)
theorem dX7_init_150 : decode cX7_init 150 = .ok (.putfield 43, 3) := dk_181 0 43 (dk_at dksX7_init_6 8 rfl rfl)
theorem dX7_init_153 : decode cX7_init 153 = .ok (.aload_n 0, 1) := dk_42 (dk_at dksX7_init_6 11 rfl rfl)
theorem dX7_init_154 : decode cX7_init 154 = .ok (.iconst 4, 1) := dk_7 (dk_at dksX7_init_6 12 rfl rfl)
theorem dX7_init_155 : decode cX7_init 155 = .ok (.newarray .int, 2) := dk_188_10 (dk_at dksX7_init_6 13 rfl rfl)
theorem dX7_init_157 : decode cX7_init 157 = .ok (.putfield 46, 3) := dk_181 0 46 (dk_at dksX7_init_6 15 rfl rfl)
theorem dX7_init_160 : decode cX7_init 160 = .ok (.aload_n 0, 1) := dk_42 (dk_at dksX7_init_6 18 rfl rfl)
theorem dX7_init_161 : decode cX7_init 161 = .ok (.iconst 4, 1) := dk_7 (dk_at dksX7_init_6 19 rfl rfl)
theorem dX7_init_162 : decode cX7_init 162 = .ok (.newarray .int, 2) := dk_188_10 (dk_at dksX7_init_6 20 rfl rfl)
theorem dX7_init_164 : decode cX7_init 164 = .ok (.putfield 49, 3) := dk_181 0 49 (dk_at dksX7_init_7 0 rfl rfl)
theorem dX7_init_167 : decode cX7_init 167 = .ok (.aload_n 0, 1) := dk_42 (dk_at dksX7_init_7 3 rfl rfl)
theorem dX7_init_168 : decode cX7_init 168 = .ok (.sipush 160, 3) := dk_17 0 160 (dk_at dksX7_init_7 4 rfl rfl)
theorem dX7_init_171 : decode cX7_init 171 = .ok (.newarray .int, 2) := dk_188_10 (dk_at dksX7_init_7 7 rfl rfl)
theorem dX7_init_173 : decode cX7_init 173 = .ok (.putfield 52, 3) := dk_181 0 52 (dk_at dksX7_init_7 9 rfl rfl)
theorem dX7_init_176 : decode cX7_init 176 = .ok (.aload_n 0, 1) := dk_42 (dk_at dksX7_init_7 12 rfl rfl)
theorem dX7_init_177 : decode cX7_init 177 = .ok (.sipush 1200, 3) := dk_17 4 176 (dk_at dksX7_init_7 13 rfl rfl)
theorem dX7_init_180 : decode cX7_init 180 = .ok (.newarray .int, 2) := dk_188_10 (dk_at dksX7_init_7 16 rfl rfl)
theorem dX7_init_182 : decode cX7_init 182 = .ok (.putfield 55, 3) := dk_181 0 55 (dk_at dksX7_init_7 18 rfl rfl)
theorem dX7_init_185 : decode cX7_init 185 = .ok (.aload_n 0, 1) := dk_42 (dk_at dksX7_init_7 21 rfl rfl)
theorem dX7_init_186 : decode cX7_init 186 = .ok (.bipush 24, 2) := dk_16 24 (dk_at dksX7_init_7 22 rfl rfl)
theorem dX7_init_188 : decode cX7_init 188 = .ok (.newarray .int, 2) := dk_188_10 (dk_at dksX7_init_8 0 rfl rfl)
theorem dX7_init_190 : decode cX7_init 190 = .ok (.putfield 58, 3) := dk_181 0 58 (dk_at dksX7_init_8 2 rfl rfl)
theorem dX7_init_193 : decode cX7_init 193 = .ok (.aload_n 0, 1) := dk_42 (dk_at dksX7_init_8 5 rfl rfl)
theorem dX7_init_194 : decode cX7_init 194 = .ok (.iconst 1, 1) := dk_4 (dk_at dksX7_init_8 6 rfl rfl)
theorem dX7_init_195 : decode cX7_init 195 = .ok (.putfield 61, 3) := dk_181 0 61 (dk_at dksX7_init_8 7 rfl rfl)
theorem dX7_init_198 : decode cX7_init 198 = .ok (.aload_n 0, 1) := dk_42 (dk_at dksX7_init_8 10 rfl rfl)
theorem dX7_init_199 : decode cX7_init 199 = .ok (.iconst (-1), 1) := dk_2 (dk_at dksX7_init_8 11 rfl rfl)
theorem dX7_init_200 : decode cX7_init 200 = .ok (.putfield 65, 3) := dk_181 0 65 (dk_at dksX7_init_8 12 rfl rfl)
theorem dX7_init_203 : decode cX7_init 203 = .ok (.aload_n 0, 1) := dk_42 (dk_at dksX7_init_8 15 rfl rfl)
theorem dX7_init_204 : decode cX7_init 204 = .ok (.iconst 4, 1) := dk_7 (dk_at dksX7_init_8 16 rfl rfl)
theorem dX7_init_205 : decode cX7_init 205 = .ok (.newarray .int, 2) := dk_188_10 (dk_at dksX7_init_8 17 rfl rfl)
theorem dX7_init_207 : decode cX7_init 207 = .ok (.putfield 68, 3) := dk_181 0 68 (dk_at dksX7_init_8 19 rfl rfl)
theorem dX7_init_210 : decode cX7_init 210 = .ok (.aload_n 0, 1) := dk_42 (dk_at dksX7_init_8 22 rfl rfl)
theorem dX7_init_211 : decode cX7_init 211 = .ok (.iconst 4, 1) := dk_7 (dk_at dksX7_init_8 23 rfl rfl)
theorem dX7_init_212 : decode cX7_init 212 = .ok (.newarray .int, 2) := dk_188_10 (dk_at dksX7_init_9 0 rfl rfl)
theorem dX7_init_214 : decode cX7_init 214 = .ok (.putfield 71, 3) := dk_181 0 71 (dk_at dksX7_init_9 2 rfl rfl)
theorem dX7_init_217 : decode cX7_init 217 = .ok (.aload_n 0, 1) := dk_42 (dk_at dksX7_init_9 5 rfl rfl)
theorem dX7_init_218 : decode cX7_init 218 = .ok (.iconst 4, 1) := dk_7 (dk_at dksX7_init_9 6 rfl rfl)
theorem dX7_init_219 : decode cX7_init 219 = .ok (.newarray .int, 2) := dk_188_10 (dk_at dksX7_init_9 7 rfl rfl)
theorem dX7_init_221 : decode cX7_init 221 = .ok (.putfield 74, 3) := dk_181 0 74 (dk_at dksX7_init_9 9 rfl rfl)
theorem dX7_init_224 : decode cX7_init 224 = .ok (.aload_n 0, 1) := dk_42 (dk_at dksX7_init_9 12 rfl rfl)
theorem dX7_init_225 : decode cX7_init 225 = .ok (.bipush 6, 2) := dk_16 6 (dk_at dksX7_init_9 13 rfl rfl)
theorem dX7_init_227 : decode cX7_init 227 = .ok (.newarray .int, 2) := dk_188_10 (dk_at dksX7_init_9 15 rfl rfl)
theorem dX7_init_229 : decode cX7_init 229 = .ok (.putfield 77, 3) := dk_181 0 77 (dk_at dksX7_init_9 17 rfl rfl)
theorem dX7_init_232 : decode cX7_init 232 = .ok (.aload_n 0, 1) := dk_42 (dk_at dksX7_init_9 20 rfl rfl)
theorem dX7_init_233 : decode cX7_init 233 = .ok (.bipush 6, 2) := dk_16 6 (dk_at dksX7_init_9 21 rfl rfl)
theorem dX7_init_235 : decode cX7_init 235 = .ok (.newarray .int, 2) := dk_188_10 (dk_at dksX7_init_10 0 rfl rfl)
theorem dX7_init_237 : decode cX7_init 237 = .ok (.putfield 80, 3) := dk_181 0 80 (dk_at dksX7_init_10 2 rfl rfl)
theorem dX7_init_240 : decode cX7_init 240 = .ok (.aload_n 0, 1) := dk_42 (dk_at dksX7_init_10 5 rfl rfl)
theorem dX7_init_241 : decode cX7_init 241 = .ok (.bipush 48, 2) := dk_16 48 (dk_at dksX7_init_10 6 rfl rfl)
theorem dX7_init_243 : decode cX7_init 243 = .ok (.newarray .int, 2) := dk_188_10 (dk_at dksX7_init_10 8 rfl rfl)
theorem dX7_init_245 : decode cX7_init 245 = .ok (.putfield 83, 3) := dk_181 0 83 (dk_at dksX7_init_10 10 rfl rfl)
theorem dX7_init_248 : decode cX7_init 248 = .ok (.aload_n 0, 1) := dk_42 (dk_at dksX7_init_10 13 rfl rfl)
theorem dX7_init_249 : decode cX7_init 249 = .ok (.iconst 4, 1) := dk_7 (dk_at dksX7_init_10 14 rfl rfl)
theorem dX7_init_250 : decode cX7_init 250 = .ok (.newarray .int, 2) := dk_188_10 (dk_at dksX7_init_10 15 rfl rfl)
theorem dX7_init_252 : decode cX7_init 252 = .ok (.putfield 86, 3) := dk_181 0 86 (dk_at dksX7_init_10 17 rfl rfl)
theorem dX7_init_255 : decode cX7_init 255 = .ok (.aload_n 0, 1) := dk_42 (dk_at dksX7_init_10 20 rfl rfl)
theorem dX7_init_256 : decode cX7_init 256 = .ok (.iconst 4, 1) := dk_7 (dk_at dksX7_init_10 21 rfl rfl)
theorem dX7_init_257 : decode cX7_init 257 = .ok (.newarray .int, 2) := dk_188_10 (dk_at dksX7_init_10 22 rfl rfl)
theorem dX7_init_259 : decode cX7_init 259 = .ok (.putfield 89, 3) := dk_181 0 89 (dk_at dksX7_init_11 0 rfl rfl)
theorem dX7_init_262 : decode cX7_init 262 = .ok (.aload_n 0, 1) := dk_42 (dk_at dksX7_init_11 3 rfl rfl)
theorem dX7_init_263 : decode cX7_init 263 = .ok (.iconst 4, 1) := dk_7 (dk_at dksX7_init_11 4 rfl rfl)
theorem dX7_init_264 : decode cX7_init 264 = .ok (.newarray .int, 2) := dk_188_10 (dk_at dksX7_init_11 5 rfl rfl)
theorem dX7_init_266 : decode cX7_init 266 = .ok (.dup, 1) := dk_89 (dk_at dksX7_init_11 7 rfl rfl)
theorem dX7_init_267 : decode cX7_init 267 = .ok (.iconst 0, 1) := dk_3 (dk_at dksX7_init_11 8 rfl rfl)
theorem dX7_init_268 : decode cX7_init 268 = .ok (.iconst (-1), 1) := dk_2 (dk_at dksX7_init_11 9 rfl rfl)
theorem dX7_init_269 : decode cX7_init 269 = .ok (.iastore, 1) := dk_79 (dk_at dksX7_init_11 10 rfl rfl)
theorem dX7_init_270 : decode cX7_init 270 = .ok (.dup, 1) := dk_89 (dk_at dksX7_init_11 11 rfl rfl)
theorem dX7_init_271 : decode cX7_init 271 = .ok (.iconst 1, 1) := dk_4 (dk_at dksX7_init_11 12 rfl rfl)
theorem dX7_init_272 : decode cX7_init 272 = .ok (.iconst (-1), 1) := dk_2 (dk_at dksX7_init_11 13 rfl rfl)
theorem dX7_init_273 : decode cX7_init 273 = .ok (.iastore, 1) := dk_79 (dk_at dksX7_init_11 14 rfl rfl)
theorem dX7_init_274 : decode cX7_init 274 = .ok (.dup, 1) := dk_89 (dk_at dksX7_init_11 15 rfl rfl)
theorem dX7_init_275 : decode cX7_init 275 = .ok (.iconst 2, 1) := dk_5 (dk_at dksX7_init_11 16 rfl rfl)
theorem dX7_init_276 : decode cX7_init 276 = .ok (.iconst (-1), 1) := dk_2 (dk_at dksX7_init_11 17 rfl rfl)
theorem dX7_init_277 : decode cX7_init 277 = .ok (.iastore, 1) := dk_79 (dk_at dksX7_init_11 18 rfl rfl)
theorem dX7_init_278 : decode cX7_init 278 = .ok (.dup, 1) := dk_89 (dk_at dksX7_init_11 19 rfl rfl)
theorem dX7_init_279 : decode cX7_init 279 = .ok (.iconst 3, 1) := dk_6 (dk_at dksX7_init_11 20 rfl rfl)
theorem dX7_init_280 : decode cX7_init 280 = .ok (.iconst (-1), 1) := dk_2 (dk_at dksX7_init_11 21 rfl rfl)
theorem dX7_init_281 : decode cX7_init 281 = .ok (.iastore, 1) := dk_79 (dk_at dksX7_init_11 22 rfl rfl)
theorem dX7_init_282 : decode cX7_init 282 = .ok (.putfield 92, 3) := dk_181 0 92 (dk_at dksX7_init_12 0 rfl rfl)
theorem dX7_init_285 : decode cX7_init 285 = .ok (.aload_n 0, 1) := dk_42 (dk_at dksX7_init_12 3 rfl rfl)
theorem dX7_init_286 : decode cX7_init 286 = .ok (.iconst 4, 1) := dk_7 (dk_at dksX7_init_12 4 rfl rfl)
theorem dX7_init_287 : decode cX7_init 287 = .ok (.newarray .int, 2) := dk_188_10 (dk_at dksX7_init_12 5 rfl rfl)
theorem dX7_init_289 : decode cX7_init 289 = .ok (.putfield 95, 3) := dk_181 0 95 (dk_at dksX7_init_12 7 rfl rfl)
theorem dX7_init_292 : decode cX7_init 292 = .ok (.aload_n 0, 1) := dk_42 (dk_at dksX7_init_12 10 rfl rfl)
theorem dX7_init_293 : decode cX7_init 293 = .ok (.sipush 240, 3) := dk_17 0 240 (dk_at dksX7_init_12 11 rfl rfl)
theorem dX7_init_296 : decode cX7_init 296 = .ok (.newarray .int, 2) := dk_188_10 (dk_at dksX7_init_12 14 rfl rfl)
theorem dX7_init_298 : decode cX7_init 298 = .ok (.putfield 98, 3) := dk_181 0 98 (dk_at dksX7_init_12 16 rfl rfl)
theorem dX7_init_301 : decode cX7_init 301 = .ok (.aload_n 0, 1) := dk_42 (dk_at dksX7_init_12 19 rfl rfl)
theorem dX7_init_302 : decode cX7_init 302 = .ok (.bipush 12, 2) := dk_16 12 (dk_at dksX7_init_12 20 rfl rfl)
theorem dX7_init_304 : decode cX7_init 304 = .ok (.newarray .long, 2) := dk_188_11 (dk_at dksX7_init_12 22 rfl rfl)
theorem dX7_init_306 : decode cX7_init 306 = .ok (.dup, 1) := dk_89 (dk_at dksX7_init_13 0 rfl rfl)
theorem dX7_init_307 : decode cX7_init 307 = .ok (.iconst 0, 1) := dk_3 (dk_at dksX7_init_13 1 rfl rfl)
theorem dX7_init_308 : decode cX7_init 308 = .ok (.ldc2_w 101, 3) := dk_20 0 101 (dk_at dksX7_init_13 2 rfl rfl)
theorem dX7_init_311 : decode cX7_init 311 = .ok (.lastore, 1) := dk_80 (dk_at dksX7_init_13 5 rfl rfl)
theorem dX7_init_312 : decode cX7_init 312 = .ok (.dup, 1) := dk_89 (dk_at dksX7_init_13 6 rfl rfl)
theorem dX7_init_313 : decode cX7_init 313 = .ok (.iconst 1, 1) := dk_4 (dk_at dksX7_init_13 7 rfl rfl)
theorem dX7_init_314 : decode cX7_init 314 = .ok (.ldc2_w 103, 3) := dk_20 0 103 (dk_at dksX7_init_13 8 rfl rfl)
theorem dX7_init_317 : decode cX7_init 317 = .ok (.lastore, 1) := dk_80 (dk_at dksX7_init_13 11 rfl rfl)
theorem dX7_init_318 : decode cX7_init 318 = .ok (.dup, 1) := dk_89 (dk_at dksX7_init_13 12 rfl rfl)
theorem dX7_init_319 : decode cX7_init 319 = .ok (.iconst 2, 1) := dk_5 (dk_at dksX7_init_13 13 rfl rfl)
theorem dX7_init_320 : decode cX7_init 320 = .ok (.ldc2_w 105, 3) := dk_20 0 105 (dk_at dksX7_init_13 14 rfl rfl)
theorem dX7_init_323 : decode cX7_init 323 = .ok (.lastore, 1) := dk_80 (dk_at dksX7_init_13 17 rfl rfl)
theorem dX7_init_324 : decode cX7_init 324 = .ok (.dup, 1) := dk_89 (dk_at dksX7_init_13 18 rfl rfl)
theorem dX7_init_325 : decode cX7_init 325 = .ok (.iconst 3, 1) := dk_6 (dk_at dksX7_init_13 19 rfl rfl)
theorem dX7_init_326 : decode cX7_init 326 = .ok (.ldc2_w 107, 3) := dk_20 0 107 (dk_at dksX7_init_13 20 rfl rfl)
theorem dX7_init_329 : decode cX7_init 329 = .ok (.lastore, 1) := dk_80 (dk_at dksX7_init_13 23 rfl rfl)
theorem dX7_init_330 : decode cX7_init 330 = .ok (.dup, 1) := dk_89 (dk_at dksX7_init_14 0 rfl rfl)
theorem dX7_init_331 : decode cX7_init 331 = .ok (.iconst 4, 1) := dk_7 (dk_at dksX7_init_14 1 rfl rfl)
theorem dX7_init_332 : decode cX7_init 332 = .ok (.ldc2_w 109, 3) := dk_20 0 109 (dk_at dksX7_init_14 2 rfl rfl)
theorem dX7_init_335 : decode cX7_init 335 = .ok (.lastore, 1) := dk_80 (dk_at dksX7_init_14 5 rfl rfl)
theorem dX7_init_336 : decode cX7_init 336 = .ok (.dup, 1) := dk_89 (dk_at dksX7_init_14 6 rfl rfl)
theorem dX7_init_337 : decode cX7_init 337 = .ok (.iconst 5, 1) := dk_8 (dk_at dksX7_init_14 7 rfl rfl)
theorem dX7_init_338 : decode cX7_init 338 = .ok (.ldc2_w 111, 3) := dk_20 0 111 (dk_at dksX7_init_14 8 rfl rfl)
theorem dX7_init_341 : decode cX7_init 341 = .ok (.lastore, 1) := dk_80 (dk_at dksX7_init_14 11 rfl rfl)
theorem dX7_init_342 : decode cX7_init 342 = .ok (.dup, 1) := dk_89 (dk_at dksX7_init_14 12 rfl rfl)
theorem dX7_init_343 : decode cX7_init 343 = .ok (.bipush 6, 2) := dk_16 6 (dk_at dksX7_init_14 13 rfl rfl)
theorem dX7_init_345 : decode cX7_init 345 = .ok (.ldc2_w 113, 3) := dk_20 0 113 (dk_at dksX7_init_14 15 rfl rfl)
theorem dX7_init_348 : decode cX7_init 348 = .ok (.lastore, 1) := dk_80 (dk_at dksX7_init_14 18 rfl rfl)
theorem dX7_init_349 : decode cX7_init 349 = .ok (.dup, 1) := dk_89 (dk_at dksX7_init_14 19 rfl rfl)
theorem dX7_init_350 : decode cX7_init 350 = .ok (.bipush 7, 2) := dk_16 7 (dk_at dksX7_init_14 20 rfl rfl)
theorem dX7_init_352 : decode cX7_init 352 = .ok (.ldc2_w 115, 3) := dk_20 0 115 (dk_at dksX7_init_15 0 rfl rfl)
theorem dX7_init_355 : decode cX7_init 355 = .ok (.lastore, 1) := dk_80 (dk_at dksX7_init_15 3 rfl rfl)
theorem dX7_init_356 : decode cX7_init 356 = .ok (.dup, 1) := dk_89 (dk_at dksX7_init_15 4 rfl rfl)
theorem dX7_init_357 : decode cX7_init 357 = .ok (.bipush 8, 2) := dk_16 8 (dk_at dksX7_init_15 5 rfl rfl)
theorem dX7_init_359 : decode cX7_init 359 = .ok (.ldc2_w 117, 3) := dk_20 0 117 (dk_at dksX7_init_15 7 rfl rfl)
theorem dX7_init_362 : decode cX7_init 362 = .ok (.lastore, 1) := dk_80 (dk_at dksX7_init_15 10 rfl rfl)
theorem dX7_init_363 : decode cX7_init 363 = .ok (.dup, 1) := dk_89 (dk_at dksX7_init_15 11 rfl rfl)
theorem dX7_init_364 : decode cX7_init 364 = .ok (.bipush 9, 2) := dk_16 9 (dk_at dksX7_init_15 12 rfl rfl)
theorem dX7_init_366 : decode cX7_init 366 = .ok (.ldc2_w 119, 3) := dk_20 0 119 (dk_at dksX7_init_15 14 rfl rfl)
theorem dX7_init_369 : decode cX7_init 369 = .ok (.lastore, 1) := dk_80 (dk_at dksX7_init_15 17 rfl rfl)
theorem dX7_init_370 : decode cX7_init 370 = .ok (.dup, 1) := dk_89 (dk_at dksX7_init_15 18 rfl rfl)
theorem dX7_init_371 : decode cX7_init 371 = .ok (.bipush 10, 2) := dk_16 10 (dk_at dksX7_init_15 19 rfl rfl)
theorem dX7_init_373 : decode cX7_init 373 = .ok (.ldc2_w 121, 3) := dk_20 0 121 (dk_at dksX7_init_15 21 rfl rfl)
theorem dX7_init_376 : decode cX7_init 376 = .ok (.lastore, 1) := dk_80 (dk_at dksX7_init_16 0 rfl rfl)
theorem dX7_init_377 : decode cX7_init 377 = .ok (.dup, 1) := dk_89 (dk_at dksX7_init_16 1 rfl rfl)
theorem dX7_init_378 : decode cX7_init 378 = .ok (.bipush 11, 2) := dk_16 11 (dk_at dksX7_init_16 2 rfl rfl)
theorem dX7_init_380 : decode cX7_init 380 = .ok (.ldc2_w 123, 3) := dk_20 0 123 (dk_at dksX7_init_16 4 rfl rfl)
theorem dX7_init_383 : decode cX7_init 383 = .ok (.lastore, 1) := dk_80 (dk_at dksX7_init_16 7 rfl rfl)
theorem dX7_init_384 : decode cX7_init 384 = .ok (.putfield 125, 3) := dk_181 0 125 (dk_at dksX7_init_16 8 rfl rfl)
theorem dX7_init_387 : decode cX7_init 387 = .ok (.aload_n 0, 1) := dk_42 (dk_at dksX7_init_16 11 rfl rfl)
theorem dX7_init_388 : decode cX7_init 388 = .ok (.sipush 200, 3) := dk_17 0 200 (dk_at dksX7_init_16 12 rfl rfl)
theorem dX7_init_391 : decode cX7_init 391 = .ok (.newarray .int, 2) := dk_188_10 (dk_at dksX7_init_16 15 rfl rfl)
theorem dX7_init_393 : decode cX7_init 393 = .ok (.putfield 129, 3) := dk_181 0 129 (dk_at dksX7_init_16 17 rfl rfl)
theorem dX7_init_396 : decode cX7_init 396 = .ok (.aload_n 0, 1) := dk_42 (dk_at dksX7_init_16 20 rfl rfl)
theorem dX7_init_397 : decode cX7_init 397 = .ok (.sipush 200, 3) := dk_17 0 200 (dk_at dksX7_init_16 21 rfl rfl)
theorem dX7_init_400 : decode cX7_init 400 = .ok (.newarray .int, 2) := dk_188_10 (dk_at dksX7_init_17 0 rfl rfl)
theorem dX7_init_402 : decode cX7_init 402 = .ok (.putfield 132, 3) := dk_181 0 132 (dk_at dksX7_init_17 2 rfl rfl)
theorem dX7_init_405 : decode cX7_init 405 = .ok (.aload_n 0, 1) := dk_42 (dk_at dksX7_init_17 5 rfl rfl)
theorem dX7_init_406 : decode cX7_init 406 = .ok (.bipush 6, 2) := dk_16 6 (dk_at dksX7_init_17 6 rfl rfl)
theorem dX7_init_408 : decode cX7_init 408 = .ok (.newarray .int, 2) := dk_188_10 (dk_at dksX7_init_17 8 rfl rfl)
theorem dX7_init_410 : decode cX7_init 410 = .ok (.putfield 135, 3) := dk_181 0 135 (dk_at dksX7_init_17 10 rfl rfl)
theorem dX7_init_413 : decode cX7_init 413 = .ok (.aload_n 0, 1) := dk_42 (dk_at dksX7_init_17 13 rfl rfl)
theorem dX7_init_414 : decode cX7_init 414 = .ok (.bipush 6, 2) := dk_16 6 (dk_at dksX7_init_17 14 rfl rfl)
theorem dX7_init_416 : decode cX7_init 416 = .ok (.newarray .int, 2) := dk_188_10 (dk_at dksX7_init_17 16 rfl rfl)
theorem dX7_init_418 : decode cX7_init 418 = .ok (.putfield 138, 3) := dk_181 0 138 (dk_at dksX7_init_17 18 rfl rfl)
theorem dX7_init_421 : decode cX7_init 421 = .ok (.aload_n 0, 1) := dk_42 (dk_at dksX7_init_17 21 rfl rfl)
theorem dX7_init_422 : decode cX7_init 422 = .ok (.bipush 48, 2) := dk_16 48 (dk_at dksX7_init_17 22 rfl rfl)
theorem dX7_init_424 : decode cX7_init 424 = .ok (.newarray .int, 2) := dk_188_10 (dk_at dksX7_init_18 0 rfl rfl)
theorem dX7_init_426 : decode cX7_init 426 = .ok (.putfield 141, 3) := dk_181 0 141 (dk_at dksX7_init_18 2 rfl rfl)
theorem dX7_init_429 : decode cX7_init 429 = .ok (.aload_n 0, 1) := dk_42 (dk_at dksX7_init_18 5 rfl rfl)
theorem dX7_init_430 : decode cX7_init 430 = .ok (.bipush 6, 2) := dk_16 6 (dk_at dksX7_init_18 6 rfl rfl)
theorem dX7_init_432 : decode cX7_init 432 = .ok (.newarray .int, 2) := dk_188_10 (dk_at dksX7_init_18 8 rfl rfl)
theorem dX7_init_434 : decode cX7_init 434 = .ok (.putfield 144, 3) := dk_181 0 144 (dk_at dksX7_init_18 10 rfl rfl)
theorem dX7_init_437 : decode cX7_init 437 = .ok (.aload_n 0, 1) := dk_42 (dk_at dksX7_init_18 13 rfl rfl)
theorem dX7_init_438 : decode cX7_init 438 = .ok (.sipush 1001, 3) := dk_17 3 233 (dk_at dksX7_init_18 14 rfl rfl)
theorem dX7_init_441 : decode cX7_init 441 = .ok (.newarray .int, 2) := dk_188_10 (dk_at dksX7_init_18 17 rfl rfl)
theorem dX7_init_443 : decode cX7_init 443 = .ok (.putfield 147, 3) := dk_181 0 147 (dk_at dksX7_init_18 19 rfl rfl)
theorem dX7_init_446 : decode cX7_init 446 = .ok (.aload_n 0, 1) := dk_42 (dk_at dksX7_init_18 22 rfl rfl)
theorem dX7_init_447 : decode cX7_init 447 = .ok (.iconst 0, 1) := dk_3 (dk_at dksX7_init_18 23 rfl rfl)
theorem dX7_init_448 : decode cX7_init 448 = .ok (.iconst 0, 1) := dk_3 (dk_at dksX7_init_19 0 rfl rfl)
theorem dX7_init_449 : decode cX7_init 449 = .ok (.iconst 0, 1) := dk_3 (dk_at dksX7_init_19 1 rfl rfl)
theorem dX7_init_450 : decode cX7_init 450 = .ok (.ldc 150, 2) := dk_18 150 (dk_at dksX7_init_19 2 rfl rfl)
theorem dX7_init_452 : decode cX7_init 452 = .ok (.bipush 18, 2) := dk_16 18 (dk_at dksX7_init_19 4 rfl rfl)
theorem dX7_init_454 : decode cX7_init 454 = .ok (.invokevirtual 151, 3) := dk_182 0 151 (dk_at dksX7_init_19 6 rfl rfl)
theorem dX7_init_457 : decode cX7_init 457 = .ok (.aload_n 0, 1) := dk_42 (dk_at dksX7_init_19 9 rfl rfl)
theorem dX7_init_458 : decode cX7_init 458 = .ok (.iconst 4, 1) := dk_7 (dk_at dksX7_init_19 10 rfl rfl)
theorem dX7_init_459 : decode cX7_init 459 = .ok (.iconst 2, 1) := dk_5 (dk_at dksX7_init_19 11 rfl rfl)
theorem dX7_init_460 : decode cX7_init 460 = .ok (.bipush 17, 2) := dk_16 17 (dk_at dksX7_init_19 12 rfl rfl)
theorem dX7_init_462 : decode cX7_init 462 = .ok (.iconst 1, 1) := dk_4 (dk_at dksX7_init_19 14 rfl rfl)
theorem dX7_init_463 : decode cX7_init 463 = .ok (.ldc 155, 2) := dk_18 155 (dk_at dksX7_init_19 15 rfl rfl)
theorem dX7_init_465 : decode cX7_init 465 = .ok (.invokevirtual 151, 3) := dk_182 0 151 (dk_at dksX7_init_19 17 rfl rfl)
theorem dX7_init_468 : decode cX7_init 468 = .ok (.aload_n 0, 1) := dk_42 (dk_at dksX7_init_19 20 rfl rfl)
theorem dX7_init_469 : decode cX7_init 469 = .ok (.bipush 8, 2) := dk_16 8 (dk_at dksX7_init_19 21 rfl rfl)
theorem dX7_init_471 : decode cX7_init 471 = .ok (.bipush 18, 2) := dk_16 18 (dk_at dksX7_init_20 0 rfl rfl)
theorem dX7_init_473 : decode cX7_init 473 = .ok (.iconst 4, 1) := dk_7 (dk_at dksX7_init_20 2 rfl rfl)
theorem dX7_init_474 : decode cX7_init 474 = .ok (.bipush 16, 2) := dk_16 16 (dk_at dksX7_init_20 3 rfl rfl)
theorem dX7_init_476 : decode cX7_init 476 = .ok (.iconst 0, 1) := dk_3 (dk_at dksX7_init_20 5 rfl rfl)
theorem dX7_init_477 : decode cX7_init 477 = .ok (.invokevirtual 151, 3) := dk_182 0 151 (dk_at dksX7_init_20 6 rfl rfl)
theorem dX7_init_480 : decode cX7_init 480 = .ok (.aload_n 0, 1) := dk_42 (dk_at dksX7_init_20 9 rfl rfl)
theorem dX7_init_481 : decode cX7_init 481 = .ok (.getfield 58, 3) := dk_180 0 58 (dk_at dksX7_init_20 10 rfl rfl)
theorem dX7_init_484 : decode cX7_init 484 = .ok (.iconst 1, 1) := dk_4 (dk_at dksX7_init_20 13 rfl rfl)
theorem dX7_init_485 : decode cX7_init 485 = .ok (.iconst 1, 1) := dk_4 (dk_at dksX7_init_20 14 rfl rfl)
theorem dX7_init_486 : decode cX7_init 486 = .ok (.iastore, 1) := dk_79 (dk_at dksX7_init_20 15 rfl rfl)
theorem dX7_init_487 : decode cX7_init 487 = .ok (.aload_n 0, 1) := dk_42 (dk_at dksX7_init_20 16 rfl rfl)
theorem dX7_init_488 : decode cX7_init 488 = .ok (.getfield 58, 3) := dk_180 0 58 (dk_at dksX7_init_20 17 rfl rfl)
theorem dX7_init_491 : decode cX7_init 491 = .ok (.iconst 2, 1) := dk_5 (dk_at dksX7_init_20 20 rfl rfl)
theorem dX7_init_492 : decode cX7_init 492 = .ok (.bipush 6, 2) := dk_16 6 (dk_at dksX7_init_20 21 rfl rfl)
theorem dX7_init_494 : decode cX7_init 494 = .ok (.iastore, 1) := dk_79 (dk_at dksX7_init_20 23 rfl rfl)
theorem dX7_init_495 : decode cX7_init 495 = .ok (.aload_n 0, 1) := dk_42 (dk_at dksX7_init_21 0 rfl rfl)
theorem dX7_init_496 : decode cX7_init 496 = .ok (.getfield 58, 3) := dk_180 0 58 (dk_at dksX7_init_21 1 rfl rfl)
theorem dX7_init_499 : decode cX7_init 499 = .ok (.iconst 3, 1) := dk_6 (dk_at dksX7_init_21 4 rfl rfl)
theorem dX7_init_500 : decode cX7_init 500 = .ok (.bipush 11, 2) := dk_16 11 (dk_at dksX7_init_21 5 rfl rfl)
theorem dX7_init_502 : decode cX7_init 502 = .ok (.iastore, 1) := dk_79 (dk_at dksX7_init_21 7 rfl rfl)
theorem dX7_init_503 : decode cX7_init 503 = .ok (.return_, 1) := dk_177 (dk_at dksX7_init_21 8 rfl rfl)
abbrev cX7_first : ByteArray := prog_19_method_2_code
def yX7_first : MethodName := ⟨RX7, "first", "(IIIII)V"⟩
def dkwX7_first_1 : List UInt8 := [21, 4, 79, 42, 180, 0, 55, 27, 6, 96, 21, 5, 79, 177]
abbrev dktX7_first_1 : List UInt8 := dkwX7_first_1 ++ []
def dkwX7_first_0 : List UInt8 := [42, 180, 0, 55, 27, 28, 79, 42, 180, 0, 55, 27, 4, 96, 29, 79, 42, 180, 0, 55, 27, 5, 96]
abbrev dktX7_first_0 : List UInt8 := dkwX7_first_0 ++ dktX7_first_1
theorem dksX7_first_0 : cX7_first.data.toList.drop 0 = dktX7_first_0 := by decide +kernel
theorem dksX7_first_1 : cX7_first.data.toList.drop 23 = dktX7_first_1 := dk_seg dksX7_first_0 23 rfl rfl
theorem dX7_first_0 : decode cX7_first 0 = .ok (.aload_n 0, 1) := dk_42 (dk_at dksX7_first_0 0 rfl rfl)
theorem dX7_first_1 : decode cX7_first 1 = .ok (.getfield 55, 3) := dk_180 0 55 (dk_at dksX7_first_0 1 rfl rfl)
theorem dX7_first_4 : decode cX7_first 4 = .ok (.iload_n 1, 1) := dk_27 (dk_at dksX7_first_0 4 rfl rfl)
theorem dX7_first_5 : decode cX7_first 5 = .ok (.iload_n 2, 1) := dk_28 (dk_at dksX7_first_0 5 rfl rfl)
theorem dX7_first_6 : decode cX7_first 6 = .ok (.iastore, 1) := dk_79 (dk_at dksX7_first_0 6 rfl rfl)
theorem dX7_first_7 : decode cX7_first 7 = .ok (.aload_n 0, 1) := dk_42 (dk_at dksX7_first_0 7 rfl rfl)
theorem dX7_first_8 : decode cX7_first 8 = .ok (.getfield 55, 3) := dk_180 0 55 (dk_at dksX7_first_0 8 rfl rfl)
theorem dX7_first_11 : decode cX7_first 11 = .ok (.iload_n 1, 1) := dk_27 (dk_at dksX7_first_0 11 rfl rfl)
theorem dX7_first_12 : decode cX7_first 12 = .ok (.iconst 1, 1) := dk_4 (dk_at dksX7_first_0 12 rfl rfl)
theorem dX7_first_13 : decode cX7_first 13 = .ok (.iadd, 1) := dk_96 (dk_at dksX7_first_0 13 rfl rfl)
theorem dX7_first_14 : decode cX7_first 14 = .ok (.iload_n 3, 1) := dk_29 (dk_at dksX7_first_0 14 rfl rfl)
theorem dX7_first_15 : decode cX7_first 15 = .ok (.iastore, 1) := dk_79 (dk_at dksX7_first_0 15 rfl rfl)
theorem dX7_first_16 : decode cX7_first 16 = .ok (.aload_n 0, 1) := dk_42 (dk_at dksX7_first_0 16 rfl rfl)
theorem dX7_first_17 : decode cX7_first 17 = .ok (.getfield 55, 3) := dk_180 0 55 (dk_at dksX7_first_0 17 rfl rfl)
theorem dX7_first_20 : decode cX7_first 20 = .ok (.iload_n 1, 1) := dk_27 (dk_at dksX7_first_0 20 rfl rfl)
theorem dX7_first_21 : decode cX7_first 21 = .ok (.iconst 2, 1) := dk_5 (dk_at dksX7_first_0 21 rfl rfl)
theorem dX7_first_22 : decode cX7_first 22 = .ok (.iadd, 1) := dk_96 (dk_at dksX7_first_0 22 rfl rfl)
theorem dX7_first_23 : decode cX7_first 23 = .ok (.iload 4, 2) := dk_21 4 (dk_at dksX7_first_1 0 rfl rfl)
theorem dX7_first_25 : decode cX7_first 25 = .ok (.iastore, 1) := dk_79 (dk_at dksX7_first_1 2 rfl rfl)
theorem dX7_first_26 : decode cX7_first 26 = .ok (.aload_n 0, 1) := dk_42 (dk_at dksX7_first_1 3 rfl rfl)
theorem dX7_first_27 : decode cX7_first 27 = .ok (.getfield 55, 3) := dk_180 0 55 (dk_at dksX7_first_1 4 rfl rfl)
theorem dX7_first_30 : decode cX7_first 30 = .ok (.iload_n 1, 1) := dk_27 (dk_at dksX7_first_1 7 rfl rfl)
theorem dX7_first_31 : decode cX7_first 31 = .ok (.iconst 3, 1) := dk_6 (dk_at dksX7_first_1 8 rfl rfl)
theorem dX7_first_32 : decode cX7_first 32 = .ok (.iadd, 1) := dk_96 (dk_at dksX7_first_1 9 rfl rfl)
theorem dX7_first_33 : decode cX7_first 33 = .ok (.iload 5, 2) := dk_21 5 (dk_at dksX7_first_1 10 rfl rfl)
theorem dX7_first_35 : decode cX7_first 35 = .ok (.iastore, 1) := dk_79 (dk_at dksX7_first_1 12 rfl rfl)
theorem dX7_first_36 : decode cX7_first 36 = .ok (.return_, 1) := dk_177 (dk_at dksX7_first_1 13 rfl rfl)
abbrev cX7_sort : ByteArray := prog_19_method_7_code
def yX7_sort : MethodName := ⟨RX7, "sort", "(III)I"⟩
def dkwX7_sort_4 : List UInt8 := [42, 180, 0, 16, 27, 46, 54, 4, 42, 180, 0, 16, 27, 29, 79, 167, 0, 6, 16, 254, 172, 21, 4, 172]
abbrev dktX7_sort_4 : List UInt8 := dkwX7_sort_4 ++ []
def dkwX7_sort_3 : List UInt8 := [180, 0, 13, 27, 29, 79, 167, 0, 39, 28, 5, 160, 0, 31, 29, 3, 16, 9, 184, 0, 159, 153, 0, 21]
abbrev dktX7_sort_3 : List UInt8 := dkwX7_sort_3 ++ dktX7_sort_4
def dkwX7_sort_2 : List UInt8 := [160, 0, 31, 29, 3, 16, 40, 184, 0, 159, 153, 0, 21, 42, 180, 0, 13, 27, 46, 54, 4, 42]
abbrev dktX7_sort_2 : List UInt8 := dkwX7_sort_2 ++ dktX7_sort_3
def dkwX7_sort_1 : List UInt8 := [153, 0, 21, 42, 180, 0, 7, 27, 46, 54, 4, 42, 180, 0, 7, 27, 29, 79, 167, 0, 72, 28, 4]
abbrev dktX7_sort_1 : List UInt8 := dkwX7_sort_1 ++ dktX7_sort_2
def dkwX7_sort_0 : List UInt8 := [27, 3, 6, 184, 0, 159, 154, 0, 5, 2, 172, 28, 154, 0, 31, 29, 3, 16, 40, 184, 0, 159]
abbrev dktX7_sort_0 : List UInt8 := dkwX7_sort_0 ++ dktX7_sort_1
theorem dksX7_sort_0 : cX7_sort.data.toList.drop 0 = dktX7_sort_0 := by decide +kernel
theorem dksX7_sort_1 : cX7_sort.data.toList.drop 22 = dktX7_sort_1 := dk_seg dksX7_sort_0 22 rfl rfl
theorem dksX7_sort_2 : cX7_sort.data.toList.drop 45 = dktX7_sort_2 := dk_seg dksX7_sort_1 23 rfl rfl
theorem dksX7_sort_3 : cX7_sort.data.toList.drop 67 = dktX7_sort_3 := dk_seg dksX7_sort_2 22 rfl rfl
theorem dksX7_sort_4 : cX7_sort.data.toList.drop 91 = dktX7_sort_4 := dk_seg dksX7_sort_3 24 rfl rfl
theorem dX7_sort_0 : decode cX7_sort 0 = .ok (.iload_n 1, 1) := dk_27 (dk_at dksX7_sort_0 0 rfl rfl)
theorem dX7_sort_1 : decode cX7_sort 1 = .ok (.iconst 0, 1) := dk_3 (dk_at dksX7_sort_0 1 rfl rfl)
theorem dX7_sort_2 : decode cX7_sort 2 = .ok (.iconst 3, 1) := dk_6 (dk_at dksX7_sort_0 2 rfl rfl)
theorem dX7_sort_3 : decode cX7_sort 3 = .ok (.invokestatic 159, 3) := dk_184 0 159 (dk_at dksX7_sort_0 3 rfl rfl)
theorem dX7_sort_6 : decode cX7_sort 6 = .ok (.ifCond .ne 5, 3) := dk_154 0 5 (dk_at dksX7_sort_0 6 rfl rfl)
theorem dX7_sort_9 : decode cX7_sort 9 = .ok (.iconst (-1), 1) := dk_2 (dk_at dksX7_sort_0 9 rfl rfl)
theorem dX7_sort_10 : decode cX7_sort 10 = .ok (.ireturn, 1) := dk_172 (dk_at dksX7_sort_0 10 rfl rfl)
theorem dX7_sort_11 : decode cX7_sort 11 = .ok (.iload_n 2, 1) := dk_28 (dk_at dksX7_sort_0 11 rfl rfl)
theorem dX7_sort_12 : decode cX7_sort 12 = .ok (.ifCond .ne 31, 3) := dk_154 0 31 (dk_at dksX7_sort_0 12 rfl rfl)
theorem dX7_sort_15 : decode cX7_sort 15 = .ok (.iload_n 3, 1) := dk_29 (dk_at dksX7_sort_0 15 rfl rfl)
theorem dX7_sort_16 : decode cX7_sort 16 = .ok (.iconst 0, 1) := dk_3 (dk_at dksX7_sort_0 16 rfl rfl)
theorem dX7_sort_17 : decode cX7_sort 17 = .ok (.bipush 40, 2) := dk_16 40 (dk_at dksX7_sort_0 17 rfl rfl)
theorem dX7_sort_19 : decode cX7_sort 19 = .ok (.invokestatic 159, 3) := dk_184 0 159 (dk_at dksX7_sort_0 19 rfl rfl)
theorem dX7_sort_22 : decode cX7_sort 22 = .ok (.ifCond .eq 21, 3) := dk_153 0 21 (dk_at dksX7_sort_1 0 rfl rfl)
theorem dX7_sort_25 : decode cX7_sort 25 = .ok (.aload_n 0, 1) := dk_42 (dk_at dksX7_sort_1 3 rfl rfl)
theorem dX7_sort_26 : decode cX7_sort 26 = .ok (.getfield 7, 3) := dk_180 0 7 (dk_at dksX7_sort_1 4 rfl rfl)
theorem dX7_sort_29 : decode cX7_sort 29 = .ok (.iload_n 1, 1) := dk_27 (dk_at dksX7_sort_1 7 rfl rfl)
theorem dX7_sort_30 : decode cX7_sort 30 = .ok (.iaload, 1) := dk_46 (dk_at dksX7_sort_1 8 rfl rfl)
theorem dX7_sort_31 : decode cX7_sort 31 = .ok (.istore 4, 2) := dk_54 4 (dk_at dksX7_sort_1 9 rfl rfl)
theorem dX7_sort_33 : decode cX7_sort 33 = .ok (.aload_n 0, 1) := dk_42 (dk_at dksX7_sort_1 11 rfl rfl)
theorem dX7_sort_34 : decode cX7_sort 34 = .ok (.getfield 7, 3) := dk_180 0 7 (dk_at dksX7_sort_1 12 rfl rfl)
theorem dX7_sort_37 : decode cX7_sort 37 = .ok (.iload_n 1, 1) := dk_27 (dk_at dksX7_sort_1 15 rfl rfl)
theorem dX7_sort_38 : decode cX7_sort 38 = .ok (.iload_n 3, 1) := dk_29 (dk_at dksX7_sort_1 16 rfl rfl)
theorem dX7_sort_39 : decode cX7_sort 39 = .ok (.iastore, 1) := dk_79 (dk_at dksX7_sort_1 17 rfl rfl)
theorem dX7_sort_40 : decode cX7_sort 40 = .ok (.goto 72, 3) := dk_167 0 72 (dk_at dksX7_sort_1 18 rfl rfl)
theorem dX7_sort_43 : decode cX7_sort 43 = .ok (.iload_n 2, 1) := dk_28 (dk_at dksX7_sort_1 21 rfl rfl)
theorem dX7_sort_44 : decode cX7_sort 44 = .ok (.iconst 1, 1) := dk_4 (dk_at dksX7_sort_1 22 rfl rfl)
theorem dX7_sort_45 : decode cX7_sort 45 = .ok (.if_icmp .ne 31, 3) := dk_160 0 31 (dk_at dksX7_sort_2 0 rfl rfl)
theorem dX7_sort_48 : decode cX7_sort 48 = .ok (.iload_n 3, 1) := dk_29 (dk_at dksX7_sort_2 3 rfl rfl)
theorem dX7_sort_49 : decode cX7_sort 49 = .ok (.iconst 0, 1) := dk_3 (dk_at dksX7_sort_2 4 rfl rfl)
theorem dX7_sort_50 : decode cX7_sort 50 = .ok (.bipush 40, 2) := dk_16 40 (dk_at dksX7_sort_2 5 rfl rfl)
theorem dX7_sort_52 : decode cX7_sort 52 = .ok (.invokestatic 159, 3) := dk_184 0 159 (dk_at dksX7_sort_2 7 rfl rfl)
theorem dX7_sort_55 : decode cX7_sort 55 = .ok (.ifCond .eq 21, 3) := dk_153 0 21 (dk_at dksX7_sort_2 10 rfl rfl)
theorem dX7_sort_58 : decode cX7_sort 58 = .ok (.aload_n 0, 1) := dk_42 (dk_at dksX7_sort_2 13 rfl rfl)
theorem dX7_sort_59 : decode cX7_sort 59 = .ok (.getfield 13, 3) := dk_180 0 13 (dk_at dksX7_sort_2 14 rfl rfl)
theorem dX7_sort_62 : decode cX7_sort 62 = .ok (.iload_n 1, 1) := dk_27 (dk_at dksX7_sort_2 17 rfl rfl)
theorem dX7_sort_63 : decode cX7_sort 63 = .ok (.iaload, 1) := dk_46 (dk_at dksX7_sort_2 18 rfl rfl)
theorem dX7_sort_64 : decode cX7_sort 64 = .ok (.istore 4, 2) := dk_54 4 (dk_at dksX7_sort_2 19 rfl rfl)
theorem dX7_sort_66 : decode cX7_sort 66 = .ok (.aload_n 0, 1) := dk_42 (dk_at dksX7_sort_2 21 rfl rfl)
theorem dX7_sort_67 : decode cX7_sort 67 = .ok (.getfield 13, 3) := dk_180 0 13 (dk_at dksX7_sort_3 0 rfl rfl)
theorem dX7_sort_70 : decode cX7_sort 70 = .ok (.iload_n 1, 1) := dk_27 (dk_at dksX7_sort_3 3 rfl rfl)
theorem dX7_sort_71 : decode cX7_sort 71 = .ok (.iload_n 3, 1) := dk_29 (dk_at dksX7_sort_3 4 rfl rfl)
theorem dX7_sort_72 : decode cX7_sort 72 = .ok (.iastore, 1) := dk_79 (dk_at dksX7_sort_3 5 rfl rfl)
theorem dX7_sort_73 : decode cX7_sort 73 = .ok (.goto 39, 3) := dk_167 0 39 (dk_at dksX7_sort_3 6 rfl rfl)
theorem dX7_sort_76 : decode cX7_sort 76 = .ok (.iload_n 2, 1) := dk_28 (dk_at dksX7_sort_3 9 rfl rfl)
theorem dX7_sort_77 : decode cX7_sort 77 = .ok (.iconst 2, 1) := dk_5 (dk_at dksX7_sort_3 10 rfl rfl)
theorem dX7_sort_78 : decode cX7_sort 78 = .ok (.if_icmp .ne 31, 3) := dk_160 0 31 (dk_at dksX7_sort_3 11 rfl rfl)
theorem dX7_sort_81 : decode cX7_sort 81 = .ok (.iload_n 3, 1) := dk_29 (dk_at dksX7_sort_3 14 rfl rfl)
theorem dX7_sort_82 : decode cX7_sort 82 = .ok (.iconst 0, 1) := dk_3 (dk_at dksX7_sort_3 15 rfl rfl)
theorem dX7_sort_83 : decode cX7_sort 83 = .ok (.bipush 9, 2) := dk_16 9 (dk_at dksX7_sort_3 16 rfl rfl)
theorem dX7_sort_85 : decode cX7_sort 85 = .ok (.invokestatic 159, 3) := dk_184 0 159 (dk_at dksX7_sort_3 18 rfl rfl)
theorem dX7_sort_88 : decode cX7_sort 88 = .ok (.ifCond .eq 21, 3) := dk_153 0 21 (dk_at dksX7_sort_3 21 rfl rfl)
theorem dX7_sort_91 : decode cX7_sort 91 = .ok (.aload_n 0, 1) := dk_42 (dk_at dksX7_sort_4 0 rfl rfl)
theorem dX7_sort_92 : decode cX7_sort 92 = .ok (.getfield 16, 3) := dk_180 0 16 (dk_at dksX7_sort_4 1 rfl rfl)
theorem dX7_sort_95 : decode cX7_sort 95 = .ok (.iload_n 1, 1) := dk_27 (dk_at dksX7_sort_4 4 rfl rfl)
theorem dX7_sort_96 : decode cX7_sort 96 = .ok (.iaload, 1) := dk_46 (dk_at dksX7_sort_4 5 rfl rfl)
theorem dX7_sort_97 : decode cX7_sort 97 = .ok (.istore 4, 2) := dk_54 4 (dk_at dksX7_sort_4 6 rfl rfl)
theorem dX7_sort_99 : decode cX7_sort 99 = .ok (.aload_n 0, 1) := dk_42 (dk_at dksX7_sort_4 8 rfl rfl)
theorem dX7_sort_100 : decode cX7_sort 100 = .ok (.getfield 16, 3) := dk_180 0 16 (dk_at dksX7_sort_4 9 rfl rfl)
theorem dX7_sort_103 : decode cX7_sort 103 = .ok (.iload_n 1, 1) := dk_27 (dk_at dksX7_sort_4 12 rfl rfl)
theorem dX7_sort_104 : decode cX7_sort 104 = .ok (.iload_n 3, 1) := dk_29 (dk_at dksX7_sort_4 13 rfl rfl)
theorem dX7_sort_105 : decode cX7_sort 105 = .ok (.iastore, 1) := dk_79 (dk_at dksX7_sort_4 14 rfl rfl)
theorem dX7_sort_106 : decode cX7_sort 106 = .ok (.goto 6, 3) := dk_167 0 6 (dk_at dksX7_sort_4 15 rfl rfl)
theorem dX7_sort_109 : decode cX7_sort 109 = .ok (.bipush (-2), 2) := dk_16 254 (dk_at dksX7_sort_4 18 rfl rfl)
theorem dX7_sort_111 : decode cX7_sort 111 = .ok (.ireturn, 1) := dk_172 (dk_at dksX7_sort_4 20 rfl rfl)
theorem dX7_sort_112 : decode cX7_sort 112 = .ok (.iload 4, 2) := dk_21 4 (dk_at dksX7_sort_4 21 rfl rfl)
theorem dX7_sort_114 : decode cX7_sort 114 = .ok (.ireturn, 1) := dk_172 (dk_at dksX7_sort_4 23 rfl rfl)
abbrev cX7_in : ByteArray := prog_19_method_4_code
def yX7_in : MethodName := ⟨RX7, "in", "(III)Z"⟩
def dkwX7_in_0 : List UInt8 := [26, 27, 161, 0, 12, 26, 28, 163, 0, 7, 4, 167, 0, 4, 3, 172]
abbrev dktX7_in_0 : List UInt8 := dkwX7_in_0 ++ []
theorem dksX7_in_0 : cX7_in.data.toList.drop 0 = dktX7_in_0 := by decide +kernel
theorem dX7_in_0 : decode cX7_in 0 = .ok (.iload_n 0, 1) := dk_26 (dk_at dksX7_in_0 0 rfl rfl)
theorem dX7_in_1 : decode cX7_in 1 = .ok (.iload_n 1, 1) := dk_27 (dk_at dksX7_in_0 1 rfl rfl)
theorem dX7_in_2 : decode cX7_in 2 = .ok (.if_icmp .lt 12, 3) := dk_161 0 12 (dk_at dksX7_in_0 2 rfl rfl)
theorem dX7_in_5 : decode cX7_in 5 = .ok (.iload_n 0, 1) := dk_26 (dk_at dksX7_in_0 5 rfl rfl)
theorem dX7_in_6 : decode cX7_in 6 = .ok (.iload_n 2, 1) := dk_28 (dk_at dksX7_in_0 6 rfl rfl)
theorem dX7_in_7 : decode cX7_in 7 = .ok (.if_icmp .gt 7, 3) := dk_163 0 7 (dk_at dksX7_in_0 7 rfl rfl)
theorem dX7_in_10 : decode cX7_in 10 = .ok (.iconst 1, 1) := dk_4 (dk_at dksX7_in_0 10 rfl rfl)
theorem dX7_in_11 : decode cX7_in 11 = .ok (.goto 4, 3) := dk_167 0 4 (dk_at dksX7_in_0 11 rfl rfl)
theorem dX7_in_14 : decode cX7_in 14 = .ok (.iconst 0, 1) := dk_3 (dk_at dksX7_in_0 14 rfl rfl)
theorem dX7_in_15 : decode cX7_in 15 = .ok (.ireturn, 1) := dk_172 (dk_at dksX7_in_0 15 rfl rfl)
abbrev cX7_row : ByteArray := prog_19_method_8_code
def yX7_row : MethodName := ⟨RX7, "row", "(III)I"⟩
def dkwX7_row_3 : List UInt8 := [180, 0, 156, 29, 79, 42, 89, 180, 0, 156, 4, 96, 181, 0, 156, 42, 180, 0, 156, 4, 100, 172]
abbrev dktX7_row_3 : List UInt8 := dkwX7_row_3 ++ []
def dkwX7_row_2 : List UInt8 := [180, 0, 19, 42, 180, 0, 156, 27, 79, 42, 180, 0, 22, 42, 180, 0, 156, 28, 79, 42, 180, 0, 25, 42]
abbrev dktX7_row_2 : List UInt8 := dkwX7_row_2 ++ dktX7_row_3
def dkwX7_row_1 : List UInt8 := [184, 0, 159, 154, 0, 6, 16, 254, 172, 42, 180, 0, 156, 16, 6, 160, 0, 6, 16, 252, 172, 42]
abbrev dktX7_row_1 : List UInt8 := dkwX7_row_1 ++ dktX7_row_2
def dkwX7_row_0 : List UInt8 := [27, 3, 8, 184, 0, 159, 153, 0, 23, 28, 4, 16, 8, 184, 0, 159, 153, 0, 13, 29, 3, 16, 20]
abbrev dktX7_row_0 : List UInt8 := dkwX7_row_0 ++ dktX7_row_1
theorem dksX7_row_0 : cX7_row.data.toList.drop 0 = dktX7_row_0 := by decide +kernel
theorem dksX7_row_1 : cX7_row.data.toList.drop 23 = dktX7_row_1 := dk_seg dksX7_row_0 23 rfl rfl
theorem dksX7_row_2 : cX7_row.data.toList.drop 45 = dktX7_row_2 := dk_seg dksX7_row_1 22 rfl rfl
theorem dksX7_row_3 : cX7_row.data.toList.drop 69 = dktX7_row_3 := dk_seg dksX7_row_2 24 rfl rfl
theorem dX7_row_0 : decode cX7_row 0 = .ok (.iload_n 1, 1) := dk_27 (dk_at dksX7_row_0 0 rfl rfl)
theorem dX7_row_1 : decode cX7_row 1 = .ok (.iconst 0, 1) := dk_3 (dk_at dksX7_row_0 1 rfl rfl)
theorem dX7_row_2 : decode cX7_row 2 = .ok (.iconst 5, 1) := dk_8 (dk_at dksX7_row_0 2 rfl rfl)
theorem dX7_row_3 : decode cX7_row 3 = .ok (.invokestatic 159, 3) := dk_184 0 159 (dk_at dksX7_row_0 3 rfl rfl)
theorem dX7_row_6 : decode cX7_row 6 = .ok (.ifCond .eq 23, 3) := dk_153 0 23 (dk_at dksX7_row_0 6 rfl rfl)
theorem dX7_row_9 : decode cX7_row 9 = .ok (.iload_n 2, 1) := dk_28 (dk_at dksX7_row_0 9 rfl rfl)
theorem dX7_row_10 : decode cX7_row 10 = .ok (.iconst 1, 1) := dk_4 (dk_at dksX7_row_0 10 rfl rfl)
theorem dX7_row_11 : decode cX7_row 11 = .ok (.bipush 8, 2) := dk_16 8 (dk_at dksX7_row_0 11 rfl rfl)
theorem dX7_row_13 : decode cX7_row 13 = .ok (.invokestatic 159, 3) := dk_184 0 159 (dk_at dksX7_row_0 13 rfl rfl)
theorem dX7_row_16 : decode cX7_row 16 = .ok (.ifCond .eq 13, 3) := dk_153 0 13 (dk_at dksX7_row_0 16 rfl rfl)
theorem dX7_row_19 : decode cX7_row 19 = .ok (.iload_n 3, 1) := dk_29 (dk_at dksX7_row_0 19 rfl rfl)
theorem dX7_row_20 : decode cX7_row 20 = .ok (.iconst 0, 1) := dk_3 (dk_at dksX7_row_0 20 rfl rfl)
theorem dX7_row_21 : decode cX7_row 21 = .ok (.bipush 20, 2) := dk_16 20 (dk_at dksX7_row_0 21 rfl rfl)
theorem dX7_row_23 : decode cX7_row 23 = .ok (.invokestatic 159, 3) := dk_184 0 159 (dk_at dksX7_row_1 0 rfl rfl)
theorem dX7_row_26 : decode cX7_row 26 = .ok (.ifCond .ne 6, 3) := dk_154 0 6 (dk_at dksX7_row_1 3 rfl rfl)
theorem dX7_row_29 : decode cX7_row 29 = .ok (.bipush (-2), 2) := dk_16 254 (dk_at dksX7_row_1 6 rfl rfl)
theorem dX7_row_31 : decode cX7_row 31 = .ok (.ireturn, 1) := dk_172 (dk_at dksX7_row_1 8 rfl rfl)
theorem dX7_row_32 : decode cX7_row 32 = .ok (.aload_n 0, 1) := dk_42 (dk_at dksX7_row_1 9 rfl rfl)
theorem dX7_row_33 : decode cX7_row 33 = .ok (.getfield 156, 3) := dk_180 0 156 (dk_at dksX7_row_1 10 rfl rfl)
theorem dX7_row_36 : decode cX7_row 36 = .ok (.bipush 6, 2) := dk_16 6 (dk_at dksX7_row_1 13 rfl rfl)
theorem dX7_row_38 : decode cX7_row 38 = .ok (.if_icmp .ne 6, 3) := dk_160 0 6 (dk_at dksX7_row_1 15 rfl rfl)
theorem dX7_row_41 : decode cX7_row 41 = .ok (.bipush (-4), 2) := dk_16 252 (dk_at dksX7_row_1 18 rfl rfl)
theorem dX7_row_43 : decode cX7_row 43 = .ok (.ireturn, 1) := dk_172 (dk_at dksX7_row_1 20 rfl rfl)
theorem dX7_row_44 : decode cX7_row 44 = .ok (.aload_n 0, 1) := dk_42 (dk_at dksX7_row_1 21 rfl rfl)
theorem dX7_row_45 : decode cX7_row 45 = .ok (.getfield 19, 3) := dk_180 0 19 (dk_at dksX7_row_2 0 rfl rfl)
theorem dX7_row_48 : decode cX7_row 48 = .ok (.aload_n 0, 1) := dk_42 (dk_at dksX7_row_2 3 rfl rfl)
theorem dX7_row_49 : decode cX7_row 49 = .ok (.getfield 156, 3) := dk_180 0 156 (dk_at dksX7_row_2 4 rfl rfl)
theorem dX7_row_52 : decode cX7_row 52 = .ok (.iload_n 1, 1) := dk_27 (dk_at dksX7_row_2 7 rfl rfl)
theorem dX7_row_53 : decode cX7_row 53 = .ok (.iastore, 1) := dk_79 (dk_at dksX7_row_2 8 rfl rfl)
theorem dX7_row_54 : decode cX7_row 54 = .ok (.aload_n 0, 1) := dk_42 (dk_at dksX7_row_2 9 rfl rfl)
theorem dX7_row_55 : decode cX7_row 55 = .ok (.getfield 22, 3) := dk_180 0 22 (dk_at dksX7_row_2 10 rfl rfl)
theorem dX7_row_58 : decode cX7_row 58 = .ok (.aload_n 0, 1) := dk_42 (dk_at dksX7_row_2 13 rfl rfl)
theorem dX7_row_59 : decode cX7_row 59 = .ok (.getfield 156, 3) := dk_180 0 156 (dk_at dksX7_row_2 14 rfl rfl)
theorem dX7_row_62 : decode cX7_row 62 = .ok (.iload_n 2, 1) := dk_28 (dk_at dksX7_row_2 17 rfl rfl)
theorem dX7_row_63 : decode cX7_row 63 = .ok (.iastore, 1) := dk_79 (dk_at dksX7_row_2 18 rfl rfl)
theorem dX7_row_64 : decode cX7_row 64 = .ok (.aload_n 0, 1) := dk_42 (dk_at dksX7_row_2 19 rfl rfl)
theorem dX7_row_65 : decode cX7_row 65 = .ok (.getfield 25, 3) := dk_180 0 25 (dk_at dksX7_row_2 20 rfl rfl)
theorem dX7_row_68 : decode cX7_row 68 = .ok (.aload_n 0, 1) := dk_42 (dk_at dksX7_row_2 23 rfl rfl)
theorem dX7_row_69 : decode cX7_row 69 = .ok (.getfield 156, 3) := dk_180 0 156 (dk_at dksX7_row_3 0 rfl rfl)
theorem dX7_row_72 : decode cX7_row 72 = .ok (.iload_n 3, 1) := dk_29 (dk_at dksX7_row_3 3 rfl rfl)
theorem dX7_row_73 : decode cX7_row 73 = .ok (.iastore, 1) := dk_79 (dk_at dksX7_row_3 4 rfl rfl)
theorem dX7_row_74 : decode cX7_row 74 = .ok (.aload_n 0, 1) := dk_42 (dk_at dksX7_row_3 5 rfl rfl)
theorem dX7_row_75 : decode cX7_row 75 = .ok (.dup, 1) := dk_89 (dk_at dksX7_row_3 6 rfl rfl)
theorem dX7_row_76 : decode cX7_row 76 = .ok (.getfield 156, 3) := dk_180 0 156 (dk_at dksX7_row_3 7 rfl rfl)
theorem dX7_row_79 : decode cX7_row 79 = .ok (.iconst 1, 1) := dk_4 (dk_at dksX7_row_3 10 rfl rfl)
theorem dX7_row_80 : decode cX7_row 80 = .ok (.iadd, 1) := dk_96 (dk_at dksX7_row_3 11 rfl rfl)
theorem dX7_row_81 : decode cX7_row 81 = .ok (.putfield 156, 3) := dk_181 0 156 (dk_at dksX7_row_3 12 rfl rfl)
theorem dX7_row_84 : decode cX7_row 84 = .ok (.aload_n 0, 1) := dk_42 (dk_at dksX7_row_3 15 rfl rfl)
theorem dX7_row_85 : decode cX7_row 85 = .ok (.getfield 156, 3) := dk_180 0 156 (dk_at dksX7_row_3 16 rfl rfl)
theorem dX7_row_88 : decode cX7_row 88 = .ok (.iconst 1, 1) := dk_4 (dk_at dksX7_row_3 19 rfl rfl)
theorem dX7_row_89 : decode cX7_row 89 = .ok (.isub, 1) := dk_100 (dk_at dksX7_row_3 20 rfl rfl)
theorem dX7_row_90 : decode cX7_row 90 = .ok (.ireturn, 1) := dk_172 (dk_at dksX7_row_3 21 rfl rfl)
abbrev cX7_set : ByteArray := prog_19_method_9_code
def yX7_set : MethodName := ⟨RX7, "set", "(III)I"⟩
def dkwX7_set_3 : List UInt8 := [27, 29, 79, 167, 0, 6, 16, 249, 172, 21, 4, 172]
abbrev dktX7_set_3 : List UInt8 := dkwX7_set_3 ++ []
def dkwX7_set_2 : List UInt8 := [160, 0, 30, 29, 3, 4, 184, 0, 159, 153, 0, 21, 42, 180, 0, 31, 27, 46, 54, 4, 42, 180, 0, 31]
abbrev dktX7_set_2 : List UInt8 := dkwX7_set_2 ++ dktX7_set_3
def dkwX7_set_1 : List UInt8 := [153, 0, 21, 42, 180, 0, 28, 27, 46, 54, 4, 42, 180, 0, 28, 27, 29, 79, 167, 0, 38, 28, 4]
abbrev dktX7_set_1 : List UInt8 := dkwX7_set_1 ++ dktX7_set_2
def dkwX7_set_0 : List UInt8 := [42, 27, 182, 0, 163, 154, 0, 6, 16, 251, 172, 28, 154, 0, 31, 29, 3, 16, 99, 184, 0, 159]
abbrev dktX7_set_0 : List UInt8 := dkwX7_set_0 ++ dktX7_set_1
theorem dksX7_set_0 : cX7_set.data.toList.drop 0 = dktX7_set_0 := by decide +kernel
theorem dksX7_set_1 : cX7_set.data.toList.drop 22 = dktX7_set_1 := dk_seg dksX7_set_0 22 rfl rfl
theorem dksX7_set_2 : cX7_set.data.toList.drop 45 = dktX7_set_2 := dk_seg dksX7_set_1 23 rfl rfl
theorem dksX7_set_3 : cX7_set.data.toList.drop 69 = dktX7_set_3 := dk_seg dksX7_set_2 24 rfl rfl
theorem dX7_set_0 : decode cX7_set 0 = .ok (.aload_n 0, 1) := dk_42 (dk_at dksX7_set_0 0 rfl rfl)
theorem dX7_set_1 : decode cX7_set 1 = .ok (.iload_n 1, 1) := dk_27 (dk_at dksX7_set_0 1 rfl rfl)
theorem dX7_set_2 : decode cX7_set 2 = .ok (.invokevirtual 163, 3) := dk_182 0 163 (dk_at dksX7_set_0 2 rfl rfl)
theorem dX7_set_5 : decode cX7_set 5 = .ok (.ifCond .ne 6, 3) := dk_154 0 6 (dk_at dksX7_set_0 5 rfl rfl)
theorem dX7_set_8 : decode cX7_set 8 = .ok (.bipush (-5), 2) := dk_16 251 (dk_at dksX7_set_0 8 rfl rfl)
theorem dX7_set_10 : decode cX7_set 10 = .ok (.ireturn, 1) := dk_172 (dk_at dksX7_set_0 10 rfl rfl)
theorem dX7_set_11 : decode cX7_set 11 = .ok (.iload_n 2, 1) := dk_28 (dk_at dksX7_set_0 11 rfl rfl)
theorem dX7_set_12 : decode cX7_set 12 = .ok (.ifCond .ne 31, 3) := dk_154 0 31 (dk_at dksX7_set_0 12 rfl rfl)
theorem dX7_set_15 : decode cX7_set 15 = .ok (.iload_n 3, 1) := dk_29 (dk_at dksX7_set_0 15 rfl rfl)
theorem dX7_set_16 : decode cX7_set 16 = .ok (.iconst 0, 1) := dk_3 (dk_at dksX7_set_0 16 rfl rfl)
theorem dX7_set_17 : decode cX7_set 17 = .ok (.bipush 99, 2) := dk_16 99 (dk_at dksX7_set_0 17 rfl rfl)
theorem dX7_set_19 : decode cX7_set 19 = .ok (.invokestatic 159, 3) := dk_184 0 159 (dk_at dksX7_set_0 19 rfl rfl)
theorem dX7_set_22 : decode cX7_set 22 = .ok (.ifCond .eq 21, 3) := dk_153 0 21 (dk_at dksX7_set_1 0 rfl rfl)
theorem dX7_set_25 : decode cX7_set 25 = .ok (.aload_n 0, 1) := dk_42 (dk_at dksX7_set_1 3 rfl rfl)
theorem dX7_set_26 : decode cX7_set 26 = .ok (.getfield 28, 3) := dk_180 0 28 (dk_at dksX7_set_1 4 rfl rfl)
theorem dX7_set_29 : decode cX7_set 29 = .ok (.iload_n 1, 1) := dk_27 (dk_at dksX7_set_1 7 rfl rfl)
theorem dX7_set_30 : decode cX7_set 30 = .ok (.iaload, 1) := dk_46 (dk_at dksX7_set_1 8 rfl rfl)
theorem dX7_set_31 : decode cX7_set 31 = .ok (.istore 4, 2) := dk_54 4 (dk_at dksX7_set_1 9 rfl rfl)
theorem dX7_set_33 : decode cX7_set 33 = .ok (.aload_n 0, 1) := dk_42 (dk_at dksX7_set_1 11 rfl rfl)
theorem dX7_set_34 : decode cX7_set 34 = .ok (.getfield 28, 3) := dk_180 0 28 (dk_at dksX7_set_1 12 rfl rfl)
theorem dX7_set_37 : decode cX7_set 37 = .ok (.iload_n 1, 1) := dk_27 (dk_at dksX7_set_1 15 rfl rfl)
theorem dX7_set_38 : decode cX7_set 38 = .ok (.iload_n 3, 1) := dk_29 (dk_at dksX7_set_1 16 rfl rfl)
theorem dX7_set_39 : decode cX7_set 39 = .ok (.iastore, 1) := dk_79 (dk_at dksX7_set_1 17 rfl rfl)
theorem dX7_set_40 : decode cX7_set 40 = .ok (.goto 38, 3) := dk_167 0 38 (dk_at dksX7_set_1 18 rfl rfl)
theorem dX7_set_43 : decode cX7_set 43 = .ok (.iload_n 2, 1) := dk_28 (dk_at dksX7_set_1 21 rfl rfl)
theorem dX7_set_44 : decode cX7_set 44 = .ok (.iconst 1, 1) := dk_4 (dk_at dksX7_set_1 22 rfl rfl)
theorem dX7_set_45 : decode cX7_set 45 = .ok (.if_icmp .ne 30, 3) := dk_160 0 30 (dk_at dksX7_set_2 0 rfl rfl)
theorem dX7_set_48 : decode cX7_set 48 = .ok (.iload_n 3, 1) := dk_29 (dk_at dksX7_set_2 3 rfl rfl)
theorem dX7_set_49 : decode cX7_set 49 = .ok (.iconst 0, 1) := dk_3 (dk_at dksX7_set_2 4 rfl rfl)
theorem dX7_set_50 : decode cX7_set 50 = .ok (.iconst 1, 1) := dk_4 (dk_at dksX7_set_2 5 rfl rfl)
theorem dX7_set_51 : decode cX7_set 51 = .ok (.invokestatic 159, 3) := dk_184 0 159 (dk_at dksX7_set_2 6 rfl rfl)
theorem dX7_set_54 : decode cX7_set 54 = .ok (.ifCond .eq 21, 3) := dk_153 0 21 (dk_at dksX7_set_2 9 rfl rfl)
theorem dX7_set_57 : decode cX7_set 57 = .ok (.aload_n 0, 1) := dk_42 (dk_at dksX7_set_2 12 rfl rfl)
theorem dX7_set_58 : decode cX7_set 58 = .ok (.getfield 31, 3) := dk_180 0 31 (dk_at dksX7_set_2 13 rfl rfl)
theorem dX7_set_61 : decode cX7_set 61 = .ok (.iload_n 1, 1) := dk_27 (dk_at dksX7_set_2 16 rfl rfl)
theorem dX7_set_62 : decode cX7_set 62 = .ok (.iaload, 1) := dk_46 (dk_at dksX7_set_2 17 rfl rfl)
theorem dX7_set_63 : decode cX7_set 63 = .ok (.istore 4, 2) := dk_54 4 (dk_at dksX7_set_2 18 rfl rfl)
theorem dX7_set_65 : decode cX7_set 65 = .ok (.aload_n 0, 1) := dk_42 (dk_at dksX7_set_2 20 rfl rfl)
theorem dX7_set_66 : decode cX7_set 66 = .ok (.getfield 31, 3) := dk_180 0 31 (dk_at dksX7_set_2 21 rfl rfl)
theorem dX7_set_69 : decode cX7_set 69 = .ok (.iload_n 1, 1) := dk_27 (dk_at dksX7_set_3 0 rfl rfl)
theorem dX7_set_70 : decode cX7_set 70 = .ok (.iload_n 3, 1) := dk_29 (dk_at dksX7_set_3 1 rfl rfl)
theorem dX7_set_71 : decode cX7_set 71 = .ok (.iastore, 1) := dk_79 (dk_at dksX7_set_3 2 rfl rfl)
theorem dX7_set_72 : decode cX7_set 72 = .ok (.goto 6, 3) := dk_167 0 6 (dk_at dksX7_set_3 3 rfl rfl)
theorem dX7_set_75 : decode cX7_set 75 = .ok (.bipush (-7), 2) := dk_16 249 (dk_at dksX7_set_3 6 rfl rfl)
theorem dX7_set_77 : decode cX7_set 77 = .ok (.ireturn, 1) := dk_172 (dk_at dksX7_set_3 8 rfl rfl)
theorem dX7_set_78 : decode cX7_set 78 = .ok (.iload 4, 2) := dk_21 4 (dk_at dksX7_set_3 9 rfl rfl)
theorem dX7_set_80 : decode cX7_set 80 = .ok (.ireturn, 1) := dk_172 (dk_at dksX7_set_3 11 rfl rfl)
abbrev cX7_isRow : ByteArray := prog_19_method_5_code
def yX7_isRow : MethodName := ⟨RX7, "isRow", "(I)Z"⟩
def dkwX7_isRow_0 : List UInt8 := [27, 3, 42, 180, 0, 156, 4, 100, 184, 0, 159, 172]
abbrev dktX7_isRow_0 : List UInt8 := dkwX7_isRow_0 ++ []
theorem dksX7_isRow_0 : cX7_isRow.data.toList.drop 0 = dktX7_isRow_0 := by decide +kernel
theorem dX7_isRow_0 : decode cX7_isRow 0 = .ok (.iload_n 1, 1) := dk_27 (dk_at dksX7_isRow_0 0 rfl rfl)
theorem dX7_isRow_1 : decode cX7_isRow 1 = .ok (.iconst 0, 1) := dk_3 (dk_at dksX7_isRow_0 1 rfl rfl)
theorem dX7_isRow_2 : decode cX7_isRow 2 = .ok (.aload_n 0, 1) := dk_42 (dk_at dksX7_isRow_0 2 rfl rfl)
theorem dX7_isRow_3 : decode cX7_isRow 3 = .ok (.getfield 156, 3) := dk_180 0 156 (dk_at dksX7_isRow_0 3 rfl rfl)
theorem dX7_isRow_6 : decode cX7_isRow 6 = .ok (.iconst 1, 1) := dk_4 (dk_at dksX7_isRow_0 6 rfl rfl)
theorem dX7_isRow_7 : decode cX7_isRow 7 = .ok (.isub, 1) := dk_100 (dk_at dksX7_isRow_0 7 rfl rfl)
theorem dX7_isRow_8 : decode cX7_isRow 8 = .ok (.invokestatic 159, 3) := dk_184 0 159 (dk_at dksX7_isRow_0 8 rfl rfl)
theorem dX7_isRow_11 : decode cX7_isRow 11 = .ok (.ireturn, 1) := dk_172 (dk_at dksX7_isRow_0 11 rfl rfl)
abbrev cX7_sit : ByteArray := prog_19_method_10_code
def yX7_sit : MethodName := ⟨RX7, "sit", "(III)I"⟩
def dkwX7_sit_2 : List UInt8 := [21, 4, 172]
abbrev dktX7_sit_2 : List UInt8 := dkwX7_sit_2 ++ []
def dkwX7_sit_1 : List UInt8 := [180, 0, 34, 16, 8, 27, 104, 28, 96, 46, 54, 4, 42, 180, 0, 34, 16, 8, 27, 104, 28, 96, 29, 79]
abbrev dktX7_sit_1 : List UInt8 := dkwX7_sit_1 ++ dktX7_sit_2
def dkwX7_sit_0 : List UInt8 := [42, 27, 28, 182, 0, 167, 154, 0, 5, 2, 172, 29, 3, 6, 184, 0, 159, 154, 0, 6, 16, 254, 172, 42]
abbrev dktX7_sit_0 : List UInt8 := dkwX7_sit_0 ++ dktX7_sit_1
theorem dksX7_sit_0 : cX7_sit.data.toList.drop 0 = dktX7_sit_0 := by decide +kernel
theorem dksX7_sit_1 : cX7_sit.data.toList.drop 24 = dktX7_sit_1 := dk_seg dksX7_sit_0 24 rfl rfl
theorem dksX7_sit_2 : cX7_sit.data.toList.drop 48 = dktX7_sit_2 := dk_seg dksX7_sit_1 24 rfl rfl
theorem dX7_sit_0 : decode cX7_sit 0 = .ok (.aload_n 0, 1) := dk_42 (dk_at dksX7_sit_0 0 rfl rfl)
theorem dX7_sit_1 : decode cX7_sit 1 = .ok (.iload_n 1, 1) := dk_27 (dk_at dksX7_sit_0 1 rfl rfl)
theorem dX7_sit_2 : decode cX7_sit 2 = .ok (.iload_n 2, 1) := dk_28 (dk_at dksX7_sit_0 2 rfl rfl)
theorem dX7_sit_3 : decode cX7_sit 3 = .ok (.invokevirtual 167, 3) := dk_182 0 167 (dk_at dksX7_sit_0 3 rfl rfl)
theorem dX7_sit_6 : decode cX7_sit 6 = .ok (.ifCond .ne 5, 3) := dk_154 0 5 (dk_at dksX7_sit_0 6 rfl rfl)
theorem dX7_sit_9 : decode cX7_sit 9 = .ok (.iconst (-1), 1) := dk_2 (dk_at dksX7_sit_0 9 rfl rfl)
theorem dX7_sit_10 : decode cX7_sit 10 = .ok (.ireturn, 1) := dk_172 (dk_at dksX7_sit_0 10 rfl rfl)
theorem dX7_sit_11 : decode cX7_sit 11 = .ok (.iload_n 3, 1) := dk_29 (dk_at dksX7_sit_0 11 rfl rfl)
theorem dX7_sit_12 : decode cX7_sit 12 = .ok (.iconst 0, 1) := dk_3 (dk_at dksX7_sit_0 12 rfl rfl)
theorem dX7_sit_13 : decode cX7_sit 13 = .ok (.iconst 3, 1) := dk_6 (dk_at dksX7_sit_0 13 rfl rfl)
theorem dX7_sit_14 : decode cX7_sit 14 = .ok (.invokestatic 159, 3) := dk_184 0 159 (dk_at dksX7_sit_0 14 rfl rfl)
theorem dX7_sit_17 : decode cX7_sit 17 = .ok (.ifCond .ne 6, 3) := dk_154 0 6 (dk_at dksX7_sit_0 17 rfl rfl)
theorem dX7_sit_20 : decode cX7_sit 20 = .ok (.bipush (-2), 2) := dk_16 254 (dk_at dksX7_sit_0 20 rfl rfl)
theorem dX7_sit_22 : decode cX7_sit 22 = .ok (.ireturn, 1) := dk_172 (dk_at dksX7_sit_0 22 rfl rfl)
theorem dX7_sit_23 : decode cX7_sit 23 = .ok (.aload_n 0, 1) := dk_42 (dk_at dksX7_sit_0 23 rfl rfl)
theorem dX7_sit_24 : decode cX7_sit 24 = .ok (.getfield 34, 3) := dk_180 0 34 (dk_at dksX7_sit_1 0 rfl rfl)
theorem dX7_sit_27 : decode cX7_sit 27 = .ok (.bipush 8, 2) := dk_16 8 (dk_at dksX7_sit_1 3 rfl rfl)
theorem dX7_sit_29 : decode cX7_sit 29 = .ok (.iload_n 1, 1) := dk_27 (dk_at dksX7_sit_1 5 rfl rfl)
theorem dX7_sit_30 : decode cX7_sit 30 = .ok (.imul, 1) := dk_104 (dk_at dksX7_sit_1 6 rfl rfl)
theorem dX7_sit_31 : decode cX7_sit 31 = .ok (.iload_n 2, 1) := dk_28 (dk_at dksX7_sit_1 7 rfl rfl)
theorem dX7_sit_32 : decode cX7_sit 32 = .ok (.iadd, 1) := dk_96 (dk_at dksX7_sit_1 8 rfl rfl)
theorem dX7_sit_33 : decode cX7_sit 33 = .ok (.iaload, 1) := dk_46 (dk_at dksX7_sit_1 9 rfl rfl)
theorem dX7_sit_34 : decode cX7_sit 34 = .ok (.istore 4, 2) := dk_54 4 (dk_at dksX7_sit_1 10 rfl rfl)
theorem dX7_sit_36 : decode cX7_sit 36 = .ok (.aload_n 0, 1) := dk_42 (dk_at dksX7_sit_1 12 rfl rfl)
theorem dX7_sit_37 : decode cX7_sit 37 = .ok (.getfield 34, 3) := dk_180 0 34 (dk_at dksX7_sit_1 13 rfl rfl)
theorem dX7_sit_40 : decode cX7_sit 40 = .ok (.bipush 8, 2) := dk_16 8 (dk_at dksX7_sit_1 16 rfl rfl)
theorem dX7_sit_42 : decode cX7_sit 42 = .ok (.iload_n 1, 1) := dk_27 (dk_at dksX7_sit_1 18 rfl rfl)
theorem dX7_sit_43 : decode cX7_sit 43 = .ok (.imul, 1) := dk_104 (dk_at dksX7_sit_1 19 rfl rfl)
theorem dX7_sit_44 : decode cX7_sit 44 = .ok (.iload_n 2, 1) := dk_28 (dk_at dksX7_sit_1 20 rfl rfl)
theorem dX7_sit_45 : decode cX7_sit 45 = .ok (.iadd, 1) := dk_96 (dk_at dksX7_sit_1 21 rfl rfl)
theorem dX7_sit_46 : decode cX7_sit 46 = .ok (.iload_n 3, 1) := dk_29 (dk_at dksX7_sit_1 22 rfl rfl)
theorem dX7_sit_47 : decode cX7_sit 47 = .ok (.iastore, 1) := dk_79 (dk_at dksX7_sit_1 23 rfl rfl)
theorem dX7_sit_48 : decode cX7_sit 48 = .ok (.iload 4, 2) := dk_21 4 (dk_at dksX7_sit_2 0 rfl rfl)
theorem dX7_sit_50 : decode cX7_sit 50 = .ok (.ireturn, 1) := dk_172 (dk_at dksX7_sit_2 2 rfl rfl)
abbrev cX7_isSeat : ByteArray := prog_19_method_6_code
def yX7_isSeat : MethodName := ⟨RX7, "isSeat", "(II)Z"⟩
def dkwX7_isSeat_1 : List UInt8 := [167, 0, 4, 3, 46, 4, 100, 184, 0, 159, 153, 0, 7, 4, 167, 0, 4, 3, 172]
abbrev dktX7_isSeat_1 : List UInt8 := dkwX7_isSeat_1 ++ []
def dkwX7_isSeat_0 : List UInt8 := [42, 27, 182, 0, 163, 153, 0, 35, 28, 3, 42, 180, 0, 22, 42, 27, 182, 0, 163, 153, 0, 7, 27]
abbrev dktX7_isSeat_0 : List UInt8 := dkwX7_isSeat_0 ++ dktX7_isSeat_1
theorem dksX7_isSeat_0 : cX7_isSeat.data.toList.drop 0 = dktX7_isSeat_0 := by decide +kernel
theorem dksX7_isSeat_1 : cX7_isSeat.data.toList.drop 23 = dktX7_isSeat_1 := dk_seg dksX7_isSeat_0 23 rfl rfl
theorem dX7_isSeat_0 : decode cX7_isSeat 0 = .ok (.aload_n 0, 1) := dk_42 (dk_at dksX7_isSeat_0 0 rfl rfl)
theorem dX7_isSeat_1 : decode cX7_isSeat 1 = .ok (.iload_n 1, 1) := dk_27 (dk_at dksX7_isSeat_0 1 rfl rfl)
theorem dX7_isSeat_2 : decode cX7_isSeat 2 = .ok (.invokevirtual 163, 3) := dk_182 0 163 (dk_at dksX7_isSeat_0 2 rfl rfl)
theorem dX7_isSeat_5 : decode cX7_isSeat 5 = .ok (.ifCond .eq 35, 3) := dk_153 0 35 (dk_at dksX7_isSeat_0 5 rfl rfl)
theorem dX7_isSeat_8 : decode cX7_isSeat 8 = .ok (.iload_n 2, 1) := dk_28 (dk_at dksX7_isSeat_0 8 rfl rfl)
theorem dX7_isSeat_9 : decode cX7_isSeat 9 = .ok (.iconst 0, 1) := dk_3 (dk_at dksX7_isSeat_0 9 rfl rfl)
theorem dX7_isSeat_10 : decode cX7_isSeat 10 = .ok (.aload_n 0, 1) := dk_42 (dk_at dksX7_isSeat_0 10 rfl rfl)
theorem dX7_isSeat_11 : decode cX7_isSeat 11 = .ok (.getfield 22, 3) := dk_180 0 22 (dk_at dksX7_isSeat_0 11 rfl rfl)
theorem dX7_isSeat_14 : decode cX7_isSeat 14 = .ok (.aload_n 0, 1) := dk_42 (dk_at dksX7_isSeat_0 14 rfl rfl)
theorem dX7_isSeat_15 : decode cX7_isSeat 15 = .ok (.iload_n 1, 1) := dk_27 (dk_at dksX7_isSeat_0 15 rfl rfl)
theorem dX7_isSeat_16 : decode cX7_isSeat 16 = .ok (.invokevirtual 163, 3) := dk_182 0 163 (dk_at dksX7_isSeat_0 16 rfl rfl)
theorem dX7_isSeat_19 : decode cX7_isSeat 19 = .ok (.ifCond .eq 7, 3) := dk_153 0 7 (dk_at dksX7_isSeat_0 19 rfl rfl)
theorem dX7_isSeat_22 : decode cX7_isSeat 22 = .ok (.iload_n 1, 1) := dk_27 (dk_at dksX7_isSeat_0 22 rfl rfl)
theorem dX7_isSeat_23 : decode cX7_isSeat 23 = .ok (.goto 4, 3) := dk_167 0 4 (dk_at dksX7_isSeat_1 0 rfl rfl)
theorem dX7_isSeat_26 : decode cX7_isSeat 26 = .ok (.iconst 0, 1) := dk_3 (dk_at dksX7_isSeat_1 3 rfl rfl)
theorem dX7_isSeat_27 : decode cX7_isSeat 27 = .ok (.iaload, 1) := dk_46 (dk_at dksX7_isSeat_1 4 rfl rfl)
theorem dX7_isSeat_28 : decode cX7_isSeat 28 = .ok (.iconst 1, 1) := dk_4 (dk_at dksX7_isSeat_1 5 rfl rfl)
theorem dX7_isSeat_29 : decode cX7_isSeat 29 = .ok (.isub, 1) := dk_100 (dk_at dksX7_isSeat_1 6 rfl rfl)
theorem dX7_isSeat_30 : decode cX7_isSeat 30 = .ok (.invokestatic 159, 3) := dk_184 0 159 (dk_at dksX7_isSeat_1 7 rfl rfl)
theorem dX7_isSeat_33 : decode cX7_isSeat 33 = .ok (.ifCond .eq 7, 3) := dk_153 0 7 (dk_at dksX7_isSeat_1 10 rfl rfl)
theorem dX7_isSeat_36 : decode cX7_isSeat 36 = .ok (.iconst 1, 1) := dk_4 (dk_at dksX7_isSeat_1 13 rfl rfl)
theorem dX7_isSeat_37 : decode cX7_isSeat 37 = .ok (.goto 4, 3) := dk_167 0 4 (dk_at dksX7_isSeat_1 14 rfl rfl)
theorem dX7_isSeat_40 : decode cX7_isSeat 40 = .ok (.iconst 0, 1) := dk_3 (dk_at dksX7_isSeat_1 17 rfl rfl)
theorem dX7_isSeat_41 : decode cX7_isSeat 41 = .ok (.ireturn, 1) := dk_172 (dk_at dksX7_isSeat_1 18 rfl rfl)
abbrev cX7_told : ByteArray := prog_19_method_18_code
def yX7_told : MethodName := ⟨RX7, "told", "(III)I"⟩
def dkwX7_told_4 : List UInt8 := [27, 28, 182, 0, 191, 172, 42, 27, 182, 0, 194, 153, 0, 7, 4, 167, 0, 4, 3, 172, 16, 249, 172]
abbrev dktX7_told_4 : List UInt8 := dkwX7_told_4 ++ []
def dkwX7_told_3 : List UInt8 := [182, 0, 185, 172, 42, 180, 0, 34, 16, 8, 27, 104, 28, 96, 46, 172, 42, 27, 28, 182, 0, 188, 172, 42]
abbrev dktX7_told_3 : List UInt8 := dkwX7_told_3 ++ dktX7_told_4
def dkwX7_told_2 : List UInt8 := [42, 180, 0, 19, 27, 46, 172, 42, 27, 28, 182, 0, 182, 172, 42, 27, 182, 0, 171, 172, 42, 27]
abbrev dktX7_told_2 : List UInt8 := dkwX7_told_2 ++ dktX7_told_3
def dkwX7_told_1 : List UInt8 := [170, 0, 0, 0, 0, 0, 113, 0, 0, 0, 0, 0, 0, 0, 7, 0, 0, 0, 47, 0, 0, 0, 54, 0, 0, 0, 61, 0, 0, 0, 67, 0, 0, 0, 73, 0, 0, 0, 85, 0, 0, 0, 92, 0, 0, 0, 99]
abbrev dktX7_told_1 : List UInt8 := dkwX7_told_1 ++ dktX7_told_2
def dkwX7_told_0 : List UInt8 := [42, 27, 28, 182, 0, 167, 154, 0, 6, 16, 251, 172, 29]
abbrev dktX7_told_0 : List UInt8 := dkwX7_told_0 ++ dktX7_told_1
theorem dksX7_told_0 : cX7_told.data.toList.drop 0 = dktX7_told_0 := by decide +kernel
theorem dksX7_told_1 : cX7_told.data.toList.drop 13 = dktX7_told_1 := dk_seg dksX7_told_0 13 rfl rfl
theorem dksX7_told_2 : cX7_told.data.toList.drop 60 = dktX7_told_2 := dk_seg dksX7_told_1 47 rfl rfl
theorem dksX7_told_3 : cX7_told.data.toList.drop 82 = dktX7_told_3 := dk_seg dksX7_told_2 22 rfl rfl
theorem dksX7_told_4 : cX7_told.data.toList.drop 106 = dktX7_told_4 := dk_seg dksX7_told_3 24 rfl rfl
theorem dX7_told_0 : decode cX7_told 0 = .ok (.aload_n 0, 1) := dk_42 (dk_at dksX7_told_0 0 rfl rfl)
theorem dX7_told_1 : decode cX7_told 1 = .ok (.iload_n 1, 1) := dk_27 (dk_at dksX7_told_0 1 rfl rfl)
theorem dX7_told_2 : decode cX7_told 2 = .ok (.iload_n 2, 1) := dk_28 (dk_at dksX7_told_0 2 rfl rfl)
theorem dX7_told_3 : decode cX7_told 3 = .ok (.invokevirtual 167, 3) := dk_182 0 167 (dk_at dksX7_told_0 3 rfl rfl)
theorem dX7_told_6 : decode cX7_told 6 = .ok (.ifCond .ne 6, 3) := dk_154 0 6 (dk_at dksX7_told_0 6 rfl rfl)
theorem dX7_told_9 : decode cX7_told 9 = .ok (.bipush (-5), 2) := dk_16 251 (dk_at dksX7_told_0 9 rfl rfl)
theorem dX7_told_11 : decode cX7_told 11 = .ok (.ireturn, 1) := dk_172 (dk_at dksX7_told_0 11 rfl rfl)
theorem dX7_told_12 : decode cX7_told 12 = .ok (.iload_n 3, 1) := dk_29 (dk_at dksX7_told_0 12 rfl rfl)
theorem dX7_told_13 : decode cX7_told 13 = .ok (.tableswitch 113 0 7 #[47, 54, 61, 67, 73, 85, 92, 99], 47) := by decide +kernel
theorem dX7_told_60 : decode cX7_told 60 = .ok (.aload_n 0, 1) := dk_42 (dk_at dksX7_told_2 0 rfl rfl)
theorem dX7_told_61 : decode cX7_told 61 = .ok (.getfield 19, 3) := dk_180 0 19 (dk_at dksX7_told_2 1 rfl rfl)
theorem dX7_told_64 : decode cX7_told 64 = .ok (.iload_n 1, 1) := dk_27 (dk_at dksX7_told_2 4 rfl rfl)
theorem dX7_told_65 : decode cX7_told 65 = .ok (.iaload, 1) := dk_46 (dk_at dksX7_told_2 5 rfl rfl)
theorem dX7_told_66 : decode cX7_told 66 = .ok (.ireturn, 1) := dk_172 (dk_at dksX7_told_2 6 rfl rfl)
theorem dX7_told_67 : decode cX7_told 67 = .ok (.aload_n 0, 1) := dk_42 (dk_at dksX7_told_2 7 rfl rfl)
theorem dX7_told_68 : decode cX7_told 68 = .ok (.iload_n 1, 1) := dk_27 (dk_at dksX7_told_2 8 rfl rfl)
theorem dX7_told_69 : decode cX7_told 69 = .ok (.iload_n 2, 1) := dk_28 (dk_at dksX7_told_2 9 rfl rfl)
theorem dX7_told_70 : decode cX7_told 70 = .ok (.invokevirtual 182, 3) := dk_182 0 182 (dk_at dksX7_told_2 10 rfl rfl)
theorem dX7_told_73 : decode cX7_told 73 = .ok (.ireturn, 1) := dk_172 (dk_at dksX7_told_2 13 rfl rfl)
theorem dX7_told_74 : decode cX7_told 74 = .ok (.aload_n 0, 1) := dk_42 (dk_at dksX7_told_2 14 rfl rfl)
theorem dX7_told_75 : decode cX7_told 75 = .ok (.iload_n 1, 1) := dk_27 (dk_at dksX7_told_2 15 rfl rfl)
theorem dX7_told_76 : decode cX7_told 76 = .ok (.invokevirtual 171, 3) := dk_182 0 171 (dk_at dksX7_told_2 16 rfl rfl)
theorem dX7_told_79 : decode cX7_told 79 = .ok (.ireturn, 1) := dk_172 (dk_at dksX7_told_2 19 rfl rfl)
theorem dX7_told_80 : decode cX7_told 80 = .ok (.aload_n 0, 1) := dk_42 (dk_at dksX7_told_2 20 rfl rfl)
theorem dX7_told_81 : decode cX7_told 81 = .ok (.iload_n 1, 1) := dk_27 (dk_at dksX7_told_2 21 rfl rfl)
theorem dX7_told_82 : decode cX7_told 82 = .ok (.invokevirtual 185, 3) := dk_182 0 185 (dk_at dksX7_told_3 0 rfl rfl)
theorem dX7_told_85 : decode cX7_told 85 = .ok (.ireturn, 1) := dk_172 (dk_at dksX7_told_3 3 rfl rfl)
theorem dX7_told_86 : decode cX7_told 86 = .ok (.aload_n 0, 1) := dk_42 (dk_at dksX7_told_3 4 rfl rfl)
theorem dX7_told_87 : decode cX7_told 87 = .ok (.getfield 34, 3) := dk_180 0 34 (dk_at dksX7_told_3 5 rfl rfl)
theorem dX7_told_90 : decode cX7_told 90 = .ok (.bipush 8, 2) := dk_16 8 (dk_at dksX7_told_3 8 rfl rfl)
theorem dX7_told_92 : decode cX7_told 92 = .ok (.iload_n 1, 1) := dk_27 (dk_at dksX7_told_3 10 rfl rfl)
theorem dX7_told_93 : decode cX7_told 93 = .ok (.imul, 1) := dk_104 (dk_at dksX7_told_3 11 rfl rfl)
theorem dX7_told_94 : decode cX7_told 94 = .ok (.iload_n 2, 1) := dk_28 (dk_at dksX7_told_3 12 rfl rfl)
theorem dX7_told_95 : decode cX7_told 95 = .ok (.iadd, 1) := dk_96 (dk_at dksX7_told_3 13 rfl rfl)
theorem dX7_told_96 : decode cX7_told 96 = .ok (.iaload, 1) := dk_46 (dk_at dksX7_told_3 14 rfl rfl)
theorem dX7_told_97 : decode cX7_told 97 = .ok (.ireturn, 1) := dk_172 (dk_at dksX7_told_3 15 rfl rfl)
theorem dX7_told_98 : decode cX7_told 98 = .ok (.aload_n 0, 1) := dk_42 (dk_at dksX7_told_3 16 rfl rfl)
theorem dX7_told_99 : decode cX7_told 99 = .ok (.iload_n 1, 1) := dk_27 (dk_at dksX7_told_3 17 rfl rfl)
theorem dX7_told_100 : decode cX7_told 100 = .ok (.iload_n 2, 1) := dk_28 (dk_at dksX7_told_3 18 rfl rfl)
theorem dX7_told_101 : decode cX7_told 101 = .ok (.invokevirtual 188, 3) := dk_182 0 188 (dk_at dksX7_told_3 19 rfl rfl)
theorem dX7_told_104 : decode cX7_told 104 = .ok (.ireturn, 1) := dk_172 (dk_at dksX7_told_3 22 rfl rfl)
theorem dX7_told_105 : decode cX7_told 105 = .ok (.aload_n 0, 1) := dk_42 (dk_at dksX7_told_3 23 rfl rfl)
theorem dX7_told_106 : decode cX7_told 106 = .ok (.iload_n 1, 1) := dk_27 (dk_at dksX7_told_4 0 rfl rfl)
theorem dX7_told_107 : decode cX7_told 107 = .ok (.iload_n 2, 1) := dk_28 (dk_at dksX7_told_4 1 rfl rfl)
theorem dX7_told_108 : decode cX7_told 108 = .ok (.invokevirtual 191, 3) := dk_182 0 191 (dk_at dksX7_told_4 2 rfl rfl)
theorem dX7_told_111 : decode cX7_told 111 = .ok (.ireturn, 1) := dk_172 (dk_at dksX7_told_4 5 rfl rfl)
theorem dX7_told_112 : decode cX7_told 112 = .ok (.aload_n 0, 1) := dk_42 (dk_at dksX7_told_4 6 rfl rfl)
theorem dX7_told_113 : decode cX7_told 113 = .ok (.iload_n 1, 1) := dk_27 (dk_at dksX7_told_4 7 rfl rfl)
theorem dX7_told_114 : decode cX7_told 114 = .ok (.invokevirtual 194, 3) := dk_182 0 194 (dk_at dksX7_told_4 8 rfl rfl)
theorem dX7_told_117 : decode cX7_told 117 = .ok (.ifCond .eq 7, 3) := dk_153 0 7 (dk_at dksX7_told_4 11 rfl rfl)
theorem dX7_told_120 : decode cX7_told 120 = .ok (.iconst 1, 1) := dk_4 (dk_at dksX7_told_4 14 rfl rfl)
theorem dX7_told_121 : decode cX7_told 121 = .ok (.goto 4, 3) := dk_167 0 4 (dk_at dksX7_told_4 15 rfl rfl)
theorem dX7_told_124 : decode cX7_told 124 = .ok (.iconst 0, 1) := dk_3 (dk_at dksX7_told_4 18 rfl rfl)
theorem dX7_told_125 : decode cX7_told 125 = .ok (.ireturn, 1) := dk_172 (dk_at dksX7_told_4 19 rfl rfl)
theorem dX7_told_126 : decode cX7_told 126 = .ok (.bipush (-7), 2) := dk_16 249 (dk_at dksX7_told_4 20 rfl rfl)
theorem dX7_told_128 : decode cX7_told 128 = .ok (.ireturn, 1) := dk_172 (dk_at dksX7_told_4 22 rfl rfl)
abbrev cX7_placeOf : ByteArray := prog_19_method_11_code
def yX7_placeOf : MethodName := ⟨RX7, "placeOf", "(II)I"⟩
def dkwX7_placeOf_2 : List UInt8 := [3, 96, 172]
abbrev dktX7_placeOf_2 : List UInt8 := dkwX7_placeOf_2 ++ []
def dkwX7_placeOf_1 : List UInt8 := [42, 180, 0, 19, 27, 46, 6, 160, 0, 17, 4, 42, 180, 0, 25, 27, 46, 16, 10, 112, 96, 167, 0, 4]
abbrev dktX7_placeOf_1 : List UInt8 := dkwX7_placeOf_1 ++ dktX7_placeOf_2
def dkwX7_placeOf_0 : List UInt8 := [5, 28, 104, 42, 180, 0, 31, 27, 46, 96, 42, 180, 0, 19, 27, 46, 4, 160, 0, 7, 4, 167, 0, 28]
abbrev dktX7_placeOf_0 : List UInt8 := dkwX7_placeOf_0 ++ dktX7_placeOf_1
theorem dksX7_placeOf_0 : cX7_placeOf.data.toList.drop 0 = dktX7_placeOf_0 := by decide +kernel
theorem dksX7_placeOf_1 : cX7_placeOf.data.toList.drop 24 = dktX7_placeOf_1 := dk_seg dksX7_placeOf_0 24 rfl rfl
theorem dksX7_placeOf_2 : cX7_placeOf.data.toList.drop 48 = dktX7_placeOf_2 := dk_seg dksX7_placeOf_1 24 rfl rfl
theorem dX7_placeOf_0 : decode cX7_placeOf 0 = .ok (.iconst 2, 1) := dk_5 (dk_at dksX7_placeOf_0 0 rfl rfl)
theorem dX7_placeOf_1 : decode cX7_placeOf 1 = .ok (.iload_n 2, 1) := dk_28 (dk_at dksX7_placeOf_0 1 rfl rfl)
theorem dX7_placeOf_2 : decode cX7_placeOf 2 = .ok (.imul, 1) := dk_104 (dk_at dksX7_placeOf_0 2 rfl rfl)
theorem dX7_placeOf_3 : decode cX7_placeOf 3 = .ok (.aload_n 0, 1) := dk_42 (dk_at dksX7_placeOf_0 3 rfl rfl)
theorem dX7_placeOf_4 : decode cX7_placeOf 4 = .ok (.getfield 31, 3) := dk_180 0 31 (dk_at dksX7_placeOf_0 4 rfl rfl)
theorem dX7_placeOf_7 : decode cX7_placeOf 7 = .ok (.iload_n 1, 1) := dk_27 (dk_at dksX7_placeOf_0 7 rfl rfl)
theorem dX7_placeOf_8 : decode cX7_placeOf 8 = .ok (.iaload, 1) := dk_46 (dk_at dksX7_placeOf_0 8 rfl rfl)
theorem dX7_placeOf_9 : decode cX7_placeOf 9 = .ok (.iadd, 1) := dk_96 (dk_at dksX7_placeOf_0 9 rfl rfl)
theorem dX7_placeOf_10 : decode cX7_placeOf 10 = .ok (.aload_n 0, 1) := dk_42 (dk_at dksX7_placeOf_0 10 rfl rfl)
theorem dX7_placeOf_11 : decode cX7_placeOf 11 = .ok (.getfield 19, 3) := dk_180 0 19 (dk_at dksX7_placeOf_0 11 rfl rfl)
theorem dX7_placeOf_14 : decode cX7_placeOf 14 = .ok (.iload_n 1, 1) := dk_27 (dk_at dksX7_placeOf_0 14 rfl rfl)
theorem dX7_placeOf_15 : decode cX7_placeOf 15 = .ok (.iaload, 1) := dk_46 (dk_at dksX7_placeOf_0 15 rfl rfl)
theorem dX7_placeOf_16 : decode cX7_placeOf 16 = .ok (.iconst 1, 1) := dk_4 (dk_at dksX7_placeOf_0 16 rfl rfl)
theorem dX7_placeOf_17 : decode cX7_placeOf 17 = .ok (.if_icmp .ne 7, 3) := dk_160 0 7 (dk_at dksX7_placeOf_0 17 rfl rfl)
theorem dX7_placeOf_20 : decode cX7_placeOf 20 = .ok (.iconst 1, 1) := dk_4 (dk_at dksX7_placeOf_0 20 rfl rfl)
theorem dX7_placeOf_21 : decode cX7_placeOf 21 = .ok (.goto 28, 3) := dk_167 0 28 (dk_at dksX7_placeOf_0 21 rfl rfl)
theorem dX7_placeOf_24 : decode cX7_placeOf 24 = .ok (.aload_n 0, 1) := dk_42 (dk_at dksX7_placeOf_1 0 rfl rfl)
theorem dX7_placeOf_25 : decode cX7_placeOf 25 = .ok (.getfield 19, 3) := dk_180 0 19 (dk_at dksX7_placeOf_1 1 rfl rfl)
theorem dX7_placeOf_28 : decode cX7_placeOf 28 = .ok (.iload_n 1, 1) := dk_27 (dk_at dksX7_placeOf_1 4 rfl rfl)
theorem dX7_placeOf_29 : decode cX7_placeOf 29 = .ok (.iaload, 1) := dk_46 (dk_at dksX7_placeOf_1 5 rfl rfl)
theorem dX7_placeOf_30 : decode cX7_placeOf 30 = .ok (.iconst 3, 1) := dk_6 (dk_at dksX7_placeOf_1 6 rfl rfl)
theorem dX7_placeOf_31 : decode cX7_placeOf 31 = .ok (.if_icmp .ne 17, 3) := dk_160 0 17 (dk_at dksX7_placeOf_1 7 rfl rfl)
theorem dX7_placeOf_34 : decode cX7_placeOf 34 = .ok (.iconst 1, 1) := dk_4 (dk_at dksX7_placeOf_1 10 rfl rfl)
theorem dX7_placeOf_35 : decode cX7_placeOf 35 = .ok (.aload_n 0, 1) := dk_42 (dk_at dksX7_placeOf_1 11 rfl rfl)
theorem dX7_placeOf_36 : decode cX7_placeOf 36 = .ok (.getfield 25, 3) := dk_180 0 25 (dk_at dksX7_placeOf_1 12 rfl rfl)
theorem dX7_placeOf_39 : decode cX7_placeOf 39 = .ok (.iload_n 1, 1) := dk_27 (dk_at dksX7_placeOf_1 15 rfl rfl)
theorem dX7_placeOf_40 : decode cX7_placeOf 40 = .ok (.iaload, 1) := dk_46 (dk_at dksX7_placeOf_1 16 rfl rfl)
theorem dX7_placeOf_41 : decode cX7_placeOf 41 = .ok (.bipush 10, 2) := dk_16 10 (dk_at dksX7_placeOf_1 17 rfl rfl)
theorem dX7_placeOf_43 : decode cX7_placeOf 43 = .ok (.irem, 1) := dk_112 (dk_at dksX7_placeOf_1 19 rfl rfl)
theorem dX7_placeOf_44 : decode cX7_placeOf 44 = .ok (.iadd, 1) := dk_96 (dk_at dksX7_placeOf_1 20 rfl rfl)
theorem dX7_placeOf_45 : decode cX7_placeOf 45 = .ok (.goto 4, 3) := dk_167 0 4 (dk_at dksX7_placeOf_1 21 rfl rfl)
theorem dX7_placeOf_48 : decode cX7_placeOf 48 = .ok (.iconst 0, 1) := dk_3 (dk_at dksX7_placeOf_2 0 rfl rfl)
theorem dX7_placeOf_49 : decode cX7_placeOf 49 = .ok (.iadd, 1) := dk_96 (dk_at dksX7_placeOf_2 1 rfl rfl)
theorem dX7_placeOf_50 : decode cX7_placeOf 50 = .ok (.ireturn, 1) := dk_172 (dk_at dksX7_placeOf_2 2 rfl rfl)
abbrev cX7_floorOf : ByteArray := prog_19_method_12_code
def yX7_floorOf : MethodName := ⟨RX7, "floorOf", "(I)I"⟩
def dkwX7_floorOf_2 : List UInt8 := [3, 96, 172]
abbrev dktX7_floorOf_2 : List UInt8 := dkwX7_floorOf_2 ++ []
def dkwX7_floorOf_1 : List UInt8 := [167, 0, 25, 42, 180, 0, 19, 27, 46, 7, 160, 0, 14, 6, 42, 180, 0, 25, 27, 46, 104, 167, 0, 4]
abbrev dktX7_floorOf_1 : List UInt8 := dkwX7_floorOf_1 ++ dktX7_floorOf_2
def dkwX7_floorOf_0 : List UInt8 := [42, 180, 0, 28, 27, 46, 42, 180, 0, 19, 27, 46, 5, 160, 0, 12, 42, 180, 0, 25, 27, 46]
abbrev dktX7_floorOf_0 : List UInt8 := dkwX7_floorOf_0 ++ dktX7_floorOf_1
theorem dksX7_floorOf_0 : cX7_floorOf.data.toList.drop 0 = dktX7_floorOf_0 := by decide +kernel
theorem dksX7_floorOf_1 : cX7_floorOf.data.toList.drop 22 = dktX7_floorOf_1 := dk_seg dksX7_floorOf_0 22 rfl rfl
theorem dksX7_floorOf_2 : cX7_floorOf.data.toList.drop 46 = dktX7_floorOf_2 := dk_seg dksX7_floorOf_1 24 rfl rfl
theorem dX7_floorOf_0 : decode cX7_floorOf 0 = .ok (.aload_n 0, 1) := dk_42 (dk_at dksX7_floorOf_0 0 rfl rfl)
theorem dX7_floorOf_1 : decode cX7_floorOf 1 = .ok (.getfield 28, 3) := dk_180 0 28 (dk_at dksX7_floorOf_0 1 rfl rfl)
theorem dX7_floorOf_4 : decode cX7_floorOf 4 = .ok (.iload_n 1, 1) := dk_27 (dk_at dksX7_floorOf_0 4 rfl rfl)
theorem dX7_floorOf_5 : decode cX7_floorOf 5 = .ok (.iaload, 1) := dk_46 (dk_at dksX7_floorOf_0 5 rfl rfl)
theorem dX7_floorOf_6 : decode cX7_floorOf 6 = .ok (.aload_n 0, 1) := dk_42 (dk_at dksX7_floorOf_0 6 rfl rfl)
theorem dX7_floorOf_7 : decode cX7_floorOf 7 = .ok (.getfield 19, 3) := dk_180 0 19 (dk_at dksX7_floorOf_0 7 rfl rfl)
theorem dX7_floorOf_10 : decode cX7_floorOf 10 = .ok (.iload_n 1, 1) := dk_27 (dk_at dksX7_floorOf_0 10 rfl rfl)
theorem dX7_floorOf_11 : decode cX7_floorOf 11 = .ok (.iaload, 1) := dk_46 (dk_at dksX7_floorOf_0 11 rfl rfl)
theorem dX7_floorOf_12 : decode cX7_floorOf 12 = .ok (.iconst 2, 1) := dk_5 (dk_at dksX7_floorOf_0 12 rfl rfl)
theorem dX7_floorOf_13 : decode cX7_floorOf 13 = .ok (.if_icmp .ne 12, 3) := dk_160 0 12 (dk_at dksX7_floorOf_0 13 rfl rfl)
theorem dX7_floorOf_16 : decode cX7_floorOf 16 = .ok (.aload_n 0, 1) := dk_42 (dk_at dksX7_floorOf_0 16 rfl rfl)
theorem dX7_floorOf_17 : decode cX7_floorOf 17 = .ok (.getfield 25, 3) := dk_180 0 25 (dk_at dksX7_floorOf_0 17 rfl rfl)
theorem dX7_floorOf_20 : decode cX7_floorOf 20 = .ok (.iload_n 1, 1) := dk_27 (dk_at dksX7_floorOf_0 20 rfl rfl)
theorem dX7_floorOf_21 : decode cX7_floorOf 21 = .ok (.iaload, 1) := dk_46 (dk_at dksX7_floorOf_0 21 rfl rfl)
theorem dX7_floorOf_22 : decode cX7_floorOf 22 = .ok (.goto 25, 3) := dk_167 0 25 (dk_at dksX7_floorOf_1 0 rfl rfl)
theorem dX7_floorOf_25 : decode cX7_floorOf 25 = .ok (.aload_n 0, 1) := dk_42 (dk_at dksX7_floorOf_1 3 rfl rfl)
theorem dX7_floorOf_26 : decode cX7_floorOf 26 = .ok (.getfield 19, 3) := dk_180 0 19 (dk_at dksX7_floorOf_1 4 rfl rfl)
theorem dX7_floorOf_29 : decode cX7_floorOf 29 = .ok (.iload_n 1, 1) := dk_27 (dk_at dksX7_floorOf_1 7 rfl rfl)
theorem dX7_floorOf_30 : decode cX7_floorOf 30 = .ok (.iaload, 1) := dk_46 (dk_at dksX7_floorOf_1 8 rfl rfl)
theorem dX7_floorOf_31 : decode cX7_floorOf 31 = .ok (.iconst 4, 1) := dk_7 (dk_at dksX7_floorOf_1 9 rfl rfl)
theorem dX7_floorOf_32 : decode cX7_floorOf 32 = .ok (.if_icmp .ne 14, 3) := dk_160 0 14 (dk_at dksX7_floorOf_1 10 rfl rfl)
theorem dX7_floorOf_35 : decode cX7_floorOf 35 = .ok (.iconst 3, 1) := dk_6 (dk_at dksX7_floorOf_1 13 rfl rfl)
theorem dX7_floorOf_36 : decode cX7_floorOf 36 = .ok (.aload_n 0, 1) := dk_42 (dk_at dksX7_floorOf_1 14 rfl rfl)
theorem dX7_floorOf_37 : decode cX7_floorOf 37 = .ok (.getfield 25, 3) := dk_180 0 25 (dk_at dksX7_floorOf_1 15 rfl rfl)
theorem dX7_floorOf_40 : decode cX7_floorOf 40 = .ok (.iload_n 1, 1) := dk_27 (dk_at dksX7_floorOf_1 18 rfl rfl)
theorem dX7_floorOf_41 : decode cX7_floorOf 41 = .ok (.iaload, 1) := dk_46 (dk_at dksX7_floorOf_1 19 rfl rfl)
theorem dX7_floorOf_42 : decode cX7_floorOf 42 = .ok (.imul, 1) := dk_104 (dk_at dksX7_floorOf_1 20 rfl rfl)
theorem dX7_floorOf_43 : decode cX7_floorOf 43 = .ok (.goto 4, 3) := dk_167 0 4 (dk_at dksX7_floorOf_1 21 rfl rfl)
theorem dX7_floorOf_46 : decode cX7_floorOf 46 = .ok (.iconst 0, 1) := dk_3 (dk_at dksX7_floorOf_2 0 rfl rfl)
theorem dX7_floorOf_47 : decode cX7_floorOf 47 = .ok (.iadd, 1) := dk_96 (dk_at dksX7_floorOf_2 1 rfl rfl)
theorem dX7_floorOf_48 : decode cX7_floorOf 48 = .ok (.ireturn, 1) := dk_172 (dk_at dksX7_floorOf_2 2 rfl rfl)
abbrev cX7_farOf : ByteArray := prog_19_method_13_code
def yX7_farOf : MethodName := ⟨RX7, "farOf", "(I)I"⟩
def dkwX7_farOf_0 : List UInt8 := [16, 10, 16, 10, 27, 104, 96, 42, 180, 0, 19, 27, 46, 6, 160, 0, 7, 6, 167, 0, 4, 3, 100, 172]
abbrev dktX7_farOf_0 : List UInt8 := dkwX7_farOf_0 ++ []
theorem dksX7_farOf_0 : cX7_farOf.data.toList.drop 0 = dktX7_farOf_0 := by decide +kernel
theorem dX7_farOf_0 : decode cX7_farOf 0 = .ok (.bipush 10, 2) := dk_16 10 (dk_at dksX7_farOf_0 0 rfl rfl)
theorem dX7_farOf_2 : decode cX7_farOf 2 = .ok (.bipush 10, 2) := dk_16 10 (dk_at dksX7_farOf_0 2 rfl rfl)
theorem dX7_farOf_4 : decode cX7_farOf 4 = .ok (.iload_n 1, 1) := dk_27 (dk_at dksX7_farOf_0 4 rfl rfl)
theorem dX7_farOf_5 : decode cX7_farOf 5 = .ok (.imul, 1) := dk_104 (dk_at dksX7_farOf_0 5 rfl rfl)
theorem dX7_farOf_6 : decode cX7_farOf 6 = .ok (.iadd, 1) := dk_96 (dk_at dksX7_farOf_0 6 rfl rfl)
theorem dX7_farOf_7 : decode cX7_farOf 7 = .ok (.aload_n 0, 1) := dk_42 (dk_at dksX7_farOf_0 7 rfl rfl)
theorem dX7_farOf_8 : decode cX7_farOf 8 = .ok (.getfield 19, 3) := dk_180 0 19 (dk_at dksX7_farOf_0 8 rfl rfl)
theorem dX7_farOf_11 : decode cX7_farOf 11 = .ok (.iload_n 1, 1) := dk_27 (dk_at dksX7_farOf_0 11 rfl rfl)
theorem dX7_farOf_12 : decode cX7_farOf 12 = .ok (.iaload, 1) := dk_46 (dk_at dksX7_farOf_0 12 rfl rfl)
theorem dX7_farOf_13 : decode cX7_farOf 13 = .ok (.iconst 3, 1) := dk_6 (dk_at dksX7_farOf_0 13 rfl rfl)
theorem dX7_farOf_14 : decode cX7_farOf 14 = .ok (.if_icmp .ne 7, 3) := dk_160 0 7 (dk_at dksX7_farOf_0 14 rfl rfl)
theorem dX7_farOf_17 : decode cX7_farOf 17 = .ok (.iconst 3, 1) := dk_6 (dk_at dksX7_farOf_0 17 rfl rfl)
theorem dX7_farOf_18 : decode cX7_farOf 18 = .ok (.goto 4, 3) := dk_167 0 4 (dk_at dksX7_farOf_0 18 rfl rfl)
theorem dX7_farOf_21 : decode cX7_farOf 21 = .ok (.iconst 0, 1) := dk_3 (dk_at dksX7_farOf_0 21 rfl rfl)
theorem dX7_farOf_22 : decode cX7_farOf 22 = .ok (.isub, 1) := dk_100 (dk_at dksX7_farOf_0 22 rfl rfl)
theorem dX7_farOf_23 : decode cX7_farOf 23 = .ok (.ireturn, 1) := dk_172 (dk_at dksX7_farOf_0 23 rfl rfl)
abbrev cX7_eyesOf : ByteArray := prog_19_method_16_code
def yX7_eyesOf : MethodName := ⟨RX7, "eyesOf", "(II)I"⟩
def dkwX7_eyesOf_0 : List UInt8 := [42, 27, 42, 180, 0, 7, 42, 180, 0, 34, 16, 8, 27, 104, 28, 96, 46, 46, 182, 0, 175, 172]
abbrev dktX7_eyesOf_0 : List UInt8 := dkwX7_eyesOf_0 ++ []
theorem dksX7_eyesOf_0 : cX7_eyesOf.data.toList.drop 0 = dktX7_eyesOf_0 := by decide +kernel
theorem dX7_eyesOf_0 : decode cX7_eyesOf 0 = .ok (.aload_n 0, 1) := dk_42 (dk_at dksX7_eyesOf_0 0 rfl rfl)
theorem dX7_eyesOf_1 : decode cX7_eyesOf 1 = .ok (.iload_n 1, 1) := dk_27 (dk_at dksX7_eyesOf_0 1 rfl rfl)
theorem dX7_eyesOf_2 : decode cX7_eyesOf 2 = .ok (.aload_n 0, 1) := dk_42 (dk_at dksX7_eyesOf_0 2 rfl rfl)
theorem dX7_eyesOf_3 : decode cX7_eyesOf 3 = .ok (.getfield 7, 3) := dk_180 0 7 (dk_at dksX7_eyesOf_0 3 rfl rfl)
theorem dX7_eyesOf_6 : decode cX7_eyesOf 6 = .ok (.aload_n 0, 1) := dk_42 (dk_at dksX7_eyesOf_0 6 rfl rfl)
theorem dX7_eyesOf_7 : decode cX7_eyesOf 7 = .ok (.getfield 34, 3) := dk_180 0 34 (dk_at dksX7_eyesOf_0 7 rfl rfl)
theorem dX7_eyesOf_10 : decode cX7_eyesOf 10 = .ok (.bipush 8, 2) := dk_16 8 (dk_at dksX7_eyesOf_0 10 rfl rfl)
theorem dX7_eyesOf_12 : decode cX7_eyesOf 12 = .ok (.iload_n 1, 1) := dk_27 (dk_at dksX7_eyesOf_0 12 rfl rfl)
theorem dX7_eyesOf_13 : decode cX7_eyesOf 13 = .ok (.imul, 1) := dk_104 (dk_at dksX7_eyesOf_0 13 rfl rfl)
theorem dX7_eyesOf_14 : decode cX7_eyesOf 14 = .ok (.iload_n 2, 1) := dk_28 (dk_at dksX7_eyesOf_0 14 rfl rfl)
theorem dX7_eyesOf_15 : decode cX7_eyesOf 15 = .ok (.iadd, 1) := dk_96 (dk_at dksX7_eyesOf_0 15 rfl rfl)
theorem dX7_eyesOf_16 : decode cX7_eyesOf 16 = .ok (.iaload, 1) := dk_46 (dk_at dksX7_eyesOf_0 16 rfl rfl)
theorem dX7_eyesOf_17 : decode cX7_eyesOf 17 = .ok (.iaload, 1) := dk_46 (dk_at dksX7_eyesOf_0 17 rfl rfl)
theorem dX7_eyesOf_18 : decode cX7_eyesOf 18 = .ok (.invokevirtual 175, 3) := dk_182 0 175 (dk_at dksX7_eyesOf_0 18 rfl rfl)
theorem dX7_eyesOf_21 : decode cX7_eyesOf 21 = .ok (.ireturn, 1) := dk_172 (dk_at dksX7_eyesOf_0 21 rfl rfl)
abbrev cX7_above : ByteArray := prog_19_method_15_code
def yX7_above : MethodName := ⟨RX7, "above", "(II)I"⟩
def dkwX7_above_1 : List UInt8 := [182, 0, 171, 28, 29, 164, 0, 9, 28, 29, 100, 167, 0, 4, 3, 96, 172]
abbrev dktX7_above_1 : List UInt8 := dkwX7_above_1 ++ []
def dkwX7_above_0 : List UInt8 := [42, 180, 0, 19, 27, 46, 8, 160, 0, 12, 42, 180, 0, 25, 27, 46, 167, 0, 4, 3, 62, 42, 27]
abbrev dktX7_above_0 : List UInt8 := dkwX7_above_0 ++ dktX7_above_1
theorem dksX7_above_0 : cX7_above.data.toList.drop 0 = dktX7_above_0 := by decide +kernel
theorem dksX7_above_1 : cX7_above.data.toList.drop 23 = dktX7_above_1 := dk_seg dksX7_above_0 23 rfl rfl
theorem dX7_above_0 : decode cX7_above 0 = .ok (.aload_n 0, 1) := dk_42 (dk_at dksX7_above_0 0 rfl rfl)
theorem dX7_above_1 : decode cX7_above 1 = .ok (.getfield 19, 3) := dk_180 0 19 (dk_at dksX7_above_0 1 rfl rfl)
theorem dX7_above_4 : decode cX7_above 4 = .ok (.iload_n 1, 1) := dk_27 (dk_at dksX7_above_0 4 rfl rfl)
theorem dX7_above_5 : decode cX7_above 5 = .ok (.iaload, 1) := dk_46 (dk_at dksX7_above_0 5 rfl rfl)
theorem dX7_above_6 : decode cX7_above 6 = .ok (.iconst 5, 1) := dk_8 (dk_at dksX7_above_0 6 rfl rfl)
theorem dX7_above_7 : decode cX7_above 7 = .ok (.if_icmp .ne 12, 3) := dk_160 0 12 (dk_at dksX7_above_0 7 rfl rfl)
theorem dX7_above_10 : decode cX7_above 10 = .ok (.aload_n 0, 1) := dk_42 (dk_at dksX7_above_0 10 rfl rfl)
theorem dX7_above_11 : decode cX7_above 11 = .ok (.getfield 25, 3) := dk_180 0 25 (dk_at dksX7_above_0 11 rfl rfl)
theorem dX7_above_14 : decode cX7_above 14 = .ok (.iload_n 1, 1) := dk_27 (dk_at dksX7_above_0 14 rfl rfl)
theorem dX7_above_15 : decode cX7_above 15 = .ok (.iaload, 1) := dk_46 (dk_at dksX7_above_0 15 rfl rfl)
theorem dX7_above_16 : decode cX7_above 16 = .ok (.goto 4, 3) := dk_167 0 4 (dk_at dksX7_above_0 16 rfl rfl)
theorem dX7_above_19 : decode cX7_above 19 = .ok (.iconst 0, 1) := dk_3 (dk_at dksX7_above_0 19 rfl rfl)
theorem dX7_above_20 : decode cX7_above 20 = .ok (.istore_n 3, 1) := dk_62 (dk_at dksX7_above_0 20 rfl rfl)
theorem dX7_above_21 : decode cX7_above 21 = .ok (.aload_n 0, 1) := dk_42 (dk_at dksX7_above_0 21 rfl rfl)
theorem dX7_above_22 : decode cX7_above 22 = .ok (.iload_n 1, 1) := dk_27 (dk_at dksX7_above_0 22 rfl rfl)
theorem dX7_above_23 : decode cX7_above 23 = .ok (.invokevirtual 171, 3) := dk_182 0 171 (dk_at dksX7_above_1 0 rfl rfl)
theorem dX7_above_26 : decode cX7_above 26 = .ok (.iload_n 2, 1) := dk_28 (dk_at dksX7_above_1 3 rfl rfl)
theorem dX7_above_27 : decode cX7_above 27 = .ok (.iload_n 3, 1) := dk_29 (dk_at dksX7_above_1 4 rfl rfl)
theorem dX7_above_28 : decode cX7_above 28 = .ok (.if_icmp .le 9, 3) := dk_164 0 9 (dk_at dksX7_above_1 5 rfl rfl)
theorem dX7_above_31 : decode cX7_above 31 = .ok (.iload_n 2, 1) := dk_28 (dk_at dksX7_above_1 8 rfl rfl)
theorem dX7_above_32 : decode cX7_above 32 = .ok (.iload_n 3, 1) := dk_29 (dk_at dksX7_above_1 9 rfl rfl)
theorem dX7_above_33 : decode cX7_above 33 = .ok (.isub, 1) := dk_100 (dk_at dksX7_above_1 10 rfl rfl)
theorem dX7_above_34 : decode cX7_above 34 = .ok (.goto 4, 3) := dk_167 0 4 (dk_at dksX7_above_1 11 rfl rfl)
theorem dX7_above_37 : decode cX7_above 37 = .ok (.iconst 0, 1) := dk_3 (dk_at dksX7_above_1 14 rfl rfl)
theorem dX7_above_38 : decode cX7_above 38 = .ok (.iadd, 1) := dk_96 (dk_at dksX7_above_1 15 rfl rfl)
theorem dX7_above_39 : decode cX7_above 39 = .ok (.ireturn, 1) := dk_172 (dk_at dksX7_above_1 16 rfl rfl)
abbrev cX7_topOf : ByteArray := prog_19_method_17_code
def yX7_topOf : MethodName := ⟨RX7, "topOf", "(II)I"⟩
def dkwX7_topOf_1 : List UInt8 := [104, 28, 96, 42, 180, 0, 65, 160, 0, 10, 42, 180, 0, 179, 167, 0, 4, 3, 96, 172]
abbrev dktX7_topOf_1 : List UInt8 := dkwX7_topOf_1 ++ []
def dkwX7_topOf_0 : List UInt8 := [42, 27, 42, 180, 0, 13, 42, 180, 0, 34, 16, 8, 27, 104, 28, 96, 46, 46, 182, 0, 175, 16, 8, 27]
abbrev dktX7_topOf_0 : List UInt8 := dkwX7_topOf_0 ++ dktX7_topOf_1
theorem dksX7_topOf_0 : cX7_topOf.data.toList.drop 0 = dktX7_topOf_0 := by decide +kernel
theorem dksX7_topOf_1 : cX7_topOf.data.toList.drop 24 = dktX7_topOf_1 := dk_seg dksX7_topOf_0 24 rfl rfl
theorem dX7_topOf_0 : decode cX7_topOf 0 = .ok (.aload_n 0, 1) := dk_42 (dk_at dksX7_topOf_0 0 rfl rfl)
theorem dX7_topOf_1 : decode cX7_topOf 1 = .ok (.iload_n 1, 1) := dk_27 (dk_at dksX7_topOf_0 1 rfl rfl)
theorem dX7_topOf_2 : decode cX7_topOf 2 = .ok (.aload_n 0, 1) := dk_42 (dk_at dksX7_topOf_0 2 rfl rfl)
theorem dX7_topOf_3 : decode cX7_topOf 3 = .ok (.getfield 13, 3) := dk_180 0 13 (dk_at dksX7_topOf_0 3 rfl rfl)
theorem dX7_topOf_6 : decode cX7_topOf 6 = .ok (.aload_n 0, 1) := dk_42 (dk_at dksX7_topOf_0 6 rfl rfl)
theorem dX7_topOf_7 : decode cX7_topOf 7 = .ok (.getfield 34, 3) := dk_180 0 34 (dk_at dksX7_topOf_0 7 rfl rfl)
theorem dX7_topOf_10 : decode cX7_topOf 10 = .ok (.bipush 8, 2) := dk_16 8 (dk_at dksX7_topOf_0 10 rfl rfl)
theorem dX7_topOf_12 : decode cX7_topOf 12 = .ok (.iload_n 1, 1) := dk_27 (dk_at dksX7_topOf_0 12 rfl rfl)
theorem dX7_topOf_13 : decode cX7_topOf 13 = .ok (.imul, 1) := dk_104 (dk_at dksX7_topOf_0 13 rfl rfl)
theorem dX7_topOf_14 : decode cX7_topOf 14 = .ok (.iload_n 2, 1) := dk_28 (dk_at dksX7_topOf_0 14 rfl rfl)
theorem dX7_topOf_15 : decode cX7_topOf 15 = .ok (.iadd, 1) := dk_96 (dk_at dksX7_topOf_0 15 rfl rfl)
theorem dX7_topOf_16 : decode cX7_topOf 16 = .ok (.iaload, 1) := dk_46 (dk_at dksX7_topOf_0 16 rfl rfl)
theorem dX7_topOf_17 : decode cX7_topOf 17 = .ok (.iaload, 1) := dk_46 (dk_at dksX7_topOf_0 17 rfl rfl)
theorem dX7_topOf_18 : decode cX7_topOf 18 = .ok (.invokevirtual 175, 3) := dk_182 0 175 (dk_at dksX7_topOf_0 18 rfl rfl)
theorem dX7_topOf_21 : decode cX7_topOf 21 = .ok (.bipush 8, 2) := dk_16 8 (dk_at dksX7_topOf_0 21 rfl rfl)
theorem dX7_topOf_23 : decode cX7_topOf 23 = .ok (.iload_n 1, 1) := dk_27 (dk_at dksX7_topOf_0 23 rfl rfl)
theorem dX7_topOf_24 : decode cX7_topOf 24 = .ok (.imul, 1) := dk_104 (dk_at dksX7_topOf_1 0 rfl rfl)
theorem dX7_topOf_25 : decode cX7_topOf 25 = .ok (.iload_n 2, 1) := dk_28 (dk_at dksX7_topOf_1 1 rfl rfl)
theorem dX7_topOf_26 : decode cX7_topOf 26 = .ok (.iadd, 1) := dk_96 (dk_at dksX7_topOf_1 2 rfl rfl)
theorem dX7_topOf_27 : decode cX7_topOf 27 = .ok (.aload_n 0, 1) := dk_42 (dk_at dksX7_topOf_1 3 rfl rfl)
theorem dX7_topOf_28 : decode cX7_topOf 28 = .ok (.getfield 65, 3) := dk_180 0 65 (dk_at dksX7_topOf_1 4 rfl rfl)
theorem dX7_topOf_31 : decode cX7_topOf 31 = .ok (.if_icmp .ne 10, 3) := dk_160 0 10 (dk_at dksX7_topOf_1 7 rfl rfl)
theorem dX7_topOf_34 : decode cX7_topOf 34 = .ok (.aload_n 0, 1) := dk_42 (dk_at dksX7_topOf_1 10 rfl rfl)
theorem dX7_topOf_35 : decode cX7_topOf 35 = .ok (.getfield 179, 3) := dk_180 0 179 (dk_at dksX7_topOf_1 11 rfl rfl)
theorem dX7_topOf_38 : decode cX7_topOf 38 = .ok (.goto 4, 3) := dk_167 0 4 (dk_at dksX7_topOf_1 14 rfl rfl)
theorem dX7_topOf_41 : decode cX7_topOf 41 = .ok (.iconst 0, 1) := dk_3 (dk_at dksX7_topOf_1 17 rfl rfl)
theorem dX7_topOf_42 : decode cX7_topOf 42 = .ok (.iadd, 1) := dk_96 (dk_at dksX7_topOf_1 18 rfl rfl)
theorem dX7_topOf_43 : decode cX7_topOf 43 = .ok (.ireturn, 1) := dk_172 (dk_at dksX7_topOf_1 19 rfl rfl)
abbrev cX7_isAmong : ByteArray := prog_19_method_14_code
def yX7_isAmong : MethodName := ⟨RX7, "isAmong", "(I)Z"⟩
def dkwX7_isAmong_0 : List UInt8 := [42, 180, 0, 19, 27, 46, 7, 159, 0, 7, 4, 167, 0, 4, 3, 172]
abbrev dktX7_isAmong_0 : List UInt8 := dkwX7_isAmong_0 ++ []
theorem dksX7_isAmong_0 : cX7_isAmong.data.toList.drop 0 = dktX7_isAmong_0 := by decide +kernel
theorem dX7_isAmong_0 : decode cX7_isAmong 0 = .ok (.aload_n 0, 1) := dk_42 (dk_at dksX7_isAmong_0 0 rfl rfl)
theorem dX7_isAmong_1 : decode cX7_isAmong 1 = .ok (.getfield 19, 3) := dk_180 0 19 (dk_at dksX7_isAmong_0 1 rfl rfl)
theorem dX7_isAmong_4 : decode cX7_isAmong 4 = .ok (.iload_n 1, 1) := dk_27 (dk_at dksX7_isAmong_0 4 rfl rfl)
theorem dX7_isAmong_5 : decode cX7_isAmong 5 = .ok (.iaload, 1) := dk_46 (dk_at dksX7_isAmong_0 5 rfl rfl)
theorem dX7_isAmong_6 : decode cX7_isAmong 6 = .ok (.iconst 4, 1) := dk_7 (dk_at dksX7_isAmong_0 6 rfl rfl)
theorem dX7_isAmong_7 : decode cX7_isAmong 7 = .ok (.if_icmp .eq 7, 3) := dk_159 0 7 (dk_at dksX7_isAmong_0 7 rfl rfl)
theorem dX7_isAmong_10 : decode cX7_isAmong 10 = .ok (.iconst 1, 1) := dk_4 (dk_at dksX7_isAmong_0 10 rfl rfl)
theorem dX7_isAmong_11 : decode cX7_isAmong 11 = .ok (.goto 4, 3) := dk_167 0 4 (dk_at dksX7_isAmong_0 11 rfl rfl)
theorem dX7_isAmong_14 : decode cX7_isAmong 14 = .ok (.iconst 0, 1) := dk_3 (dk_at dksX7_isAmong_0 14 rfl rfl)
theorem dX7_isAmong_15 : decode cX7_isAmong 15 = .ok (.ireturn, 1) := dk_172 (dk_at dksX7_isAmong_0 15 rfl rfl)
abbrev cX7_point : ByteArray := prog_19_method_19_code
def yX7_point : MethodName := ⟨RX7, "point", "(III)I"⟩
def dkwX7_point_3 : List UInt8 := [180, 0, 197, 29, 79, 42, 89, 180, 0, 197, 4, 96, 181, 0, 197, 42, 180, 0, 197, 4, 100, 172]
abbrev dktX7_point_3 : List UInt8 := dkwX7_point_3 ++ []
def dkwX7_point_2 : List UInt8 := [180, 0, 37, 42, 180, 0, 197, 27, 79, 42, 180, 0, 40, 42, 180, 0, 197, 28, 79, 42, 180, 0, 43, 42]
abbrev dktX7_point_2 : List UInt8 := dkwX7_point_2 ++ dktX7_point_3
def dkwX7_point_1 : List UInt8 := [184, 0, 159, 154, 0, 6, 16, 254, 172, 42, 180, 0, 197, 16, 6, 160, 0, 6, 16, 252, 172, 42]
abbrev dktX7_point_1 : List UInt8 := dkwX7_point_1 ++ dktX7_point_2
def dkwX7_point_0 : List UInt8 := [27, 3, 16, 20, 184, 0, 159, 153, 0, 23, 28, 3, 16, 60, 184, 0, 159, 153, 0, 13, 29, 3, 16, 99]
abbrev dktX7_point_0 : List UInt8 := dkwX7_point_0 ++ dktX7_point_1
theorem dksX7_point_0 : cX7_point.data.toList.drop 0 = dktX7_point_0 := by decide +kernel
theorem dksX7_point_1 : cX7_point.data.toList.drop 24 = dktX7_point_1 := dk_seg dksX7_point_0 24 rfl rfl
theorem dksX7_point_2 : cX7_point.data.toList.drop 46 = dktX7_point_2 := dk_seg dksX7_point_1 22 rfl rfl
theorem dksX7_point_3 : cX7_point.data.toList.drop 70 = dktX7_point_3 := dk_seg dksX7_point_2 24 rfl rfl
theorem dX7_point_0 : decode cX7_point 0 = .ok (.iload_n 1, 1) := dk_27 (dk_at dksX7_point_0 0 rfl rfl)
theorem dX7_point_1 : decode cX7_point 1 = .ok (.iconst 0, 1) := dk_3 (dk_at dksX7_point_0 1 rfl rfl)
theorem dX7_point_2 : decode cX7_point 2 = .ok (.bipush 20, 2) := dk_16 20 (dk_at dksX7_point_0 2 rfl rfl)
theorem dX7_point_4 : decode cX7_point 4 = .ok (.invokestatic 159, 3) := dk_184 0 159 (dk_at dksX7_point_0 4 rfl rfl)
theorem dX7_point_7 : decode cX7_point 7 = .ok (.ifCond .eq 23, 3) := dk_153 0 23 (dk_at dksX7_point_0 7 rfl rfl)
theorem dX7_point_10 : decode cX7_point 10 = .ok (.iload_n 2, 1) := dk_28 (dk_at dksX7_point_0 10 rfl rfl)
theorem dX7_point_11 : decode cX7_point 11 = .ok (.iconst 0, 1) := dk_3 (dk_at dksX7_point_0 11 rfl rfl)
theorem dX7_point_12 : decode cX7_point 12 = .ok (.bipush 60, 2) := dk_16 60 (dk_at dksX7_point_0 12 rfl rfl)
theorem dX7_point_14 : decode cX7_point 14 = .ok (.invokestatic 159, 3) := dk_184 0 159 (dk_at dksX7_point_0 14 rfl rfl)
theorem dX7_point_17 : decode cX7_point 17 = .ok (.ifCond .eq 13, 3) := dk_153 0 13 (dk_at dksX7_point_0 17 rfl rfl)
theorem dX7_point_20 : decode cX7_point 20 = .ok (.iload_n 3, 1) := dk_29 (dk_at dksX7_point_0 20 rfl rfl)
theorem dX7_point_21 : decode cX7_point 21 = .ok (.iconst 0, 1) := dk_3 (dk_at dksX7_point_0 21 rfl rfl)
theorem dX7_point_22 : decode cX7_point 22 = .ok (.bipush 99, 2) := dk_16 99 (dk_at dksX7_point_0 22 rfl rfl)
theorem dX7_point_24 : decode cX7_point 24 = .ok (.invokestatic 159, 3) := dk_184 0 159 (dk_at dksX7_point_1 0 rfl rfl)
theorem dX7_point_27 : decode cX7_point 27 = .ok (.ifCond .ne 6, 3) := dk_154 0 6 (dk_at dksX7_point_1 3 rfl rfl)
theorem dX7_point_30 : decode cX7_point 30 = .ok (.bipush (-2), 2) := dk_16 254 (dk_at dksX7_point_1 6 rfl rfl)
theorem dX7_point_32 : decode cX7_point 32 = .ok (.ireturn, 1) := dk_172 (dk_at dksX7_point_1 8 rfl rfl)
theorem dX7_point_33 : decode cX7_point 33 = .ok (.aload_n 0, 1) := dk_42 (dk_at dksX7_point_1 9 rfl rfl)
theorem dX7_point_34 : decode cX7_point 34 = .ok (.getfield 197, 3) := dk_180 0 197 (dk_at dksX7_point_1 10 rfl rfl)
theorem dX7_point_37 : decode cX7_point 37 = .ok (.bipush 6, 2) := dk_16 6 (dk_at dksX7_point_1 13 rfl rfl)
theorem dX7_point_39 : decode cX7_point 39 = .ok (.if_icmp .ne 6, 3) := dk_160 0 6 (dk_at dksX7_point_1 15 rfl rfl)
theorem dX7_point_42 : decode cX7_point 42 = .ok (.bipush (-4), 2) := dk_16 252 (dk_at dksX7_point_1 18 rfl rfl)
theorem dX7_point_44 : decode cX7_point 44 = .ok (.ireturn, 1) := dk_172 (dk_at dksX7_point_1 20 rfl rfl)
theorem dX7_point_45 : decode cX7_point 45 = .ok (.aload_n 0, 1) := dk_42 (dk_at dksX7_point_1 21 rfl rfl)
theorem dX7_point_46 : decode cX7_point 46 = .ok (.getfield 37, 3) := dk_180 0 37 (dk_at dksX7_point_2 0 rfl rfl)
theorem dX7_point_49 : decode cX7_point 49 = .ok (.aload_n 0, 1) := dk_42 (dk_at dksX7_point_2 3 rfl rfl)
theorem dX7_point_50 : decode cX7_point 50 = .ok (.getfield 197, 3) := dk_180 0 197 (dk_at dksX7_point_2 4 rfl rfl)
theorem dX7_point_53 : decode cX7_point 53 = .ok (.iload_n 1, 1) := dk_27 (dk_at dksX7_point_2 7 rfl rfl)
theorem dX7_point_54 : decode cX7_point 54 = .ok (.iastore, 1) := dk_79 (dk_at dksX7_point_2 8 rfl rfl)
theorem dX7_point_55 : decode cX7_point 55 = .ok (.aload_n 0, 1) := dk_42 (dk_at dksX7_point_2 9 rfl rfl)
theorem dX7_point_56 : decode cX7_point 56 = .ok (.getfield 40, 3) := dk_180 0 40 (dk_at dksX7_point_2 10 rfl rfl)
theorem dX7_point_59 : decode cX7_point 59 = .ok (.aload_n 0, 1) := dk_42 (dk_at dksX7_point_2 13 rfl rfl)
theorem dX7_point_60 : decode cX7_point 60 = .ok (.getfield 197, 3) := dk_180 0 197 (dk_at dksX7_point_2 14 rfl rfl)
theorem dX7_point_63 : decode cX7_point 63 = .ok (.iload_n 2, 1) := dk_28 (dk_at dksX7_point_2 17 rfl rfl)
theorem dX7_point_64 : decode cX7_point 64 = .ok (.iastore, 1) := dk_79 (dk_at dksX7_point_2 18 rfl rfl)
theorem dX7_point_65 : decode cX7_point 65 = .ok (.aload_n 0, 1) := dk_42 (dk_at dksX7_point_2 19 rfl rfl)
theorem dX7_point_66 : decode cX7_point 66 = .ok (.getfield 43, 3) := dk_180 0 43 (dk_at dksX7_point_2 20 rfl rfl)
theorem dX7_point_69 : decode cX7_point 69 = .ok (.aload_n 0, 1) := dk_42 (dk_at dksX7_point_2 23 rfl rfl)
theorem dX7_point_70 : decode cX7_point 70 = .ok (.getfield 197, 3) := dk_180 0 197 (dk_at dksX7_point_3 0 rfl rfl)
theorem dX7_point_73 : decode cX7_point 73 = .ok (.iload_n 3, 1) := dk_29 (dk_at dksX7_point_3 3 rfl rfl)
theorem dX7_point_74 : decode cX7_point 74 = .ok (.iastore, 1) := dk_79 (dk_at dksX7_point_3 4 rfl rfl)
theorem dX7_point_75 : decode cX7_point 75 = .ok (.aload_n 0, 1) := dk_42 (dk_at dksX7_point_3 5 rfl rfl)
theorem dX7_point_76 : decode cX7_point 76 = .ok (.dup, 1) := dk_89 (dk_at dksX7_point_3 6 rfl rfl)
theorem dX7_point_77 : decode cX7_point 77 = .ok (.getfield 197, 3) := dk_180 0 197 (dk_at dksX7_point_3 7 rfl rfl)
theorem dX7_point_80 : decode cX7_point 80 = .ok (.iconst 1, 1) := dk_4 (dk_at dksX7_point_3 10 rfl rfl)
theorem dX7_point_81 : decode cX7_point 81 = .ok (.iadd, 1) := dk_96 (dk_at dksX7_point_3 11 rfl rfl)
theorem dX7_point_82 : decode cX7_point 82 = .ok (.putfield 197, 3) := dk_181 0 197 (dk_at dksX7_point_3 12 rfl rfl)
theorem dX7_point_85 : decode cX7_point 85 = .ok (.aload_n 0, 1) := dk_42 (dk_at dksX7_point_3 15 rfl rfl)
theorem dX7_point_86 : decode cX7_point 86 = .ok (.getfield 197, 3) := dk_180 0 197 (dk_at dksX7_point_3 16 rfl rfl)
theorem dX7_point_89 : decode cX7_point 89 = .ok (.iconst 1, 1) := dk_4 (dk_at dksX7_point_3 19 rfl rfl)
theorem dX7_point_90 : decode cX7_point 90 = .ok (.isub, 1) := dk_100 (dk_at dksX7_point_3 20 rfl rfl)
theorem dX7_point_91 : decode cX7_point 91 = .ok (.ireturn, 1) := dk_172 (dk_at dksX7_point_3 21 rfl rfl)
abbrev cX7_post : ByteArray := prog_19_method_20_code
def yX7_post : MethodName := ⟨RX7, "post", "(II)I"⟩
def dkwX7_post_2 : List UInt8 := [42, 180, 0, 200, 28, 79, 42, 89, 180, 0, 200, 4, 96, 181, 0, 200, 42, 180, 0, 200, 4, 100, 172]
abbrev dktX7_post_2 : List UInt8 := dkwX7_post_2 ++ []
def dkwX7_post_1 : List UInt8 := [180, 0, 200, 7, 160, 0, 6, 16, 252, 172, 42, 180, 0, 46, 42, 180, 0, 200, 27, 79, 42, 180, 0, 49]
abbrev dktX7_post_1 : List UInt8 := dkwX7_post_1 ++ dktX7_post_2
def dkwX7_post_0 : List UInt8 := [27, 3, 16, 20, 184, 0, 159, 153, 0, 13, 28, 4, 16, 69, 184, 0, 159, 154, 0, 6, 16, 254, 172, 42]
abbrev dktX7_post_0 : List UInt8 := dkwX7_post_0 ++ dktX7_post_1
theorem dksX7_post_0 : cX7_post.data.toList.drop 0 = dktX7_post_0 := by decide +kernel
theorem dksX7_post_1 : cX7_post.data.toList.drop 24 = dktX7_post_1 := dk_seg dksX7_post_0 24 rfl rfl
theorem dksX7_post_2 : cX7_post.data.toList.drop 48 = dktX7_post_2 := dk_seg dksX7_post_1 24 rfl rfl
theorem dX7_post_0 : decode cX7_post 0 = .ok (.iload_n 1, 1) := dk_27 (dk_at dksX7_post_0 0 rfl rfl)
theorem dX7_post_1 : decode cX7_post 1 = .ok (.iconst 0, 1) := dk_3 (dk_at dksX7_post_0 1 rfl rfl)
theorem dX7_post_2 : decode cX7_post 2 = .ok (.bipush 20, 2) := dk_16 20 (dk_at dksX7_post_0 2 rfl rfl)
theorem dX7_post_4 : decode cX7_post 4 = .ok (.invokestatic 159, 3) := dk_184 0 159 (dk_at dksX7_post_0 4 rfl rfl)
theorem dX7_post_7 : decode cX7_post 7 = .ok (.ifCond .eq 13, 3) := dk_153 0 13 (dk_at dksX7_post_0 7 rfl rfl)
theorem dX7_post_10 : decode cX7_post 10 = .ok (.iload_n 2, 1) := dk_28 (dk_at dksX7_post_0 10 rfl rfl)
theorem dX7_post_11 : decode cX7_post 11 = .ok (.iconst 1, 1) := dk_4 (dk_at dksX7_post_0 11 rfl rfl)
theorem dX7_post_12 : decode cX7_post 12 = .ok (.bipush 69, 2) := dk_16 69 (dk_at dksX7_post_0 12 rfl rfl)
theorem dX7_post_14 : decode cX7_post 14 = .ok (.invokestatic 159, 3) := dk_184 0 159 (dk_at dksX7_post_0 14 rfl rfl)
theorem dX7_post_17 : decode cX7_post 17 = .ok (.ifCond .ne 6, 3) := dk_154 0 6 (dk_at dksX7_post_0 17 rfl rfl)
theorem dX7_post_20 : decode cX7_post 20 = .ok (.bipush (-2), 2) := dk_16 254 (dk_at dksX7_post_0 20 rfl rfl)
theorem dX7_post_22 : decode cX7_post 22 = .ok (.ireturn, 1) := dk_172 (dk_at dksX7_post_0 22 rfl rfl)
theorem dX7_post_23 : decode cX7_post 23 = .ok (.aload_n 0, 1) := dk_42 (dk_at dksX7_post_0 23 rfl rfl)
theorem dX7_post_24 : decode cX7_post 24 = .ok (.getfield 200, 3) := dk_180 0 200 (dk_at dksX7_post_1 0 rfl rfl)
theorem dX7_post_27 : decode cX7_post 27 = .ok (.iconst 4, 1) := dk_7 (dk_at dksX7_post_1 3 rfl rfl)
theorem dX7_post_28 : decode cX7_post 28 = .ok (.if_icmp .ne 6, 3) := dk_160 0 6 (dk_at dksX7_post_1 4 rfl rfl)
theorem dX7_post_31 : decode cX7_post 31 = .ok (.bipush (-4), 2) := dk_16 252 (dk_at dksX7_post_1 7 rfl rfl)
theorem dX7_post_33 : decode cX7_post 33 = .ok (.ireturn, 1) := dk_172 (dk_at dksX7_post_1 9 rfl rfl)
theorem dX7_post_34 : decode cX7_post 34 = .ok (.aload_n 0, 1) := dk_42 (dk_at dksX7_post_1 10 rfl rfl)
theorem dX7_post_35 : decode cX7_post 35 = .ok (.getfield 46, 3) := dk_180 0 46 (dk_at dksX7_post_1 11 rfl rfl)
theorem dX7_post_38 : decode cX7_post 38 = .ok (.aload_n 0, 1) := dk_42 (dk_at dksX7_post_1 14 rfl rfl)
theorem dX7_post_39 : decode cX7_post 39 = .ok (.getfield 200, 3) := dk_180 0 200 (dk_at dksX7_post_1 15 rfl rfl)
theorem dX7_post_42 : decode cX7_post 42 = .ok (.iload_n 1, 1) := dk_27 (dk_at dksX7_post_1 18 rfl rfl)
theorem dX7_post_43 : decode cX7_post 43 = .ok (.iastore, 1) := dk_79 (dk_at dksX7_post_1 19 rfl rfl)
theorem dX7_post_44 : decode cX7_post 44 = .ok (.aload_n 0, 1) := dk_42 (dk_at dksX7_post_1 20 rfl rfl)
theorem dX7_post_45 : decode cX7_post 45 = .ok (.getfield 49, 3) := dk_180 0 49 (dk_at dksX7_post_1 21 rfl rfl)
theorem dX7_post_48 : decode cX7_post 48 = .ok (.aload_n 0, 1) := dk_42 (dk_at dksX7_post_2 0 rfl rfl)
theorem dX7_post_49 : decode cX7_post 49 = .ok (.getfield 200, 3) := dk_180 0 200 (dk_at dksX7_post_2 1 rfl rfl)
theorem dX7_post_52 : decode cX7_post 52 = .ok (.iload_n 2, 1) := dk_28 (dk_at dksX7_post_2 4 rfl rfl)
theorem dX7_post_53 : decode cX7_post 53 = .ok (.iastore, 1) := dk_79 (dk_at dksX7_post_2 5 rfl rfl)
theorem dX7_post_54 : decode cX7_post 54 = .ok (.aload_n 0, 1) := dk_42 (dk_at dksX7_post_2 6 rfl rfl)
theorem dX7_post_55 : decode cX7_post 55 = .ok (.dup, 1) := dk_89 (dk_at dksX7_post_2 7 rfl rfl)
theorem dX7_post_56 : decode cX7_post 56 = .ok (.getfield 200, 3) := dk_180 0 200 (dk_at dksX7_post_2 8 rfl rfl)
theorem dX7_post_59 : decode cX7_post 59 = .ok (.iconst 1, 1) := dk_4 (dk_at dksX7_post_2 11 rfl rfl)
theorem dX7_post_60 : decode cX7_post 60 = .ok (.iadd, 1) := dk_96 (dk_at dksX7_post_2 12 rfl rfl)
theorem dX7_post_61 : decode cX7_post 61 = .ok (.putfield 200, 3) := dk_181 0 200 (dk_at dksX7_post_2 13 rfl rfl)
theorem dX7_post_64 : decode cX7_post 64 = .ok (.aload_n 0, 1) := dk_42 (dk_at dksX7_post_2 16 rfl rfl)
theorem dX7_post_65 : decode cX7_post 65 = .ok (.getfield 200, 3) := dk_180 0 200 (dk_at dksX7_post_2 17 rfl rfl)
theorem dX7_post_68 : decode cX7_post 68 = .ok (.iconst 1, 1) := dk_4 (dk_at dksX7_post_2 20 rfl rfl)
theorem dX7_post_69 : decode cX7_post 69 = .ok (.isub, 1) := dk_100 (dk_at dksX7_post_2 21 rfl rfl)
theorem dX7_post_70 : decode cX7_post 70 = .ok (.ireturn, 1) := dk_172 (dk_at dksX7_post_2 22 rfl rfl)
abbrev cX7_moves : ByteArray := prog_19_method_21_code
def yX7_moves : MethodName := ⟨RX7, "moves", "(III)I"⟩
def dkwX7_moves_3 : List UInt8 := [21, 4, 172]
abbrev dktX7_moves_3 : List UInt8 := dkwX7_moves_3 ++ []
def dkwX7_moves_2 : List UInt8 := [104, 42, 180, 0, 49, 27, 46, 96, 54, 4, 42, 180, 0, 46, 27, 28, 79, 42, 180, 0, 49, 27, 29, 79]
abbrev dktX7_moves_2 : List UInt8 := dkwX7_moves_2 ++ dktX7_moves_3
def dkwX7_moves_1 : List UInt8 := [153, 0, 13, 29, 4, 16, 69, 184, 0, 159, 154, 0, 6, 16, 254, 172, 16, 100, 42, 180, 0, 46, 27, 46]
abbrev dktX7_moves_1 : List UInt8 := dkwX7_moves_1 ++ dktX7_moves_2
def dkwX7_moves_0 : List UInt8 := [27, 3, 42, 180, 0, 200, 4, 100, 184, 0, 159, 154, 0, 5, 2, 172, 28, 3, 16, 20, 184, 0, 159]
abbrev dktX7_moves_0 : List UInt8 := dkwX7_moves_0 ++ dktX7_moves_1
theorem dksX7_moves_0 : cX7_moves.data.toList.drop 0 = dktX7_moves_0 := by decide +kernel
theorem dksX7_moves_1 : cX7_moves.data.toList.drop 23 = dktX7_moves_1 := dk_seg dksX7_moves_0 23 rfl rfl
theorem dksX7_moves_2 : cX7_moves.data.toList.drop 47 = dktX7_moves_2 := dk_seg dksX7_moves_1 24 rfl rfl
theorem dksX7_moves_3 : cX7_moves.data.toList.drop 71 = dktX7_moves_3 := dk_seg dksX7_moves_2 24 rfl rfl
theorem dX7_moves_0 : decode cX7_moves 0 = .ok (.iload_n 1, 1) := dk_27 (dk_at dksX7_moves_0 0 rfl rfl)
theorem dX7_moves_1 : decode cX7_moves 1 = .ok (.iconst 0, 1) := dk_3 (dk_at dksX7_moves_0 1 rfl rfl)
theorem dX7_moves_2 : decode cX7_moves 2 = .ok (.aload_n 0, 1) := dk_42 (dk_at dksX7_moves_0 2 rfl rfl)
theorem dX7_moves_3 : decode cX7_moves 3 = .ok (.getfield 200, 3) := dk_180 0 200 (dk_at dksX7_moves_0 3 rfl rfl)
theorem dX7_moves_6 : decode cX7_moves 6 = .ok (.iconst 1, 1) := dk_4 (dk_at dksX7_moves_0 6 rfl rfl)
theorem dX7_moves_7 : decode cX7_moves 7 = .ok (.isub, 1) := dk_100 (dk_at dksX7_moves_0 7 rfl rfl)
theorem dX7_moves_8 : decode cX7_moves 8 = .ok (.invokestatic 159, 3) := dk_184 0 159 (dk_at dksX7_moves_0 8 rfl rfl)
theorem dX7_moves_11 : decode cX7_moves 11 = .ok (.ifCond .ne 5, 3) := dk_154 0 5 (dk_at dksX7_moves_0 11 rfl rfl)
theorem dX7_moves_14 : decode cX7_moves 14 = .ok (.iconst (-1), 1) := dk_2 (dk_at dksX7_moves_0 14 rfl rfl)
theorem dX7_moves_15 : decode cX7_moves 15 = .ok (.ireturn, 1) := dk_172 (dk_at dksX7_moves_0 15 rfl rfl)
theorem dX7_moves_16 : decode cX7_moves 16 = .ok (.iload_n 2, 1) := dk_28 (dk_at dksX7_moves_0 16 rfl rfl)
theorem dX7_moves_17 : decode cX7_moves 17 = .ok (.iconst 0, 1) := dk_3 (dk_at dksX7_moves_0 17 rfl rfl)
theorem dX7_moves_18 : decode cX7_moves 18 = .ok (.bipush 20, 2) := dk_16 20 (dk_at dksX7_moves_0 18 rfl rfl)
theorem dX7_moves_20 : decode cX7_moves 20 = .ok (.invokestatic 159, 3) := dk_184 0 159 (dk_at dksX7_moves_0 20 rfl rfl)
theorem dX7_moves_23 : decode cX7_moves 23 = .ok (.ifCond .eq 13, 3) := dk_153 0 13 (dk_at dksX7_moves_1 0 rfl rfl)
theorem dX7_moves_26 : decode cX7_moves 26 = .ok (.iload_n 3, 1) := dk_29 (dk_at dksX7_moves_1 3 rfl rfl)
theorem dX7_moves_27 : decode cX7_moves 27 = .ok (.iconst 1, 1) := dk_4 (dk_at dksX7_moves_1 4 rfl rfl)
theorem dX7_moves_28 : decode cX7_moves 28 = .ok (.bipush 69, 2) := dk_16 69 (dk_at dksX7_moves_1 5 rfl rfl)
theorem dX7_moves_30 : decode cX7_moves 30 = .ok (.invokestatic 159, 3) := dk_184 0 159 (dk_at dksX7_moves_1 7 rfl rfl)
theorem dX7_moves_33 : decode cX7_moves 33 = .ok (.ifCond .ne 6, 3) := dk_154 0 6 (dk_at dksX7_moves_1 10 rfl rfl)
theorem dX7_moves_36 : decode cX7_moves 36 = .ok (.bipush (-2), 2) := dk_16 254 (dk_at dksX7_moves_1 13 rfl rfl)
theorem dX7_moves_38 : decode cX7_moves 38 = .ok (.ireturn, 1) := dk_172 (dk_at dksX7_moves_1 15 rfl rfl)
theorem dX7_moves_39 : decode cX7_moves 39 = .ok (.bipush 100, 2) := dk_16 100 (dk_at dksX7_moves_1 16 rfl rfl)
theorem dX7_moves_41 : decode cX7_moves 41 = .ok (.aload_n 0, 1) := dk_42 (dk_at dksX7_moves_1 18 rfl rfl)
theorem dX7_moves_42 : decode cX7_moves 42 = .ok (.getfield 46, 3) := dk_180 0 46 (dk_at dksX7_moves_1 19 rfl rfl)
theorem dX7_moves_45 : decode cX7_moves 45 = .ok (.iload_n 1, 1) := dk_27 (dk_at dksX7_moves_1 22 rfl rfl)
theorem dX7_moves_46 : decode cX7_moves 46 = .ok (.iaload, 1) := dk_46 (dk_at dksX7_moves_1 23 rfl rfl)
theorem dX7_moves_47 : decode cX7_moves 47 = .ok (.imul, 1) := dk_104 (dk_at dksX7_moves_2 0 rfl rfl)
theorem dX7_moves_48 : decode cX7_moves 48 = .ok (.aload_n 0, 1) := dk_42 (dk_at dksX7_moves_2 1 rfl rfl)
theorem dX7_moves_49 : decode cX7_moves 49 = .ok (.getfield 49, 3) := dk_180 0 49 (dk_at dksX7_moves_2 2 rfl rfl)
theorem dX7_moves_52 : decode cX7_moves 52 = .ok (.iload_n 1, 1) := dk_27 (dk_at dksX7_moves_2 5 rfl rfl)
theorem dX7_moves_53 : decode cX7_moves 53 = .ok (.iaload, 1) := dk_46 (dk_at dksX7_moves_2 6 rfl rfl)
theorem dX7_moves_54 : decode cX7_moves 54 = .ok (.iadd, 1) := dk_96 (dk_at dksX7_moves_2 7 rfl rfl)
theorem dX7_moves_55 : decode cX7_moves 55 = .ok (.istore 4, 2) := dk_54 4 (dk_at dksX7_moves_2 8 rfl rfl)
theorem dX7_moves_57 : decode cX7_moves 57 = .ok (.aload_n 0, 1) := dk_42 (dk_at dksX7_moves_2 10 rfl rfl)
theorem dX7_moves_58 : decode cX7_moves 58 = .ok (.getfield 46, 3) := dk_180 0 46 (dk_at dksX7_moves_2 11 rfl rfl)
theorem dX7_moves_61 : decode cX7_moves 61 = .ok (.iload_n 1, 1) := dk_27 (dk_at dksX7_moves_2 14 rfl rfl)
theorem dX7_moves_62 : decode cX7_moves 62 = .ok (.iload_n 2, 1) := dk_28 (dk_at dksX7_moves_2 15 rfl rfl)
theorem dX7_moves_63 : decode cX7_moves 63 = .ok (.iastore, 1) := dk_79 (dk_at dksX7_moves_2 16 rfl rfl)
theorem dX7_moves_64 : decode cX7_moves 64 = .ok (.aload_n 0, 1) := dk_42 (dk_at dksX7_moves_2 17 rfl rfl)
theorem dX7_moves_65 : decode cX7_moves 65 = .ok (.getfield 49, 3) := dk_180 0 49 (dk_at dksX7_moves_2 18 rfl rfl)
theorem dX7_moves_68 : decode cX7_moves 68 = .ok (.iload_n 1, 1) := dk_27 (dk_at dksX7_moves_2 21 rfl rfl)
theorem dX7_moves_69 : decode cX7_moves 69 = .ok (.iload_n 3, 1) := dk_29 (dk_at dksX7_moves_2 22 rfl rfl)
theorem dX7_moves_70 : decode cX7_moves 70 = .ok (.iastore, 1) := dk_79 (dk_at dksX7_moves_2 23 rfl rfl)
theorem dX7_moves_71 : decode cX7_moves 71 = .ok (.iload 4, 2) := dk_21 4 (dk_at dksX7_moves_3 0 rfl rfl)
theorem dX7_moves_73 : decode cX7_moves 73 = .ok (.ireturn, 1) := dk_172 (dk_at dksX7_moves_3 2 rfl rfl)
abbrev cX7_count : ByteArray := prog_19_method_22_code
def yX7_count : MethodName := ⟨RX7, "count", "(I)I"⟩
def dkwX7_count_3 : List UInt8 := [172, 42, 180, 0, 206, 172, 16, 254, 172]
abbrev dktX7_count_3 : List UInt8 := dkwX7_count_3 ++ []
def dkwX7_count_2 : List UInt8 := [42, 180, 0, 156, 172, 42, 180, 0, 197, 172, 42, 180, 0, 200, 172, 42, 180, 0, 61, 172, 42, 180, 0, 203]
abbrev dktX7_count_2 : List UInt8 := dkwX7_count_2 ++ dktX7_count_3
def dkwX7_count_1 : List UInt8 := [170, 0, 0, 0, 0, 0, 69, 0, 0, 0, 0, 0, 0, 0, 5, 0, 0, 0, 39, 0, 0, 0, 44, 0, 0, 0, 49, 0, 0, 0, 54, 0, 0, 0, 59, 0, 0, 0, 64]
abbrev dktX7_count_1 : List UInt8 := dkwX7_count_1 ++ dktX7_count_2
def dkwX7_count_0 : List UInt8 := [27]
abbrev dktX7_count_0 : List UInt8 := dkwX7_count_0 ++ dktX7_count_1
theorem dksX7_count_0 : cX7_count.data.toList.drop 0 = dktX7_count_0 := by decide +kernel
theorem dksX7_count_1 : cX7_count.data.toList.drop 1 = dktX7_count_1 := dk_seg dksX7_count_0 1 rfl rfl
theorem dksX7_count_2 : cX7_count.data.toList.drop 40 = dktX7_count_2 := dk_seg dksX7_count_1 39 rfl rfl
theorem dksX7_count_3 : cX7_count.data.toList.drop 64 = dktX7_count_3 := dk_seg dksX7_count_2 24 rfl rfl
theorem dX7_count_0 : decode cX7_count 0 = .ok (.iload_n 1, 1) := dk_27 (dk_at dksX7_count_0 0 rfl rfl)
theorem dX7_count_1 : decode cX7_count 1 = .ok (.tableswitch 69 0 5 #[39, 44, 49, 54, 59, 64], 39) := by decide +kernel
theorem dX7_count_40 : decode cX7_count 40 = .ok (.aload_n 0, 1) := dk_42 (dk_at dksX7_count_2 0 rfl rfl)
theorem dX7_count_41 : decode cX7_count 41 = .ok (.getfield 156, 3) := dk_180 0 156 (dk_at dksX7_count_2 1 rfl rfl)
theorem dX7_count_44 : decode cX7_count 44 = .ok (.ireturn, 1) := dk_172 (dk_at dksX7_count_2 4 rfl rfl)
theorem dX7_count_45 : decode cX7_count 45 = .ok (.aload_n 0, 1) := dk_42 (dk_at dksX7_count_2 5 rfl rfl)
theorem dX7_count_46 : decode cX7_count 46 = .ok (.getfield 197, 3) := dk_180 0 197 (dk_at dksX7_count_2 6 rfl rfl)
theorem dX7_count_49 : decode cX7_count 49 = .ok (.ireturn, 1) := dk_172 (dk_at dksX7_count_2 9 rfl rfl)
theorem dX7_count_50 : decode cX7_count 50 = .ok (.aload_n 0, 1) := dk_42 (dk_at dksX7_count_2 10 rfl rfl)
theorem dX7_count_51 : decode cX7_count 51 = .ok (.getfield 200, 3) := dk_180 0 200 (dk_at dksX7_count_2 11 rfl rfl)
theorem dX7_count_54 : decode cX7_count 54 = .ok (.ireturn, 1) := dk_172 (dk_at dksX7_count_2 14 rfl rfl)
theorem dX7_count_55 : decode cX7_count 55 = .ok (.aload_n 0, 1) := dk_42 (dk_at dksX7_count_2 15 rfl rfl)
theorem dX7_count_56 : decode cX7_count 56 = .ok (.getfield 61, 3) := dk_180 0 61 (dk_at dksX7_count_2 16 rfl rfl)
theorem dX7_count_59 : decode cX7_count 59 = .ok (.ireturn, 1) := dk_172 (dk_at dksX7_count_2 19 rfl rfl)
theorem dX7_count_60 : decode cX7_count 60 = .ok (.aload_n 0, 1) := dk_42 (dk_at dksX7_count_2 20 rfl rfl)
theorem dX7_count_61 : decode cX7_count 61 = .ok (.getfield 203, 3) := dk_180 0 203 (dk_at dksX7_count_2 21 rfl rfl)
theorem dX7_count_64 : decode cX7_count 64 = .ok (.ireturn, 1) := dk_172 (dk_at dksX7_count_3 0 rfl rfl)
theorem dX7_count_65 : decode cX7_count 65 = .ok (.aload_n 0, 1) := dk_42 (dk_at dksX7_count_3 1 rfl rfl)
theorem dX7_count_66 : decode cX7_count 66 = .ok (.getfield 206, 3) := dk_180 0 206 (dk_at dksX7_count_3 2 rfl rfl)
theorem dX7_count_69 : decode cX7_count 69 = .ok (.ireturn, 1) := dk_172 (dk_at dksX7_count_3 5 rfl rfl)
theorem dX7_count_70 : decode cX7_count 70 = .ok (.bipush (-2), 2) := dk_16 254 (dk_at dksX7_count_3 6 rfl rfl)
theorem dX7_count_72 : decode cX7_count 72 = .ok (.ireturn, 1) := dk_172 (dk_at dksX7_count_3 8 rfl rfl)
abbrev cX7_feed : ByteArray := prog_19_method_23_code
def yX7_feed : MethodName := ⟨RX7, "feed", "(JI)I"⟩
def dkwX7_feed_3 : List UInt8 := [132, 4, 255, 167, 255, 217, 42, 180, 0, 206, 172]
abbrev dktX7_feed_3 : List UInt8 := dkwX7_feed_3 ++ []
def dkwX7_feed_2 : List UInt8 := [31, 16, 8, 21, 4, 104, 123, 20, 0, 209, 127, 136, 79, 42, 89, 180, 0, 206, 4, 96, 181, 0, 206]
abbrev dktX7_feed_2 : List UInt8 := dkwX7_feed_2 ++ dktX7_feed_3
def dkwX7_feed_1 : List UInt8 := [164, 0, 6, 16, 252, 172, 29, 4, 100, 54, 4, 21, 4, 155, 0, 40, 42, 180, 0, 52, 42, 180, 0, 206]
abbrev dktX7_feed_1 : List UInt8 := dkwX7_feed_1 ++ dktX7_feed_2
def dkwX7_feed_0 : List UInt8 := [29, 4, 16, 8, 184, 0, 159, 154, 0, 6, 16, 254, 172, 42, 180, 0, 206, 29, 96, 17, 0, 160]
abbrev dktX7_feed_0 : List UInt8 := dkwX7_feed_0 ++ dktX7_feed_1
theorem dksX7_feed_0 : cX7_feed.data.toList.drop 0 = dktX7_feed_0 := by decide +kernel
theorem dksX7_feed_1 : cX7_feed.data.toList.drop 22 = dktX7_feed_1 := dk_seg dksX7_feed_0 22 rfl rfl
theorem dksX7_feed_2 : cX7_feed.data.toList.drop 46 = dktX7_feed_2 := dk_seg dksX7_feed_1 24 rfl rfl
theorem dksX7_feed_3 : cX7_feed.data.toList.drop 69 = dktX7_feed_3 := dk_seg dksX7_feed_2 23 rfl rfl
theorem dX7_feed_0 : decode cX7_feed 0 = .ok (.iload_n 3, 1) := dk_29 (dk_at dksX7_feed_0 0 rfl rfl)
theorem dX7_feed_1 : decode cX7_feed 1 = .ok (.iconst 1, 1) := dk_4 (dk_at dksX7_feed_0 1 rfl rfl)
theorem dX7_feed_2 : decode cX7_feed 2 = .ok (.bipush 8, 2) := dk_16 8 (dk_at dksX7_feed_0 2 rfl rfl)
theorem dX7_feed_4 : decode cX7_feed 4 = .ok (.invokestatic 159, 3) := dk_184 0 159 (dk_at dksX7_feed_0 4 rfl rfl)
theorem dX7_feed_7 : decode cX7_feed 7 = .ok (.ifCond .ne 6, 3) := dk_154 0 6 (dk_at dksX7_feed_0 7 rfl rfl)
theorem dX7_feed_10 : decode cX7_feed 10 = .ok (.bipush (-2), 2) := dk_16 254 (dk_at dksX7_feed_0 10 rfl rfl)
theorem dX7_feed_12 : decode cX7_feed 12 = .ok (.ireturn, 1) := dk_172 (dk_at dksX7_feed_0 12 rfl rfl)
theorem dX7_feed_13 : decode cX7_feed 13 = .ok (.aload_n 0, 1) := dk_42 (dk_at dksX7_feed_0 13 rfl rfl)
theorem dX7_feed_14 : decode cX7_feed 14 = .ok (.getfield 206, 3) := dk_180 0 206 (dk_at dksX7_feed_0 14 rfl rfl)
theorem dX7_feed_17 : decode cX7_feed 17 = .ok (.iload_n 3, 1) := dk_29 (dk_at dksX7_feed_0 17 rfl rfl)
theorem dX7_feed_18 : decode cX7_feed 18 = .ok (.iadd, 1) := dk_96 (dk_at dksX7_feed_0 18 rfl rfl)
theorem dX7_feed_19 : decode cX7_feed 19 = .ok (.sipush 160, 3) := dk_17 0 160 (dk_at dksX7_feed_0 19 rfl rfl)
theorem dX7_feed_22 : decode cX7_feed 22 = .ok (.if_icmp .le 6, 3) := dk_164 0 6 (dk_at dksX7_feed_1 0 rfl rfl)
theorem dX7_feed_25 : decode cX7_feed 25 = .ok (.bipush (-4), 2) := dk_16 252 (dk_at dksX7_feed_1 3 rfl rfl)
theorem dX7_feed_27 : decode cX7_feed 27 = .ok (.ireturn, 1) := dk_172 (dk_at dksX7_feed_1 5 rfl rfl)
theorem dX7_feed_28 : decode cX7_feed 28 = .ok (.iload_n 3, 1) := dk_29 (dk_at dksX7_feed_1 6 rfl rfl)
theorem dX7_feed_29 : decode cX7_feed 29 = .ok (.iconst 1, 1) := dk_4 (dk_at dksX7_feed_1 7 rfl rfl)
theorem dX7_feed_30 : decode cX7_feed 30 = .ok (.isub, 1) := dk_100 (dk_at dksX7_feed_1 8 rfl rfl)
theorem dX7_feed_31 : decode cX7_feed 31 = .ok (.istore 4, 2) := dk_54 4 (dk_at dksX7_feed_1 9 rfl rfl)
theorem dX7_feed_33 : decode cX7_feed 33 = .ok (.iload 4, 2) := dk_21 4 (dk_at dksX7_feed_1 11 rfl rfl)
theorem dX7_feed_35 : decode cX7_feed 35 = .ok (.ifCond .lt 40, 3) := dk_155 0 40 (dk_at dksX7_feed_1 13 rfl rfl)
theorem dX7_feed_38 : decode cX7_feed 38 = .ok (.aload_n 0, 1) := dk_42 (dk_at dksX7_feed_1 16 rfl rfl)
theorem dX7_feed_39 : decode cX7_feed 39 = .ok (.getfield 52, 3) := dk_180 0 52 (dk_at dksX7_feed_1 17 rfl rfl)
theorem dX7_feed_42 : decode cX7_feed 42 = .ok (.aload_n 0, 1) := dk_42 (dk_at dksX7_feed_1 20 rfl rfl)
theorem dX7_feed_43 : decode cX7_feed 43 = .ok (.getfield 206, 3) := dk_180 0 206 (dk_at dksX7_feed_1 21 rfl rfl)
theorem dX7_feed_46 : decode cX7_feed 46 = .ok (.lload_n 1, 1) := dk_31 (dk_at dksX7_feed_2 0 rfl rfl)
theorem dX7_feed_47 : decode cX7_feed 47 = .ok (.bipush 8, 2) := dk_16 8 (dk_at dksX7_feed_2 1 rfl rfl)
theorem dX7_feed_49 : decode cX7_feed 49 = .ok (.iload 4, 2) := dk_21 4 (dk_at dksX7_feed_2 3 rfl rfl)
theorem dX7_feed_51 : decode cX7_feed 51 = .ok (.imul, 1) := dk_104 (dk_at dksX7_feed_2 5 rfl rfl)
theorem dX7_feed_52 : decode cX7_feed 52 = .ok (.lshr, 1) := dk_123 (dk_at dksX7_feed_2 6 rfl rfl)
theorem dX7_feed_53 : decode cX7_feed 53 = .ok (.ldc2_w 209, 3) := dk_20 0 209 (dk_at dksX7_feed_2 7 rfl rfl)
theorem dX7_feed_56 : decode cX7_feed 56 = .ok (.land, 1) := dk_127 (dk_at dksX7_feed_2 10 rfl rfl)
theorem dX7_feed_57 : decode cX7_feed 57 = .ok (.l2i, 1) := dk_136 (dk_at dksX7_feed_2 11 rfl rfl)
theorem dX7_feed_58 : decode cX7_feed 58 = .ok (.iastore, 1) := dk_79 (dk_at dksX7_feed_2 12 rfl rfl)
theorem dX7_feed_59 : decode cX7_feed 59 = .ok (.aload_n 0, 1) := dk_42 (dk_at dksX7_feed_2 13 rfl rfl)
theorem dX7_feed_60 : decode cX7_feed 60 = .ok (.dup, 1) := dk_89 (dk_at dksX7_feed_2 14 rfl rfl)
theorem dX7_feed_61 : decode cX7_feed 61 = .ok (.getfield 206, 3) := dk_180 0 206 (dk_at dksX7_feed_2 15 rfl rfl)
theorem dX7_feed_64 : decode cX7_feed 64 = .ok (.iconst 1, 1) := dk_4 (dk_at dksX7_feed_2 18 rfl rfl)
theorem dX7_feed_65 : decode cX7_feed 65 = .ok (.iadd, 1) := dk_96 (dk_at dksX7_feed_2 19 rfl rfl)
theorem dX7_feed_66 : decode cX7_feed 66 = .ok (.putfield 206, 3) := dk_181 0 206 (dk_at dksX7_feed_2 20 rfl rfl)
theorem dX7_feed_69 : decode cX7_feed 69 = .ok (.iinc 4 (-1), 3) := dk_132 4 255 (dk_at dksX7_feed_3 0 rfl rfl)
theorem dX7_feed_72 : decode cX7_feed 72 = .ok (.goto (-39), 3) := dk_167 255 217 (dk_at dksX7_feed_3 3 rfl rfl)
theorem dX7_feed_75 : decode cX7_feed 75 = .ok (.aload_n 0, 1) := dk_42 (dk_at dksX7_feed_3 6 rfl rfl)
theorem dX7_feed_76 : decode cX7_feed 76 = .ok (.getfield 206, 3) := dk_180 0 206 (dk_at dksX7_feed_3 7 rfl rfl)
theorem dX7_feed_79 : decode cX7_feed 79 = .ok (.ireturn, 1) := dk_172 (dk_at dksX7_feed_3 10 rfl rfl)
abbrev cX7_text : ByteArray := prog_19_method_34_code
def yX7_text : MethodName := ⟨RX7, "text", "()I"⟩
def dkwX7_text_7 : List UInt8 := [181, 0, 61, 42, 180, 0, 61, 4, 100, 172]
abbrev dktX7_text_7 : List UInt8 := dkwX7_text_7 ++ []
def dkwX7_text_6 : List UInt8 := [181, 0, 206, 27, 154, 0, 11, 16, 156, 42, 180, 0, 214, 100, 172, 42, 89, 180, 0, 61, 4, 96]
abbrev dktX7_text_6 : List UInt8 := dkwX7_text_6 ++ dktX7_text_7
def dkwX7_text_5 : List UInt8 := [167, 0, 4, 3, 60, 42, 180, 0, 58, 7, 42, 180, 0, 61, 104, 6, 96, 42, 180, 0, 227, 79, 42, 3]
abbrev dktX7_text_5 : List UInt8 := dkwX7_text_5 ++ dktX7_text_6
def dkwX7_text_4 : List UInt8 := [132, 2, 1, 167, 255, 184, 27, 153, 0, 20, 42, 182, 0, 249, 42, 180, 0, 217, 154, 0, 7, 4]
abbrev dktX7_text_4 : List UInt8 := dkwX7_text_4 ++ dktX7_text_5
def dkwX7_text_3 : List UInt8 := [96, 42, 180, 0, 227, 79, 27, 153, 0, 14, 42, 182, 1, 7, 153, 0, 7, 4, 167, 0, 4, 3, 60]
abbrev dktX7_text_3 : List UInt8 := dkwX7_text_3 ++ dktX7_text_4
def dkwX7_text_2 : List UInt8 := [180, 0, 220, 28, 160, 0, 7, 4, 167, 0, 4, 3, 60, 42, 180, 0, 58, 7, 42, 180, 0, 61, 104, 28]
abbrev dktX7_text_2 : List UInt8 := dkwX7_text_2 ++ dktX7_text_3
def dkwX7_text_1 : List UInt8 := [3, 61, 28, 6, 162, 0, 73, 27, 153, 0, 69, 42, 182, 0, 249, 42, 180, 0, 217, 6, 160, 0, 15, 42]
abbrev dktX7_text_1 : List UInt8 := dkwX7_text_1 ++ dktX7_text_2
def dkwX7_text_0 : List UInt8 := [42, 180, 0, 61, 16, 6, 160, 0, 6, 16, 252, 172, 42, 3, 181, 0, 211, 42, 3, 181, 0, 227, 4, 60]
abbrev dktX7_text_0 : List UInt8 := dkwX7_text_0 ++ dktX7_text_1
theorem dksX7_text_0 : cX7_text.data.toList.drop 0 = dktX7_text_0 := by decide +kernel
theorem dksX7_text_1 : cX7_text.data.toList.drop 24 = dktX7_text_1 := dk_seg dksX7_text_0 24 rfl rfl
theorem dksX7_text_2 : cX7_text.data.toList.drop 48 = dktX7_text_2 := dk_seg dksX7_text_1 24 rfl rfl
theorem dksX7_text_3 : cX7_text.data.toList.drop 72 = dktX7_text_3 := dk_seg dksX7_text_2 24 rfl rfl
theorem dksX7_text_4 : cX7_text.data.toList.drop 95 = dktX7_text_4 := dk_seg dksX7_text_3 23 rfl rfl
theorem dksX7_text_5 : cX7_text.data.toList.drop 117 = dktX7_text_5 := dk_seg dksX7_text_4 22 rfl rfl
theorem dksX7_text_6 : cX7_text.data.toList.drop 141 = dktX7_text_6 := dk_seg dksX7_text_5 24 rfl rfl
theorem dksX7_text_7 : cX7_text.data.toList.drop 163 = dktX7_text_7 := dk_seg dksX7_text_6 22 rfl rfl
theorem dX7_text_0 : decode cX7_text 0 = .ok (.aload_n 0, 1) := dk_42 (dk_at dksX7_text_0 0 rfl rfl)
theorem dX7_text_1 : decode cX7_text 1 = .ok (.getfield 61, 3) := dk_180 0 61 (dk_at dksX7_text_0 1 rfl rfl)
theorem dX7_text_4 : decode cX7_text 4 = .ok (.bipush 6, 2) := dk_16 6 (dk_at dksX7_text_0 4 rfl rfl)
theorem dX7_text_6 : decode cX7_text 6 = .ok (.if_icmp .ne 6, 3) := dk_160 0 6 (dk_at dksX7_text_0 6 rfl rfl)
theorem dX7_text_9 : decode cX7_text 9 = .ok (.bipush (-4), 2) := dk_16 252 (dk_at dksX7_text_0 9 rfl rfl)
theorem dX7_text_11 : decode cX7_text 11 = .ok (.ireturn, 1) := dk_172 (dk_at dksX7_text_0 11 rfl rfl)
theorem dX7_text_12 : decode cX7_text 12 = .ok (.aload_n 0, 1) := dk_42 (dk_at dksX7_text_0 12 rfl rfl)
theorem dX7_text_13 : decode cX7_text 13 = .ok (.iconst 0, 1) := dk_3 (dk_at dksX7_text_0 13 rfl rfl)
theorem dX7_text_14 : decode cX7_text 14 = .ok (.putfield 211, 3) := dk_181 0 211 (dk_at dksX7_text_0 14 rfl rfl)
theorem dX7_text_17 : decode cX7_text 17 = .ok (.aload_n 0, 1) := dk_42 (dk_at dksX7_text_0 17 rfl rfl)
theorem dX7_text_18 : decode cX7_text 18 = .ok (.iconst 0, 1) := dk_3 (dk_at dksX7_text_0 18 rfl rfl)
theorem dX7_text_19 : decode cX7_text 19 = .ok (.putfield 227, 3) := dk_181 0 227 (dk_at dksX7_text_0 19 rfl rfl)
theorem dX7_text_22 : decode cX7_text 22 = .ok (.iconst 1, 1) := dk_4 (dk_at dksX7_text_0 22 rfl rfl)
theorem dX7_text_23 : decode cX7_text 23 = .ok (.istore_n 1, 1) := dk_60 (dk_at dksX7_text_0 23 rfl rfl)
theorem dX7_text_24 : decode cX7_text 24 = .ok (.iconst 0, 1) := dk_3 (dk_at dksX7_text_1 0 rfl rfl)
theorem dX7_text_25 : decode cX7_text 25 = .ok (.istore_n 2, 1) := dk_61 (dk_at dksX7_text_1 1 rfl rfl)
theorem dX7_text_26 : decode cX7_text 26 = .ok (.iload_n 2, 1) := dk_28 (dk_at dksX7_text_1 2 rfl rfl)
theorem dX7_text_27 : decode cX7_text 27 = .ok (.iconst 3, 1) := dk_6 (dk_at dksX7_text_1 3 rfl rfl)
theorem dX7_text_28 : decode cX7_text 28 = .ok (.if_icmp .ge 73, 3) := dk_162 0 73 (dk_at dksX7_text_1 4 rfl rfl)
theorem dX7_text_31 : decode cX7_text 31 = .ok (.iload_n 1, 1) := dk_27 (dk_at dksX7_text_1 7 rfl rfl)
theorem dX7_text_32 : decode cX7_text 32 = .ok (.ifCond .eq 69, 3) := dk_153 0 69 (dk_at dksX7_text_1 8 rfl rfl)
theorem dX7_text_35 : decode cX7_text 35 = .ok (.aload_n 0, 1) := dk_42 (dk_at dksX7_text_1 11 rfl rfl)
theorem dX7_text_36 : decode cX7_text 36 = .ok (.invokevirtual 249, 3) := dk_182 0 249 (dk_at dksX7_text_1 12 rfl rfl)
theorem dX7_text_39 : decode cX7_text 39 = .ok (.aload_n 0, 1) := dk_42 (dk_at dksX7_text_1 15 rfl rfl)
theorem dX7_text_40 : decode cX7_text 40 = .ok (.getfield 217, 3) := dk_180 0 217 (dk_at dksX7_text_1 16 rfl rfl)
theorem dX7_text_43 : decode cX7_text 43 = .ok (.iconst 3, 1) := dk_6 (dk_at dksX7_text_1 19 rfl rfl)
theorem dX7_text_44 : decode cX7_text 44 = .ok (.if_icmp .ne 15, 3) := dk_160 0 15 (dk_at dksX7_text_1 20 rfl rfl)
theorem dX7_text_47 : decode cX7_text 47 = .ok (.aload_n 0, 1) := dk_42 (dk_at dksX7_text_1 23 rfl rfl)
theorem dX7_text_48 : decode cX7_text 48 = .ok (.getfield 220, 3) := dk_180 0 220 (dk_at dksX7_text_2 0 rfl rfl)
theorem dX7_text_51 : decode cX7_text 51 = .ok (.iload_n 2, 1) := dk_28 (dk_at dksX7_text_2 3 rfl rfl)
theorem dX7_text_52 : decode cX7_text 52 = .ok (.if_icmp .ne 7, 3) := dk_160 0 7 (dk_at dksX7_text_2 4 rfl rfl)
theorem dX7_text_55 : decode cX7_text 55 = .ok (.iconst 1, 1) := dk_4 (dk_at dksX7_text_2 7 rfl rfl)
theorem dX7_text_56 : decode cX7_text 56 = .ok (.goto 4, 3) := dk_167 0 4 (dk_at dksX7_text_2 8 rfl rfl)
theorem dX7_text_59 : decode cX7_text 59 = .ok (.iconst 0, 1) := dk_3 (dk_at dksX7_text_2 11 rfl rfl)
theorem dX7_text_60 : decode cX7_text 60 = .ok (.istore_n 1, 1) := dk_60 (dk_at dksX7_text_2 12 rfl rfl)
theorem dX7_text_61 : decode cX7_text 61 = .ok (.aload_n 0, 1) := dk_42 (dk_at dksX7_text_2 13 rfl rfl)
theorem dX7_text_62 : decode cX7_text 62 = .ok (.getfield 58, 3) := dk_180 0 58 (dk_at dksX7_text_2 14 rfl rfl)
theorem dX7_text_65 : decode cX7_text 65 = .ok (.iconst 4, 1) := dk_7 (dk_at dksX7_text_2 17 rfl rfl)
theorem dX7_text_66 : decode cX7_text 66 = .ok (.aload_n 0, 1) := dk_42 (dk_at dksX7_text_2 18 rfl rfl)
theorem dX7_text_67 : decode cX7_text 67 = .ok (.getfield 61, 3) := dk_180 0 61 (dk_at dksX7_text_2 19 rfl rfl)
theorem dX7_text_70 : decode cX7_text 70 = .ok (.imul, 1) := dk_104 (dk_at dksX7_text_2 22 rfl rfl)
theorem dX7_text_71 : decode cX7_text 71 = .ok (.iload_n 2, 1) := dk_28 (dk_at dksX7_text_2 23 rfl rfl)
theorem dX7_text_72 : decode cX7_text 72 = .ok (.iadd, 1) := dk_96 (dk_at dksX7_text_3 0 rfl rfl)
theorem dX7_text_73 : decode cX7_text 73 = .ok (.aload_n 0, 1) := dk_42 (dk_at dksX7_text_3 1 rfl rfl)
theorem dX7_text_74 : decode cX7_text 74 = .ok (.getfield 227, 3) := dk_180 0 227 (dk_at dksX7_text_3 2 rfl rfl)
theorem dX7_text_77 : decode cX7_text 77 = .ok (.iastore, 1) := dk_79 (dk_at dksX7_text_3 5 rfl rfl)
theorem dX7_text_78 : decode cX7_text 78 = .ok (.iload_n 1, 1) := dk_27 (dk_at dksX7_text_3 6 rfl rfl)
theorem dX7_text_79 : decode cX7_text 79 = .ok (.ifCond .eq 14, 3) := dk_153 0 14 (dk_at dksX7_text_3 7 rfl rfl)
theorem dX7_text_82 : decode cX7_text 82 = .ok (.aload_n 0, 1) := dk_42 (dk_at dksX7_text_3 10 rfl rfl)
theorem dX7_text_83 : decode cX7_text 83 = .ok (.invokevirtual 263, 3) := dk_182 1 7 (dk_at dksX7_text_3 11 rfl rfl)
theorem dX7_text_86 : decode cX7_text 86 = .ok (.ifCond .eq 7, 3) := dk_153 0 7 (dk_at dksX7_text_3 14 rfl rfl)
theorem dX7_text_89 : decode cX7_text 89 = .ok (.iconst 1, 1) := dk_4 (dk_at dksX7_text_3 17 rfl rfl)
theorem dX7_text_90 : decode cX7_text 90 = .ok (.goto 4, 3) := dk_167 0 4 (dk_at dksX7_text_3 18 rfl rfl)
theorem dX7_text_93 : decode cX7_text 93 = .ok (.iconst 0, 1) := dk_3 (dk_at dksX7_text_3 21 rfl rfl)
theorem dX7_text_94 : decode cX7_text 94 = .ok (.istore_n 1, 1) := dk_60 (dk_at dksX7_text_3 22 rfl rfl)
theorem dX7_text_95 : decode cX7_text 95 = .ok (.iinc 2 1, 3) := dk_132 2 1 (dk_at dksX7_text_4 0 rfl rfl)
theorem dX7_text_98 : decode cX7_text 98 = .ok (.goto (-72), 3) := dk_167 255 184 (dk_at dksX7_text_4 3 rfl rfl)
theorem dX7_text_101 : decode cX7_text 101 = .ok (.iload_n 1, 1) := dk_27 (dk_at dksX7_text_4 6 rfl rfl)
theorem dX7_text_102 : decode cX7_text 102 = .ok (.ifCond .eq 20, 3) := dk_153 0 20 (dk_at dksX7_text_4 7 rfl rfl)
theorem dX7_text_105 : decode cX7_text 105 = .ok (.aload_n 0, 1) := dk_42 (dk_at dksX7_text_4 10 rfl rfl)
theorem dX7_text_106 : decode cX7_text 106 = .ok (.invokevirtual 249, 3) := dk_182 0 249 (dk_at dksX7_text_4 11 rfl rfl)
theorem dX7_text_109 : decode cX7_text 109 = .ok (.aload_n 0, 1) := dk_42 (dk_at dksX7_text_4 14 rfl rfl)
theorem dX7_text_110 : decode cX7_text 110 = .ok (.getfield 217, 3) := dk_180 0 217 (dk_at dksX7_text_4 15 rfl rfl)
theorem dX7_text_113 : decode cX7_text 113 = .ok (.ifCond .ne 7, 3) := dk_154 0 7 (dk_at dksX7_text_4 18 rfl rfl)
theorem dX7_text_116 : decode cX7_text 116 = .ok (.iconst 1, 1) := dk_4 (dk_at dksX7_text_4 21 rfl rfl)
theorem dX7_text_117 : decode cX7_text 117 = .ok (.goto 4, 3) := dk_167 0 4 (dk_at dksX7_text_5 0 rfl rfl)
theorem dX7_text_120 : decode cX7_text 120 = .ok (.iconst 0, 1) := dk_3 (dk_at dksX7_text_5 3 rfl rfl)
theorem dX7_text_121 : decode cX7_text 121 = .ok (.istore_n 1, 1) := dk_60 (dk_at dksX7_text_5 4 rfl rfl)
theorem dX7_text_122 : decode cX7_text 122 = .ok (.aload_n 0, 1) := dk_42 (dk_at dksX7_text_5 5 rfl rfl)
theorem dX7_text_123 : decode cX7_text 123 = .ok (.getfield 58, 3) := dk_180 0 58 (dk_at dksX7_text_5 6 rfl rfl)
theorem dX7_text_126 : decode cX7_text 126 = .ok (.iconst 4, 1) := dk_7 (dk_at dksX7_text_5 9 rfl rfl)
theorem dX7_text_127 : decode cX7_text 127 = .ok (.aload_n 0, 1) := dk_42 (dk_at dksX7_text_5 10 rfl rfl)
theorem dX7_text_128 : decode cX7_text 128 = .ok (.getfield 61, 3) := dk_180 0 61 (dk_at dksX7_text_5 11 rfl rfl)
theorem dX7_text_131 : decode cX7_text 131 = .ok (.imul, 1) := dk_104 (dk_at dksX7_text_5 14 rfl rfl)
theorem dX7_text_132 : decode cX7_text 132 = .ok (.iconst 3, 1) := dk_6 (dk_at dksX7_text_5 15 rfl rfl)
theorem dX7_text_133 : decode cX7_text 133 = .ok (.iadd, 1) := dk_96 (dk_at dksX7_text_5 16 rfl rfl)
theorem dX7_text_134 : decode cX7_text 134 = .ok (.aload_n 0, 1) := dk_42 (dk_at dksX7_text_5 17 rfl rfl)
theorem dX7_text_135 : decode cX7_text 135 = .ok (.getfield 227, 3) := dk_180 0 227 (dk_at dksX7_text_5 18 rfl rfl)
theorem dX7_text_138 : decode cX7_text 138 = .ok (.iastore, 1) := dk_79 (dk_at dksX7_text_5 21 rfl rfl)
theorem dX7_text_139 : decode cX7_text 139 = .ok (.aload_n 0, 1) := dk_42 (dk_at dksX7_text_5 22 rfl rfl)
theorem dX7_text_140 : decode cX7_text 140 = .ok (.iconst 0, 1) := dk_3 (dk_at dksX7_text_5 23 rfl rfl)
theorem dX7_text_141 : decode cX7_text 141 = .ok (.putfield 206, 3) := dk_181 0 206 (dk_at dksX7_text_6 0 rfl rfl)
theorem dX7_text_144 : decode cX7_text 144 = .ok (.iload_n 1, 1) := dk_27 (dk_at dksX7_text_6 3 rfl rfl)
theorem dX7_text_145 : decode cX7_text 145 = .ok (.ifCond .ne 11, 3) := dk_154 0 11 (dk_at dksX7_text_6 4 rfl rfl)
theorem dX7_text_148 : decode cX7_text 148 = .ok (.bipush (-100), 2) := dk_16 156 (dk_at dksX7_text_6 7 rfl rfl)
theorem dX7_text_150 : decode cX7_text 150 = .ok (.aload_n 0, 1) := dk_42 (dk_at dksX7_text_6 9 rfl rfl)
theorem dX7_text_151 : decode cX7_text 151 = .ok (.getfield 214, 3) := dk_180 0 214 (dk_at dksX7_text_6 10 rfl rfl)
theorem dX7_text_154 : decode cX7_text 154 = .ok (.isub, 1) := dk_100 (dk_at dksX7_text_6 13 rfl rfl)
theorem dX7_text_155 : decode cX7_text 155 = .ok (.ireturn, 1) := dk_172 (dk_at dksX7_text_6 14 rfl rfl)
theorem dX7_text_156 : decode cX7_text 156 = .ok (.aload_n 0, 1) := dk_42 (dk_at dksX7_text_6 15 rfl rfl)
theorem dX7_text_157 : decode cX7_text 157 = .ok (.dup, 1) := dk_89 (dk_at dksX7_text_6 16 rfl rfl)
theorem dX7_text_158 : decode cX7_text 158 = .ok (.getfield 61, 3) := dk_180 0 61 (dk_at dksX7_text_6 17 rfl rfl)
theorem dX7_text_161 : decode cX7_text 161 = .ok (.iconst 1, 1) := dk_4 (dk_at dksX7_text_6 20 rfl rfl)
theorem dX7_text_162 : decode cX7_text 162 = .ok (.iadd, 1) := dk_96 (dk_at dksX7_text_6 21 rfl rfl)
theorem dX7_text_163 : decode cX7_text 163 = .ok (.putfield 61, 3) := dk_181 0 61 (dk_at dksX7_text_7 0 rfl rfl)
theorem dX7_text_166 : decode cX7_text 166 = .ok (.aload_n 0, 1) := dk_42 (dk_at dksX7_text_7 3 rfl rfl)
theorem dX7_text_167 : decode cX7_text 167 = .ok (.getfield 61, 3) := dk_180 0 61 (dk_at dksX7_text_7 4 rfl rfl)
theorem dX7_text_170 : decode cX7_text 170 = .ok (.iconst 1, 1) := dk_4 (dk_at dksX7_text_7 7 rfl rfl)
theorem dX7_text_171 : decode cX7_text 171 = .ok (.isub, 1) := dk_100 (dk_at dksX7_text_7 8 rfl rfl)
theorem dX7_text_172 : decode cX7_text 172 = .ok (.ireturn, 1) := dk_172 (dk_at dksX7_text_7 9 rfl rfl)
abbrev cX7_next : ByteArray := prog_19_method_25_code
def yX7_next : MethodName := ⟨RX7, "next", "()V"⟩
def dkwX7_next_16 : List UInt8 := [181, 0, 217, 42, 89, 180, 0, 211, 4, 96, 181, 0, 211, 177]
abbrev dktX7_next_16 : List UInt8 := dkwX7_next_16 ++ []
def dkwX7_next_15 : List UInt8 := [27, 16, 61, 160, 0, 7, 4, 167, 0, 4, 3, 61, 42, 28, 153, 0, 7, 27, 167, 0, 4, 2]
abbrev dktX7_next_15 : List UInt8 := dkwX7_next_15 ++ dktX7_next_16
def dkwX7_next_14 : List UInt8 := [27, 16, 43, 159, 0, 27, 27, 16, 45, 159, 0, 21, 27, 16, 42, 159, 0, 15, 27, 16, 60, 159, 0, 9]
abbrev dktX7_next_14 : List UInt8 := dkwX7_next_14 ++ dktX7_next_15
def dkwX7_next_13 : List UInt8 := [181, 0, 217, 167, 0, 80, 27, 16, 40, 159, 0, 45, 27, 16, 41, 159, 0, 39, 27, 16, 59, 159, 0, 33]
abbrev dktX7_next_13 : List UInt8 := dkwX7_next_13 ++ dktX7_next_14
def dkwX7_next_12 : List UInt8 := [89, 180, 0, 211, 4, 96, 181, 0, 211, 167, 255, 180, 42, 28, 7, 164, 0, 7, 2, 167, 0, 4, 4]
abbrev dktX7_next_12 : List UInt8 := dkwX7_next_12 ++ dktX7_next_13
def dkwX7_next_11 : List UInt8 := [42, 180, 0, 52, 42, 180, 0, 211, 46, 96, 16, 48, 100, 167, 0, 4, 3, 181, 0, 220, 132, 2, 1, 42]
abbrev dktX7_next_11 : List UInt8 := dkwX7_next_11 ++ dktX7_next_12
def dkwX7_next_10 : List UInt8 := [46, 16, 48, 16, 57, 184, 0, 159, 153, 0, 52, 42, 28, 7, 162, 0, 26, 16, 10, 42, 180, 0, 220, 104]
abbrev dktX7_next_10 : List UInt8 := dkwX7_next_10 ++ dktX7_next_11
def dkwX7_next_9 : List UInt8 := [153, 0, 101, 3, 61, 42, 180, 0, 211, 42, 180, 0, 206, 162, 0, 71, 42, 180, 0, 52, 42, 180, 0, 211]
abbrev dktX7_next_9 : List UInt8 := dkwX7_next_9 ++ dktX7_next_10
def dkwX7_next_8 : List UInt8 := [21, 4, 167, 0, 7, 21, 4, 6, 100, 181, 0, 220, 167, 0, 189, 27, 16, 48, 16, 57, 184, 0, 159]
abbrev dktX7_next_8 : List UInt8 := dkwX7_next_8 ++ dktX7_next_9
def dkwX7_next_7 : List UInt8 := [160, 0, 7, 2, 167, 0, 10, 7, 21, 4, 96, 16, 9, 100, 181, 0, 217, 42, 21, 4, 6, 162, 0, 8]
abbrev dktX7_next_7 : List UInt8 := dkwX7_next_7 ++ dktX7_next_8
def dkwX7_next_6 : List UInt8 := [6, 162, 0, 7, 6, 167, 0, 32, 21, 4, 16, 9, 162, 0, 7, 5, 167, 0, 21, 21, 4, 16, 12]
abbrev dktX7_next_6 : List UInt8 := dkwX7_next_6 ++ dktX7_next_7
def dkwX7_next_5 : List UInt8 := [162, 0, 21, 42, 180, 0, 125, 21, 4, 47, 32, 148, 153, 0, 9, 132, 4, 1, 167, 255, 234, 42, 21, 4]
abbrev dktX7_next_5 : List UInt8 := dkwX7_next_5 ++ dktX7_next_6
def dkwX7_next_4 : List UInt8 := [16, 97, 16, 122, 184, 0, 159, 153, 0, 101, 42, 182, 0, 223, 65, 3, 54, 4, 21, 4, 16, 12]
abbrev dktX7_next_4 : List UInt8 := dkwX7_next_4 ++ dktX7_next_5
def dkwX7_next_3 : List UInt8 := [42, 180, 0, 211, 42, 180, 0, 206, 160, 0, 4, 177, 42, 180, 0, 52, 42, 180, 0, 211, 46, 60, 27]
abbrev dktX7_next_3 : List UInt8 := dkwX7_next_3 ++ dktX7_next_4
def dkwX7_next_2 : List UInt8 := [181, 0, 211, 167, 255, 207, 42, 42, 180, 0, 211, 181, 0, 214, 42, 3, 181, 0, 217, 42, 3, 181, 0, 220]
abbrev dktX7_next_2 : List UInt8 := dkwX7_next_2 ++ dktX7_next_3
def dkwX7_next_1 : List UInt8 := [159, 0, 17, 42, 180, 0, 52, 42, 180, 0, 211, 46, 16, 10, 160, 0, 16, 42, 89, 180, 0, 211, 4, 96]
abbrev dktX7_next_1 : List UInt8 := dkwX7_next_1 ++ dktX7_next_2
def dkwX7_next_0 : List UInt8 := [42, 180, 0, 211, 42, 180, 0, 206, 162, 0, 44, 42, 180, 0, 52, 42, 180, 0, 211, 46, 16, 32]
abbrev dktX7_next_0 : List UInt8 := dkwX7_next_0 ++ dktX7_next_1
theorem dksX7_next_0 : cX7_next.data.toList.drop 0 = dktX7_next_0 := by decide +kernel
theorem dksX7_next_1 : cX7_next.data.toList.drop 22 = dktX7_next_1 := dk_seg dksX7_next_0 22 rfl rfl
theorem dksX7_next_2 : cX7_next.data.toList.drop 46 = dktX7_next_2 := dk_seg dksX7_next_1 24 rfl rfl
theorem dksX7_next_3 : cX7_next.data.toList.drop 70 = dktX7_next_3 := dk_seg dksX7_next_2 24 rfl rfl
theorem dksX7_next_4 : cX7_next.data.toList.drop 93 = dktX7_next_4 := dk_seg dksX7_next_3 23 rfl rfl
theorem dksX7_next_5 : cX7_next.data.toList.drop 115 = dktX7_next_5 := dk_seg dksX7_next_4 22 rfl rfl
theorem dksX7_next_6 : cX7_next.data.toList.drop 139 = dktX7_next_6 := dk_seg dksX7_next_5 24 rfl rfl
theorem dksX7_next_7 : cX7_next.data.toList.drop 162 = dktX7_next_7 := dk_seg dksX7_next_6 23 rfl rfl
theorem dksX7_next_8 : cX7_next.data.toList.drop 186 = dktX7_next_8 := dk_seg dksX7_next_7 24 rfl rfl
theorem dksX7_next_9 : cX7_next.data.toList.drop 209 = dktX7_next_9 := dk_seg dksX7_next_8 23 rfl rfl
theorem dksX7_next_10 : cX7_next.data.toList.drop 233 = dktX7_next_10 := dk_seg dksX7_next_9 24 rfl rfl
theorem dksX7_next_11 : cX7_next.data.toList.drop 257 = dktX7_next_11 := dk_seg dksX7_next_10 24 rfl rfl
theorem dksX7_next_12 : cX7_next.data.toList.drop 281 = dktX7_next_12 := dk_seg dksX7_next_11 24 rfl rfl
theorem dksX7_next_13 : cX7_next.data.toList.drop 304 = dktX7_next_13 := dk_seg dksX7_next_12 23 rfl rfl
theorem dksX7_next_14 : cX7_next.data.toList.drop 328 = dktX7_next_14 := dk_seg dksX7_next_13 24 rfl rfl
theorem dksX7_next_15 : cX7_next.data.toList.drop 352 = dktX7_next_15 := dk_seg dksX7_next_14 24 rfl rfl
theorem dksX7_next_16 : cX7_next.data.toList.drop 374 = dktX7_next_16 := dk_seg dksX7_next_15 22 rfl rfl
theorem dX7_next_0 : decode cX7_next 0 = .ok (.aload_n 0, 1) := dk_42 (dk_at dksX7_next_0 0 rfl rfl)
theorem dX7_next_1 : decode cX7_next 1 = .ok (.getfield 211, 3) := dk_180 0 211 (dk_at dksX7_next_0 1 rfl rfl)
theorem dX7_next_4 : decode cX7_next 4 = .ok (.aload_n 0, 1) := dk_42 (dk_at dksX7_next_0 4 rfl rfl)
theorem dX7_next_5 : decode cX7_next 5 = .ok (.getfield 206, 3) := dk_180 0 206 (dk_at dksX7_next_0 5 rfl rfl)
theorem dX7_next_8 : decode cX7_next 8 = .ok (.if_icmp .ge 44, 3) := dk_162 0 44 (dk_at dksX7_next_0 8 rfl rfl)
theorem dX7_next_11 : decode cX7_next 11 = .ok (.aload_n 0, 1) := dk_42 (dk_at dksX7_next_0 11 rfl rfl)
theorem dX7_next_12 : decode cX7_next 12 = .ok (.getfield 52, 3) := dk_180 0 52 (dk_at dksX7_next_0 12 rfl rfl)
theorem dX7_next_15 : decode cX7_next 15 = .ok (.aload_n 0, 1) := dk_42 (dk_at dksX7_next_0 15 rfl rfl)
theorem dX7_next_16 : decode cX7_next 16 = .ok (.getfield 211, 3) := dk_180 0 211 (dk_at dksX7_next_0 16 rfl rfl)
theorem dX7_next_19 : decode cX7_next 19 = .ok (.iaload, 1) := dk_46 (dk_at dksX7_next_0 19 rfl rfl)
theorem dX7_next_20 : decode cX7_next 20 = .ok (.bipush 32, 2) := dk_16 32 (dk_at dksX7_next_0 20 rfl rfl)
theorem dX7_next_22 : decode cX7_next 22 = .ok (.if_icmp .eq 17, 3) := dk_159 0 17 (dk_at dksX7_next_1 0 rfl rfl)
theorem dX7_next_25 : decode cX7_next 25 = .ok (.aload_n 0, 1) := dk_42 (dk_at dksX7_next_1 3 rfl rfl)
theorem dX7_next_26 : decode cX7_next 26 = .ok (.getfield 52, 3) := dk_180 0 52 (dk_at dksX7_next_1 4 rfl rfl)
theorem dX7_next_29 : decode cX7_next 29 = .ok (.aload_n 0, 1) := dk_42 (dk_at dksX7_next_1 7 rfl rfl)
theorem dX7_next_30 : decode cX7_next 30 = .ok (.getfield 211, 3) := dk_180 0 211 (dk_at dksX7_next_1 8 rfl rfl)
theorem dX7_next_33 : decode cX7_next 33 = .ok (.iaload, 1) := dk_46 (dk_at dksX7_next_1 11 rfl rfl)
theorem dX7_next_34 : decode cX7_next 34 = .ok (.bipush 10, 2) := dk_16 10 (dk_at dksX7_next_1 12 rfl rfl)
theorem dX7_next_36 : decode cX7_next 36 = .ok (.if_icmp .ne 16, 3) := dk_160 0 16 (dk_at dksX7_next_1 14 rfl rfl)
theorem dX7_next_39 : decode cX7_next 39 = .ok (.aload_n 0, 1) := dk_42 (dk_at dksX7_next_1 17 rfl rfl)
theorem dX7_next_40 : decode cX7_next 40 = .ok (.dup, 1) := dk_89 (dk_at dksX7_next_1 18 rfl rfl)
theorem dX7_next_41 : decode cX7_next 41 = .ok (.getfield 211, 3) := dk_180 0 211 (dk_at dksX7_next_1 19 rfl rfl)
theorem dX7_next_44 : decode cX7_next 44 = .ok (.iconst 1, 1) := dk_4 (dk_at dksX7_next_1 22 rfl rfl)
theorem dX7_next_45 : decode cX7_next 45 = .ok (.iadd, 1) := dk_96 (dk_at dksX7_next_1 23 rfl rfl)
theorem dX7_next_46 : decode cX7_next 46 = .ok (.putfield 211, 3) := dk_181 0 211 (dk_at dksX7_next_2 0 rfl rfl)
theorem dX7_next_49 : decode cX7_next 49 = .ok (.goto (-49), 3) := dk_167 255 207 (dk_at dksX7_next_2 3 rfl rfl)
theorem dX7_next_52 : decode cX7_next 52 = .ok (.aload_n 0, 1) := dk_42 (dk_at dksX7_next_2 6 rfl rfl)
theorem dX7_next_53 : decode cX7_next 53 = .ok (.aload_n 0, 1) := dk_42 (dk_at dksX7_next_2 7 rfl rfl)
theorem dX7_next_54 : decode cX7_next 54 = .ok (.getfield 211, 3) := dk_180 0 211 (dk_at dksX7_next_2 8 rfl rfl)
theorem dX7_next_57 : decode cX7_next 57 = .ok (.putfield 214, 3) := dk_181 0 214 (dk_at dksX7_next_2 11 rfl rfl)
theorem dX7_next_60 : decode cX7_next 60 = .ok (.aload_n 0, 1) := dk_42 (dk_at dksX7_next_2 14 rfl rfl)
theorem dX7_next_61 : decode cX7_next 61 = .ok (.iconst 0, 1) := dk_3 (dk_at dksX7_next_2 15 rfl rfl)
theorem dX7_next_62 : decode cX7_next 62 = .ok (.putfield 217, 3) := dk_181 0 217 (dk_at dksX7_next_2 16 rfl rfl)
theorem dX7_next_65 : decode cX7_next 65 = .ok (.aload_n 0, 1) := dk_42 (dk_at dksX7_next_2 19 rfl rfl)
theorem dX7_next_66 : decode cX7_next 66 = .ok (.iconst 0, 1) := dk_3 (dk_at dksX7_next_2 20 rfl rfl)
theorem dX7_next_67 : decode cX7_next 67 = .ok (.putfield 220, 3) := dk_181 0 220 (dk_at dksX7_next_2 21 rfl rfl)
theorem dX7_next_70 : decode cX7_next 70 = .ok (.aload_n 0, 1) := dk_42 (dk_at dksX7_next_3 0 rfl rfl)
theorem dX7_next_71 : decode cX7_next 71 = .ok (.getfield 211, 3) := dk_180 0 211 (dk_at dksX7_next_3 1 rfl rfl)
theorem dX7_next_74 : decode cX7_next 74 = .ok (.aload_n 0, 1) := dk_42 (dk_at dksX7_next_3 4 rfl rfl)
theorem dX7_next_75 : decode cX7_next 75 = .ok (.getfield 206, 3) := dk_180 0 206 (dk_at dksX7_next_3 5 rfl rfl)
theorem dX7_next_78 : decode cX7_next 78 = .ok (.if_icmp .ne 4, 3) := dk_160 0 4 (dk_at dksX7_next_3 8 rfl rfl)
theorem dX7_next_81 : decode cX7_next 81 = .ok (.return_, 1) := dk_177 (dk_at dksX7_next_3 11 rfl rfl)
theorem dX7_next_82 : decode cX7_next 82 = .ok (.aload_n 0, 1) := dk_42 (dk_at dksX7_next_3 12 rfl rfl)
theorem dX7_next_83 : decode cX7_next 83 = .ok (.getfield 52, 3) := dk_180 0 52 (dk_at dksX7_next_3 13 rfl rfl)
theorem dX7_next_86 : decode cX7_next 86 = .ok (.aload_n 0, 1) := dk_42 (dk_at dksX7_next_3 16 rfl rfl)
theorem dX7_next_87 : decode cX7_next 87 = .ok (.getfield 211, 3) := dk_180 0 211 (dk_at dksX7_next_3 17 rfl rfl)
theorem dX7_next_90 : decode cX7_next 90 = .ok (.iaload, 1) := dk_46 (dk_at dksX7_next_3 20 rfl rfl)
theorem dX7_next_91 : decode cX7_next 91 = .ok (.istore_n 1, 1) := dk_60 (dk_at dksX7_next_3 21 rfl rfl)
theorem dX7_next_92 : decode cX7_next 92 = .ok (.iload_n 1, 1) := dk_27 (dk_at dksX7_next_3 22 rfl rfl)
theorem dX7_next_93 : decode cX7_next 93 = .ok (.bipush 97, 2) := dk_16 97 (dk_at dksX7_next_4 0 rfl rfl)
theorem dX7_next_95 : decode cX7_next 95 = .ok (.bipush 122, 2) := dk_16 122 (dk_at dksX7_next_4 2 rfl rfl)
theorem dX7_next_97 : decode cX7_next 97 = .ok (.invokestatic 159, 3) := dk_184 0 159 (dk_at dksX7_next_4 4 rfl rfl)
theorem dX7_next_100 : decode cX7_next 100 = .ok (.ifCond .eq 101, 3) := dk_153 0 101 (dk_at dksX7_next_4 7 rfl rfl)
theorem dX7_next_103 : decode cX7_next 103 = .ok (.aload_n 0, 1) := dk_42 (dk_at dksX7_next_4 10 rfl rfl)
theorem dX7_next_104 : decode cX7_next 104 = .ok (.invokevirtual 223, 3) := dk_182 0 223 (dk_at dksX7_next_4 11 rfl rfl)
theorem dX7_next_107 : decode cX7_next 107 = .ok (.lstore_n 2, 1) := dk_65 (dk_at dksX7_next_4 14 rfl rfl)
theorem dX7_next_108 : decode cX7_next 108 = .ok (.iconst 0, 1) := dk_3 (dk_at dksX7_next_4 15 rfl rfl)
theorem dX7_next_109 : decode cX7_next 109 = .ok (.istore 4, 2) := dk_54 4 (dk_at dksX7_next_4 16 rfl rfl)
theorem dX7_next_111 : decode cX7_next 111 = .ok (.iload 4, 2) := dk_21 4 (dk_at dksX7_next_4 18 rfl rfl)
theorem dX7_next_113 : decode cX7_next 113 = .ok (.bipush 12, 2) := dk_16 12 (dk_at dksX7_next_4 20 rfl rfl)
theorem dX7_next_115 : decode cX7_next 115 = .ok (.if_icmp .ge 21, 3) := dk_162 0 21 (dk_at dksX7_next_5 0 rfl rfl)
theorem dX7_next_118 : decode cX7_next 118 = .ok (.aload_n 0, 1) := dk_42 (dk_at dksX7_next_5 3 rfl rfl)
theorem dX7_next_119 : decode cX7_next 119 = .ok (.getfield 125, 3) := dk_180 0 125 (dk_at dksX7_next_5 4 rfl rfl)
theorem dX7_next_122 : decode cX7_next 122 = .ok (.iload 4, 2) := dk_21 4 (dk_at dksX7_next_5 7 rfl rfl)
theorem dX7_next_124 : decode cX7_next 124 = .ok (.laload, 1) := dk_47 (dk_at dksX7_next_5 9 rfl rfl)
theorem dX7_next_125 : decode cX7_next 125 = .ok (.lload_n 2, 1) := dk_32 (dk_at dksX7_next_5 10 rfl rfl)
theorem dX7_next_126 : decode cX7_next 126 = .ok (.lcmp, 1) := dk_148 (dk_at dksX7_next_5 11 rfl rfl)
theorem dX7_next_127 : decode cX7_next 127 = .ok (.ifCond .eq 9, 3) := dk_153 0 9 (dk_at dksX7_next_5 12 rfl rfl)
theorem dX7_next_130 : decode cX7_next 130 = .ok (.iinc 4 1, 3) := dk_132 4 1 (dk_at dksX7_next_5 15 rfl rfl)
theorem dX7_next_133 : decode cX7_next 133 = .ok (.goto (-22), 3) := dk_167 255 234 (dk_at dksX7_next_5 18 rfl rfl)
theorem dX7_next_136 : decode cX7_next 136 = .ok (.aload_n 0, 1) := dk_42 (dk_at dksX7_next_5 21 rfl rfl)
theorem dX7_next_137 : decode cX7_next 137 = .ok (.iload 4, 2) := dk_21 4 (dk_at dksX7_next_5 22 rfl rfl)
theorem dX7_next_139 : decode cX7_next 139 = .ok (.iconst 3, 1) := dk_6 (dk_at dksX7_next_6 0 rfl rfl)
theorem dX7_next_140 : decode cX7_next 140 = .ok (.if_icmp .ge 7, 3) := dk_162 0 7 (dk_at dksX7_next_6 1 rfl rfl)
theorem dX7_next_143 : decode cX7_next 143 = .ok (.iconst 3, 1) := dk_6 (dk_at dksX7_next_6 4 rfl rfl)
theorem dX7_next_144 : decode cX7_next 144 = .ok (.goto 32, 3) := dk_167 0 32 (dk_at dksX7_next_6 5 rfl rfl)
theorem dX7_next_147 : decode cX7_next 147 = .ok (.iload 4, 2) := dk_21 4 (dk_at dksX7_next_6 8 rfl rfl)
theorem dX7_next_149 : decode cX7_next 149 = .ok (.bipush 9, 2) := dk_16 9 (dk_at dksX7_next_6 10 rfl rfl)
theorem dX7_next_151 : decode cX7_next 151 = .ok (.if_icmp .ge 7, 3) := dk_162 0 7 (dk_at dksX7_next_6 12 rfl rfl)
theorem dX7_next_154 : decode cX7_next 154 = .ok (.iconst 2, 1) := dk_5 (dk_at dksX7_next_6 15 rfl rfl)
theorem dX7_next_155 : decode cX7_next 155 = .ok (.goto 21, 3) := dk_167 0 21 (dk_at dksX7_next_6 16 rfl rfl)
theorem dX7_next_158 : decode cX7_next 158 = .ok (.iload 4, 2) := dk_21 4 (dk_at dksX7_next_6 19 rfl rfl)
theorem dX7_next_160 : decode cX7_next 160 = .ok (.bipush 12, 2) := dk_16 12 (dk_at dksX7_next_6 21 rfl rfl)
theorem dX7_next_162 : decode cX7_next 162 = .ok (.if_icmp .ne 7, 3) := dk_160 0 7 (dk_at dksX7_next_7 0 rfl rfl)
theorem dX7_next_165 : decode cX7_next 165 = .ok (.iconst (-1), 1) := dk_2 (dk_at dksX7_next_7 3 rfl rfl)
theorem dX7_next_166 : decode cX7_next 166 = .ok (.goto 10, 3) := dk_167 0 10 (dk_at dksX7_next_7 4 rfl rfl)
theorem dX7_next_169 : decode cX7_next 169 = .ok (.iconst 4, 1) := dk_7 (dk_at dksX7_next_7 7 rfl rfl)
theorem dX7_next_170 : decode cX7_next 170 = .ok (.iload 4, 2) := dk_21 4 (dk_at dksX7_next_7 8 rfl rfl)
theorem dX7_next_172 : decode cX7_next 172 = .ok (.iadd, 1) := dk_96 (dk_at dksX7_next_7 10 rfl rfl)
theorem dX7_next_173 : decode cX7_next 173 = .ok (.bipush 9, 2) := dk_16 9 (dk_at dksX7_next_7 11 rfl rfl)
theorem dX7_next_175 : decode cX7_next 175 = .ok (.isub, 1) := dk_100 (dk_at dksX7_next_7 13 rfl rfl)
theorem dX7_next_176 : decode cX7_next 176 = .ok (.putfield 217, 3) := dk_181 0 217 (dk_at dksX7_next_7 14 rfl rfl)
theorem dX7_next_179 : decode cX7_next 179 = .ok (.aload_n 0, 1) := dk_42 (dk_at dksX7_next_7 17 rfl rfl)
theorem dX7_next_180 : decode cX7_next 180 = .ok (.iload 4, 2) := dk_21 4 (dk_at dksX7_next_7 18 rfl rfl)
theorem dX7_next_182 : decode cX7_next 182 = .ok (.iconst 3, 1) := dk_6 (dk_at dksX7_next_7 20 rfl rfl)
theorem dX7_next_183 : decode cX7_next 183 = .ok (.if_icmp .ge 8, 3) := dk_162 0 8 (dk_at dksX7_next_7 21 rfl rfl)
theorem dX7_next_186 : decode cX7_next 186 = .ok (.iload 4, 2) := dk_21 4 (dk_at dksX7_next_8 0 rfl rfl)
theorem dX7_next_188 : decode cX7_next 188 = .ok (.goto 7, 3) := dk_167 0 7 (dk_at dksX7_next_8 2 rfl rfl)
theorem dX7_next_191 : decode cX7_next 191 = .ok (.iload 4, 2) := dk_21 4 (dk_at dksX7_next_8 5 rfl rfl)
theorem dX7_next_193 : decode cX7_next 193 = .ok (.iconst 3, 1) := dk_6 (dk_at dksX7_next_8 7 rfl rfl)
theorem dX7_next_194 : decode cX7_next 194 = .ok (.isub, 1) := dk_100 (dk_at dksX7_next_8 8 rfl rfl)
theorem dX7_next_195 : decode cX7_next 195 = .ok (.putfield 220, 3) := dk_181 0 220 (dk_at dksX7_next_8 9 rfl rfl)
theorem dX7_next_198 : decode cX7_next 198 = .ok (.goto 189, 3) := dk_167 0 189 (dk_at dksX7_next_8 12 rfl rfl)
theorem dX7_next_201 : decode cX7_next 201 = .ok (.iload_n 1, 1) := dk_27 (dk_at dksX7_next_8 15 rfl rfl)
theorem dX7_next_202 : decode cX7_next 202 = .ok (.bipush 48, 2) := dk_16 48 (dk_at dksX7_next_8 16 rfl rfl)
theorem dX7_next_204 : decode cX7_next 204 = .ok (.bipush 57, 2) := dk_16 57 (dk_at dksX7_next_8 18 rfl rfl)
theorem dX7_next_206 : decode cX7_next 206 = .ok (.invokestatic 159, 3) := dk_184 0 159 (dk_at dksX7_next_8 20 rfl rfl)
theorem dX7_next_209 : decode cX7_next 209 = .ok (.ifCond .eq 101, 3) := dk_153 0 101 (dk_at dksX7_next_9 0 rfl rfl)
theorem dX7_next_212 : decode cX7_next 212 = .ok (.iconst 0, 1) := dk_3 (dk_at dksX7_next_9 3 rfl rfl)
theorem dX7_next_213 : decode cX7_next 213 = .ok (.istore_n 2, 1) := dk_61 (dk_at dksX7_next_9 4 rfl rfl)
theorem dX7_next_214 : decode cX7_next 214 = .ok (.aload_n 0, 1) := dk_42 (dk_at dksX7_next_9 5 rfl rfl)
theorem dX7_next_215 : decode cX7_next 215 = .ok (.getfield 211, 3) := dk_180 0 211 (dk_at dksX7_next_9 6 rfl rfl)
theorem dX7_next_218 : decode cX7_next 218 = .ok (.aload_n 0, 1) := dk_42 (dk_at dksX7_next_9 9 rfl rfl)
theorem dX7_next_219 : decode cX7_next 219 = .ok (.getfield 206, 3) := dk_180 0 206 (dk_at dksX7_next_9 10 rfl rfl)
theorem dX7_next_222 : decode cX7_next 222 = .ok (.if_icmp .ge 71, 3) := dk_162 0 71 (dk_at dksX7_next_9 13 rfl rfl)
theorem dX7_next_225 : decode cX7_next 225 = .ok (.aload_n 0, 1) := dk_42 (dk_at dksX7_next_9 16 rfl rfl)
theorem dX7_next_226 : decode cX7_next 226 = .ok (.getfield 52, 3) := dk_180 0 52 (dk_at dksX7_next_9 17 rfl rfl)
theorem dX7_next_229 : decode cX7_next 229 = .ok (.aload_n 0, 1) := dk_42 (dk_at dksX7_next_9 20 rfl rfl)
theorem dX7_next_230 : decode cX7_next 230 = .ok (.getfield 211, 3) := dk_180 0 211 (dk_at dksX7_next_9 21 rfl rfl)
theorem dX7_next_233 : decode cX7_next 233 = .ok (.iaload, 1) := dk_46 (dk_at dksX7_next_10 0 rfl rfl)
theorem dX7_next_234 : decode cX7_next 234 = .ok (.bipush 48, 2) := dk_16 48 (dk_at dksX7_next_10 1 rfl rfl)
theorem dX7_next_236 : decode cX7_next 236 = .ok (.bipush 57, 2) := dk_16 57 (dk_at dksX7_next_10 3 rfl rfl)
theorem dX7_next_238 : decode cX7_next 238 = .ok (.invokestatic 159, 3) := dk_184 0 159 (dk_at dksX7_next_10 5 rfl rfl)
theorem dX7_next_241 : decode cX7_next 241 = .ok (.ifCond .eq 52, 3) := dk_153 0 52 (dk_at dksX7_next_10 8 rfl rfl)
theorem dX7_next_244 : decode cX7_next 244 = .ok (.aload_n 0, 1) := dk_42 (dk_at dksX7_next_10 11 rfl rfl)
theorem dX7_next_245 : decode cX7_next 245 = .ok (.iload_n 2, 1) := dk_28 (dk_at dksX7_next_10 12 rfl rfl)
theorem dX7_next_246 : decode cX7_next 246 = .ok (.iconst 4, 1) := dk_7 (dk_at dksX7_next_10 13 rfl rfl)
theorem dX7_next_247 : decode cX7_next 247 = .ok (.if_icmp .ge 26, 3) := dk_162 0 26 (dk_at dksX7_next_10 14 rfl rfl)
theorem dX7_next_250 : decode cX7_next 250 = .ok (.bipush 10, 2) := dk_16 10 (dk_at dksX7_next_10 17 rfl rfl)
theorem dX7_next_252 : decode cX7_next 252 = .ok (.aload_n 0, 1) := dk_42 (dk_at dksX7_next_10 19 rfl rfl)
theorem dX7_next_253 : decode cX7_next 253 = .ok (.getfield 220, 3) := dk_180 0 220 (dk_at dksX7_next_10 20 rfl rfl)
theorem dX7_next_256 : decode cX7_next 256 = .ok (.imul, 1) := dk_104 (dk_at dksX7_next_10 23 rfl rfl)
theorem dX7_next_257 : decode cX7_next 257 = .ok (.aload_n 0, 1) := dk_42 (dk_at dksX7_next_11 0 rfl rfl)
theorem dX7_next_258 : decode cX7_next 258 = .ok (.getfield 52, 3) := dk_180 0 52 (dk_at dksX7_next_11 1 rfl rfl)
theorem dX7_next_261 : decode cX7_next 261 = .ok (.aload_n 0, 1) := dk_42 (dk_at dksX7_next_11 4 rfl rfl)
theorem dX7_next_262 : decode cX7_next 262 = .ok (.getfield 211, 3) := dk_180 0 211 (dk_at dksX7_next_11 5 rfl rfl)
theorem dX7_next_265 : decode cX7_next 265 = .ok (.iaload, 1) := dk_46 (dk_at dksX7_next_11 8 rfl rfl)
theorem dX7_next_266 : decode cX7_next 266 = .ok (.iadd, 1) := dk_96 (dk_at dksX7_next_11 9 rfl rfl)
theorem dX7_next_267 : decode cX7_next 267 = .ok (.bipush 48, 2) := dk_16 48 (dk_at dksX7_next_11 10 rfl rfl)
theorem dX7_next_269 : decode cX7_next 269 = .ok (.isub, 1) := dk_100 (dk_at dksX7_next_11 12 rfl rfl)
theorem dX7_next_270 : decode cX7_next 270 = .ok (.goto 4, 3) := dk_167 0 4 (dk_at dksX7_next_11 13 rfl rfl)
theorem dX7_next_273 : decode cX7_next 273 = .ok (.iconst 0, 1) := dk_3 (dk_at dksX7_next_11 16 rfl rfl)
theorem dX7_next_274 : decode cX7_next 274 = .ok (.putfield 220, 3) := dk_181 0 220 (dk_at dksX7_next_11 17 rfl rfl)
theorem dX7_next_277 : decode cX7_next 277 = .ok (.iinc 2 1, 3) := dk_132 2 1 (dk_at dksX7_next_11 20 rfl rfl)
theorem dX7_next_280 : decode cX7_next 280 = .ok (.aload_n 0, 1) := dk_42 (dk_at dksX7_next_11 23 rfl rfl)
theorem dX7_next_281 : decode cX7_next 281 = .ok (.dup, 1) := dk_89 (dk_at dksX7_next_12 0 rfl rfl)
theorem dX7_next_282 : decode cX7_next 282 = .ok (.getfield 211, 3) := dk_180 0 211 (dk_at dksX7_next_12 1 rfl rfl)
theorem dX7_next_285 : decode cX7_next 285 = .ok (.iconst 1, 1) := dk_4 (dk_at dksX7_next_12 4 rfl rfl)
theorem dX7_next_286 : decode cX7_next 286 = .ok (.iadd, 1) := dk_96 (dk_at dksX7_next_12 5 rfl rfl)
theorem dX7_next_287 : decode cX7_next 287 = .ok (.putfield 211, 3) := dk_181 0 211 (dk_at dksX7_next_12 6 rfl rfl)
theorem dX7_next_290 : decode cX7_next 290 = .ok (.goto (-76), 3) := dk_167 255 180 (dk_at dksX7_next_12 9 rfl rfl)
theorem dX7_next_293 : decode cX7_next 293 = .ok (.aload_n 0, 1) := dk_42 (dk_at dksX7_next_12 12 rfl rfl)
theorem dX7_next_294 : decode cX7_next 294 = .ok (.iload_n 2, 1) := dk_28 (dk_at dksX7_next_12 13 rfl rfl)
theorem dX7_next_295 : decode cX7_next 295 = .ok (.iconst 4, 1) := dk_7 (dk_at dksX7_next_12 14 rfl rfl)
theorem dX7_next_296 : decode cX7_next 296 = .ok (.if_icmp .le 7, 3) := dk_164 0 7 (dk_at dksX7_next_12 15 rfl rfl)
theorem dX7_next_299 : decode cX7_next 299 = .ok (.iconst (-1), 1) := dk_2 (dk_at dksX7_next_12 18 rfl rfl)
theorem dX7_next_300 : decode cX7_next 300 = .ok (.goto 4, 3) := dk_167 0 4 (dk_at dksX7_next_12 19 rfl rfl)
theorem dX7_next_303 : decode cX7_next 303 = .ok (.iconst 1, 1) := dk_4 (dk_at dksX7_next_12 22 rfl rfl)
theorem dX7_next_304 : decode cX7_next 304 = .ok (.putfield 217, 3) := dk_181 0 217 (dk_at dksX7_next_13 0 rfl rfl)
theorem dX7_next_307 : decode cX7_next 307 = .ok (.goto 80, 3) := dk_167 0 80 (dk_at dksX7_next_13 3 rfl rfl)
theorem dX7_next_310 : decode cX7_next 310 = .ok (.iload_n 1, 1) := dk_27 (dk_at dksX7_next_13 6 rfl rfl)
theorem dX7_next_311 : decode cX7_next 311 = .ok (.bipush 40, 2) := dk_16 40 (dk_at dksX7_next_13 7 rfl rfl)
theorem dX7_next_313 : decode cX7_next 313 = .ok (.if_icmp .eq 45, 3) := dk_159 0 45 (dk_at dksX7_next_13 9 rfl rfl)
theorem dX7_next_316 : decode cX7_next 316 = .ok (.iload_n 1, 1) := dk_27 (dk_at dksX7_next_13 12 rfl rfl)
theorem dX7_next_317 : decode cX7_next 317 = .ok (.bipush 41, 2) := dk_16 41 (dk_at dksX7_next_13 13 rfl rfl)
theorem dX7_next_319 : decode cX7_next 319 = .ok (.if_icmp .eq 39, 3) := dk_159 0 39 (dk_at dksX7_next_13 15 rfl rfl)
theorem dX7_next_322 : decode cX7_next 322 = .ok (.iload_n 1, 1) := dk_27 (dk_at dksX7_next_13 18 rfl rfl)
theorem dX7_next_323 : decode cX7_next 323 = .ok (.bipush 59, 2) := dk_16 59 (dk_at dksX7_next_13 19 rfl rfl)
theorem dX7_next_325 : decode cX7_next 325 = .ok (.if_icmp .eq 33, 3) := dk_159 0 33 (dk_at dksX7_next_13 21 rfl rfl)
theorem dX7_next_328 : decode cX7_next 328 = .ok (.iload_n 1, 1) := dk_27 (dk_at dksX7_next_14 0 rfl rfl)
theorem dX7_next_329 : decode cX7_next 329 = .ok (.bipush 43, 2) := dk_16 43 (dk_at dksX7_next_14 1 rfl rfl)
theorem dX7_next_331 : decode cX7_next 331 = .ok (.if_icmp .eq 27, 3) := dk_159 0 27 (dk_at dksX7_next_14 3 rfl rfl)
theorem dX7_next_334 : decode cX7_next 334 = .ok (.iload_n 1, 1) := dk_27 (dk_at dksX7_next_14 6 rfl rfl)
theorem dX7_next_335 : decode cX7_next 335 = .ok (.bipush 45, 2) := dk_16 45 (dk_at dksX7_next_14 7 rfl rfl)
theorem dX7_next_337 : decode cX7_next 337 = .ok (.if_icmp .eq 21, 3) := dk_159 0 21 (dk_at dksX7_next_14 9 rfl rfl)
theorem dX7_next_340 : decode cX7_next 340 = .ok (.iload_n 1, 1) := dk_27 (dk_at dksX7_next_14 12 rfl rfl)
theorem dX7_next_341 : decode cX7_next 341 = .ok (.bipush 42, 2) := dk_16 42 (dk_at dksX7_next_14 13 rfl rfl)
theorem dX7_next_343 : decode cX7_next 343 = .ok (.if_icmp .eq 15, 3) := dk_159 0 15 (dk_at dksX7_next_14 15 rfl rfl)
theorem dX7_next_346 : decode cX7_next 346 = .ok (.iload_n 1, 1) := dk_27 (dk_at dksX7_next_14 18 rfl rfl)
theorem dX7_next_347 : decode cX7_next 347 = .ok (.bipush 60, 2) := dk_16 60 (dk_at dksX7_next_14 19 rfl rfl)
theorem dX7_next_349 : decode cX7_next 349 = .ok (.if_icmp .eq 9, 3) := dk_159 0 9 (dk_at dksX7_next_14 21 rfl rfl)
theorem dX7_next_352 : decode cX7_next 352 = .ok (.iload_n 1, 1) := dk_27 (dk_at dksX7_next_15 0 rfl rfl)
theorem dX7_next_353 : decode cX7_next 353 = .ok (.bipush 61, 2) := dk_16 61 (dk_at dksX7_next_15 1 rfl rfl)
theorem dX7_next_355 : decode cX7_next 355 = .ok (.if_icmp .ne 7, 3) := dk_160 0 7 (dk_at dksX7_next_15 3 rfl rfl)
theorem dX7_next_358 : decode cX7_next 358 = .ok (.iconst 1, 1) := dk_4 (dk_at dksX7_next_15 6 rfl rfl)
theorem dX7_next_359 : decode cX7_next 359 = .ok (.goto 4, 3) := dk_167 0 4 (dk_at dksX7_next_15 7 rfl rfl)
theorem dX7_next_362 : decode cX7_next 362 = .ok (.iconst 0, 1) := dk_3 (dk_at dksX7_next_15 10 rfl rfl)
theorem dX7_next_363 : decode cX7_next 363 = .ok (.istore_n 2, 1) := dk_61 (dk_at dksX7_next_15 11 rfl rfl)
theorem dX7_next_364 : decode cX7_next 364 = .ok (.aload_n 0, 1) := dk_42 (dk_at dksX7_next_15 12 rfl rfl)
theorem dX7_next_365 : decode cX7_next 365 = .ok (.iload_n 2, 1) := dk_28 (dk_at dksX7_next_15 13 rfl rfl)
theorem dX7_next_366 : decode cX7_next 366 = .ok (.ifCond .eq 7, 3) := dk_153 0 7 (dk_at dksX7_next_15 14 rfl rfl)
theorem dX7_next_369 : decode cX7_next 369 = .ok (.iload_n 1, 1) := dk_27 (dk_at dksX7_next_15 17 rfl rfl)
theorem dX7_next_370 : decode cX7_next 370 = .ok (.goto 4, 3) := dk_167 0 4 (dk_at dksX7_next_15 18 rfl rfl)
theorem dX7_next_373 : decode cX7_next 373 = .ok (.iconst (-1), 1) := dk_2 (dk_at dksX7_next_15 21 rfl rfl)
theorem dX7_next_374 : decode cX7_next 374 = .ok (.putfield 217, 3) := dk_181 0 217 (dk_at dksX7_next_16 0 rfl rfl)
theorem dX7_next_377 : decode cX7_next 377 = .ok (.aload_n 0, 1) := dk_42 (dk_at dksX7_next_16 3 rfl rfl)
theorem dX7_next_378 : decode cX7_next 378 = .ok (.dup, 1) := dk_89 (dk_at dksX7_next_16 4 rfl rfl)
theorem dX7_next_379 : decode cX7_next 379 = .ok (.getfield 211, 3) := dk_180 0 211 (dk_at dksX7_next_16 5 rfl rfl)
theorem dX7_next_382 : decode cX7_next 382 = .ok (.iconst 1, 1) := dk_4 (dk_at dksX7_next_16 8 rfl rfl)
theorem dX7_next_383 : decode cX7_next 383 = .ok (.iadd, 1) := dk_96 (dk_at dksX7_next_16 9 rfl rfl)
theorem dX7_next_384 : decode cX7_next 384 = .ok (.putfield 211, 3) := dk_181 0 211 (dk_at dksX7_next_16 10 rfl rfl)
theorem dX7_next_387 : decode cX7_next 387 = .ok (.return_, 1) := dk_177 (dk_at dksX7_next_16 13 rfl rfl)
abbrev cX7_letters : ByteArray := prog_19_method_24_code
def yX7_letters : MethodName := ⟨RX7, "letters", "()J"⟩
def dkwX7_letters_3 : List UInt8 := [181, 0, 211, 167, 255, 187, 29, 8, 164, 0, 7, 9, 167, 0, 4, 31, 173]
abbrev dktX7_letters_3 : List UInt8 := dkwX7_letters_3 ++ []
def dkwX7_letters_2 : List UInt8 := [42, 180, 0, 211, 46, 133, 129, 167, 0, 4, 31, 64, 132, 3, 1, 42, 89, 180, 0, 211, 4, 96]
abbrev dktX7_letters_2 : List UInt8 := dkwX7_letters_2 ++ dktX7_letters_3
def dkwX7_letters_1 : List UInt8 := [16, 97, 16, 122, 184, 0, 159, 153, 0, 45, 29, 16, 8, 162, 0, 21, 31, 16, 8, 121, 42, 180, 0, 52]
abbrev dktX7_letters_1 : List UInt8 := dkwX7_letters_1 ++ dktX7_letters_2
def dkwX7_letters_0 : List UInt8 := [9, 64, 3, 62, 42, 180, 0, 211, 42, 180, 0, 206, 162, 0, 64, 42, 180, 0, 52, 42, 180, 0, 211, 46]
abbrev dktX7_letters_0 : List UInt8 := dkwX7_letters_0 ++ dktX7_letters_1
theorem dksX7_letters_0 : cX7_letters.data.toList.drop 0 = dktX7_letters_0 := by decide +kernel
theorem dksX7_letters_1 : cX7_letters.data.toList.drop 24 = dktX7_letters_1 := dk_seg dksX7_letters_0 24 rfl rfl
theorem dksX7_letters_2 : cX7_letters.data.toList.drop 48 = dktX7_letters_2 := dk_seg dksX7_letters_1 24 rfl rfl
theorem dksX7_letters_3 : cX7_letters.data.toList.drop 70 = dktX7_letters_3 := dk_seg dksX7_letters_2 22 rfl rfl
theorem dX7_letters_0 : decode cX7_letters 0 = .ok (.lconst 0, 1) := dk_9 (dk_at dksX7_letters_0 0 rfl rfl)
theorem dX7_letters_1 : decode cX7_letters 1 = .ok (.lstore_n 1, 1) := dk_64 (dk_at dksX7_letters_0 1 rfl rfl)
theorem dX7_letters_2 : decode cX7_letters 2 = .ok (.iconst 0, 1) := dk_3 (dk_at dksX7_letters_0 2 rfl rfl)
theorem dX7_letters_3 : decode cX7_letters 3 = .ok (.istore_n 3, 1) := dk_62 (dk_at dksX7_letters_0 3 rfl rfl)
theorem dX7_letters_4 : decode cX7_letters 4 = .ok (.aload_n 0, 1) := dk_42 (dk_at dksX7_letters_0 4 rfl rfl)
theorem dX7_letters_5 : decode cX7_letters 5 = .ok (.getfield 211, 3) := dk_180 0 211 (dk_at dksX7_letters_0 5 rfl rfl)
theorem dX7_letters_8 : decode cX7_letters 8 = .ok (.aload_n 0, 1) := dk_42 (dk_at dksX7_letters_0 8 rfl rfl)
theorem dX7_letters_9 : decode cX7_letters 9 = .ok (.getfield 206, 3) := dk_180 0 206 (dk_at dksX7_letters_0 9 rfl rfl)
theorem dX7_letters_12 : decode cX7_letters 12 = .ok (.if_icmp .ge 64, 3) := dk_162 0 64 (dk_at dksX7_letters_0 12 rfl rfl)
theorem dX7_letters_15 : decode cX7_letters 15 = .ok (.aload_n 0, 1) := dk_42 (dk_at dksX7_letters_0 15 rfl rfl)
theorem dX7_letters_16 : decode cX7_letters 16 = .ok (.getfield 52, 3) := dk_180 0 52 (dk_at dksX7_letters_0 16 rfl rfl)
theorem dX7_letters_19 : decode cX7_letters 19 = .ok (.aload_n 0, 1) := dk_42 (dk_at dksX7_letters_0 19 rfl rfl)
theorem dX7_letters_20 : decode cX7_letters 20 = .ok (.getfield 211, 3) := dk_180 0 211 (dk_at dksX7_letters_0 20 rfl rfl)
theorem dX7_letters_23 : decode cX7_letters 23 = .ok (.iaload, 1) := dk_46 (dk_at dksX7_letters_0 23 rfl rfl)
theorem dX7_letters_24 : decode cX7_letters 24 = .ok (.bipush 97, 2) := dk_16 97 (dk_at dksX7_letters_1 0 rfl rfl)
theorem dX7_letters_26 : decode cX7_letters 26 = .ok (.bipush 122, 2) := dk_16 122 (dk_at dksX7_letters_1 2 rfl rfl)
theorem dX7_letters_28 : decode cX7_letters 28 = .ok (.invokestatic 159, 3) := dk_184 0 159 (dk_at dksX7_letters_1 4 rfl rfl)
theorem dX7_letters_31 : decode cX7_letters 31 = .ok (.ifCond .eq 45, 3) := dk_153 0 45 (dk_at dksX7_letters_1 7 rfl rfl)
theorem dX7_letters_34 : decode cX7_letters 34 = .ok (.iload_n 3, 1) := dk_29 (dk_at dksX7_letters_1 10 rfl rfl)
theorem dX7_letters_35 : decode cX7_letters 35 = .ok (.bipush 8, 2) := dk_16 8 (dk_at dksX7_letters_1 11 rfl rfl)
theorem dX7_letters_37 : decode cX7_letters 37 = .ok (.if_icmp .ge 21, 3) := dk_162 0 21 (dk_at dksX7_letters_1 13 rfl rfl)
theorem dX7_letters_40 : decode cX7_letters 40 = .ok (.lload_n 1, 1) := dk_31 (dk_at dksX7_letters_1 16 rfl rfl)
theorem dX7_letters_41 : decode cX7_letters 41 = .ok (.bipush 8, 2) := dk_16 8 (dk_at dksX7_letters_1 17 rfl rfl)
theorem dX7_letters_43 : decode cX7_letters 43 = .ok (.lshl, 1) := dk_121 (dk_at dksX7_letters_1 19 rfl rfl)
theorem dX7_letters_44 : decode cX7_letters 44 = .ok (.aload_n 0, 1) := dk_42 (dk_at dksX7_letters_1 20 rfl rfl)
theorem dX7_letters_45 : decode cX7_letters 45 = .ok (.getfield 52, 3) := dk_180 0 52 (dk_at dksX7_letters_1 21 rfl rfl)
theorem dX7_letters_48 : decode cX7_letters 48 = .ok (.aload_n 0, 1) := dk_42 (dk_at dksX7_letters_2 0 rfl rfl)
theorem dX7_letters_49 : decode cX7_letters 49 = .ok (.getfield 211, 3) := dk_180 0 211 (dk_at dksX7_letters_2 1 rfl rfl)
theorem dX7_letters_52 : decode cX7_letters 52 = .ok (.iaload, 1) := dk_46 (dk_at dksX7_letters_2 4 rfl rfl)
theorem dX7_letters_53 : decode cX7_letters 53 = .ok (.i2l, 1) := dk_133 (dk_at dksX7_letters_2 5 rfl rfl)
theorem dX7_letters_54 : decode cX7_letters 54 = .ok (.lor, 1) := dk_129 (dk_at dksX7_letters_2 6 rfl rfl)
theorem dX7_letters_55 : decode cX7_letters 55 = .ok (.goto 4, 3) := dk_167 0 4 (dk_at dksX7_letters_2 7 rfl rfl)
theorem dX7_letters_58 : decode cX7_letters 58 = .ok (.lload_n 1, 1) := dk_31 (dk_at dksX7_letters_2 10 rfl rfl)
theorem dX7_letters_59 : decode cX7_letters 59 = .ok (.lstore_n 1, 1) := dk_64 (dk_at dksX7_letters_2 11 rfl rfl)
theorem dX7_letters_60 : decode cX7_letters 60 = .ok (.iinc 3 1, 3) := dk_132 3 1 (dk_at dksX7_letters_2 12 rfl rfl)
theorem dX7_letters_63 : decode cX7_letters 63 = .ok (.aload_n 0, 1) := dk_42 (dk_at dksX7_letters_2 15 rfl rfl)
theorem dX7_letters_64 : decode cX7_letters 64 = .ok (.dup, 1) := dk_89 (dk_at dksX7_letters_2 16 rfl rfl)
theorem dX7_letters_65 : decode cX7_letters 65 = .ok (.getfield 211, 3) := dk_180 0 211 (dk_at dksX7_letters_2 17 rfl rfl)
theorem dX7_letters_68 : decode cX7_letters 68 = .ok (.iconst 1, 1) := dk_4 (dk_at dksX7_letters_2 20 rfl rfl)
theorem dX7_letters_69 : decode cX7_letters 69 = .ok (.iadd, 1) := dk_96 (dk_at dksX7_letters_2 21 rfl rfl)
theorem dX7_letters_70 : decode cX7_letters 70 = .ok (.putfield 211, 3) := dk_181 0 211 (dk_at dksX7_letters_3 0 rfl rfl)
theorem dX7_letters_73 : decode cX7_letters 73 = .ok (.goto (-69), 3) := dk_167 255 187 (dk_at dksX7_letters_3 3 rfl rfl)
theorem dX7_letters_76 : decode cX7_letters 76 = .ok (.iload_n 3, 1) := dk_29 (dk_at dksX7_letters_3 6 rfl rfl)
theorem dX7_letters_77 : decode cX7_letters 77 = .ok (.iconst 5, 1) := dk_8 (dk_at dksX7_letters_3 7 rfl rfl)
theorem dX7_letters_78 : decode cX7_letters 78 = .ok (.if_icmp .le 7, 3) := dk_164 0 7 (dk_at dksX7_letters_3 8 rfl rfl)
theorem dX7_letters_81 : decode cX7_letters 81 = .ok (.lconst 0, 1) := dk_9 (dk_at dksX7_letters_3 11 rfl rfl)
theorem dX7_letters_82 : decode cX7_letters 82 = .ok (.goto 4, 3) := dk_167 0 4 (dk_at dksX7_letters_3 12 rfl rfl)
theorem dX7_letters_85 : decode cX7_letters 85 = .ok (.lload_n 1, 1) := dk_31 (dk_at dksX7_letters_3 15 rfl rfl)
theorem dX7_letters_86 : decode cX7_letters 86 = .ok (.lreturn, 1) := dk_173 (dk_at dksX7_letters_3 16 rfl rfl)
abbrev cX7_eRead : ByteArray := prog_19_method_33_code
def yX7_eRead : MethodName := ⟨RX7, "eRead", "()Z"⟩
def dkwX7_eRead_11 : List UInt8 := [167, 0, 4, 3, 61, 167, 255, 7]
abbrev dktX7_eRead_11 : List UInt8 := dkwX7_eRead_11 ++ []
def dkwX7_eRead_10 : List UInt8 := [159, 0, 11, 42, 29, 182, 1, 4, 154, 0, 5, 3, 172, 4, 60, 29, 16, 12, 163, 0, 7, 4]
abbrev dktX7_eRead_10 : List UInt8 := dkwX7_eRead_10 ++ dktX7_eRead_11
def dkwX7_eRead_9 : List UInt8 := [180, 0, 236, 4, 100, 181, 0, 236, 42, 16, 7, 182, 0, 246, 167, 255, 44, 42, 182, 1, 0, 62, 29, 2]
abbrev dktX7_eRead_9 : List UInt8 := dkwX7_eRead_9 ++ dktX7_eRead_10
def dkwX7_eRead_8 : List UInt8 := [182, 0, 246, 42, 180, 0, 230, 154, 0, 5, 3, 172, 42, 89, 180, 0, 230, 4, 100, 181, 0, 230, 42, 89]
abbrev dktX7_eRead_8 : List UInt8 := dkwX7_eRead_8 ++ dktX7_eRead_9
def dkwX7_eRead_7 : List UInt8 := [180, 0, 230, 154, 0, 7, 4, 167, 0, 4, 3, 172, 42, 180, 0, 217, 16, 41, 160, 0, 46, 42, 4]
abbrev dktX7_eRead_7 : List UInt8 := dkwX7_eRead_7 ++ dktX7_eRead_8
def dkwX7_eRead_6 : List UInt8 := [172, 4, 61, 167, 255, 125, 3, 172, 42, 180, 0, 217, 16, 59, 160, 0, 21, 42, 4, 182, 0, 246, 42]
abbrev dktX7_eRead_6 : List UInt8 := dkwX7_eRead_6 ++ dktX7_eRead_7
def dkwX7_eRead_5 : List UInt8 := [172, 3, 61, 167, 255, 149, 42, 180, 0, 217, 16, 40, 160, 0, 18, 42, 3, 182, 0, 253, 154, 0, 5, 3]
abbrev dktX7_eRead_5 : List UInt8 := dkwX7_eRead_5 ++ dktX7_eRead_6
def dkwX7_eRead_4 : List UInt8 := [154, 255, 176, 3, 172, 42, 180, 0, 217, 16, 45, 160, 0, 19, 42, 16, 19, 182, 0, 253, 154, 0, 5, 3]
abbrev dktX7_eRead_4 : List UInt8 := dkwX7_eRead_4 ++ dktX7_eRead_5
def dkwX7_eRead_3 : List UInt8 := [60, 167, 255, 198, 42, 180, 0, 217, 16, 6, 160, 0, 18, 28, 153, 0, 14, 42, 16, 13, 182, 0, 253]
abbrev dktX7_eRead_3 : List UInt8 := dkwX7_eRead_3 ++ dktX7_eRead_4
def dkwX7_eRead_2 : List UInt8 := [18, 252, 42, 180, 0, 220, 96, 167, 0, 7, 42, 180, 0, 220, 182, 0, 239, 42, 16, 7, 182, 0, 246, 3]
abbrev dktX7_eRead_2 : List UInt8 := dkwX7_eRead_2 ++ dktX7_eRead_3
def dkwX7_eRead_1 : List UInt8 := [180, 0, 217, 4, 159, 0, 11, 42, 180, 0, 217, 5, 160, 0, 40, 42, 42, 180, 0, 217, 4, 160, 0, 13]
abbrev dktX7_eRead_1 : List UInt8 := dkwX7_eRead_1 ++ dktX7_eRead_2
def dkwX7_eRead_0 : List UInt8 := [42, 3, 181, 0, 230, 42, 3, 181, 0, 236, 4, 60, 4, 61, 42, 182, 0, 249, 27, 153, 0, 131, 42]
abbrev dktX7_eRead_0 : List UInt8 := dkwX7_eRead_0 ++ dktX7_eRead_1
theorem dksX7_eRead_0 : cX7_eRead.data.toList.drop 0 = dktX7_eRead_0 := by decide +kernel
theorem dksX7_eRead_1 : cX7_eRead.data.toList.drop 23 = dktX7_eRead_1 := dk_seg dksX7_eRead_0 23 rfl rfl
theorem dksX7_eRead_2 : cX7_eRead.data.toList.drop 47 = dktX7_eRead_2 := dk_seg dksX7_eRead_1 24 rfl rfl
theorem dksX7_eRead_3 : cX7_eRead.data.toList.drop 71 = dktX7_eRead_3 := dk_seg dksX7_eRead_2 24 rfl rfl
theorem dksX7_eRead_4 : cX7_eRead.data.toList.drop 94 = dktX7_eRead_4 := dk_seg dksX7_eRead_3 23 rfl rfl
theorem dksX7_eRead_5 : cX7_eRead.data.toList.drop 118 = dktX7_eRead_5 := dk_seg dksX7_eRead_4 24 rfl rfl
theorem dksX7_eRead_6 : cX7_eRead.data.toList.drop 142 = dktX7_eRead_6 := dk_seg dksX7_eRead_5 24 rfl rfl
theorem dksX7_eRead_7 : cX7_eRead.data.toList.drop 165 = dktX7_eRead_7 := dk_seg dksX7_eRead_6 23 rfl rfl
theorem dksX7_eRead_8 : cX7_eRead.data.toList.drop 188 = dktX7_eRead_8 := dk_seg dksX7_eRead_7 23 rfl rfl
theorem dksX7_eRead_9 : cX7_eRead.data.toList.drop 212 = dktX7_eRead_9 := dk_seg dksX7_eRead_8 24 rfl rfl
theorem dksX7_eRead_10 : cX7_eRead.data.toList.drop 236 = dktX7_eRead_10 := dk_seg dksX7_eRead_9 24 rfl rfl
theorem dksX7_eRead_11 : cX7_eRead.data.toList.drop 258 = dktX7_eRead_11 := dk_seg dksX7_eRead_10 22 rfl rfl
theorem dX7_eRead_0 : decode cX7_eRead 0 = .ok (.aload_n 0, 1) := dk_42 (dk_at dksX7_eRead_0 0 rfl rfl)
theorem dX7_eRead_1 : decode cX7_eRead 1 = .ok (.iconst 0, 1) := dk_3 (dk_at dksX7_eRead_0 1 rfl rfl)
theorem dX7_eRead_2 : decode cX7_eRead 2 = .ok (.putfield 230, 3) := dk_181 0 230 (dk_at dksX7_eRead_0 2 rfl rfl)
theorem dX7_eRead_5 : decode cX7_eRead 5 = .ok (.aload_n 0, 1) := dk_42 (dk_at dksX7_eRead_0 5 rfl rfl)
theorem dX7_eRead_6 : decode cX7_eRead 6 = .ok (.iconst 0, 1) := dk_3 (dk_at dksX7_eRead_0 6 rfl rfl)
theorem dX7_eRead_7 : decode cX7_eRead 7 = .ok (.putfield 236, 3) := dk_181 0 236 (dk_at dksX7_eRead_0 7 rfl rfl)
theorem dX7_eRead_10 : decode cX7_eRead 10 = .ok (.iconst 1, 1) := dk_4 (dk_at dksX7_eRead_0 10 rfl rfl)
theorem dX7_eRead_11 : decode cX7_eRead 11 = .ok (.istore_n 1, 1) := dk_60 (dk_at dksX7_eRead_0 11 rfl rfl)
theorem dX7_eRead_12 : decode cX7_eRead 12 = .ok (.iconst 1, 1) := dk_4 (dk_at dksX7_eRead_0 12 rfl rfl)
theorem dX7_eRead_13 : decode cX7_eRead 13 = .ok (.istore_n 2, 1) := dk_61 (dk_at dksX7_eRead_0 13 rfl rfl)
theorem dX7_eRead_14 : decode cX7_eRead 14 = .ok (.aload_n 0, 1) := dk_42 (dk_at dksX7_eRead_0 14 rfl rfl)
theorem dX7_eRead_15 : decode cX7_eRead 15 = .ok (.invokevirtual 249, 3) := dk_182 0 249 (dk_at dksX7_eRead_0 15 rfl rfl)
theorem dX7_eRead_18 : decode cX7_eRead 18 = .ok (.iload_n 1, 1) := dk_27 (dk_at dksX7_eRead_0 18 rfl rfl)
theorem dX7_eRead_19 : decode cX7_eRead 19 = .ok (.ifCond .eq 131, 3) := dk_153 0 131 (dk_at dksX7_eRead_0 19 rfl rfl)
theorem dX7_eRead_22 : decode cX7_eRead 22 = .ok (.aload_n 0, 1) := dk_42 (dk_at dksX7_eRead_0 22 rfl rfl)
theorem dX7_eRead_23 : decode cX7_eRead 23 = .ok (.getfield 217, 3) := dk_180 0 217 (dk_at dksX7_eRead_1 0 rfl rfl)
theorem dX7_eRead_26 : decode cX7_eRead 26 = .ok (.iconst 1, 1) := dk_4 (dk_at dksX7_eRead_1 3 rfl rfl)
theorem dX7_eRead_27 : decode cX7_eRead 27 = .ok (.if_icmp .eq 11, 3) := dk_159 0 11 (dk_at dksX7_eRead_1 4 rfl rfl)
theorem dX7_eRead_30 : decode cX7_eRead 30 = .ok (.aload_n 0, 1) := dk_42 (dk_at dksX7_eRead_1 7 rfl rfl)
theorem dX7_eRead_31 : decode cX7_eRead 31 = .ok (.getfield 217, 3) := dk_180 0 217 (dk_at dksX7_eRead_1 8 rfl rfl)
theorem dX7_eRead_34 : decode cX7_eRead 34 = .ok (.iconst 2, 1) := dk_5 (dk_at dksX7_eRead_1 11 rfl rfl)
theorem dX7_eRead_35 : decode cX7_eRead 35 = .ok (.if_icmp .ne 40, 3) := dk_160 0 40 (dk_at dksX7_eRead_1 12 rfl rfl)
theorem dX7_eRead_38 : decode cX7_eRead 38 = .ok (.aload_n 0, 1) := dk_42 (dk_at dksX7_eRead_1 15 rfl rfl)
theorem dX7_eRead_39 : decode cX7_eRead 39 = .ok (.aload_n 0, 1) := dk_42 (dk_at dksX7_eRead_1 16 rfl rfl)
theorem dX7_eRead_40 : decode cX7_eRead 40 = .ok (.getfield 217, 3) := dk_180 0 217 (dk_at dksX7_eRead_1 17 rfl rfl)
theorem dX7_eRead_43 : decode cX7_eRead 43 = .ok (.iconst 1, 1) := dk_4 (dk_at dksX7_eRead_1 20 rfl rfl)
theorem dX7_eRead_44 : decode cX7_eRead 44 = .ok (.if_icmp .ne 13, 3) := dk_160 0 13 (dk_at dksX7_eRead_1 21 rfl rfl)
theorem dX7_eRead_47 : decode cX7_eRead 47 = .ok (.ldc 252, 2) := dk_18 252 (dk_at dksX7_eRead_2 0 rfl rfl)
theorem dX7_eRead_49 : decode cX7_eRead 49 = .ok (.aload_n 0, 1) := dk_42 (dk_at dksX7_eRead_2 2 rfl rfl)
theorem dX7_eRead_50 : decode cX7_eRead 50 = .ok (.getfield 220, 3) := dk_180 0 220 (dk_at dksX7_eRead_2 3 rfl rfl)
theorem dX7_eRead_53 : decode cX7_eRead 53 = .ok (.iadd, 1) := dk_96 (dk_at dksX7_eRead_2 6 rfl rfl)
theorem dX7_eRead_54 : decode cX7_eRead 54 = .ok (.goto 7, 3) := dk_167 0 7 (dk_at dksX7_eRead_2 7 rfl rfl)
theorem dX7_eRead_57 : decode cX7_eRead 57 = .ok (.aload_n 0, 1) := dk_42 (dk_at dksX7_eRead_2 10 rfl rfl)
theorem dX7_eRead_58 : decode cX7_eRead 58 = .ok (.getfield 220, 3) := dk_180 0 220 (dk_at dksX7_eRead_2 11 rfl rfl)
theorem dX7_eRead_61 : decode cX7_eRead 61 = .ok (.invokevirtual 239, 3) := dk_182 0 239 (dk_at dksX7_eRead_2 14 rfl rfl)
theorem dX7_eRead_64 : decode cX7_eRead 64 = .ok (.aload_n 0, 1) := dk_42 (dk_at dksX7_eRead_2 17 rfl rfl)
theorem dX7_eRead_65 : decode cX7_eRead 65 = .ok (.bipush 7, 2) := dk_16 7 (dk_at dksX7_eRead_2 18 rfl rfl)
theorem dX7_eRead_67 : decode cX7_eRead 67 = .ok (.invokevirtual 246, 3) := dk_182 0 246 (dk_at dksX7_eRead_2 20 rfl rfl)
theorem dX7_eRead_70 : decode cX7_eRead 70 = .ok (.iconst 0, 1) := dk_3 (dk_at dksX7_eRead_2 23 rfl rfl)
theorem dX7_eRead_71 : decode cX7_eRead 71 = .ok (.istore_n 1, 1) := dk_60 (dk_at dksX7_eRead_3 0 rfl rfl)
theorem dX7_eRead_72 : decode cX7_eRead 72 = .ok (.goto (-58), 3) := dk_167 255 198 (dk_at dksX7_eRead_3 1 rfl rfl)
theorem dX7_eRead_75 : decode cX7_eRead 75 = .ok (.aload_n 0, 1) := dk_42 (dk_at dksX7_eRead_3 4 rfl rfl)
theorem dX7_eRead_76 : decode cX7_eRead 76 = .ok (.getfield 217, 3) := dk_180 0 217 (dk_at dksX7_eRead_3 5 rfl rfl)
theorem dX7_eRead_79 : decode cX7_eRead 79 = .ok (.bipush 6, 2) := dk_16 6 (dk_at dksX7_eRead_3 8 rfl rfl)
theorem dX7_eRead_81 : decode cX7_eRead 81 = .ok (.if_icmp .ne 18, 3) := dk_160 0 18 (dk_at dksX7_eRead_3 10 rfl rfl)
theorem dX7_eRead_84 : decode cX7_eRead 84 = .ok (.iload_n 2, 1) := dk_28 (dk_at dksX7_eRead_3 13 rfl rfl)
theorem dX7_eRead_85 : decode cX7_eRead 85 = .ok (.ifCond .eq 14, 3) := dk_153 0 14 (dk_at dksX7_eRead_3 14 rfl rfl)
theorem dX7_eRead_88 : decode cX7_eRead 88 = .ok (.aload_n 0, 1) := dk_42 (dk_at dksX7_eRead_3 17 rfl rfl)
theorem dX7_eRead_89 : decode cX7_eRead 89 = .ok (.bipush 13, 2) := dk_16 13 (dk_at dksX7_eRead_3 18 rfl rfl)
theorem dX7_eRead_91 : decode cX7_eRead 91 = .ok (.invokevirtual 253, 3) := dk_182 0 253 (dk_at dksX7_eRead_3 20 rfl rfl)
theorem dX7_eRead_94 : decode cX7_eRead 94 = .ok (.ifCond .ne (-80), 3) := dk_154 255 176 (dk_at dksX7_eRead_4 0 rfl rfl)
theorem dX7_eRead_97 : decode cX7_eRead 97 = .ok (.iconst 0, 1) := dk_3 (dk_at dksX7_eRead_4 3 rfl rfl)
theorem dX7_eRead_98 : decode cX7_eRead 98 = .ok (.ireturn, 1) := dk_172 (dk_at dksX7_eRead_4 4 rfl rfl)
theorem dX7_eRead_99 : decode cX7_eRead 99 = .ok (.aload_n 0, 1) := dk_42 (dk_at dksX7_eRead_4 5 rfl rfl)
theorem dX7_eRead_100 : decode cX7_eRead 100 = .ok (.getfield 217, 3) := dk_180 0 217 (dk_at dksX7_eRead_4 6 rfl rfl)
theorem dX7_eRead_103 : decode cX7_eRead 103 = .ok (.bipush 45, 2) := dk_16 45 (dk_at dksX7_eRead_4 9 rfl rfl)
theorem dX7_eRead_105 : decode cX7_eRead 105 = .ok (.if_icmp .ne 19, 3) := dk_160 0 19 (dk_at dksX7_eRead_4 11 rfl rfl)
theorem dX7_eRead_108 : decode cX7_eRead 108 = .ok (.aload_n 0, 1) := dk_42 (dk_at dksX7_eRead_4 14 rfl rfl)
theorem dX7_eRead_109 : decode cX7_eRead 109 = .ok (.bipush 19, 2) := dk_16 19 (dk_at dksX7_eRead_4 15 rfl rfl)
theorem dX7_eRead_111 : decode cX7_eRead 111 = .ok (.invokevirtual 253, 3) := dk_182 0 253 (dk_at dksX7_eRead_4 17 rfl rfl)
theorem dX7_eRead_114 : decode cX7_eRead 114 = .ok (.ifCond .ne 5, 3) := dk_154 0 5 (dk_at dksX7_eRead_4 20 rfl rfl)
theorem dX7_eRead_117 : decode cX7_eRead 117 = .ok (.iconst 0, 1) := dk_3 (dk_at dksX7_eRead_4 23 rfl rfl)
theorem dX7_eRead_118 : decode cX7_eRead 118 = .ok (.ireturn, 1) := dk_172 (dk_at dksX7_eRead_5 0 rfl rfl)
theorem dX7_eRead_119 : decode cX7_eRead 119 = .ok (.iconst 0, 1) := dk_3 (dk_at dksX7_eRead_5 1 rfl rfl)
theorem dX7_eRead_120 : decode cX7_eRead 120 = .ok (.istore_n 2, 1) := dk_61 (dk_at dksX7_eRead_5 2 rfl rfl)
theorem dX7_eRead_121 : decode cX7_eRead 121 = .ok (.goto (-107), 3) := dk_167 255 149 (dk_at dksX7_eRead_5 3 rfl rfl)
theorem dX7_eRead_124 : decode cX7_eRead 124 = .ok (.aload_n 0, 1) := dk_42 (dk_at dksX7_eRead_5 6 rfl rfl)
theorem dX7_eRead_125 : decode cX7_eRead 125 = .ok (.getfield 217, 3) := dk_180 0 217 (dk_at dksX7_eRead_5 7 rfl rfl)
theorem dX7_eRead_128 : decode cX7_eRead 128 = .ok (.bipush 40, 2) := dk_16 40 (dk_at dksX7_eRead_5 10 rfl rfl)
theorem dX7_eRead_130 : decode cX7_eRead 130 = .ok (.if_icmp .ne 18, 3) := dk_160 0 18 (dk_at dksX7_eRead_5 12 rfl rfl)
theorem dX7_eRead_133 : decode cX7_eRead 133 = .ok (.aload_n 0, 1) := dk_42 (dk_at dksX7_eRead_5 15 rfl rfl)
theorem dX7_eRead_134 : decode cX7_eRead 134 = .ok (.iconst 0, 1) := dk_3 (dk_at dksX7_eRead_5 16 rfl rfl)
theorem dX7_eRead_135 : decode cX7_eRead 135 = .ok (.invokevirtual 253, 3) := dk_182 0 253 (dk_at dksX7_eRead_5 17 rfl rfl)
theorem dX7_eRead_138 : decode cX7_eRead 138 = .ok (.ifCond .ne 5, 3) := dk_154 0 5 (dk_at dksX7_eRead_5 20 rfl rfl)
theorem dX7_eRead_141 : decode cX7_eRead 141 = .ok (.iconst 0, 1) := dk_3 (dk_at dksX7_eRead_5 23 rfl rfl)
theorem dX7_eRead_142 : decode cX7_eRead 142 = .ok (.ireturn, 1) := dk_172 (dk_at dksX7_eRead_6 0 rfl rfl)
theorem dX7_eRead_143 : decode cX7_eRead 143 = .ok (.iconst 1, 1) := dk_4 (dk_at dksX7_eRead_6 1 rfl rfl)
theorem dX7_eRead_144 : decode cX7_eRead 144 = .ok (.istore_n 2, 1) := dk_61 (dk_at dksX7_eRead_6 2 rfl rfl)
theorem dX7_eRead_145 : decode cX7_eRead 145 = .ok (.goto (-131), 3) := dk_167 255 125 (dk_at dksX7_eRead_6 3 rfl rfl)
theorem dX7_eRead_148 : decode cX7_eRead 148 = .ok (.iconst 0, 1) := dk_3 (dk_at dksX7_eRead_6 6 rfl rfl)
theorem dX7_eRead_149 : decode cX7_eRead 149 = .ok (.ireturn, 1) := dk_172 (dk_at dksX7_eRead_6 7 rfl rfl)
theorem dX7_eRead_150 : decode cX7_eRead 150 = .ok (.aload_n 0, 1) := dk_42 (dk_at dksX7_eRead_6 8 rfl rfl)
theorem dX7_eRead_151 : decode cX7_eRead 151 = .ok (.getfield 217, 3) := dk_180 0 217 (dk_at dksX7_eRead_6 9 rfl rfl)
theorem dX7_eRead_154 : decode cX7_eRead 154 = .ok (.bipush 59, 2) := dk_16 59 (dk_at dksX7_eRead_6 12 rfl rfl)
theorem dX7_eRead_156 : decode cX7_eRead 156 = .ok (.if_icmp .ne 21, 3) := dk_160 0 21 (dk_at dksX7_eRead_6 14 rfl rfl)
theorem dX7_eRead_159 : decode cX7_eRead 159 = .ok (.aload_n 0, 1) := dk_42 (dk_at dksX7_eRead_6 17 rfl rfl)
theorem dX7_eRead_160 : decode cX7_eRead 160 = .ok (.iconst 1, 1) := dk_4 (dk_at dksX7_eRead_6 18 rfl rfl)
theorem dX7_eRead_161 : decode cX7_eRead 161 = .ok (.invokevirtual 246, 3) := dk_182 0 246 (dk_at dksX7_eRead_6 19 rfl rfl)
theorem dX7_eRead_164 : decode cX7_eRead 164 = .ok (.aload_n 0, 1) := dk_42 (dk_at dksX7_eRead_6 22 rfl rfl)
theorem dX7_eRead_165 : decode cX7_eRead 165 = .ok (.getfield 230, 3) := dk_180 0 230 (dk_at dksX7_eRead_7 0 rfl rfl)
theorem dX7_eRead_168 : decode cX7_eRead 168 = .ok (.ifCond .ne 7, 3) := dk_154 0 7 (dk_at dksX7_eRead_7 3 rfl rfl)
theorem dX7_eRead_171 : decode cX7_eRead 171 = .ok (.iconst 1, 1) := dk_4 (dk_at dksX7_eRead_7 6 rfl rfl)
theorem dX7_eRead_172 : decode cX7_eRead 172 = .ok (.goto 4, 3) := dk_167 0 4 (dk_at dksX7_eRead_7 7 rfl rfl)
theorem dX7_eRead_175 : decode cX7_eRead 175 = .ok (.iconst 0, 1) := dk_3 (dk_at dksX7_eRead_7 10 rfl rfl)
theorem dX7_eRead_176 : decode cX7_eRead 176 = .ok (.ireturn, 1) := dk_172 (dk_at dksX7_eRead_7 11 rfl rfl)
theorem dX7_eRead_177 : decode cX7_eRead 177 = .ok (.aload_n 0, 1) := dk_42 (dk_at dksX7_eRead_7 12 rfl rfl)
theorem dX7_eRead_178 : decode cX7_eRead 178 = .ok (.getfield 217, 3) := dk_180 0 217 (dk_at dksX7_eRead_7 13 rfl rfl)
theorem dX7_eRead_181 : decode cX7_eRead 181 = .ok (.bipush 41, 2) := dk_16 41 (dk_at dksX7_eRead_7 16 rfl rfl)
theorem dX7_eRead_183 : decode cX7_eRead 183 = .ok (.if_icmp .ne 46, 3) := dk_160 0 46 (dk_at dksX7_eRead_7 18 rfl rfl)
theorem dX7_eRead_186 : decode cX7_eRead 186 = .ok (.aload_n 0, 1) := dk_42 (dk_at dksX7_eRead_7 21 rfl rfl)
theorem dX7_eRead_187 : decode cX7_eRead 187 = .ok (.iconst 1, 1) := dk_4 (dk_at dksX7_eRead_7 22 rfl rfl)
theorem dX7_eRead_188 : decode cX7_eRead 188 = .ok (.invokevirtual 246, 3) := dk_182 0 246 (dk_at dksX7_eRead_8 0 rfl rfl)
theorem dX7_eRead_191 : decode cX7_eRead 191 = .ok (.aload_n 0, 1) := dk_42 (dk_at dksX7_eRead_8 3 rfl rfl)
theorem dX7_eRead_192 : decode cX7_eRead 192 = .ok (.getfield 230, 3) := dk_180 0 230 (dk_at dksX7_eRead_8 4 rfl rfl)
theorem dX7_eRead_195 : decode cX7_eRead 195 = .ok (.ifCond .ne 5, 3) := dk_154 0 5 (dk_at dksX7_eRead_8 7 rfl rfl)
theorem dX7_eRead_198 : decode cX7_eRead 198 = .ok (.iconst 0, 1) := dk_3 (dk_at dksX7_eRead_8 10 rfl rfl)
theorem dX7_eRead_199 : decode cX7_eRead 199 = .ok (.ireturn, 1) := dk_172 (dk_at dksX7_eRead_8 11 rfl rfl)
theorem dX7_eRead_200 : decode cX7_eRead 200 = .ok (.aload_n 0, 1) := dk_42 (dk_at dksX7_eRead_8 12 rfl rfl)
theorem dX7_eRead_201 : decode cX7_eRead 201 = .ok (.dup, 1) := dk_89 (dk_at dksX7_eRead_8 13 rfl rfl)
theorem dX7_eRead_202 : decode cX7_eRead 202 = .ok (.getfield 230, 3) := dk_180 0 230 (dk_at dksX7_eRead_8 14 rfl rfl)
theorem dX7_eRead_205 : decode cX7_eRead 205 = .ok (.iconst 1, 1) := dk_4 (dk_at dksX7_eRead_8 17 rfl rfl)
theorem dX7_eRead_206 : decode cX7_eRead 206 = .ok (.isub, 1) := dk_100 (dk_at dksX7_eRead_8 18 rfl rfl)
theorem dX7_eRead_207 : decode cX7_eRead 207 = .ok (.putfield 230, 3) := dk_181 0 230 (dk_at dksX7_eRead_8 19 rfl rfl)
theorem dX7_eRead_210 : decode cX7_eRead 210 = .ok (.aload_n 0, 1) := dk_42 (dk_at dksX7_eRead_8 22 rfl rfl)
theorem dX7_eRead_211 : decode cX7_eRead 211 = .ok (.dup, 1) := dk_89 (dk_at dksX7_eRead_8 23 rfl rfl)
theorem dX7_eRead_212 : decode cX7_eRead 212 = .ok (.getfield 236, 3) := dk_180 0 236 (dk_at dksX7_eRead_9 0 rfl rfl)
theorem dX7_eRead_215 : decode cX7_eRead 215 = .ok (.iconst 1, 1) := dk_4 (dk_at dksX7_eRead_9 3 rfl rfl)
theorem dX7_eRead_216 : decode cX7_eRead 216 = .ok (.isub, 1) := dk_100 (dk_at dksX7_eRead_9 4 rfl rfl)
theorem dX7_eRead_217 : decode cX7_eRead 217 = .ok (.putfield 236, 3) := dk_181 0 236 (dk_at dksX7_eRead_9 5 rfl rfl)
theorem dX7_eRead_220 : decode cX7_eRead 220 = .ok (.aload_n 0, 1) := dk_42 (dk_at dksX7_eRead_9 8 rfl rfl)
theorem dX7_eRead_221 : decode cX7_eRead 221 = .ok (.bipush 7, 2) := dk_16 7 (dk_at dksX7_eRead_9 9 rfl rfl)
theorem dX7_eRead_223 : decode cX7_eRead 223 = .ok (.invokevirtual 246, 3) := dk_182 0 246 (dk_at dksX7_eRead_9 11 rfl rfl)
theorem dX7_eRead_226 : decode cX7_eRead 226 = .ok (.goto (-212), 3) := dk_167 255 44 (dk_at dksX7_eRead_9 14 rfl rfl)
theorem dX7_eRead_229 : decode cX7_eRead 229 = .ok (.aload_n 0, 1) := dk_42 (dk_at dksX7_eRead_9 17 rfl rfl)
theorem dX7_eRead_230 : decode cX7_eRead 230 = .ok (.invokevirtual 256, 3) := dk_182 1 0 (dk_at dksX7_eRead_9 18 rfl rfl)
theorem dX7_eRead_233 : decode cX7_eRead 233 = .ok (.istore_n 3, 1) := dk_62 (dk_at dksX7_eRead_9 21 rfl rfl)
theorem dX7_eRead_234 : decode cX7_eRead 234 = .ok (.iload_n 3, 1) := dk_29 (dk_at dksX7_eRead_9 22 rfl rfl)
theorem dX7_eRead_235 : decode cX7_eRead 235 = .ok (.iconst (-1), 1) := dk_2 (dk_at dksX7_eRead_9 23 rfl rfl)
theorem dX7_eRead_236 : decode cX7_eRead 236 = .ok (.if_icmp .eq 11, 3) := dk_159 0 11 (dk_at dksX7_eRead_10 0 rfl rfl)
theorem dX7_eRead_239 : decode cX7_eRead 239 = .ok (.aload_n 0, 1) := dk_42 (dk_at dksX7_eRead_10 3 rfl rfl)
theorem dX7_eRead_240 : decode cX7_eRead 240 = .ok (.iload_n 3, 1) := dk_29 (dk_at dksX7_eRead_10 4 rfl rfl)
theorem dX7_eRead_241 : decode cX7_eRead 241 = .ok (.invokevirtual 260, 3) := dk_182 1 4 (dk_at dksX7_eRead_10 5 rfl rfl)
theorem dX7_eRead_244 : decode cX7_eRead 244 = .ok (.ifCond .ne 5, 3) := dk_154 0 5 (dk_at dksX7_eRead_10 8 rfl rfl)
theorem dX7_eRead_247 : decode cX7_eRead 247 = .ok (.iconst 0, 1) := dk_3 (dk_at dksX7_eRead_10 11 rfl rfl)
theorem dX7_eRead_248 : decode cX7_eRead 248 = .ok (.ireturn, 1) := dk_172 (dk_at dksX7_eRead_10 12 rfl rfl)
theorem dX7_eRead_249 : decode cX7_eRead 249 = .ok (.iconst 1, 1) := dk_4 (dk_at dksX7_eRead_10 13 rfl rfl)
theorem dX7_eRead_250 : decode cX7_eRead 250 = .ok (.istore_n 1, 1) := dk_60 (dk_at dksX7_eRead_10 14 rfl rfl)
theorem dX7_eRead_251 : decode cX7_eRead 251 = .ok (.iload_n 3, 1) := dk_29 (dk_at dksX7_eRead_10 15 rfl rfl)
theorem dX7_eRead_252 : decode cX7_eRead 252 = .ok (.bipush 12, 2) := dk_16 12 (dk_at dksX7_eRead_10 16 rfl rfl)
theorem dX7_eRead_254 : decode cX7_eRead 254 = .ok (.if_icmp .gt 7, 3) := dk_163 0 7 (dk_at dksX7_eRead_10 18 rfl rfl)
theorem dX7_eRead_257 : decode cX7_eRead 257 = .ok (.iconst 1, 1) := dk_4 (dk_at dksX7_eRead_10 21 rfl rfl)
theorem dX7_eRead_258 : decode cX7_eRead 258 = .ok (.goto 4, 3) := dk_167 0 4 (dk_at dksX7_eRead_11 0 rfl rfl)
theorem dX7_eRead_261 : decode cX7_eRead 261 = .ok (.iconst 0, 1) := dk_3 (dk_at dksX7_eRead_11 3 rfl rfl)
theorem dX7_eRead_262 : decode cX7_eRead 262 = .ok (.istore_n 2, 1) := dk_61 (dk_at dksX7_eRead_11 4 rfl rfl)
theorem dX7_eRead_263 : decode cX7_eRead 263 = .ok (.goto (-249), 3) := dk_167 255 7 (dk_at dksX7_eRead_11 5 rfl rfl)
abbrev cX7_puts : ByteArray := prog_19_method_27_code
def yX7_puts : MethodName := ⟨RX7, "puts", "(I)V"⟩
def dkwX7_puts_1 : List UInt8 := [4, 96, 181, 0, 227, 177]
abbrev dktX7_puts_1 : List UInt8 := dkwX7_puts_1 ++ []
def dkwX7_puts_0 : List UInt8 := [42, 180, 0, 55, 17, 0, 200, 42, 180, 0, 61, 104, 42, 180, 0, 227, 96, 27, 79, 42, 89, 180, 0, 227]
abbrev dktX7_puts_0 : List UInt8 := dkwX7_puts_0 ++ dktX7_puts_1
theorem dksX7_puts_0 : cX7_puts.data.toList.drop 0 = dktX7_puts_0 := by decide +kernel
theorem dksX7_puts_1 : cX7_puts.data.toList.drop 24 = dktX7_puts_1 := dk_seg dksX7_puts_0 24 rfl rfl
theorem dX7_puts_0 : decode cX7_puts 0 = .ok (.aload_n 0, 1) := dk_42 (dk_at dksX7_puts_0 0 rfl rfl)
theorem dX7_puts_1 : decode cX7_puts 1 = .ok (.getfield 55, 3) := dk_180 0 55 (dk_at dksX7_puts_0 1 rfl rfl)
theorem dX7_puts_4 : decode cX7_puts 4 = .ok (.sipush 200, 3) := dk_17 0 200 (dk_at dksX7_puts_0 4 rfl rfl)
theorem dX7_puts_7 : decode cX7_puts 7 = .ok (.aload_n 0, 1) := dk_42 (dk_at dksX7_puts_0 7 rfl rfl)
theorem dX7_puts_8 : decode cX7_puts 8 = .ok (.getfield 61, 3) := dk_180 0 61 (dk_at dksX7_puts_0 8 rfl rfl)
theorem dX7_puts_11 : decode cX7_puts 11 = .ok (.imul, 1) := dk_104 (dk_at dksX7_puts_0 11 rfl rfl)
theorem dX7_puts_12 : decode cX7_puts 12 = .ok (.aload_n 0, 1) := dk_42 (dk_at dksX7_puts_0 12 rfl rfl)
theorem dX7_puts_13 : decode cX7_puts 13 = .ok (.getfield 227, 3) := dk_180 0 227 (dk_at dksX7_puts_0 13 rfl rfl)
theorem dX7_puts_16 : decode cX7_puts 16 = .ok (.iadd, 1) := dk_96 (dk_at dksX7_puts_0 16 rfl rfl)
theorem dX7_puts_17 : decode cX7_puts 17 = .ok (.iload_n 1, 1) := dk_27 (dk_at dksX7_puts_0 17 rfl rfl)
theorem dX7_puts_18 : decode cX7_puts 18 = .ok (.iastore, 1) := dk_79 (dk_at dksX7_puts_0 18 rfl rfl)
theorem dX7_puts_19 : decode cX7_puts 19 = .ok (.aload_n 0, 1) := dk_42 (dk_at dksX7_puts_0 19 rfl rfl)
theorem dX7_puts_20 : decode cX7_puts 20 = .ok (.dup, 1) := dk_89 (dk_at dksX7_puts_0 20 rfl rfl)
theorem dX7_puts_21 : decode cX7_puts 21 = .ok (.getfield 227, 3) := dk_180 0 227 (dk_at dksX7_puts_0 21 rfl rfl)
theorem dX7_puts_24 : decode cX7_puts 24 = .ok (.iconst 1, 1) := dk_4 (dk_at dksX7_puts_1 0 rfl rfl)
theorem dX7_puts_25 : decode cX7_puts 25 = .ok (.iadd, 1) := dk_96 (dk_at dksX7_puts_1 1 rfl rfl)
theorem dX7_puts_26 : decode cX7_puts 26 = .ok (.putfield 227, 3) := dk_181 0 227 (dk_at dksX7_puts_1 2 rfl rfl)
theorem dX7_puts_29 : decode cX7_puts 29 = .ok (.return_, 1) := dk_177 (dk_at dksX7_puts_1 5 rfl rfl)
abbrev cX7_unwinds : ByteArray := prog_19_method_28_code
def yX7_unwinds : MethodName := ⟨RX7, "unwinds", "(I)V"⟩
def dkwX7_unwinds_3 : List UInt8 := [181, 0, 236, 42, 28, 182, 0, 239, 167, 255, 180, 177]
abbrev dktX7_unwinds_3 : List UInt8 := dkwX7_unwinds_3 ++ []
def dkwX7_unwinds_2 : List UInt8 := [89, 180, 0, 236, 28, 16, 13, 159, 0, 9, 28, 16, 19, 160, 0, 7, 4, 167, 0, 4, 3, 100]
abbrev dktX7_unwinds_2 : List UInt8 := dkwX7_unwinds_2 ++ dktX7_unwinds_3
def dkwX7_unwinds_1 : List UInt8 := [161, 0, 57, 42, 89, 180, 0, 230, 4, 100, 181, 0, 230, 42, 180, 0, 129, 42, 180, 0, 230, 46, 61, 42]
abbrev dktX7_unwinds_1 : List UInt8 := dkwX7_unwinds_1 ++ dktX7_unwinds_2
def dkwX7_unwinds_0 : List UInt8 := [42, 180, 0, 230, 158, 0, 75, 42, 180, 0, 129, 42, 180, 0, 230, 4, 100, 46, 184, 0, 233, 27]
abbrev dktX7_unwinds_0 : List UInt8 := dkwX7_unwinds_0 ++ dktX7_unwinds_1
theorem dksX7_unwinds_0 : cX7_unwinds.data.toList.drop 0 = dktX7_unwinds_0 := by decide +kernel
theorem dksX7_unwinds_1 : cX7_unwinds.data.toList.drop 22 = dktX7_unwinds_1 := dk_seg dksX7_unwinds_0 22 rfl rfl
theorem dksX7_unwinds_2 : cX7_unwinds.data.toList.drop 46 = dktX7_unwinds_2 := dk_seg dksX7_unwinds_1 24 rfl rfl
theorem dksX7_unwinds_3 : cX7_unwinds.data.toList.drop 68 = dktX7_unwinds_3 := dk_seg dksX7_unwinds_2 22 rfl rfl
theorem dX7_unwinds_0 : decode cX7_unwinds 0 = .ok (.aload_n 0, 1) := dk_42 (dk_at dksX7_unwinds_0 0 rfl rfl)
theorem dX7_unwinds_1 : decode cX7_unwinds 1 = .ok (.getfield 230, 3) := dk_180 0 230 (dk_at dksX7_unwinds_0 1 rfl rfl)
theorem dX7_unwinds_4 : decode cX7_unwinds 4 = .ok (.ifCond .le 75, 3) := dk_158 0 75 (dk_at dksX7_unwinds_0 4 rfl rfl)
theorem dX7_unwinds_7 : decode cX7_unwinds 7 = .ok (.aload_n 0, 1) := dk_42 (dk_at dksX7_unwinds_0 7 rfl rfl)
theorem dX7_unwinds_8 : decode cX7_unwinds 8 = .ok (.getfield 129, 3) := dk_180 0 129 (dk_at dksX7_unwinds_0 8 rfl rfl)
theorem dX7_unwinds_11 : decode cX7_unwinds 11 = .ok (.aload_n 0, 1) := dk_42 (dk_at dksX7_unwinds_0 11 rfl rfl)
theorem dX7_unwinds_12 : decode cX7_unwinds 12 = .ok (.getfield 230, 3) := dk_180 0 230 (dk_at dksX7_unwinds_0 12 rfl rfl)
theorem dX7_unwinds_15 : decode cX7_unwinds 15 = .ok (.iconst 1, 1) := dk_4 (dk_at dksX7_unwinds_0 15 rfl rfl)
theorem dX7_unwinds_16 : decode cX7_unwinds 16 = .ok (.isub, 1) := dk_100 (dk_at dksX7_unwinds_0 16 rfl rfl)
theorem dX7_unwinds_17 : decode cX7_unwinds 17 = .ok (.iaload, 1) := dk_46 (dk_at dksX7_unwinds_0 17 rfl rfl)
theorem dX7_unwinds_18 : decode cX7_unwinds 18 = .ok (.invokestatic 233, 3) := dk_184 0 233 (dk_at dksX7_unwinds_0 18 rfl rfl)
theorem dX7_unwinds_21 : decode cX7_unwinds 21 = .ok (.iload_n 1, 1) := dk_27 (dk_at dksX7_unwinds_0 21 rfl rfl)
theorem dX7_unwinds_22 : decode cX7_unwinds 22 = .ok (.if_icmp .lt 57, 3) := dk_161 0 57 (dk_at dksX7_unwinds_1 0 rfl rfl)
theorem dX7_unwinds_25 : decode cX7_unwinds 25 = .ok (.aload_n 0, 1) := dk_42 (dk_at dksX7_unwinds_1 3 rfl rfl)
theorem dX7_unwinds_26 : decode cX7_unwinds 26 = .ok (.dup, 1) := dk_89 (dk_at dksX7_unwinds_1 4 rfl rfl)
theorem dX7_unwinds_27 : decode cX7_unwinds 27 = .ok (.getfield 230, 3) := dk_180 0 230 (dk_at dksX7_unwinds_1 5 rfl rfl)
theorem dX7_unwinds_30 : decode cX7_unwinds 30 = .ok (.iconst 1, 1) := dk_4 (dk_at dksX7_unwinds_1 8 rfl rfl)
theorem dX7_unwinds_31 : decode cX7_unwinds 31 = .ok (.isub, 1) := dk_100 (dk_at dksX7_unwinds_1 9 rfl rfl)
theorem dX7_unwinds_32 : decode cX7_unwinds 32 = .ok (.putfield 230, 3) := dk_181 0 230 (dk_at dksX7_unwinds_1 10 rfl rfl)
theorem dX7_unwinds_35 : decode cX7_unwinds 35 = .ok (.aload_n 0, 1) := dk_42 (dk_at dksX7_unwinds_1 13 rfl rfl)
theorem dX7_unwinds_36 : decode cX7_unwinds 36 = .ok (.getfield 129, 3) := dk_180 0 129 (dk_at dksX7_unwinds_1 14 rfl rfl)
theorem dX7_unwinds_39 : decode cX7_unwinds 39 = .ok (.aload_n 0, 1) := dk_42 (dk_at dksX7_unwinds_1 17 rfl rfl)
theorem dX7_unwinds_40 : decode cX7_unwinds 40 = .ok (.getfield 230, 3) := dk_180 0 230 (dk_at dksX7_unwinds_1 18 rfl rfl)
theorem dX7_unwinds_43 : decode cX7_unwinds 43 = .ok (.iaload, 1) := dk_46 (dk_at dksX7_unwinds_1 21 rfl rfl)
theorem dX7_unwinds_44 : decode cX7_unwinds 44 = .ok (.istore_n 2, 1) := dk_61 (dk_at dksX7_unwinds_1 22 rfl rfl)
theorem dX7_unwinds_45 : decode cX7_unwinds 45 = .ok (.aload_n 0, 1) := dk_42 (dk_at dksX7_unwinds_1 23 rfl rfl)
theorem dX7_unwinds_46 : decode cX7_unwinds 46 = .ok (.dup, 1) := dk_89 (dk_at dksX7_unwinds_2 0 rfl rfl)
theorem dX7_unwinds_47 : decode cX7_unwinds 47 = .ok (.getfield 236, 3) := dk_180 0 236 (dk_at dksX7_unwinds_2 1 rfl rfl)
theorem dX7_unwinds_50 : decode cX7_unwinds 50 = .ok (.iload_n 2, 1) := dk_28 (dk_at dksX7_unwinds_2 4 rfl rfl)
theorem dX7_unwinds_51 : decode cX7_unwinds 51 = .ok (.bipush 13, 2) := dk_16 13 (dk_at dksX7_unwinds_2 5 rfl rfl)
theorem dX7_unwinds_53 : decode cX7_unwinds 53 = .ok (.if_icmp .eq 9, 3) := dk_159 0 9 (dk_at dksX7_unwinds_2 7 rfl rfl)
theorem dX7_unwinds_56 : decode cX7_unwinds 56 = .ok (.iload_n 2, 1) := dk_28 (dk_at dksX7_unwinds_2 10 rfl rfl)
theorem dX7_unwinds_57 : decode cX7_unwinds 57 = .ok (.bipush 19, 2) := dk_16 19 (dk_at dksX7_unwinds_2 11 rfl rfl)
theorem dX7_unwinds_59 : decode cX7_unwinds 59 = .ok (.if_icmp .ne 7, 3) := dk_160 0 7 (dk_at dksX7_unwinds_2 13 rfl rfl)
theorem dX7_unwinds_62 : decode cX7_unwinds 62 = .ok (.iconst 1, 1) := dk_4 (dk_at dksX7_unwinds_2 16 rfl rfl)
theorem dX7_unwinds_63 : decode cX7_unwinds 63 = .ok (.goto 4, 3) := dk_167 0 4 (dk_at dksX7_unwinds_2 17 rfl rfl)
theorem dX7_unwinds_66 : decode cX7_unwinds 66 = .ok (.iconst 0, 1) := dk_3 (dk_at dksX7_unwinds_2 20 rfl rfl)
theorem dX7_unwinds_67 : decode cX7_unwinds 67 = .ok (.isub, 1) := dk_100 (dk_at dksX7_unwinds_2 21 rfl rfl)
theorem dX7_unwinds_68 : decode cX7_unwinds 68 = .ok (.putfield 236, 3) := dk_181 0 236 (dk_at dksX7_unwinds_3 0 rfl rfl)
theorem dX7_unwinds_71 : decode cX7_unwinds 71 = .ok (.aload_n 0, 1) := dk_42 (dk_at dksX7_unwinds_3 3 rfl rfl)
theorem dX7_unwinds_72 : decode cX7_unwinds 72 = .ok (.iload_n 2, 1) := dk_28 (dk_at dksX7_unwinds_3 4 rfl rfl)
theorem dX7_unwinds_73 : decode cX7_unwinds 73 = .ok (.invokevirtual 239, 3) := dk_182 0 239 (dk_at dksX7_unwinds_3 5 rfl rfl)
theorem dX7_unwinds_76 : decode cX7_unwinds 76 = .ok (.goto (-76), 3) := dk_167 255 180 (dk_at dksX7_unwinds_3 8 rfl rfl)
theorem dX7_unwinds_79 : decode cX7_unwinds 79 = .ok (.return_, 1) := dk_177 (dk_at dksX7_unwinds_3 11 rfl rfl)
abbrev cX7_rank : ByteArray := prog_19_method_26_code
def yX7_rank : MethodName := ⟨RX7, "rank", "(I)I"⟩
def dkwX7_rank_2 : List UInt8 := [26, 16, 17, 163, 0, 7, 8, 167, 0, 16, 26, 16, 18, 160, 0, 8, 16, 6, 167, 0, 5, 16, 7, 172]
abbrev dktX7_rank_2 : List UInt8 := dkwX7_rank_2 ++ []
def dkwX7_rank_1 : List UInt8 := [5, 167, 0, 46, 26, 16, 13, 160, 0, 7, 6, 167, 0, 36, 26, 16, 15, 163, 0, 7, 7, 167, 0, 26]
abbrev dktX7_rank_1 : List UInt8 := dkwX7_rank_1 ++ dktX7_rank_2
def dkwX7_rank_0 : List UInt8 := [26, 154, 0, 7, 3, 167, 0, 66, 26, 16, 11, 160, 0, 7, 4, 167, 0, 56, 26, 16, 12, 160, 0, 7]
abbrev dktX7_rank_0 : List UInt8 := dkwX7_rank_0 ++ dktX7_rank_1
theorem dksX7_rank_0 : cX7_rank.data.toList.drop 0 = dktX7_rank_0 := by decide +kernel
theorem dksX7_rank_1 : cX7_rank.data.toList.drop 24 = dktX7_rank_1 := dk_seg dksX7_rank_0 24 rfl rfl
theorem dksX7_rank_2 : cX7_rank.data.toList.drop 48 = dktX7_rank_2 := dk_seg dksX7_rank_1 24 rfl rfl
theorem dX7_rank_0 : decode cX7_rank 0 = .ok (.iload_n 0, 1) := dk_26 (dk_at dksX7_rank_0 0 rfl rfl)
theorem dX7_rank_1 : decode cX7_rank 1 = .ok (.ifCond .ne 7, 3) := dk_154 0 7 (dk_at dksX7_rank_0 1 rfl rfl)
theorem dX7_rank_4 : decode cX7_rank 4 = .ok (.iconst 0, 1) := dk_3 (dk_at dksX7_rank_0 4 rfl rfl)
theorem dX7_rank_5 : decode cX7_rank 5 = .ok (.goto 66, 3) := dk_167 0 66 (dk_at dksX7_rank_0 5 rfl rfl)
theorem dX7_rank_8 : decode cX7_rank 8 = .ok (.iload_n 0, 1) := dk_26 (dk_at dksX7_rank_0 8 rfl rfl)
theorem dX7_rank_9 : decode cX7_rank 9 = .ok (.bipush 11, 2) := dk_16 11 (dk_at dksX7_rank_0 9 rfl rfl)
theorem dX7_rank_11 : decode cX7_rank 11 = .ok (.if_icmp .ne 7, 3) := dk_160 0 7 (dk_at dksX7_rank_0 11 rfl rfl)
theorem dX7_rank_14 : decode cX7_rank 14 = .ok (.iconst 1, 1) := dk_4 (dk_at dksX7_rank_0 14 rfl rfl)
theorem dX7_rank_15 : decode cX7_rank 15 = .ok (.goto 56, 3) := dk_167 0 56 (dk_at dksX7_rank_0 15 rfl rfl)
theorem dX7_rank_18 : decode cX7_rank 18 = .ok (.iload_n 0, 1) := dk_26 (dk_at dksX7_rank_0 18 rfl rfl)
theorem dX7_rank_19 : decode cX7_rank 19 = .ok (.bipush 12, 2) := dk_16 12 (dk_at dksX7_rank_0 19 rfl rfl)
theorem dX7_rank_21 : decode cX7_rank 21 = .ok (.if_icmp .ne 7, 3) := dk_160 0 7 (dk_at dksX7_rank_0 21 rfl rfl)
theorem dX7_rank_24 : decode cX7_rank 24 = .ok (.iconst 2, 1) := dk_5 (dk_at dksX7_rank_1 0 rfl rfl)
theorem dX7_rank_25 : decode cX7_rank 25 = .ok (.goto 46, 3) := dk_167 0 46 (dk_at dksX7_rank_1 1 rfl rfl)
theorem dX7_rank_28 : decode cX7_rank 28 = .ok (.iload_n 0, 1) := dk_26 (dk_at dksX7_rank_1 4 rfl rfl)
theorem dX7_rank_29 : decode cX7_rank 29 = .ok (.bipush 13, 2) := dk_16 13 (dk_at dksX7_rank_1 5 rfl rfl)
theorem dX7_rank_31 : decode cX7_rank 31 = .ok (.if_icmp .ne 7, 3) := dk_160 0 7 (dk_at dksX7_rank_1 7 rfl rfl)
theorem dX7_rank_34 : decode cX7_rank 34 = .ok (.iconst 3, 1) := dk_6 (dk_at dksX7_rank_1 10 rfl rfl)
theorem dX7_rank_35 : decode cX7_rank 35 = .ok (.goto 36, 3) := dk_167 0 36 (dk_at dksX7_rank_1 11 rfl rfl)
theorem dX7_rank_38 : decode cX7_rank 38 = .ok (.iload_n 0, 1) := dk_26 (dk_at dksX7_rank_1 14 rfl rfl)
theorem dX7_rank_39 : decode cX7_rank 39 = .ok (.bipush 15, 2) := dk_16 15 (dk_at dksX7_rank_1 15 rfl rfl)
theorem dX7_rank_41 : decode cX7_rank 41 = .ok (.if_icmp .gt 7, 3) := dk_163 0 7 (dk_at dksX7_rank_1 17 rfl rfl)
theorem dX7_rank_44 : decode cX7_rank 44 = .ok (.iconst 4, 1) := dk_7 (dk_at dksX7_rank_1 20 rfl rfl)
theorem dX7_rank_45 : decode cX7_rank 45 = .ok (.goto 26, 3) := dk_167 0 26 (dk_at dksX7_rank_1 21 rfl rfl)
theorem dX7_rank_48 : decode cX7_rank 48 = .ok (.iload_n 0, 1) := dk_26 (dk_at dksX7_rank_2 0 rfl rfl)
theorem dX7_rank_49 : decode cX7_rank 49 = .ok (.bipush 17, 2) := dk_16 17 (dk_at dksX7_rank_2 1 rfl rfl)
theorem dX7_rank_51 : decode cX7_rank 51 = .ok (.if_icmp .gt 7, 3) := dk_163 0 7 (dk_at dksX7_rank_2 3 rfl rfl)
theorem dX7_rank_54 : decode cX7_rank 54 = .ok (.iconst 5, 1) := dk_8 (dk_at dksX7_rank_2 6 rfl rfl)
theorem dX7_rank_55 : decode cX7_rank 55 = .ok (.goto 16, 3) := dk_167 0 16 (dk_at dksX7_rank_2 7 rfl rfl)
theorem dX7_rank_58 : decode cX7_rank 58 = .ok (.iload_n 0, 1) := dk_26 (dk_at dksX7_rank_2 10 rfl rfl)
theorem dX7_rank_59 : decode cX7_rank 59 = .ok (.bipush 18, 2) := dk_16 18 (dk_at dksX7_rank_2 11 rfl rfl)
theorem dX7_rank_61 : decode cX7_rank 61 = .ok (.if_icmp .ne 8, 3) := dk_160 0 8 (dk_at dksX7_rank_2 13 rfl rfl)
theorem dX7_rank_64 : decode cX7_rank 64 = .ok (.bipush 6, 2) := dk_16 6 (dk_at dksX7_rank_2 16 rfl rfl)
theorem dX7_rank_66 : decode cX7_rank 66 = .ok (.goto 5, 3) := dk_167 0 5 (dk_at dksX7_rank_2 18 rfl rfl)
theorem dX7_rank_69 : decode cX7_rank 69 = .ok (.bipush 7, 2) := dk_16 7 (dk_at dksX7_rank_2 21 rfl rfl)
theorem dX7_rank_71 : decode cX7_rank 71 = .ok (.ireturn, 1) := dk_172 (dk_at dksX7_rank_2 23 rfl rfl)
abbrev cX7_opensOne : ByteArray := prog_19_method_30_code
def yX7_opensOne : MethodName := ⟨RX7, "opensOne", "(I)Z"⟩
def dkwX7_opensOne_1 : List UInt8 := [182, 0, 243, 4, 172]
abbrev dktX7_opensOne_1 : List UInt8 := dkwX7_opensOne_1 ++ []
def dkwX7_opensOne_0 : List UInt8 := [42, 180, 0, 236, 8, 160, 0, 5, 3, 172, 42, 89, 180, 0, 236, 4, 96, 181, 0, 236, 42, 27]
abbrev dktX7_opensOne_0 : List UInt8 := dkwX7_opensOne_0 ++ dktX7_opensOne_1
theorem dksX7_opensOne_0 : cX7_opensOne.data.toList.drop 0 = dktX7_opensOne_0 := by decide +kernel
theorem dksX7_opensOne_1 : cX7_opensOne.data.toList.drop 22 = dktX7_opensOne_1 := dk_seg dksX7_opensOne_0 22 rfl rfl
theorem dX7_opensOne_0 : decode cX7_opensOne 0 = .ok (.aload_n 0, 1) := dk_42 (dk_at dksX7_opensOne_0 0 rfl rfl)
theorem dX7_opensOne_1 : decode cX7_opensOne 1 = .ok (.getfield 236, 3) := dk_180 0 236 (dk_at dksX7_opensOne_0 1 rfl rfl)
theorem dX7_opensOne_4 : decode cX7_opensOne 4 = .ok (.iconst 5, 1) := dk_8 (dk_at dksX7_opensOne_0 4 rfl rfl)
theorem dX7_opensOne_5 : decode cX7_opensOne 5 = .ok (.if_icmp .ne 5, 3) := dk_160 0 5 (dk_at dksX7_opensOne_0 5 rfl rfl)
theorem dX7_opensOne_8 : decode cX7_opensOne 8 = .ok (.iconst 0, 1) := dk_3 (dk_at dksX7_opensOne_0 8 rfl rfl)
theorem dX7_opensOne_9 : decode cX7_opensOne 9 = .ok (.ireturn, 1) := dk_172 (dk_at dksX7_opensOne_0 9 rfl rfl)
theorem dX7_opensOne_10 : decode cX7_opensOne 10 = .ok (.aload_n 0, 1) := dk_42 (dk_at dksX7_opensOne_0 10 rfl rfl)
theorem dX7_opensOne_11 : decode cX7_opensOne 11 = .ok (.dup, 1) := dk_89 (dk_at dksX7_opensOne_0 11 rfl rfl)
theorem dX7_opensOne_12 : decode cX7_opensOne 12 = .ok (.getfield 236, 3) := dk_180 0 236 (dk_at dksX7_opensOne_0 12 rfl rfl)
theorem dX7_opensOne_15 : decode cX7_opensOne 15 = .ok (.iconst 1, 1) := dk_4 (dk_at dksX7_opensOne_0 15 rfl rfl)
theorem dX7_opensOne_16 : decode cX7_opensOne 16 = .ok (.iadd, 1) := dk_96 (dk_at dksX7_opensOne_0 16 rfl rfl)
theorem dX7_opensOne_17 : decode cX7_opensOne 17 = .ok (.putfield 236, 3) := dk_181 0 236 (dk_at dksX7_opensOne_0 17 rfl rfl)
theorem dX7_opensOne_20 : decode cX7_opensOne 20 = .ok (.aload_n 0, 1) := dk_42 (dk_at dksX7_opensOne_0 20 rfl rfl)
theorem dX7_opensOne_21 : decode cX7_opensOne 21 = .ok (.iload_n 1, 1) := dk_27 (dk_at dksX7_opensOne_0 21 rfl rfl)
theorem dX7_opensOne_22 : decode cX7_opensOne 22 = .ok (.invokevirtual 243, 3) := dk_182 0 243 (dk_at dksX7_opensOne_1 0 rfl rfl)
theorem dX7_opensOne_25 : decode cX7_opensOne 25 = .ok (.iconst 1, 1) := dk_4 (dk_at dksX7_opensOne_1 3 rfl rfl)
theorem dX7_opensOne_26 : decode cX7_opensOne 26 = .ok (.ireturn, 1) := dk_172 (dk_at dksX7_opensOne_1 4 rfl rfl)
abbrev cX7_holds : ByteArray := prog_19_method_29_code
def yX7_holds : MethodName := ⟨RX7, "holds", "(I)V"⟩
def dkwX7_holds_0 : List UInt8 := [42, 180, 0, 129, 42, 180, 0, 230, 27, 79, 42, 89, 180, 0, 230, 4, 96, 181, 0, 230, 177]
abbrev dktX7_holds_0 : List UInt8 := dkwX7_holds_0 ++ []
theorem dksX7_holds_0 : cX7_holds.data.toList.drop 0 = dktX7_holds_0 := by decide +kernel
theorem dX7_holds_0 : decode cX7_holds 0 = .ok (.aload_n 0, 1) := dk_42 (dk_at dksX7_holds_0 0 rfl rfl)
theorem dX7_holds_1 : decode cX7_holds 1 = .ok (.getfield 129, 3) := dk_180 0 129 (dk_at dksX7_holds_0 1 rfl rfl)
theorem dX7_holds_4 : decode cX7_holds 4 = .ok (.aload_n 0, 1) := dk_42 (dk_at dksX7_holds_0 4 rfl rfl)
theorem dX7_holds_5 : decode cX7_holds 5 = .ok (.getfield 230, 3) := dk_180 0 230 (dk_at dksX7_holds_0 5 rfl rfl)
theorem dX7_holds_8 : decode cX7_holds 8 = .ok (.iload_n 1, 1) := dk_27 (dk_at dksX7_holds_0 8 rfl rfl)
theorem dX7_holds_9 : decode cX7_holds 9 = .ok (.iastore, 1) := dk_79 (dk_at dksX7_holds_0 9 rfl rfl)
theorem dX7_holds_10 : decode cX7_holds 10 = .ok (.aload_n 0, 1) := dk_42 (dk_at dksX7_holds_0 10 rfl rfl)
theorem dX7_holds_11 : decode cX7_holds 11 = .ok (.dup, 1) := dk_89 (dk_at dksX7_holds_0 11 rfl rfl)
theorem dX7_holds_12 : decode cX7_holds 12 = .ok (.getfield 230, 3) := dk_180 0 230 (dk_at dksX7_holds_0 12 rfl rfl)
theorem dX7_holds_15 : decode cX7_holds 15 = .ok (.iconst 1, 1) := dk_4 (dk_at dksX7_holds_0 15 rfl rfl)
theorem dX7_holds_16 : decode cX7_holds 16 = .ok (.iadd, 1) := dk_96 (dk_at dksX7_holds_0 16 rfl rfl)
theorem dX7_holds_17 : decode cX7_holds 17 = .ok (.putfield 230, 3) := dk_181 0 230 (dk_at dksX7_holds_0 17 rfl rfl)
theorem dX7_holds_20 : decode cX7_holds 20 = .ok (.return_, 1) := dk_177 (dk_at dksX7_holds_0 20 rfl rfl)
abbrev cX7_signOf : ByteArray := prog_19_method_32_code
def yX7_signOf : MethodName := ⟨RX7, "signOf", "()I"⟩
def dkwX7_signOf_4 : List UInt8 := [167, 0, 4, 2, 172]
abbrev dktX7_signOf_4 : List UInt8 := dkwX7_signOf_4 ++ []
def dkwX7_signOf_3 : List UInt8 := [180, 0, 217, 16, 45, 160, 0, 8, 16, 17, 167, 0, 18, 42, 180, 0, 217, 16, 42, 160, 0, 8, 16, 18]
abbrev dktX7_signOf_3 : List UInt8 := dkwX7_signOf_3 ++ dktX7_signOf_4
def dkwX7_signOf_2 : List UInt8 := [160, 0, 8, 16, 15, 167, 0, 46, 42, 180, 0, 217, 16, 43, 160, 0, 8, 16, 16, 167, 0, 32, 42]
abbrev dktX7_signOf_2 : List UInt8 := dkwX7_signOf_2 ++ dktX7_signOf_3
def dkwX7_signOf_1 : List UInt8 := [167, 0, 74, 42, 180, 0, 217, 16, 60, 160, 0, 8, 16, 14, 167, 0, 60, 42, 180, 0, 217, 16, 61]
abbrev dktX7_signOf_1 : List UInt8 := dkwX7_signOf_1 ++ dktX7_signOf_2
def dkwX7_signOf_0 : List UInt8 := [42, 180, 0, 217, 7, 160, 0, 8, 16, 11, 167, 0, 87, 42, 180, 0, 217, 8, 160, 0, 8, 16, 12]
abbrev dktX7_signOf_0 : List UInt8 := dkwX7_signOf_0 ++ dktX7_signOf_1
theorem dksX7_signOf_0 : cX7_signOf.data.toList.drop 0 = dktX7_signOf_0 := by decide +kernel
theorem dksX7_signOf_1 : cX7_signOf.data.toList.drop 23 = dktX7_signOf_1 := dk_seg dksX7_signOf_0 23 rfl rfl
theorem dksX7_signOf_2 : cX7_signOf.data.toList.drop 46 = dktX7_signOf_2 := dk_seg dksX7_signOf_1 23 rfl rfl
theorem dksX7_signOf_3 : cX7_signOf.data.toList.drop 69 = dktX7_signOf_3 := dk_seg dksX7_signOf_2 23 rfl rfl
theorem dksX7_signOf_4 : cX7_signOf.data.toList.drop 93 = dktX7_signOf_4 := dk_seg dksX7_signOf_3 24 rfl rfl
theorem dX7_signOf_0 : decode cX7_signOf 0 = .ok (.aload_n 0, 1) := dk_42 (dk_at dksX7_signOf_0 0 rfl rfl)
theorem dX7_signOf_1 : decode cX7_signOf 1 = .ok (.getfield 217, 3) := dk_180 0 217 (dk_at dksX7_signOf_0 1 rfl rfl)
theorem dX7_signOf_4 : decode cX7_signOf 4 = .ok (.iconst 4, 1) := dk_7 (dk_at dksX7_signOf_0 4 rfl rfl)
theorem dX7_signOf_5 : decode cX7_signOf 5 = .ok (.if_icmp .ne 8, 3) := dk_160 0 8 (dk_at dksX7_signOf_0 5 rfl rfl)
theorem dX7_signOf_8 : decode cX7_signOf 8 = .ok (.bipush 11, 2) := dk_16 11 (dk_at dksX7_signOf_0 8 rfl rfl)
theorem dX7_signOf_10 : decode cX7_signOf 10 = .ok (.goto 87, 3) := dk_167 0 87 (dk_at dksX7_signOf_0 10 rfl rfl)
theorem dX7_signOf_13 : decode cX7_signOf 13 = .ok (.aload_n 0, 1) := dk_42 (dk_at dksX7_signOf_0 13 rfl rfl)
theorem dX7_signOf_14 : decode cX7_signOf 14 = .ok (.getfield 217, 3) := dk_180 0 217 (dk_at dksX7_signOf_0 14 rfl rfl)
theorem dX7_signOf_17 : decode cX7_signOf 17 = .ok (.iconst 5, 1) := dk_8 (dk_at dksX7_signOf_0 17 rfl rfl)
theorem dX7_signOf_18 : decode cX7_signOf 18 = .ok (.if_icmp .ne 8, 3) := dk_160 0 8 (dk_at dksX7_signOf_0 18 rfl rfl)
theorem dX7_signOf_21 : decode cX7_signOf 21 = .ok (.bipush 12, 2) := dk_16 12 (dk_at dksX7_signOf_0 21 rfl rfl)
theorem dX7_signOf_23 : decode cX7_signOf 23 = .ok (.goto 74, 3) := dk_167 0 74 (dk_at dksX7_signOf_1 0 rfl rfl)
theorem dX7_signOf_26 : decode cX7_signOf 26 = .ok (.aload_n 0, 1) := dk_42 (dk_at dksX7_signOf_1 3 rfl rfl)
theorem dX7_signOf_27 : decode cX7_signOf 27 = .ok (.getfield 217, 3) := dk_180 0 217 (dk_at dksX7_signOf_1 4 rfl rfl)
theorem dX7_signOf_30 : decode cX7_signOf 30 = .ok (.bipush 60, 2) := dk_16 60 (dk_at dksX7_signOf_1 7 rfl rfl)
theorem dX7_signOf_32 : decode cX7_signOf 32 = .ok (.if_icmp .ne 8, 3) := dk_160 0 8 (dk_at dksX7_signOf_1 9 rfl rfl)
theorem dX7_signOf_35 : decode cX7_signOf 35 = .ok (.bipush 14, 2) := dk_16 14 (dk_at dksX7_signOf_1 12 rfl rfl)
theorem dX7_signOf_37 : decode cX7_signOf 37 = .ok (.goto 60, 3) := dk_167 0 60 (dk_at dksX7_signOf_1 14 rfl rfl)
theorem dX7_signOf_40 : decode cX7_signOf 40 = .ok (.aload_n 0, 1) := dk_42 (dk_at dksX7_signOf_1 17 rfl rfl)
theorem dX7_signOf_41 : decode cX7_signOf 41 = .ok (.getfield 217, 3) := dk_180 0 217 (dk_at dksX7_signOf_1 18 rfl rfl)
theorem dX7_signOf_44 : decode cX7_signOf 44 = .ok (.bipush 61, 2) := dk_16 61 (dk_at dksX7_signOf_1 21 rfl rfl)
theorem dX7_signOf_46 : decode cX7_signOf 46 = .ok (.if_icmp .ne 8, 3) := dk_160 0 8 (dk_at dksX7_signOf_2 0 rfl rfl)
theorem dX7_signOf_49 : decode cX7_signOf 49 = .ok (.bipush 15, 2) := dk_16 15 (dk_at dksX7_signOf_2 3 rfl rfl)
theorem dX7_signOf_51 : decode cX7_signOf 51 = .ok (.goto 46, 3) := dk_167 0 46 (dk_at dksX7_signOf_2 5 rfl rfl)
theorem dX7_signOf_54 : decode cX7_signOf 54 = .ok (.aload_n 0, 1) := dk_42 (dk_at dksX7_signOf_2 8 rfl rfl)
theorem dX7_signOf_55 : decode cX7_signOf 55 = .ok (.getfield 217, 3) := dk_180 0 217 (dk_at dksX7_signOf_2 9 rfl rfl)
theorem dX7_signOf_58 : decode cX7_signOf 58 = .ok (.bipush 43, 2) := dk_16 43 (dk_at dksX7_signOf_2 12 rfl rfl)
theorem dX7_signOf_60 : decode cX7_signOf 60 = .ok (.if_icmp .ne 8, 3) := dk_160 0 8 (dk_at dksX7_signOf_2 14 rfl rfl)
theorem dX7_signOf_63 : decode cX7_signOf 63 = .ok (.bipush 16, 2) := dk_16 16 (dk_at dksX7_signOf_2 17 rfl rfl)
theorem dX7_signOf_65 : decode cX7_signOf 65 = .ok (.goto 32, 3) := dk_167 0 32 (dk_at dksX7_signOf_2 19 rfl rfl)
theorem dX7_signOf_68 : decode cX7_signOf 68 = .ok (.aload_n 0, 1) := dk_42 (dk_at dksX7_signOf_2 22 rfl rfl)
theorem dX7_signOf_69 : decode cX7_signOf 69 = .ok (.getfield 217, 3) := dk_180 0 217 (dk_at dksX7_signOf_3 0 rfl rfl)
theorem dX7_signOf_72 : decode cX7_signOf 72 = .ok (.bipush 45, 2) := dk_16 45 (dk_at dksX7_signOf_3 3 rfl rfl)
theorem dX7_signOf_74 : decode cX7_signOf 74 = .ok (.if_icmp .ne 8, 3) := dk_160 0 8 (dk_at dksX7_signOf_3 5 rfl rfl)
theorem dX7_signOf_77 : decode cX7_signOf 77 = .ok (.bipush 17, 2) := dk_16 17 (dk_at dksX7_signOf_3 8 rfl rfl)
theorem dX7_signOf_79 : decode cX7_signOf 79 = .ok (.goto 18, 3) := dk_167 0 18 (dk_at dksX7_signOf_3 10 rfl rfl)
theorem dX7_signOf_82 : decode cX7_signOf 82 = .ok (.aload_n 0, 1) := dk_42 (dk_at dksX7_signOf_3 13 rfl rfl)
theorem dX7_signOf_83 : decode cX7_signOf 83 = .ok (.getfield 217, 3) := dk_180 0 217 (dk_at dksX7_signOf_3 14 rfl rfl)
theorem dX7_signOf_86 : decode cX7_signOf 86 = .ok (.bipush 42, 2) := dk_16 42 (dk_at dksX7_signOf_3 17 rfl rfl)
theorem dX7_signOf_88 : decode cX7_signOf 88 = .ok (.if_icmp .ne 8, 3) := dk_160 0 8 (dk_at dksX7_signOf_3 19 rfl rfl)
theorem dX7_signOf_91 : decode cX7_signOf 91 = .ok (.bipush 18, 2) := dk_16 18 (dk_at dksX7_signOf_3 22 rfl rfl)
theorem dX7_signOf_93 : decode cX7_signOf 93 = .ok (.goto 4, 3) := dk_167 0 4 (dk_at dksX7_signOf_4 0 rfl rfl)
theorem dX7_signOf_96 : decode cX7_signOf 96 = .ok (.iconst (-1), 1) := dk_2 (dk_at dksX7_signOf_4 3 rfl rfl)
theorem dX7_signOf_97 : decode cX7_signOf 97 = .ok (.ireturn, 1) := dk_172 (dk_at dksX7_signOf_4 4 rfl rfl)
abbrev cX7_between : ByteArray := prog_19_method_31_code
def yX7_between : MethodName := ⟨RX7, "between", "(I)Z"⟩
def dkwX7_between_2 : List UInt8 := [184, 0, 233, 7, 160, 0, 5, 3, 172, 42, 27, 182, 0, 243, 4, 172]
abbrev dktX7_between_2 : List UInt8 := dkwX7_between_2 ++ []
def dkwX7_between_1 : List UInt8 := [7, 160, 0, 30, 42, 180, 0, 230, 158, 0, 23, 42, 180, 0, 129, 42, 180, 0, 230, 4, 100, 46]
abbrev dktX7_between_1 : List UInt8 := dkwX7_between_1 ++ dktX7_between_2
def dkwX7_between_0 : List UInt8 := [42, 27, 184, 0, 233, 7, 160, 0, 7, 8, 167, 0, 7, 27, 184, 0, 233, 182, 0, 246, 27, 184, 0, 233]
abbrev dktX7_between_0 : List UInt8 := dkwX7_between_0 ++ dktX7_between_1
theorem dksX7_between_0 : cX7_between.data.toList.drop 0 = dktX7_between_0 := by decide +kernel
theorem dksX7_between_1 : cX7_between.data.toList.drop 24 = dktX7_between_1 := dk_seg dksX7_between_0 24 rfl rfl
theorem dksX7_between_2 : cX7_between.data.toList.drop 46 = dktX7_between_2 := dk_seg dksX7_between_1 22 rfl rfl
theorem dX7_between_0 : decode cX7_between 0 = .ok (.aload_n 0, 1) := dk_42 (dk_at dksX7_between_0 0 rfl rfl)
theorem dX7_between_1 : decode cX7_between 1 = .ok (.iload_n 1, 1) := dk_27 (dk_at dksX7_between_0 1 rfl rfl)
theorem dX7_between_2 : decode cX7_between 2 = .ok (.invokestatic 233, 3) := dk_184 0 233 (dk_at dksX7_between_0 2 rfl rfl)
theorem dX7_between_5 : decode cX7_between 5 = .ok (.iconst 4, 1) := dk_7 (dk_at dksX7_between_0 5 rfl rfl)
theorem dX7_between_6 : decode cX7_between 6 = .ok (.if_icmp .ne 7, 3) := dk_160 0 7 (dk_at dksX7_between_0 6 rfl rfl)
theorem dX7_between_9 : decode cX7_between 9 = .ok (.iconst 5, 1) := dk_8 (dk_at dksX7_between_0 9 rfl rfl)
theorem dX7_between_10 : decode cX7_between 10 = .ok (.goto 7, 3) := dk_167 0 7 (dk_at dksX7_between_0 10 rfl rfl)
theorem dX7_between_13 : decode cX7_between 13 = .ok (.iload_n 1, 1) := dk_27 (dk_at dksX7_between_0 13 rfl rfl)
theorem dX7_between_14 : decode cX7_between 14 = .ok (.invokestatic 233, 3) := dk_184 0 233 (dk_at dksX7_between_0 14 rfl rfl)
theorem dX7_between_17 : decode cX7_between 17 = .ok (.invokevirtual 246, 3) := dk_182 0 246 (dk_at dksX7_between_0 17 rfl rfl)
theorem dX7_between_20 : decode cX7_between 20 = .ok (.iload_n 1, 1) := dk_27 (dk_at dksX7_between_0 20 rfl rfl)
theorem dX7_between_21 : decode cX7_between 21 = .ok (.invokestatic 233, 3) := dk_184 0 233 (dk_at dksX7_between_0 21 rfl rfl)
theorem dX7_between_24 : decode cX7_between 24 = .ok (.iconst 4, 1) := dk_7 (dk_at dksX7_between_1 0 rfl rfl)
theorem dX7_between_25 : decode cX7_between 25 = .ok (.if_icmp .ne 30, 3) := dk_160 0 30 (dk_at dksX7_between_1 1 rfl rfl)
theorem dX7_between_28 : decode cX7_between 28 = .ok (.aload_n 0, 1) := dk_42 (dk_at dksX7_between_1 4 rfl rfl)
theorem dX7_between_29 : decode cX7_between 29 = .ok (.getfield 230, 3) := dk_180 0 230 (dk_at dksX7_between_1 5 rfl rfl)
theorem dX7_between_32 : decode cX7_between 32 = .ok (.ifCond .le 23, 3) := dk_158 0 23 (dk_at dksX7_between_1 8 rfl rfl)
theorem dX7_between_35 : decode cX7_between 35 = .ok (.aload_n 0, 1) := dk_42 (dk_at dksX7_between_1 11 rfl rfl)
theorem dX7_between_36 : decode cX7_between 36 = .ok (.getfield 129, 3) := dk_180 0 129 (dk_at dksX7_between_1 12 rfl rfl)
theorem dX7_between_39 : decode cX7_between 39 = .ok (.aload_n 0, 1) := dk_42 (dk_at dksX7_between_1 15 rfl rfl)
theorem dX7_between_40 : decode cX7_between 40 = .ok (.getfield 230, 3) := dk_180 0 230 (dk_at dksX7_between_1 16 rfl rfl)
theorem dX7_between_43 : decode cX7_between 43 = .ok (.iconst 1, 1) := dk_4 (dk_at dksX7_between_1 19 rfl rfl)
theorem dX7_between_44 : decode cX7_between 44 = .ok (.isub, 1) := dk_100 (dk_at dksX7_between_1 20 rfl rfl)
theorem dX7_between_45 : decode cX7_between 45 = .ok (.iaload, 1) := dk_46 (dk_at dksX7_between_1 21 rfl rfl)
theorem dX7_between_46 : decode cX7_between 46 = .ok (.invokestatic 233, 3) := dk_184 0 233 (dk_at dksX7_between_2 0 rfl rfl)
theorem dX7_between_49 : decode cX7_between 49 = .ok (.iconst 4, 1) := dk_7 (dk_at dksX7_between_2 3 rfl rfl)
theorem dX7_between_50 : decode cX7_between 50 = .ok (.if_icmp .ne 5, 3) := dk_160 0 5 (dk_at dksX7_between_2 4 rfl rfl)
theorem dX7_between_53 : decode cX7_between 53 = .ok (.iconst 0, 1) := dk_3 (dk_at dksX7_between_2 7 rfl rfl)
theorem dX7_between_54 : decode cX7_between 54 = .ok (.ireturn, 1) := dk_172 (dk_at dksX7_between_2 8 rfl rfl)
theorem dX7_between_55 : decode cX7_between 55 = .ok (.aload_n 0, 1) := dk_42 (dk_at dksX7_between_2 9 rfl rfl)
theorem dX7_between_56 : decode cX7_between 56 = .ok (.iload_n 1, 1) := dk_27 (dk_at dksX7_between_2 10 rfl rfl)
theorem dX7_between_57 : decode cX7_between 57 = .ok (.invokevirtual 243, 3) := dk_182 0 243 (dk_at dksX7_between_2 11 rfl rfl)
theorem dX7_between_60 : decode cX7_between 60 = .ok (.iconst 1, 1) := dk_4 (dk_at dksX7_between_2 14 rfl rfl)
theorem dX7_between_61 : decode cX7_between 61 = .ok (.ireturn, 1) := dk_172 (dk_at dksX7_between_2 15 rfl rfl)
abbrev cX7_force : ByteArray := prog_19_method_37_code
def yX7_force : MethodName := ⟨RX7, "force", "(I)I"⟩
def dkwX7_force_1 : List UInt8 := [181, 0, 203, 28, 172]
abbrev dktX7_force_1 : List UInt8 := dkwX7_force_1 ++ []
def dkwX7_force_0 : List UInt8 := [27, 3, 42, 180, 0, 61, 4, 100, 184, 0, 159, 154, 0, 6, 16, 254, 172, 42, 180, 0, 203, 61, 42, 27]
abbrev dktX7_force_0 : List UInt8 := dkwX7_force_0 ++ dktX7_force_1
theorem dksX7_force_0 : cX7_force.data.toList.drop 0 = dktX7_force_0 := by decide +kernel
theorem dksX7_force_1 : cX7_force.data.toList.drop 24 = dktX7_force_1 := dk_seg dksX7_force_0 24 rfl rfl
theorem dX7_force_0 : decode cX7_force 0 = .ok (.iload_n 1, 1) := dk_27 (dk_at dksX7_force_0 0 rfl rfl)
theorem dX7_force_1 : decode cX7_force 1 = .ok (.iconst 0, 1) := dk_3 (dk_at dksX7_force_0 1 rfl rfl)
theorem dX7_force_2 : decode cX7_force 2 = .ok (.aload_n 0, 1) := dk_42 (dk_at dksX7_force_0 2 rfl rfl)
theorem dX7_force_3 : decode cX7_force 3 = .ok (.getfield 61, 3) := dk_180 0 61 (dk_at dksX7_force_0 3 rfl rfl)
theorem dX7_force_6 : decode cX7_force 6 = .ok (.iconst 1, 1) := dk_4 (dk_at dksX7_force_0 6 rfl rfl)
theorem dX7_force_7 : decode cX7_force 7 = .ok (.isub, 1) := dk_100 (dk_at dksX7_force_0 7 rfl rfl)
theorem dX7_force_8 : decode cX7_force 8 = .ok (.invokestatic 159, 3) := dk_184 0 159 (dk_at dksX7_force_0 8 rfl rfl)
theorem dX7_force_11 : decode cX7_force 11 = .ok (.ifCond .ne 6, 3) := dk_154 0 6 (dk_at dksX7_force_0 11 rfl rfl)
theorem dX7_force_14 : decode cX7_force 14 = .ok (.bipush (-2), 2) := dk_16 254 (dk_at dksX7_force_0 14 rfl rfl)
theorem dX7_force_16 : decode cX7_force 16 = .ok (.ireturn, 1) := dk_172 (dk_at dksX7_force_0 16 rfl rfl)
theorem dX7_force_17 : decode cX7_force 17 = .ok (.aload_n 0, 1) := dk_42 (dk_at dksX7_force_0 17 rfl rfl)
theorem dX7_force_18 : decode cX7_force 18 = .ok (.getfield 203, 3) := dk_180 0 203 (dk_at dksX7_force_0 18 rfl rfl)
theorem dX7_force_21 : decode cX7_force 21 = .ok (.istore_n 2, 1) := dk_61 (dk_at dksX7_force_0 21 rfl rfl)
theorem dX7_force_22 : decode cX7_force 22 = .ok (.aload_n 0, 1) := dk_42 (dk_at dksX7_force_0 22 rfl rfl)
theorem dX7_force_23 : decode cX7_force 23 = .ok (.iload_n 1, 1) := dk_27 (dk_at dksX7_force_0 23 rfl rfl)
theorem dX7_force_24 : decode cX7_force 24 = .ok (.putfield 203, 3) := dk_181 0 203 (dk_at dksX7_force_1 0 rfl rfl)
theorem dX7_force_27 : decode cX7_force 27 = .ok (.iload_n 2, 1) := dk_28 (dk_at dksX7_force_1 3 rfl rfl)
theorem dX7_force_28 : decode cX7_force 28 = .ok (.ireturn, 1) := dk_172 (dk_at dksX7_force_1 4 rfl rfl)
abbrev cX7_hidden : ByteArray := prog_19_method_43_code
def yX7_hidden : MethodName := ⟨RX7, "hidden", "(III)I"⟩
def dkwX7_hidden_1 : List UInt8 := [184, 0, 159, 153, 0, 13, 42, 27, 28, 29, 182, 1, 29, 167, 0, 5, 16, 249, 172]
abbrev dktX7_hidden_1 : List UInt8 := dkwX7_hidden_1 ++ []
def dkwX7_hidden_0 : List UInt8 := [42, 27, 28, 182, 0, 167, 154, 0, 8, 16, 251, 167, 0, 29, 29, 3, 42, 180, 0, 197, 4, 100]
abbrev dktX7_hidden_0 : List UInt8 := dkwX7_hidden_0 ++ dktX7_hidden_1
theorem dksX7_hidden_0 : cX7_hidden.data.toList.drop 0 = dktX7_hidden_0 := by decide +kernel
theorem dksX7_hidden_1 : cX7_hidden.data.toList.drop 22 = dktX7_hidden_1 := dk_seg dksX7_hidden_0 22 rfl rfl
theorem dX7_hidden_0 : decode cX7_hidden 0 = .ok (.aload_n 0, 1) := dk_42 (dk_at dksX7_hidden_0 0 rfl rfl)
theorem dX7_hidden_1 : decode cX7_hidden 1 = .ok (.iload_n 1, 1) := dk_27 (dk_at dksX7_hidden_0 1 rfl rfl)
theorem dX7_hidden_2 : decode cX7_hidden 2 = .ok (.iload_n 2, 1) := dk_28 (dk_at dksX7_hidden_0 2 rfl rfl)
theorem dX7_hidden_3 : decode cX7_hidden 3 = .ok (.invokevirtual 167, 3) := dk_182 0 167 (dk_at dksX7_hidden_0 3 rfl rfl)
theorem dX7_hidden_6 : decode cX7_hidden 6 = .ok (.ifCond .ne 8, 3) := dk_154 0 8 (dk_at dksX7_hidden_0 6 rfl rfl)
theorem dX7_hidden_9 : decode cX7_hidden 9 = .ok (.bipush (-5), 2) := dk_16 251 (dk_at dksX7_hidden_0 9 rfl rfl)
theorem dX7_hidden_11 : decode cX7_hidden 11 = .ok (.goto 29, 3) := dk_167 0 29 (dk_at dksX7_hidden_0 11 rfl rfl)
theorem dX7_hidden_14 : decode cX7_hidden 14 = .ok (.iload_n 3, 1) := dk_29 (dk_at dksX7_hidden_0 14 rfl rfl)
theorem dX7_hidden_15 : decode cX7_hidden 15 = .ok (.iconst 0, 1) := dk_3 (dk_at dksX7_hidden_0 15 rfl rfl)
theorem dX7_hidden_16 : decode cX7_hidden 16 = .ok (.aload_n 0, 1) := dk_42 (dk_at dksX7_hidden_0 16 rfl rfl)
theorem dX7_hidden_17 : decode cX7_hidden 17 = .ok (.getfield 197, 3) := dk_180 0 197 (dk_at dksX7_hidden_0 17 rfl rfl)
theorem dX7_hidden_20 : decode cX7_hidden 20 = .ok (.iconst 1, 1) := dk_4 (dk_at dksX7_hidden_0 20 rfl rfl)
theorem dX7_hidden_21 : decode cX7_hidden 21 = .ok (.isub, 1) := dk_100 (dk_at dksX7_hidden_0 21 rfl rfl)
theorem dX7_hidden_22 : decode cX7_hidden 22 = .ok (.invokestatic 159, 3) := dk_184 0 159 (dk_at dksX7_hidden_1 0 rfl rfl)
theorem dX7_hidden_25 : decode cX7_hidden 25 = .ok (.ifCond .eq 13, 3) := dk_153 0 13 (dk_at dksX7_hidden_1 3 rfl rfl)
theorem dX7_hidden_28 : decode cX7_hidden 28 = .ok (.aload_n 0, 1) := dk_42 (dk_at dksX7_hidden_1 6 rfl rfl)
theorem dX7_hidden_29 : decode cX7_hidden 29 = .ok (.iload_n 1, 1) := dk_27 (dk_at dksX7_hidden_1 7 rfl rfl)
theorem dX7_hidden_30 : decode cX7_hidden 30 = .ok (.iload_n 2, 1) := dk_28 (dk_at dksX7_hidden_1 8 rfl rfl)
theorem dX7_hidden_31 : decode cX7_hidden 31 = .ok (.iload_n 3, 1) := dk_29 (dk_at dksX7_hidden_1 9 rfl rfl)
theorem dX7_hidden_32 : decode cX7_hidden 32 = .ok (.invokevirtual 285, 3) := dk_182 1 29 (dk_at dksX7_hidden_1 10 rfl rfl)
theorem dX7_hidden_35 : decode cX7_hidden 35 = .ok (.goto 5, 3) := dk_167 0 5 (dk_at dksX7_hidden_1 13 rfl rfl)
theorem dX7_hidden_38 : decode cX7_hidden 38 = .ok (.bipush (-7), 2) := dk_16 249 (dk_at dksX7_hidden_1 16 rfl rfl)
theorem dX7_hidden_40 : decode cX7_hidden 40 = .ok (.ireturn, 1) := dk_172 (dk_at dksX7_hidden_1 18 rfl rfl)
abbrev cX7_hiderOf : ByteArray := prog_19_method_42_code
def yX7_hiderOf : MethodName := ⟨RX7, "hiderOf", "(III)I"⟩
def dkwX7_hiderOf_4 : List UInt8 := [160, 0, 7, 2, 167, 0, 8, 16, 100, 21, 4, 96, 172]
abbrev dktX7_hiderOf_4 : List UInt8 := dkwX7_hiderOf_4 ++ []
def dkwX7_hiderOf_3 : List UInt8 := [132, 5, 1, 167, 255, 194, 132, 4, 1, 167, 255, 179, 42, 27, 28, 29, 182, 1, 26, 54, 4, 21, 4, 2]
abbrev dktX7_hiderOf_3 : List UInt8 := dkwX7_hiderOf_3 ++ dktX7_hiderOf_4
def dkwX7_hiderOf_2 : List UInt8 := [182, 0, 191, 42, 21, 4, 182, 0, 185, 182, 1, 23, 153, 0, 12, 16, 10, 21, 4, 104, 21, 5, 96, 172]
abbrev dktX7_hiderOf_2 : List UInt8 := dkwX7_hiderOf_2 ++ dktX7_hiderOf_3
def dkwX7_hiderOf_1 : List UInt8 := [42, 27, 28, 29, 21, 4, 21, 5, 182, 1, 19, 153, 0, 36, 42, 27, 28, 29, 42, 21, 4, 21, 5]
abbrev dktX7_hiderOf_1 : List UInt8 := dkwX7_hiderOf_1 ++ dktX7_hiderOf_2
def dkwX7_hiderOf_0 : List UInt8 := [3, 54, 4, 21, 4, 27, 162, 0, 77, 3, 54, 5, 21, 5, 42, 180, 0, 22, 21, 4, 46, 162, 0, 56]
abbrev dktX7_hiderOf_0 : List UInt8 := dkwX7_hiderOf_0 ++ dktX7_hiderOf_1
theorem dksX7_hiderOf_0 : cX7_hiderOf.data.toList.drop 0 = dktX7_hiderOf_0 := by decide +kernel
theorem dksX7_hiderOf_1 : cX7_hiderOf.data.toList.drop 24 = dktX7_hiderOf_1 := dk_seg dksX7_hiderOf_0 24 rfl rfl
theorem dksX7_hiderOf_2 : cX7_hiderOf.data.toList.drop 47 = dktX7_hiderOf_2 := dk_seg dksX7_hiderOf_1 23 rfl rfl
theorem dksX7_hiderOf_3 : cX7_hiderOf.data.toList.drop 71 = dktX7_hiderOf_3 := dk_seg dksX7_hiderOf_2 24 rfl rfl
theorem dksX7_hiderOf_4 : cX7_hiderOf.data.toList.drop 95 = dktX7_hiderOf_4 := dk_seg dksX7_hiderOf_3 24 rfl rfl
theorem dX7_hiderOf_0 : decode cX7_hiderOf 0 = .ok (.iconst 0, 1) := dk_3 (dk_at dksX7_hiderOf_0 0 rfl rfl)
theorem dX7_hiderOf_1 : decode cX7_hiderOf 1 = .ok (.istore 4, 2) := dk_54 4 (dk_at dksX7_hiderOf_0 1 rfl rfl)
theorem dX7_hiderOf_3 : decode cX7_hiderOf 3 = .ok (.iload 4, 2) := dk_21 4 (dk_at dksX7_hiderOf_0 3 rfl rfl)
theorem dX7_hiderOf_5 : decode cX7_hiderOf 5 = .ok (.iload_n 1, 1) := dk_27 (dk_at dksX7_hiderOf_0 5 rfl rfl)
theorem dX7_hiderOf_6 : decode cX7_hiderOf 6 = .ok (.if_icmp .ge 77, 3) := dk_162 0 77 (dk_at dksX7_hiderOf_0 6 rfl rfl)
theorem dX7_hiderOf_9 : decode cX7_hiderOf 9 = .ok (.iconst 0, 1) := dk_3 (dk_at dksX7_hiderOf_0 9 rfl rfl)
theorem dX7_hiderOf_10 : decode cX7_hiderOf 10 = .ok (.istore 5, 2) := dk_54 5 (dk_at dksX7_hiderOf_0 10 rfl rfl)
theorem dX7_hiderOf_12 : decode cX7_hiderOf 12 = .ok (.iload 5, 2) := dk_21 5 (dk_at dksX7_hiderOf_0 12 rfl rfl)
theorem dX7_hiderOf_14 : decode cX7_hiderOf 14 = .ok (.aload_n 0, 1) := dk_42 (dk_at dksX7_hiderOf_0 14 rfl rfl)
theorem dX7_hiderOf_15 : decode cX7_hiderOf 15 = .ok (.getfield 22, 3) := dk_180 0 22 (dk_at dksX7_hiderOf_0 15 rfl rfl)
theorem dX7_hiderOf_18 : decode cX7_hiderOf 18 = .ok (.iload 4, 2) := dk_21 4 (dk_at dksX7_hiderOf_0 18 rfl rfl)
theorem dX7_hiderOf_20 : decode cX7_hiderOf 20 = .ok (.iaload, 1) := dk_46 (dk_at dksX7_hiderOf_0 20 rfl rfl)
theorem dX7_hiderOf_21 : decode cX7_hiderOf 21 = .ok (.if_icmp .ge 56, 3) := dk_162 0 56 (dk_at dksX7_hiderOf_0 21 rfl rfl)
theorem dX7_hiderOf_24 : decode cX7_hiderOf 24 = .ok (.aload_n 0, 1) := dk_42 (dk_at dksX7_hiderOf_1 0 rfl rfl)
theorem dX7_hiderOf_25 : decode cX7_hiderOf 25 = .ok (.iload_n 1, 1) := dk_27 (dk_at dksX7_hiderOf_1 1 rfl rfl)
theorem dX7_hiderOf_26 : decode cX7_hiderOf 26 = .ok (.iload_n 2, 1) := dk_28 (dk_at dksX7_hiderOf_1 2 rfl rfl)
theorem dX7_hiderOf_27 : decode cX7_hiderOf 27 = .ok (.iload_n 3, 1) := dk_29 (dk_at dksX7_hiderOf_1 3 rfl rfl)
theorem dX7_hiderOf_28 : decode cX7_hiderOf 28 = .ok (.iload 4, 2) := dk_21 4 (dk_at dksX7_hiderOf_1 4 rfl rfl)
theorem dX7_hiderOf_30 : decode cX7_hiderOf 30 = .ok (.iload 5, 2) := dk_21 5 (dk_at dksX7_hiderOf_1 6 rfl rfl)
theorem dX7_hiderOf_32 : decode cX7_hiderOf 32 = .ok (.invokevirtual 275, 3) := dk_182 1 19 (dk_at dksX7_hiderOf_1 8 rfl rfl)
theorem dX7_hiderOf_35 : decode cX7_hiderOf 35 = .ok (.ifCond .eq 36, 3) := dk_153 0 36 (dk_at dksX7_hiderOf_1 11 rfl rfl)
theorem dX7_hiderOf_38 : decode cX7_hiderOf 38 = .ok (.aload_n 0, 1) := dk_42 (dk_at dksX7_hiderOf_1 14 rfl rfl)
theorem dX7_hiderOf_39 : decode cX7_hiderOf 39 = .ok (.iload_n 1, 1) := dk_27 (dk_at dksX7_hiderOf_1 15 rfl rfl)
theorem dX7_hiderOf_40 : decode cX7_hiderOf 40 = .ok (.iload_n 2, 1) := dk_28 (dk_at dksX7_hiderOf_1 16 rfl rfl)
theorem dX7_hiderOf_41 : decode cX7_hiderOf 41 = .ok (.iload_n 3, 1) := dk_29 (dk_at dksX7_hiderOf_1 17 rfl rfl)
theorem dX7_hiderOf_42 : decode cX7_hiderOf 42 = .ok (.aload_n 0, 1) := dk_42 (dk_at dksX7_hiderOf_1 18 rfl rfl)
theorem dX7_hiderOf_43 : decode cX7_hiderOf 43 = .ok (.iload 4, 2) := dk_21 4 (dk_at dksX7_hiderOf_1 19 rfl rfl)
theorem dX7_hiderOf_45 : decode cX7_hiderOf 45 = .ok (.iload 5, 2) := dk_21 5 (dk_at dksX7_hiderOf_1 21 rfl rfl)
theorem dX7_hiderOf_47 : decode cX7_hiderOf 47 = .ok (.invokevirtual 191, 3) := dk_182 0 191 (dk_at dksX7_hiderOf_2 0 rfl rfl)
theorem dX7_hiderOf_50 : decode cX7_hiderOf 50 = .ok (.aload_n 0, 1) := dk_42 (dk_at dksX7_hiderOf_2 3 rfl rfl)
theorem dX7_hiderOf_51 : decode cX7_hiderOf 51 = .ok (.iload 4, 2) := dk_21 4 (dk_at dksX7_hiderOf_2 4 rfl rfl)
theorem dX7_hiderOf_53 : decode cX7_hiderOf 53 = .ok (.invokevirtual 185, 3) := dk_182 0 185 (dk_at dksX7_hiderOf_2 6 rfl rfl)
theorem dX7_hiderOf_56 : decode cX7_hiderOf 56 = .ok (.invokevirtual 279, 3) := dk_182 1 23 (dk_at dksX7_hiderOf_2 9 rfl rfl)
theorem dX7_hiderOf_59 : decode cX7_hiderOf 59 = .ok (.ifCond .eq 12, 3) := dk_153 0 12 (dk_at dksX7_hiderOf_2 12 rfl rfl)
theorem dX7_hiderOf_62 : decode cX7_hiderOf 62 = .ok (.bipush 10, 2) := dk_16 10 (dk_at dksX7_hiderOf_2 15 rfl rfl)
theorem dX7_hiderOf_64 : decode cX7_hiderOf 64 = .ok (.iload 4, 2) := dk_21 4 (dk_at dksX7_hiderOf_2 17 rfl rfl)
theorem dX7_hiderOf_66 : decode cX7_hiderOf 66 = .ok (.imul, 1) := dk_104 (dk_at dksX7_hiderOf_2 19 rfl rfl)
theorem dX7_hiderOf_67 : decode cX7_hiderOf 67 = .ok (.iload 5, 2) := dk_21 5 (dk_at dksX7_hiderOf_2 20 rfl rfl)
theorem dX7_hiderOf_69 : decode cX7_hiderOf 69 = .ok (.iadd, 1) := dk_96 (dk_at dksX7_hiderOf_2 22 rfl rfl)
theorem dX7_hiderOf_70 : decode cX7_hiderOf 70 = .ok (.ireturn, 1) := dk_172 (dk_at dksX7_hiderOf_2 23 rfl rfl)
theorem dX7_hiderOf_71 : decode cX7_hiderOf 71 = .ok (.iinc 5 1, 3) := dk_132 5 1 (dk_at dksX7_hiderOf_3 0 rfl rfl)
theorem dX7_hiderOf_74 : decode cX7_hiderOf 74 = .ok (.goto (-62), 3) := dk_167 255 194 (dk_at dksX7_hiderOf_3 3 rfl rfl)
theorem dX7_hiderOf_77 : decode cX7_hiderOf 77 = .ok (.iinc 4 1, 3) := dk_132 4 1 (dk_at dksX7_hiderOf_3 6 rfl rfl)
theorem dX7_hiderOf_80 : decode cX7_hiderOf 80 = .ok (.goto (-77), 3) := dk_167 255 179 (dk_at dksX7_hiderOf_3 9 rfl rfl)
theorem dX7_hiderOf_83 : decode cX7_hiderOf 83 = .ok (.aload_n 0, 1) := dk_42 (dk_at dksX7_hiderOf_3 12 rfl rfl)
theorem dX7_hiderOf_84 : decode cX7_hiderOf 84 = .ok (.iload_n 1, 1) := dk_27 (dk_at dksX7_hiderOf_3 13 rfl rfl)
theorem dX7_hiderOf_85 : decode cX7_hiderOf 85 = .ok (.iload_n 2, 1) := dk_28 (dk_at dksX7_hiderOf_3 14 rfl rfl)
theorem dX7_hiderOf_86 : decode cX7_hiderOf 86 = .ok (.iload_n 3, 1) := dk_29 (dk_at dksX7_hiderOf_3 15 rfl rfl)
theorem dX7_hiderOf_87 : decode cX7_hiderOf 87 = .ok (.invokevirtual 282, 3) := dk_182 1 26 (dk_at dksX7_hiderOf_3 16 rfl rfl)
theorem dX7_hiderOf_90 : decode cX7_hiderOf 90 = .ok (.istore 4, 2) := dk_54 4 (dk_at dksX7_hiderOf_3 19 rfl rfl)
theorem dX7_hiderOf_92 : decode cX7_hiderOf 92 = .ok (.iload 4, 2) := dk_21 4 (dk_at dksX7_hiderOf_3 21 rfl rfl)
theorem dX7_hiderOf_94 : decode cX7_hiderOf 94 = .ok (.iconst (-1), 1) := dk_2 (dk_at dksX7_hiderOf_3 23 rfl rfl)
theorem dX7_hiderOf_95 : decode cX7_hiderOf 95 = .ok (.if_icmp .ne 7, 3) := dk_160 0 7 (dk_at dksX7_hiderOf_4 0 rfl rfl)
theorem dX7_hiderOf_98 : decode cX7_hiderOf 98 = .ok (.iconst (-1), 1) := dk_2 (dk_at dksX7_hiderOf_4 3 rfl rfl)
theorem dX7_hiderOf_99 : decode cX7_hiderOf 99 = .ok (.goto 8, 3) := dk_167 0 8 (dk_at dksX7_hiderOf_4 4 rfl rfl)
theorem dX7_hiderOf_102 : decode cX7_hiderOf 102 = .ok (.bipush 100, 2) := dk_16 100 (dk_at dksX7_hiderOf_4 7 rfl rfl)
theorem dX7_hiderOf_104 : decode cX7_hiderOf 104 = .ok (.iload 4, 2) := dk_21 4 (dk_at dksX7_hiderOf_4 9 rfl rfl)
theorem dX7_hiderOf_106 : decode cX7_hiderOf 106 = .ok (.iadd, 1) := dk_96 (dk_at dksX7_hiderOf_4 11 rfl rfl)
theorem dX7_hiderOf_107 : decode cX7_hiderOf 107 = .ok (.ireturn, 1) := dk_172 (dk_at dksX7_hiderOf_4 12 rfl rfl)
abbrev cX7_isNear : ByteArray := prog_19_method_40_code
def yX7_isNear : MethodName := ⟨RX7, "isNear", "(IIIII)Z"⟩
def dkwX7_isNear_2 : List UInt8 := [167, 0, 4, 3, 172]
abbrev dktX7_isNear_2 : List UInt8 := dkwX7_isNear_2 ++ []
def dkwX7_isNear_1 : List UInt8 := [21, 5, 182, 0, 182, 42, 21, 4, 182, 0, 185, 182, 1, 15, 42, 27, 182, 0, 185, 163, 0, 7, 4]
abbrev dktX7_isNear_1 : List UInt8 := dkwX7_isNear_1 ++ dktX7_isNear_2
def dkwX7_isNear_0 : List UInt8 := [42, 27, 182, 0, 194, 153, 0, 45, 42, 21, 4, 182, 0, 194, 153, 0, 36, 42, 27, 28, 29, 42, 21, 4]
abbrev dktX7_isNear_0 : List UInt8 := dkwX7_isNear_0 ++ dktX7_isNear_1
theorem dksX7_isNear_0 : cX7_isNear.data.toList.drop 0 = dktX7_isNear_0 := by decide +kernel
theorem dksX7_isNear_1 : cX7_isNear.data.toList.drop 24 = dktX7_isNear_1 := dk_seg dksX7_isNear_0 24 rfl rfl
theorem dksX7_isNear_2 : cX7_isNear.data.toList.drop 47 = dktX7_isNear_2 := dk_seg dksX7_isNear_1 23 rfl rfl
theorem dX7_isNear_0 : decode cX7_isNear 0 = .ok (.aload_n 0, 1) := dk_42 (dk_at dksX7_isNear_0 0 rfl rfl)
theorem dX7_isNear_1 : decode cX7_isNear 1 = .ok (.iload_n 1, 1) := dk_27 (dk_at dksX7_isNear_0 1 rfl rfl)
theorem dX7_isNear_2 : decode cX7_isNear 2 = .ok (.invokevirtual 194, 3) := dk_182 0 194 (dk_at dksX7_isNear_0 2 rfl rfl)
theorem dX7_isNear_5 : decode cX7_isNear 5 = .ok (.ifCond .eq 45, 3) := dk_153 0 45 (dk_at dksX7_isNear_0 5 rfl rfl)
theorem dX7_isNear_8 : decode cX7_isNear 8 = .ok (.aload_n 0, 1) := dk_42 (dk_at dksX7_isNear_0 8 rfl rfl)
theorem dX7_isNear_9 : decode cX7_isNear 9 = .ok (.iload 4, 2) := dk_21 4 (dk_at dksX7_isNear_0 9 rfl rfl)
theorem dX7_isNear_11 : decode cX7_isNear 11 = .ok (.invokevirtual 194, 3) := dk_182 0 194 (dk_at dksX7_isNear_0 11 rfl rfl)
theorem dX7_isNear_14 : decode cX7_isNear 14 = .ok (.ifCond .eq 36, 3) := dk_153 0 36 (dk_at dksX7_isNear_0 14 rfl rfl)
theorem dX7_isNear_17 : decode cX7_isNear 17 = .ok (.aload_n 0, 1) := dk_42 (dk_at dksX7_isNear_0 17 rfl rfl)
theorem dX7_isNear_18 : decode cX7_isNear 18 = .ok (.iload_n 1, 1) := dk_27 (dk_at dksX7_isNear_0 18 rfl rfl)
theorem dX7_isNear_19 : decode cX7_isNear 19 = .ok (.iload_n 2, 1) := dk_28 (dk_at dksX7_isNear_0 19 rfl rfl)
theorem dX7_isNear_20 : decode cX7_isNear 20 = .ok (.iload_n 3, 1) := dk_29 (dk_at dksX7_isNear_0 20 rfl rfl)
theorem dX7_isNear_21 : decode cX7_isNear 21 = .ok (.aload_n 0, 1) := dk_42 (dk_at dksX7_isNear_0 21 rfl rfl)
theorem dX7_isNear_22 : decode cX7_isNear 22 = .ok (.iload 4, 2) := dk_21 4 (dk_at dksX7_isNear_0 22 rfl rfl)
theorem dX7_isNear_24 : decode cX7_isNear 24 = .ok (.iload 5, 2) := dk_21 5 (dk_at dksX7_isNear_1 0 rfl rfl)
theorem dX7_isNear_26 : decode cX7_isNear 26 = .ok (.invokevirtual 182, 3) := dk_182 0 182 (dk_at dksX7_isNear_1 2 rfl rfl)
theorem dX7_isNear_29 : decode cX7_isNear 29 = .ok (.aload_n 0, 1) := dk_42 (dk_at dksX7_isNear_1 5 rfl rfl)
theorem dX7_isNear_30 : decode cX7_isNear 30 = .ok (.iload 4, 2) := dk_21 4 (dk_at dksX7_isNear_1 6 rfl rfl)
theorem dX7_isNear_32 : decode cX7_isNear 32 = .ok (.invokevirtual 185, 3) := dk_182 0 185 (dk_at dksX7_isNear_1 8 rfl rfl)
theorem dX7_isNear_35 : decode cX7_isNear 35 = .ok (.invokevirtual 271, 3) := dk_182 1 15 (dk_at dksX7_isNear_1 11 rfl rfl)
theorem dX7_isNear_38 : decode cX7_isNear 38 = .ok (.aload_n 0, 1) := dk_42 (dk_at dksX7_isNear_1 14 rfl rfl)
theorem dX7_isNear_39 : decode cX7_isNear 39 = .ok (.iload_n 1, 1) := dk_27 (dk_at dksX7_isNear_1 15 rfl rfl)
theorem dX7_isNear_40 : decode cX7_isNear 40 = .ok (.invokevirtual 185, 3) := dk_182 0 185 (dk_at dksX7_isNear_1 16 rfl rfl)
theorem dX7_isNear_43 : decode cX7_isNear 43 = .ok (.if_icmp .gt 7, 3) := dk_163 0 7 (dk_at dksX7_isNear_1 19 rfl rfl)
theorem dX7_isNear_46 : decode cX7_isNear 46 = .ok (.iconst 1, 1) := dk_4 (dk_at dksX7_isNear_1 22 rfl rfl)
theorem dX7_isNear_47 : decode cX7_isNear 47 = .ok (.goto 4, 3) := dk_167 0 4 (dk_at dksX7_isNear_2 0 rfl rfl)
theorem dX7_isNear_50 : decode cX7_isNear 50 = .ok (.iconst 0, 1) := dk_3 (dk_at dksX7_isNear_2 3 rfl rfl)
theorem dX7_isNear_51 : decode cX7_isNear 51 = .ok (.ireturn, 1) := dk_172 (dk_at dksX7_isNear_2 4 rfl rfl)
abbrev cX7_beside : ByteArray := prog_19_method_38_code
def yX7_beside : MethodName := ⟨RX7, "beside", "(IIIII)I"⟩
def dkwX7_beside_2 : List UInt8 := [21, 7, 116, 167, 0, 5, 21, 7, 172]
abbrev dktX7_beside_2 : List UInt8 := dkwX7_beside_2 ++ []
def dkwX7_beside_1 : List UInt8 := [180, 0, 37, 29, 46, 100, 21, 5, 104, 96, 21, 4, 21, 6, 104, 100, 54, 7, 21, 7, 156, 0, 9]
abbrev dktX7_beside_1 : List UInt8 := dkwX7_beside_1 ++ dktX7_beside_2
def dkwX7_beside_0 : List UInt8 := [42, 27, 182, 0, 185, 54, 6, 42, 180, 0, 37, 29, 46, 21, 6, 104, 42, 27, 28, 182, 0, 182, 42]
abbrev dktX7_beside_0 : List UInt8 := dkwX7_beside_0 ++ dktX7_beside_1
theorem dksX7_beside_0 : cX7_beside.data.toList.drop 0 = dktX7_beside_0 := by decide +kernel
theorem dksX7_beside_1 : cX7_beside.data.toList.drop 23 = dktX7_beside_1 := dk_seg dksX7_beside_0 23 rfl rfl
theorem dksX7_beside_2 : cX7_beside.data.toList.drop 46 = dktX7_beside_2 := dk_seg dksX7_beside_1 23 rfl rfl
theorem dX7_beside_0 : decode cX7_beside 0 = .ok (.aload_n 0, 1) := dk_42 (dk_at dksX7_beside_0 0 rfl rfl)
theorem dX7_beside_1 : decode cX7_beside 1 = .ok (.iload_n 1, 1) := dk_27 (dk_at dksX7_beside_0 1 rfl rfl)
theorem dX7_beside_2 : decode cX7_beside 2 = .ok (.invokevirtual 185, 3) := dk_182 0 185 (dk_at dksX7_beside_0 2 rfl rfl)
theorem dX7_beside_5 : decode cX7_beside 5 = .ok (.istore 6, 2) := dk_54 6 (dk_at dksX7_beside_0 5 rfl rfl)
theorem dX7_beside_7 : decode cX7_beside 7 = .ok (.aload_n 0, 1) := dk_42 (dk_at dksX7_beside_0 7 rfl rfl)
theorem dX7_beside_8 : decode cX7_beside 8 = .ok (.getfield 37, 3) := dk_180 0 37 (dk_at dksX7_beside_0 8 rfl rfl)
theorem dX7_beside_11 : decode cX7_beside 11 = .ok (.iload_n 3, 1) := dk_29 (dk_at dksX7_beside_0 11 rfl rfl)
theorem dX7_beside_12 : decode cX7_beside 12 = .ok (.iaload, 1) := dk_46 (dk_at dksX7_beside_0 12 rfl rfl)
theorem dX7_beside_13 : decode cX7_beside 13 = .ok (.iload 6, 2) := dk_21 6 (dk_at dksX7_beside_0 13 rfl rfl)
theorem dX7_beside_15 : decode cX7_beside 15 = .ok (.imul, 1) := dk_104 (dk_at dksX7_beside_0 15 rfl rfl)
theorem dX7_beside_16 : decode cX7_beside 16 = .ok (.aload_n 0, 1) := dk_42 (dk_at dksX7_beside_0 16 rfl rfl)
theorem dX7_beside_17 : decode cX7_beside 17 = .ok (.iload_n 1, 1) := dk_27 (dk_at dksX7_beside_0 17 rfl rfl)
theorem dX7_beside_18 : decode cX7_beside 18 = .ok (.iload_n 2, 1) := dk_28 (dk_at dksX7_beside_0 18 rfl rfl)
theorem dX7_beside_19 : decode cX7_beside 19 = .ok (.invokevirtual 182, 3) := dk_182 0 182 (dk_at dksX7_beside_0 19 rfl rfl)
theorem dX7_beside_22 : decode cX7_beside 22 = .ok (.aload_n 0, 1) := dk_42 (dk_at dksX7_beside_0 22 rfl rfl)
theorem dX7_beside_23 : decode cX7_beside 23 = .ok (.getfield 37, 3) := dk_180 0 37 (dk_at dksX7_beside_1 0 rfl rfl)
theorem dX7_beside_26 : decode cX7_beside 26 = .ok (.iload_n 3, 1) := dk_29 (dk_at dksX7_beside_1 3 rfl rfl)
theorem dX7_beside_27 : decode cX7_beside 27 = .ok (.iaload, 1) := dk_46 (dk_at dksX7_beside_1 4 rfl rfl)
theorem dX7_beside_28 : decode cX7_beside 28 = .ok (.isub, 1) := dk_100 (dk_at dksX7_beside_1 5 rfl rfl)
theorem dX7_beside_29 : decode cX7_beside 29 = .ok (.iload 5, 2) := dk_21 5 (dk_at dksX7_beside_1 6 rfl rfl)
theorem dX7_beside_31 : decode cX7_beside 31 = .ok (.imul, 1) := dk_104 (dk_at dksX7_beside_1 8 rfl rfl)
theorem dX7_beside_32 : decode cX7_beside 32 = .ok (.iadd, 1) := dk_96 (dk_at dksX7_beside_1 9 rfl rfl)
theorem dX7_beside_33 : decode cX7_beside 33 = .ok (.iload 4, 2) := dk_21 4 (dk_at dksX7_beside_1 10 rfl rfl)
theorem dX7_beside_35 : decode cX7_beside 35 = .ok (.iload 6, 2) := dk_21 6 (dk_at dksX7_beside_1 12 rfl rfl)
theorem dX7_beside_37 : decode cX7_beside 37 = .ok (.imul, 1) := dk_104 (dk_at dksX7_beside_1 14 rfl rfl)
theorem dX7_beside_38 : decode cX7_beside 38 = .ok (.isub, 1) := dk_100 (dk_at dksX7_beside_1 15 rfl rfl)
theorem dX7_beside_39 : decode cX7_beside 39 = .ok (.istore 7, 2) := dk_54 7 (dk_at dksX7_beside_1 16 rfl rfl)
theorem dX7_beside_41 : decode cX7_beside 41 = .ok (.iload 7, 2) := dk_21 7 (dk_at dksX7_beside_1 18 rfl rfl)
theorem dX7_beside_43 : decode cX7_beside 43 = .ok (.ifCond .ge 9, 3) := dk_156 0 9 (dk_at dksX7_beside_1 20 rfl rfl)
theorem dX7_beside_46 : decode cX7_beside 46 = .ok (.iload 7, 2) := dk_21 7 (dk_at dksX7_beside_2 0 rfl rfl)
theorem dX7_beside_48 : decode cX7_beside 48 = .ok (.ineg, 1) := dk_116 (dk_at dksX7_beside_2 2 rfl rfl)
theorem dX7_beside_49 : decode cX7_beside 49 = .ok (.goto 5, 3) := dk_167 0 5 (dk_at dksX7_beside_2 3 rfl rfl)
theorem dX7_beside_52 : decode cX7_beside 52 = .ok (.iload 7, 2) := dk_21 7 (dk_at dksX7_beside_2 6 rfl rfl)
theorem dX7_beside_54 : decode cX7_beside 54 = .ok (.ireturn, 1) := dk_172 (dk_at dksX7_beside_2 8 rfl rfl)
abbrev cX7_isAsHigh : ByteArray := prog_19_method_39_code
def yX7_isAsHigh : MethodName := ⟨RX7, "isAsHigh", "(IIIII)Z"⟩
def dkwX7_isAsHigh_1 : List UInt8 := [182, 0, 188, 42, 180, 0, 40, 29, 46, 100, 21, 5, 104, 96, 161, 0, 7, 4, 167, 0, 4, 3, 172]
abbrev dktX7_isAsHigh_1 : List UInt8 := dkwX7_isAsHigh_1 ++ []
def dkwX7_isAsHigh_0 : List UInt8 := [42, 27, 182, 0, 185, 54, 6, 21, 4, 21, 6, 104, 42, 180, 0, 40, 29, 46, 21, 6, 104, 42, 27, 28]
abbrev dktX7_isAsHigh_0 : List UInt8 := dkwX7_isAsHigh_0 ++ dktX7_isAsHigh_1
theorem dksX7_isAsHigh_0 : cX7_isAsHigh.data.toList.drop 0 = dktX7_isAsHigh_0 := by decide +kernel
theorem dksX7_isAsHigh_1 : cX7_isAsHigh.data.toList.drop 24 = dktX7_isAsHigh_1 := dk_seg dksX7_isAsHigh_0 24 rfl rfl
theorem dX7_isAsHigh_0 : decode cX7_isAsHigh 0 = .ok (.aload_n 0, 1) := dk_42 (dk_at dksX7_isAsHigh_0 0 rfl rfl)
theorem dX7_isAsHigh_1 : decode cX7_isAsHigh 1 = .ok (.iload_n 1, 1) := dk_27 (dk_at dksX7_isAsHigh_0 1 rfl rfl)
theorem dX7_isAsHigh_2 : decode cX7_isAsHigh 2 = .ok (.invokevirtual 185, 3) := dk_182 0 185 (dk_at dksX7_isAsHigh_0 2 rfl rfl)
theorem dX7_isAsHigh_5 : decode cX7_isAsHigh 5 = .ok (.istore 6, 2) := dk_54 6 (dk_at dksX7_isAsHigh_0 5 rfl rfl)
theorem dX7_isAsHigh_7 : decode cX7_isAsHigh 7 = .ok (.iload 4, 2) := dk_21 4 (dk_at dksX7_isAsHigh_0 7 rfl rfl)
theorem dX7_isAsHigh_9 : decode cX7_isAsHigh 9 = .ok (.iload 6, 2) := dk_21 6 (dk_at dksX7_isAsHigh_0 9 rfl rfl)
theorem dX7_isAsHigh_11 : decode cX7_isAsHigh 11 = .ok (.imul, 1) := dk_104 (dk_at dksX7_isAsHigh_0 11 rfl rfl)
theorem dX7_isAsHigh_12 : decode cX7_isAsHigh 12 = .ok (.aload_n 0, 1) := dk_42 (dk_at dksX7_isAsHigh_0 12 rfl rfl)
theorem dX7_isAsHigh_13 : decode cX7_isAsHigh 13 = .ok (.getfield 40, 3) := dk_180 0 40 (dk_at dksX7_isAsHigh_0 13 rfl rfl)
theorem dX7_isAsHigh_16 : decode cX7_isAsHigh 16 = .ok (.iload_n 3, 1) := dk_29 (dk_at dksX7_isAsHigh_0 16 rfl rfl)
theorem dX7_isAsHigh_17 : decode cX7_isAsHigh 17 = .ok (.iaload, 1) := dk_46 (dk_at dksX7_isAsHigh_0 17 rfl rfl)
theorem dX7_isAsHigh_18 : decode cX7_isAsHigh 18 = .ok (.iload 6, 2) := dk_21 6 (dk_at dksX7_isAsHigh_0 18 rfl rfl)
theorem dX7_isAsHigh_20 : decode cX7_isAsHigh 20 = .ok (.imul, 1) := dk_104 (dk_at dksX7_isAsHigh_0 20 rfl rfl)
theorem dX7_isAsHigh_21 : decode cX7_isAsHigh 21 = .ok (.aload_n 0, 1) := dk_42 (dk_at dksX7_isAsHigh_0 21 rfl rfl)
theorem dX7_isAsHigh_22 : decode cX7_isAsHigh 22 = .ok (.iload_n 1, 1) := dk_27 (dk_at dksX7_isAsHigh_0 22 rfl rfl)
theorem dX7_isAsHigh_23 : decode cX7_isAsHigh 23 = .ok (.iload_n 2, 1) := dk_28 (dk_at dksX7_isAsHigh_0 23 rfl rfl)
theorem dX7_isAsHigh_24 : decode cX7_isAsHigh 24 = .ok (.invokevirtual 188, 3) := dk_182 0 188 (dk_at dksX7_isAsHigh_1 0 rfl rfl)
theorem dX7_isAsHigh_27 : decode cX7_isAsHigh 27 = .ok (.aload_n 0, 1) := dk_42 (dk_at dksX7_isAsHigh_1 3 rfl rfl)
theorem dX7_isAsHigh_28 : decode cX7_isAsHigh 28 = .ok (.getfield 40, 3) := dk_180 0 40 (dk_at dksX7_isAsHigh_1 4 rfl rfl)
theorem dX7_isAsHigh_31 : decode cX7_isAsHigh 31 = .ok (.iload_n 3, 1) := dk_29 (dk_at dksX7_isAsHigh_1 7 rfl rfl)
theorem dX7_isAsHigh_32 : decode cX7_isAsHigh 32 = .ok (.iaload, 1) := dk_46 (dk_at dksX7_isAsHigh_1 8 rfl rfl)
theorem dX7_isAsHigh_33 : decode cX7_isAsHigh 33 = .ok (.isub, 1) := dk_100 (dk_at dksX7_isAsHigh_1 9 rfl rfl)
theorem dX7_isAsHigh_34 : decode cX7_isAsHigh 34 = .ok (.iload 5, 2) := dk_21 5 (dk_at dksX7_isAsHigh_1 10 rfl rfl)
theorem dX7_isAsHigh_36 : decode cX7_isAsHigh 36 = .ok (.imul, 1) := dk_104 (dk_at dksX7_isAsHigh_1 12 rfl rfl)
theorem dX7_isAsHigh_37 : decode cX7_isAsHigh 37 = .ok (.iadd, 1) := dk_96 (dk_at dksX7_isAsHigh_1 13 rfl rfl)
theorem dX7_isAsHigh_38 : decode cX7_isAsHigh 38 = .ok (.if_icmp .lt 7, 3) := dk_161 0 7 (dk_at dksX7_isAsHigh_1 14 rfl rfl)
theorem dX7_isAsHigh_41 : decode cX7_isAsHigh 41 = .ok (.iconst 1, 1) := dk_4 (dk_at dksX7_isAsHigh_1 17 rfl rfl)
theorem dX7_isAsHigh_42 : decode cX7_isAsHigh 42 = .ok (.goto 4, 3) := dk_167 0 4 (dk_at dksX7_isAsHigh_1 18 rfl rfl)
theorem dX7_isAsHigh_45 : decode cX7_isAsHigh 45 = .ok (.iconst 0, 1) := dk_3 (dk_at dksX7_isAsHigh_1 21 rfl rfl)
theorem dX7_isAsHigh_46 : decode cX7_isAsHigh 46 = .ok (.ireturn, 1) := dk_172 (dk_at dksX7_isAsHigh_1 22 rfl rfl)
abbrev cX7_postBefore : ByteArray := prog_19_method_41_code
def yX7_postBefore : MethodName := ⟨RX7, "postBefore", "(III)I"⟩
def dkwX7_postBefore_2 : List UInt8 := [42, 27, 182, 0, 185, 162, 0, 6, 21, 4, 172, 132, 4, 1, 167, 255, 197, 2, 172]
abbrev dktX7_postBefore_2 : List UInt8 := dkwX7_postBefore_2 ++ []
def dkwX7_postBefore_1 : List UInt8 := [162, 0, 35, 42, 27, 28, 29, 42, 180, 0, 46, 21, 4, 46, 42, 180, 0, 49, 21, 4, 46, 182, 1, 15]
abbrev dktX7_postBefore_1 : List UInt8 := dkwX7_postBefore_1 ++ dktX7_postBefore_2
def dkwX7_postBefore_0 : List UInt8 := [3, 54, 4, 21, 4, 42, 180, 0, 200, 162, 0, 56, 42, 180, 0, 49, 21, 4, 46, 42, 27, 182, 0, 185]
abbrev dktX7_postBefore_0 : List UInt8 := dkwX7_postBefore_0 ++ dktX7_postBefore_1
theorem dksX7_postBefore_0 : cX7_postBefore.data.toList.drop 0 = dktX7_postBefore_0 := by decide +kernel
theorem dksX7_postBefore_1 : cX7_postBefore.data.toList.drop 24 = dktX7_postBefore_1 := dk_seg dksX7_postBefore_0 24 rfl rfl
theorem dksX7_postBefore_2 : cX7_postBefore.data.toList.drop 48 = dktX7_postBefore_2 := dk_seg dksX7_postBefore_1 24 rfl rfl
theorem dX7_postBefore_0 : decode cX7_postBefore 0 = .ok (.iconst 0, 1) := dk_3 (dk_at dksX7_postBefore_0 0 rfl rfl)
theorem dX7_postBefore_1 : decode cX7_postBefore 1 = .ok (.istore 4, 2) := dk_54 4 (dk_at dksX7_postBefore_0 1 rfl rfl)
theorem dX7_postBefore_3 : decode cX7_postBefore 3 = .ok (.iload 4, 2) := dk_21 4 (dk_at dksX7_postBefore_0 3 rfl rfl)
theorem dX7_postBefore_5 : decode cX7_postBefore 5 = .ok (.aload_n 0, 1) := dk_42 (dk_at dksX7_postBefore_0 5 rfl rfl)
theorem dX7_postBefore_6 : decode cX7_postBefore 6 = .ok (.getfield 200, 3) := dk_180 0 200 (dk_at dksX7_postBefore_0 6 rfl rfl)
theorem dX7_postBefore_9 : decode cX7_postBefore 9 = .ok (.if_icmp .ge 56, 3) := dk_162 0 56 (dk_at dksX7_postBefore_0 9 rfl rfl)
theorem dX7_postBefore_12 : decode cX7_postBefore 12 = .ok (.aload_n 0, 1) := dk_42 (dk_at dksX7_postBefore_0 12 rfl rfl)
theorem dX7_postBefore_13 : decode cX7_postBefore 13 = .ok (.getfield 49, 3) := dk_180 0 49 (dk_at dksX7_postBefore_0 13 rfl rfl)
theorem dX7_postBefore_16 : decode cX7_postBefore 16 = .ok (.iload 4, 2) := dk_21 4 (dk_at dksX7_postBefore_0 16 rfl rfl)
theorem dX7_postBefore_18 : decode cX7_postBefore 18 = .ok (.iaload, 1) := dk_46 (dk_at dksX7_postBefore_0 18 rfl rfl)
theorem dX7_postBefore_19 : decode cX7_postBefore 19 = .ok (.aload_n 0, 1) := dk_42 (dk_at dksX7_postBefore_0 19 rfl rfl)
theorem dX7_postBefore_20 : decode cX7_postBefore 20 = .ok (.iload_n 1, 1) := dk_27 (dk_at dksX7_postBefore_0 20 rfl rfl)
theorem dX7_postBefore_21 : decode cX7_postBefore 21 = .ok (.invokevirtual 185, 3) := dk_182 0 185 (dk_at dksX7_postBefore_0 21 rfl rfl)
theorem dX7_postBefore_24 : decode cX7_postBefore 24 = .ok (.if_icmp .ge 35, 3) := dk_162 0 35 (dk_at dksX7_postBefore_1 0 rfl rfl)
theorem dX7_postBefore_27 : decode cX7_postBefore 27 = .ok (.aload_n 0, 1) := dk_42 (dk_at dksX7_postBefore_1 3 rfl rfl)
theorem dX7_postBefore_28 : decode cX7_postBefore 28 = .ok (.iload_n 1, 1) := dk_27 (dk_at dksX7_postBefore_1 4 rfl rfl)
theorem dX7_postBefore_29 : decode cX7_postBefore 29 = .ok (.iload_n 2, 1) := dk_28 (dk_at dksX7_postBefore_1 5 rfl rfl)
theorem dX7_postBefore_30 : decode cX7_postBefore 30 = .ok (.iload_n 3, 1) := dk_29 (dk_at dksX7_postBefore_1 6 rfl rfl)
theorem dX7_postBefore_31 : decode cX7_postBefore 31 = .ok (.aload_n 0, 1) := dk_42 (dk_at dksX7_postBefore_1 7 rfl rfl)
theorem dX7_postBefore_32 : decode cX7_postBefore 32 = .ok (.getfield 46, 3) := dk_180 0 46 (dk_at dksX7_postBefore_1 8 rfl rfl)
theorem dX7_postBefore_35 : decode cX7_postBefore 35 = .ok (.iload 4, 2) := dk_21 4 (dk_at dksX7_postBefore_1 11 rfl rfl)
theorem dX7_postBefore_37 : decode cX7_postBefore 37 = .ok (.iaload, 1) := dk_46 (dk_at dksX7_postBefore_1 13 rfl rfl)
theorem dX7_postBefore_38 : decode cX7_postBefore 38 = .ok (.aload_n 0, 1) := dk_42 (dk_at dksX7_postBefore_1 14 rfl rfl)
theorem dX7_postBefore_39 : decode cX7_postBefore 39 = .ok (.getfield 49, 3) := dk_180 0 49 (dk_at dksX7_postBefore_1 15 rfl rfl)
theorem dX7_postBefore_42 : decode cX7_postBefore 42 = .ok (.iload 4, 2) := dk_21 4 (dk_at dksX7_postBefore_1 18 rfl rfl)
theorem dX7_postBefore_44 : decode cX7_postBefore 44 = .ok (.iaload, 1) := dk_46 (dk_at dksX7_postBefore_1 20 rfl rfl)
theorem dX7_postBefore_45 : decode cX7_postBefore 45 = .ok (.invokevirtual 271, 3) := dk_182 1 15 (dk_at dksX7_postBefore_1 21 rfl rfl)
theorem dX7_postBefore_48 : decode cX7_postBefore 48 = .ok (.aload_n 0, 1) := dk_42 (dk_at dksX7_postBefore_2 0 rfl rfl)
theorem dX7_postBefore_49 : decode cX7_postBefore 49 = .ok (.iload_n 1, 1) := dk_27 (dk_at dksX7_postBefore_2 1 rfl rfl)
theorem dX7_postBefore_50 : decode cX7_postBefore 50 = .ok (.invokevirtual 185, 3) := dk_182 0 185 (dk_at dksX7_postBefore_2 2 rfl rfl)
theorem dX7_postBefore_53 : decode cX7_postBefore 53 = .ok (.if_icmp .ge 6, 3) := dk_162 0 6 (dk_at dksX7_postBefore_2 5 rfl rfl)
theorem dX7_postBefore_56 : decode cX7_postBefore 56 = .ok (.iload 4, 2) := dk_21 4 (dk_at dksX7_postBefore_2 8 rfl rfl)
theorem dX7_postBefore_58 : decode cX7_postBefore 58 = .ok (.ireturn, 1) := dk_172 (dk_at dksX7_postBefore_2 10 rfl rfl)
theorem dX7_postBefore_59 : decode cX7_postBefore 59 = .ok (.iinc 4 1, 3) := dk_132 4 1 (dk_at dksX7_postBefore_2 11 rfl rfl)
theorem dX7_postBefore_62 : decode cX7_postBefore 62 = .ok (.goto (-59), 3) := dk_167 255 197 (dk_at dksX7_postBefore_2 14 rfl rfl)
theorem dX7_postBefore_65 : decode cX7_postBefore 65 = .ok (.iconst (-1), 1) := dk_2 (dk_at dksX7_postBefore_2 17 rfl rfl)
theorem dX7_postBefore_66 : decode cX7_postBefore 66 = .ok (.ireturn, 1) := dk_172 (dk_at dksX7_postBefore_2 18 rfl rfl)
abbrev cX7_sees : ByteArray := prog_19_method_45_code
def yX7_sees : MethodName := ⟨RX7, "sees", "(II)I"⟩
def dkwX7_sees_0 : List UInt8 := [42, 27, 28, 182, 0, 167, 153, 0, 12, 42, 27, 28, 182, 1, 32, 167, 0, 5, 16, 251, 172]
abbrev dktX7_sees_0 : List UInt8 := dkwX7_sees_0 ++ []
theorem dksX7_sees_0 : cX7_sees.data.toList.drop 0 = dktX7_sees_0 := by decide +kernel
theorem dX7_sees_0 : decode cX7_sees 0 = .ok (.aload_n 0, 1) := dk_42 (dk_at dksX7_sees_0 0 rfl rfl)
theorem dX7_sees_1 : decode cX7_sees 1 = .ok (.iload_n 1, 1) := dk_27 (dk_at dksX7_sees_0 1 rfl rfl)
theorem dX7_sees_2 : decode cX7_sees 2 = .ok (.iload_n 2, 1) := dk_28 (dk_at dksX7_sees_0 2 rfl rfl)
theorem dX7_sees_3 : decode cX7_sees 3 = .ok (.invokevirtual 167, 3) := dk_182 0 167 (dk_at dksX7_sees_0 3 rfl rfl)
theorem dX7_sees_6 : decode cX7_sees 6 = .ok (.ifCond .eq 12, 3) := dk_153 0 12 (dk_at dksX7_sees_0 6 rfl rfl)
theorem dX7_sees_9 : decode cX7_sees 9 = .ok (.aload_n 0, 1) := dk_42 (dk_at dksX7_sees_0 9 rfl rfl)
theorem dX7_sees_10 : decode cX7_sees 10 = .ok (.iload_n 1, 1) := dk_27 (dk_at dksX7_sees_0 10 rfl rfl)
theorem dX7_sees_11 : decode cX7_sees 11 = .ok (.iload_n 2, 1) := dk_28 (dk_at dksX7_sees_0 11 rfl rfl)
theorem dX7_sees_12 : decode cX7_sees 12 = .ok (.invokevirtual 288, 3) := dk_182 1 32 (dk_at dksX7_sees_0 12 rfl rfl)
theorem dX7_sees_15 : decode cX7_sees 15 = .ok (.goto 5, 3) := dk_167 0 5 (dk_at dksX7_sees_0 15 rfl rfl)
theorem dX7_sees_18 : decode cX7_sees 18 = .ok (.bipush (-5), 2) := dk_16 251 (dk_at dksX7_sees_0 18 rfl rfl)
theorem dX7_sees_20 : decode cX7_sees 20 = .ok (.ireturn, 1) := dk_172 (dk_at dksX7_sees_0 20 rfl rfl)
abbrev cX7_seesOf : ByteArray := prog_19_method_44_code
def yX7_seesOf : MethodName := ⟨RX7, "seesOf", "(II)I"⟩
def dkwX7_seesOf_1 : List UInt8 := [160, 0, 10, 4, 21, 4, 120, 167, 0, 4, 3, 128, 62, 132, 4, 1, 167, 255, 221, 29, 172]
abbrev dktX7_seesOf_1 : List UInt8 := dkwX7_seesOf_1 ++ []
def dkwX7_seesOf_0 : List UInt8 := [3, 62, 3, 54, 4, 21, 4, 42, 180, 0, 197, 162, 0, 32, 29, 42, 27, 28, 21, 4, 182, 1, 29, 2]
abbrev dktX7_seesOf_0 : List UInt8 := dkwX7_seesOf_0 ++ dktX7_seesOf_1
theorem dksX7_seesOf_0 : cX7_seesOf.data.toList.drop 0 = dktX7_seesOf_0 := by decide +kernel
theorem dksX7_seesOf_1 : cX7_seesOf.data.toList.drop 24 = dktX7_seesOf_1 := dk_seg dksX7_seesOf_0 24 rfl rfl
theorem dX7_seesOf_0 : decode cX7_seesOf 0 = .ok (.iconst 0, 1) := dk_3 (dk_at dksX7_seesOf_0 0 rfl rfl)
theorem dX7_seesOf_1 : decode cX7_seesOf 1 = .ok (.istore_n 3, 1) := dk_62 (dk_at dksX7_seesOf_0 1 rfl rfl)
theorem dX7_seesOf_2 : decode cX7_seesOf 2 = .ok (.iconst 0, 1) := dk_3 (dk_at dksX7_seesOf_0 2 rfl rfl)
theorem dX7_seesOf_3 : decode cX7_seesOf 3 = .ok (.istore 4, 2) := dk_54 4 (dk_at dksX7_seesOf_0 3 rfl rfl)
theorem dX7_seesOf_5 : decode cX7_seesOf 5 = .ok (.iload 4, 2) := dk_21 4 (dk_at dksX7_seesOf_0 5 rfl rfl)
theorem dX7_seesOf_7 : decode cX7_seesOf 7 = .ok (.aload_n 0, 1) := dk_42 (dk_at dksX7_seesOf_0 7 rfl rfl)
theorem dX7_seesOf_8 : decode cX7_seesOf 8 = .ok (.getfield 197, 3) := dk_180 0 197 (dk_at dksX7_seesOf_0 8 rfl rfl)
theorem dX7_seesOf_11 : decode cX7_seesOf 11 = .ok (.if_icmp .ge 32, 3) := dk_162 0 32 (dk_at dksX7_seesOf_0 11 rfl rfl)
theorem dX7_seesOf_14 : decode cX7_seesOf 14 = .ok (.iload_n 3, 1) := dk_29 (dk_at dksX7_seesOf_0 14 rfl rfl)
theorem dX7_seesOf_15 : decode cX7_seesOf 15 = .ok (.aload_n 0, 1) := dk_42 (dk_at dksX7_seesOf_0 15 rfl rfl)
theorem dX7_seesOf_16 : decode cX7_seesOf 16 = .ok (.iload_n 1, 1) := dk_27 (dk_at dksX7_seesOf_0 16 rfl rfl)
theorem dX7_seesOf_17 : decode cX7_seesOf 17 = .ok (.iload_n 2, 1) := dk_28 (dk_at dksX7_seesOf_0 17 rfl rfl)
theorem dX7_seesOf_18 : decode cX7_seesOf 18 = .ok (.iload 4, 2) := dk_21 4 (dk_at dksX7_seesOf_0 18 rfl rfl)
theorem dX7_seesOf_20 : decode cX7_seesOf 20 = .ok (.invokevirtual 285, 3) := dk_182 1 29 (dk_at dksX7_seesOf_0 20 rfl rfl)
theorem dX7_seesOf_23 : decode cX7_seesOf 23 = .ok (.iconst (-1), 1) := dk_2 (dk_at dksX7_seesOf_0 23 rfl rfl)
theorem dX7_seesOf_24 : decode cX7_seesOf 24 = .ok (.if_icmp .ne 10, 3) := dk_160 0 10 (dk_at dksX7_seesOf_1 0 rfl rfl)
theorem dX7_seesOf_27 : decode cX7_seesOf 27 = .ok (.iconst 1, 1) := dk_4 (dk_at dksX7_seesOf_1 3 rfl rfl)
theorem dX7_seesOf_28 : decode cX7_seesOf 28 = .ok (.iload 4, 2) := dk_21 4 (dk_at dksX7_seesOf_1 4 rfl rfl)
theorem dX7_seesOf_30 : decode cX7_seesOf 30 = .ok (.ishl, 1) := dk_120 (dk_at dksX7_seesOf_1 6 rfl rfl)
theorem dX7_seesOf_31 : decode cX7_seesOf 31 = .ok (.goto 4, 3) := dk_167 0 4 (dk_at dksX7_seesOf_1 7 rfl rfl)
theorem dX7_seesOf_34 : decode cX7_seesOf 34 = .ok (.iconst 0, 1) := dk_3 (dk_at dksX7_seesOf_1 10 rfl rfl)
theorem dX7_seesOf_35 : decode cX7_seesOf 35 = .ok (.ior, 1) := dk_128 (dk_at dksX7_seesOf_1 11 rfl rfl)
theorem dX7_seesOf_36 : decode cX7_seesOf 36 = .ok (.istore_n 3, 1) := dk_62 (dk_at dksX7_seesOf_1 12 rfl rfl)
theorem dX7_seesOf_37 : decode cX7_seesOf 37 = .ok (.iinc 4 1, 3) := dk_132 4 1 (dk_at dksX7_seesOf_1 13 rfl rfl)
theorem dX7_seesOf_40 : decode cX7_seesOf 40 = .ok (.goto (-35), 3) := dk_167 255 221 (dk_at dksX7_seesOf_1 16 rfl rfl)
theorem dX7_seesOf_43 : decode cX7_seesOf 43 = .ok (.iload_n 3, 1) := dk_29 (dk_at dksX7_seesOf_1 19 rfl rfl)
theorem dX7_seesOf_44 : decode cX7_seesOf 44 = .ok (.ireturn, 1) := dk_172 (dk_at dksX7_seesOf_1 20 rfl rfl)
abbrev cX7_worth : ByteArray := prog_19_method_49_code
def yX7_worth : MethodName := ⟨RX7, "worth", "(II)I"⟩
def dkwX7_worth_0 : List UInt8 := [42, 27, 28, 182, 0, 167, 153, 0, 12, 42, 27, 28, 182, 1, 45, 167, 0, 5, 16, 251, 172]
abbrev dktX7_worth_0 : List UInt8 := dkwX7_worth_0 ++ []
theorem dksX7_worth_0 : cX7_worth.data.toList.drop 0 = dktX7_worth_0 := by decide +kernel
theorem dX7_worth_0 : decode cX7_worth 0 = .ok (.aload_n 0, 1) := dk_42 (dk_at dksX7_worth_0 0 rfl rfl)
theorem dX7_worth_1 : decode cX7_worth 1 = .ok (.iload_n 1, 1) := dk_27 (dk_at dksX7_worth_0 1 rfl rfl)
theorem dX7_worth_2 : decode cX7_worth 2 = .ok (.iload_n 2, 1) := dk_28 (dk_at dksX7_worth_0 2 rfl rfl)
theorem dX7_worth_3 : decode cX7_worth 3 = .ok (.invokevirtual 167, 3) := dk_182 0 167 (dk_at dksX7_worth_0 3 rfl rfl)
theorem dX7_worth_6 : decode cX7_worth 6 = .ok (.ifCond .eq 12, 3) := dk_153 0 12 (dk_at dksX7_worth_0 6 rfl rfl)
theorem dX7_worth_9 : decode cX7_worth 9 = .ok (.aload_n 0, 1) := dk_42 (dk_at dksX7_worth_0 9 rfl rfl)
theorem dX7_worth_10 : decode cX7_worth 10 = .ok (.iload_n 1, 1) := dk_27 (dk_at dksX7_worth_0 10 rfl rfl)
theorem dX7_worth_11 : decode cX7_worth 11 = .ok (.iload_n 2, 1) := dk_28 (dk_at dksX7_worth_0 11 rfl rfl)
theorem dX7_worth_12 : decode cX7_worth 12 = .ok (.invokevirtual 301, 3) := dk_182 1 45 (dk_at dksX7_worth_0 12 rfl rfl)
theorem dX7_worth_15 : decode cX7_worth 15 = .ok (.goto 5, 3) := dk_167 0 5 (dk_at dksX7_worth_0 15 rfl rfl)
theorem dX7_worth_18 : decode cX7_worth 18 = .ok (.bipush (-5), 2) := dk_16 251 (dk_at dksX7_worth_0 18 rfl rfl)
theorem dX7_worth_20 : decode cX7_worth 20 = .ok (.ireturn, 1) := dk_172 (dk_at dksX7_worth_0 20 rfl rfl)
abbrev cX7_worthOf : ByteArray := prog_19_method_48_code
def yX7_worthOf : MethodName := ⟨RX7, "worthOf", "(II)I"⟩
def dkwX7_worthOf_2 : List UInt8 := [172]
abbrev dktX7_worthOf_2 : List UInt8 := dkwX7_worthOf_2 ++ []
def dkwX7_worthOf_1 : List UInt8 := [160, 0, 14, 42, 27, 28, 21, 4, 182, 1, 42, 167, 0, 4, 3, 96, 62, 132, 4, 1, 167, 255, 217, 29]
abbrev dktX7_worthOf_1 : List UInt8 := dkwX7_worthOf_1 ++ dktX7_worthOf_2
def dkwX7_worthOf_0 : List UInt8 := [3, 62, 3, 54, 4, 21, 4, 42, 180, 0, 197, 162, 0, 36, 29, 42, 27, 28, 21, 4, 182, 1, 29, 2]
abbrev dktX7_worthOf_0 : List UInt8 := dkwX7_worthOf_0 ++ dktX7_worthOf_1
theorem dksX7_worthOf_0 : cX7_worthOf.data.toList.drop 0 = dktX7_worthOf_0 := by decide +kernel
theorem dksX7_worthOf_1 : cX7_worthOf.data.toList.drop 24 = dktX7_worthOf_1 := dk_seg dksX7_worthOf_0 24 rfl rfl
theorem dksX7_worthOf_2 : cX7_worthOf.data.toList.drop 48 = dktX7_worthOf_2 := dk_seg dksX7_worthOf_1 24 rfl rfl
theorem dX7_worthOf_0 : decode cX7_worthOf 0 = .ok (.iconst 0, 1) := dk_3 (dk_at dksX7_worthOf_0 0 rfl rfl)
theorem dX7_worthOf_1 : decode cX7_worthOf 1 = .ok (.istore_n 3, 1) := dk_62 (dk_at dksX7_worthOf_0 1 rfl rfl)
theorem dX7_worthOf_2 : decode cX7_worthOf 2 = .ok (.iconst 0, 1) := dk_3 (dk_at dksX7_worthOf_0 2 rfl rfl)
theorem dX7_worthOf_3 : decode cX7_worthOf 3 = .ok (.istore 4, 2) := dk_54 4 (dk_at dksX7_worthOf_0 3 rfl rfl)
theorem dX7_worthOf_5 : decode cX7_worthOf 5 = .ok (.iload 4, 2) := dk_21 4 (dk_at dksX7_worthOf_0 5 rfl rfl)
theorem dX7_worthOf_7 : decode cX7_worthOf 7 = .ok (.aload_n 0, 1) := dk_42 (dk_at dksX7_worthOf_0 7 rfl rfl)
theorem dX7_worthOf_8 : decode cX7_worthOf 8 = .ok (.getfield 197, 3) := dk_180 0 197 (dk_at dksX7_worthOf_0 8 rfl rfl)
theorem dX7_worthOf_11 : decode cX7_worthOf 11 = .ok (.if_icmp .ge 36, 3) := dk_162 0 36 (dk_at dksX7_worthOf_0 11 rfl rfl)
theorem dX7_worthOf_14 : decode cX7_worthOf 14 = .ok (.iload_n 3, 1) := dk_29 (dk_at dksX7_worthOf_0 14 rfl rfl)
theorem dX7_worthOf_15 : decode cX7_worthOf 15 = .ok (.aload_n 0, 1) := dk_42 (dk_at dksX7_worthOf_0 15 rfl rfl)
theorem dX7_worthOf_16 : decode cX7_worthOf 16 = .ok (.iload_n 1, 1) := dk_27 (dk_at dksX7_worthOf_0 16 rfl rfl)
theorem dX7_worthOf_17 : decode cX7_worthOf 17 = .ok (.iload_n 2, 1) := dk_28 (dk_at dksX7_worthOf_0 17 rfl rfl)
theorem dX7_worthOf_18 : decode cX7_worthOf 18 = .ok (.iload 4, 2) := dk_21 4 (dk_at dksX7_worthOf_0 18 rfl rfl)
theorem dX7_worthOf_20 : decode cX7_worthOf 20 = .ok (.invokevirtual 285, 3) := dk_182 1 29 (dk_at dksX7_worthOf_0 20 rfl rfl)
theorem dX7_worthOf_23 : decode cX7_worthOf 23 = .ok (.iconst (-1), 1) := dk_2 (dk_at dksX7_worthOf_0 23 rfl rfl)
theorem dX7_worthOf_24 : decode cX7_worthOf 24 = .ok (.if_icmp .ne 14, 3) := dk_160 0 14 (dk_at dksX7_worthOf_1 0 rfl rfl)
theorem dX7_worthOf_27 : decode cX7_worthOf 27 = .ok (.aload_n 0, 1) := dk_42 (dk_at dksX7_worthOf_1 3 rfl rfl)
theorem dX7_worthOf_28 : decode cX7_worthOf 28 = .ok (.iload_n 1, 1) := dk_27 (dk_at dksX7_worthOf_1 4 rfl rfl)
theorem dX7_worthOf_29 : decode cX7_worthOf 29 = .ok (.iload_n 2, 1) := dk_28 (dk_at dksX7_worthOf_1 5 rfl rfl)
theorem dX7_worthOf_30 : decode cX7_worthOf 30 = .ok (.iload 4, 2) := dk_21 4 (dk_at dksX7_worthOf_1 6 rfl rfl)
theorem dX7_worthOf_32 : decode cX7_worthOf 32 = .ok (.invokevirtual 298, 3) := dk_182 1 42 (dk_at dksX7_worthOf_1 8 rfl rfl)
theorem dX7_worthOf_35 : decode cX7_worthOf 35 = .ok (.goto 4, 3) := dk_167 0 4 (dk_at dksX7_worthOf_1 11 rfl rfl)
theorem dX7_worthOf_38 : decode cX7_worthOf 38 = .ok (.iconst 0, 1) := dk_3 (dk_at dksX7_worthOf_1 14 rfl rfl)
theorem dX7_worthOf_39 : decode cX7_worthOf 39 = .ok (.iadd, 1) := dk_96 (dk_at dksX7_worthOf_1 15 rfl rfl)
theorem dX7_worthOf_40 : decode cX7_worthOf 40 = .ok (.istore_n 3, 1) := dk_62 (dk_at dksX7_worthOf_1 16 rfl rfl)
theorem dX7_worthOf_41 : decode cX7_worthOf 41 = .ok (.iinc 4 1, 3) := dk_132 4 1 (dk_at dksX7_worthOf_1 17 rfl rfl)
theorem dX7_worthOf_44 : decode cX7_worthOf 44 = .ok (.goto (-39), 3) := dk_167 255 217 (dk_at dksX7_worthOf_1 20 rfl rfl)
theorem dX7_worthOf_47 : decode cX7_worthOf 47 = .ok (.iload_n 3, 1) := dk_29 (dk_at dksX7_worthOf_1 23 rfl rfl)
theorem dX7_worthOf_48 : decode cX7_worthOf 48 = .ok (.ireturn, 1) := dk_172 (dk_at dksX7_worthOf_2 0 rfl rfl)
abbrev cX7_likeOf : ByteArray := prog_19_method_47_code
def yX7_likeOf : MethodName := ⟨RX7, "likeOf", "(III)I"⟩
def dkwX7_likeOf_2 : List UInt8 := [172]
abbrev dktX7_likeOf_2 : List UInt8 := dkwX7_likeOf_2 ++ []
def dkwX7_likeOf_1 : List UInt8 := [182, 0, 171, 42, 180, 0, 34, 16, 8, 27, 104, 28, 96, 46, 182, 1, 35, 42, 3, 16, 99, 182, 1, 39]
abbrev dktX7_likeOf_1 : List UInt8 := dkwX7_likeOf_1 ++ dktX7_likeOf_2
def dkwX7_likeOf_0 : List UInt8 := [42, 42, 180, 0, 43, 29, 46, 42, 180, 0, 40, 29, 46, 27, 42, 27, 28, 182, 0, 182, 42, 27]
abbrev dktX7_likeOf_0 : List UInt8 := dkwX7_likeOf_0 ++ dktX7_likeOf_1
theorem dksX7_likeOf_0 : cX7_likeOf.data.toList.drop 0 = dktX7_likeOf_0 := by decide +kernel
theorem dksX7_likeOf_1 : cX7_likeOf.data.toList.drop 22 = dktX7_likeOf_1 := dk_seg dksX7_likeOf_0 22 rfl rfl
theorem dksX7_likeOf_2 : cX7_likeOf.data.toList.drop 46 = dktX7_likeOf_2 := dk_seg dksX7_likeOf_1 24 rfl rfl
theorem dX7_likeOf_0 : decode cX7_likeOf 0 = .ok (.aload_n 0, 1) := dk_42 (dk_at dksX7_likeOf_0 0 rfl rfl)
theorem dX7_likeOf_1 : decode cX7_likeOf 1 = .ok (.aload_n 0, 1) := dk_42 (dk_at dksX7_likeOf_0 1 rfl rfl)
theorem dX7_likeOf_2 : decode cX7_likeOf 2 = .ok (.getfield 43, 3) := dk_180 0 43 (dk_at dksX7_likeOf_0 2 rfl rfl)
theorem dX7_likeOf_5 : decode cX7_likeOf 5 = .ok (.iload_n 3, 1) := dk_29 (dk_at dksX7_likeOf_0 5 rfl rfl)
theorem dX7_likeOf_6 : decode cX7_likeOf 6 = .ok (.iaload, 1) := dk_46 (dk_at dksX7_likeOf_0 6 rfl rfl)
theorem dX7_likeOf_7 : decode cX7_likeOf 7 = .ok (.aload_n 0, 1) := dk_42 (dk_at dksX7_likeOf_0 7 rfl rfl)
theorem dX7_likeOf_8 : decode cX7_likeOf 8 = .ok (.getfield 40, 3) := dk_180 0 40 (dk_at dksX7_likeOf_0 8 rfl rfl)
theorem dX7_likeOf_11 : decode cX7_likeOf 11 = .ok (.iload_n 3, 1) := dk_29 (dk_at dksX7_likeOf_0 11 rfl rfl)
theorem dX7_likeOf_12 : decode cX7_likeOf 12 = .ok (.iaload, 1) := dk_46 (dk_at dksX7_likeOf_0 12 rfl rfl)
theorem dX7_likeOf_13 : decode cX7_likeOf 13 = .ok (.iload_n 1, 1) := dk_27 (dk_at dksX7_likeOf_0 13 rfl rfl)
theorem dX7_likeOf_14 : decode cX7_likeOf 14 = .ok (.aload_n 0, 1) := dk_42 (dk_at dksX7_likeOf_0 14 rfl rfl)
theorem dX7_likeOf_15 : decode cX7_likeOf 15 = .ok (.iload_n 1, 1) := dk_27 (dk_at dksX7_likeOf_0 15 rfl rfl)
theorem dX7_likeOf_16 : decode cX7_likeOf 16 = .ok (.iload_n 2, 1) := dk_28 (dk_at dksX7_likeOf_0 16 rfl rfl)
theorem dX7_likeOf_17 : decode cX7_likeOf 17 = .ok (.invokevirtual 182, 3) := dk_182 0 182 (dk_at dksX7_likeOf_0 17 rfl rfl)
theorem dX7_likeOf_20 : decode cX7_likeOf 20 = .ok (.aload_n 0, 1) := dk_42 (dk_at dksX7_likeOf_0 20 rfl rfl)
theorem dX7_likeOf_21 : decode cX7_likeOf 21 = .ok (.iload_n 1, 1) := dk_27 (dk_at dksX7_likeOf_0 21 rfl rfl)
theorem dX7_likeOf_22 : decode cX7_likeOf 22 = .ok (.invokevirtual 171, 3) := dk_182 0 171 (dk_at dksX7_likeOf_1 0 rfl rfl)
theorem dX7_likeOf_25 : decode cX7_likeOf 25 = .ok (.aload_n 0, 1) := dk_42 (dk_at dksX7_likeOf_1 3 rfl rfl)
theorem dX7_likeOf_26 : decode cX7_likeOf 26 = .ok (.getfield 34, 3) := dk_180 0 34 (dk_at dksX7_likeOf_1 4 rfl rfl)
theorem dX7_likeOf_29 : decode cX7_likeOf 29 = .ok (.bipush 8, 2) := dk_16 8 (dk_at dksX7_likeOf_1 7 rfl rfl)
theorem dX7_likeOf_31 : decode cX7_likeOf 31 = .ok (.iload_n 1, 1) := dk_27 (dk_at dksX7_likeOf_1 9 rfl rfl)
theorem dX7_likeOf_32 : decode cX7_likeOf 32 = .ok (.imul, 1) := dk_104 (dk_at dksX7_likeOf_1 10 rfl rfl)
theorem dX7_likeOf_33 : decode cX7_likeOf 33 = .ok (.iload_n 2, 1) := dk_28 (dk_at dksX7_likeOf_1 11 rfl rfl)
theorem dX7_likeOf_34 : decode cX7_likeOf 34 = .ok (.iadd, 1) := dk_96 (dk_at dksX7_likeOf_1 12 rfl rfl)
theorem dX7_likeOf_35 : decode cX7_likeOf 35 = .ok (.iaload, 1) := dk_46 (dk_at dksX7_likeOf_1 13 rfl rfl)
theorem dX7_likeOf_36 : decode cX7_likeOf 36 = .ok (.invokevirtual 291, 3) := dk_182 1 35 (dk_at dksX7_likeOf_1 14 rfl rfl)
theorem dX7_likeOf_39 : decode cX7_likeOf 39 = .ok (.aload_n 0, 1) := dk_42 (dk_at dksX7_likeOf_1 17 rfl rfl)
theorem dX7_likeOf_40 : decode cX7_likeOf 40 = .ok (.iconst 0, 1) := dk_3 (dk_at dksX7_likeOf_1 18 rfl rfl)
theorem dX7_likeOf_41 : decode cX7_likeOf 41 = .ok (.bipush 99, 2) := dk_16 99 (dk_at dksX7_likeOf_1 19 rfl rfl)
theorem dX7_likeOf_43 : decode cX7_likeOf 43 = .ok (.invokevirtual 295, 3) := dk_182 1 39 (dk_at dksX7_likeOf_1 21 rfl rfl)
theorem dX7_likeOf_46 : decode cX7_likeOf 46 = .ok (.ireturn, 1) := dk_172 (dk_at dksX7_likeOf_2 0 rfl rfl)
abbrev cX7_names : ByteArray := prog_19_method_46_code
def yX7_names : MethodName := ⟨RX7, "names", "(IIIIII)V"⟩
def dkwX7_names_1 : List UInt8 := [180, 0, 135, 6, 21, 4, 79, 42, 180, 0, 135, 7, 21, 5, 79, 42, 180, 0, 135, 8, 21, 6, 79, 177]
abbrev dktX7_names_1 : List UInt8 := dkwX7_names_1 ++ []
def dkwX7_names_0 : List UInt8 := [42, 180, 0, 135, 3, 27, 79, 42, 180, 0, 135, 4, 28, 79, 42, 180, 0, 135, 5, 29, 79, 42]
abbrev dktX7_names_0 : List UInt8 := dkwX7_names_0 ++ dktX7_names_1
theorem dksX7_names_0 : cX7_names.data.toList.drop 0 = dktX7_names_0 := by decide +kernel
theorem dksX7_names_1 : cX7_names.data.toList.drop 22 = dktX7_names_1 := dk_seg dksX7_names_0 22 rfl rfl
theorem dX7_names_0 : decode cX7_names 0 = .ok (.aload_n 0, 1) := dk_42 (dk_at dksX7_names_0 0 rfl rfl)
theorem dX7_names_1 : decode cX7_names 1 = .ok (.getfield 135, 3) := dk_180 0 135 (dk_at dksX7_names_0 1 rfl rfl)
theorem dX7_names_4 : decode cX7_names 4 = .ok (.iconst 0, 1) := dk_3 (dk_at dksX7_names_0 4 rfl rfl)
theorem dX7_names_5 : decode cX7_names 5 = .ok (.iload_n 1, 1) := dk_27 (dk_at dksX7_names_0 5 rfl rfl)
theorem dX7_names_6 : decode cX7_names 6 = .ok (.iastore, 1) := dk_79 (dk_at dksX7_names_0 6 rfl rfl)
theorem dX7_names_7 : decode cX7_names 7 = .ok (.aload_n 0, 1) := dk_42 (dk_at dksX7_names_0 7 rfl rfl)
theorem dX7_names_8 : decode cX7_names 8 = .ok (.getfield 135, 3) := dk_180 0 135 (dk_at dksX7_names_0 8 rfl rfl)
theorem dX7_names_11 : decode cX7_names 11 = .ok (.iconst 1, 1) := dk_4 (dk_at dksX7_names_0 11 rfl rfl)
theorem dX7_names_12 : decode cX7_names 12 = .ok (.iload_n 2, 1) := dk_28 (dk_at dksX7_names_0 12 rfl rfl)
theorem dX7_names_13 : decode cX7_names 13 = .ok (.iastore, 1) := dk_79 (dk_at dksX7_names_0 13 rfl rfl)
theorem dX7_names_14 : decode cX7_names 14 = .ok (.aload_n 0, 1) := dk_42 (dk_at dksX7_names_0 14 rfl rfl)
theorem dX7_names_15 : decode cX7_names 15 = .ok (.getfield 135, 3) := dk_180 0 135 (dk_at dksX7_names_0 15 rfl rfl)
theorem dX7_names_18 : decode cX7_names 18 = .ok (.iconst 2, 1) := dk_5 (dk_at dksX7_names_0 18 rfl rfl)
theorem dX7_names_19 : decode cX7_names 19 = .ok (.iload_n 3, 1) := dk_29 (dk_at dksX7_names_0 19 rfl rfl)
theorem dX7_names_20 : decode cX7_names 20 = .ok (.iastore, 1) := dk_79 (dk_at dksX7_names_0 20 rfl rfl)
theorem dX7_names_21 : decode cX7_names 21 = .ok (.aload_n 0, 1) := dk_42 (dk_at dksX7_names_0 21 rfl rfl)
theorem dX7_names_22 : decode cX7_names 22 = .ok (.getfield 135, 3) := dk_180 0 135 (dk_at dksX7_names_1 0 rfl rfl)
theorem dX7_names_25 : decode cX7_names 25 = .ok (.iconst 3, 1) := dk_6 (dk_at dksX7_names_1 3 rfl rfl)
theorem dX7_names_26 : decode cX7_names 26 = .ok (.iload 4, 2) := dk_21 4 (dk_at dksX7_names_1 4 rfl rfl)
theorem dX7_names_28 : decode cX7_names 28 = .ok (.iastore, 1) := dk_79 (dk_at dksX7_names_1 6 rfl rfl)
theorem dX7_names_29 : decode cX7_names 29 = .ok (.aload_n 0, 1) := dk_42 (dk_at dksX7_names_1 7 rfl rfl)
theorem dX7_names_30 : decode cX7_names 30 = .ok (.getfield 135, 3) := dk_180 0 135 (dk_at dksX7_names_1 8 rfl rfl)
theorem dX7_names_33 : decode cX7_names 33 = .ok (.iconst 4, 1) := dk_7 (dk_at dksX7_names_1 11 rfl rfl)
theorem dX7_names_34 : decode cX7_names 34 = .ok (.iload 5, 2) := dk_21 5 (dk_at dksX7_names_1 12 rfl rfl)
theorem dX7_names_36 : decode cX7_names 36 = .ok (.iastore, 1) := dk_79 (dk_at dksX7_names_1 14 rfl rfl)
theorem dX7_names_37 : decode cX7_names 37 = .ok (.aload_n 0, 1) := dk_42 (dk_at dksX7_names_1 15 rfl rfl)
theorem dX7_names_38 : decode cX7_names 38 = .ok (.getfield 135, 3) := dk_180 0 135 (dk_at dksX7_names_1 16 rfl rfl)
theorem dX7_names_41 : decode cX7_names 41 = .ok (.iconst 5, 1) := dk_8 (dk_at dksX7_names_1 19 rfl rfl)
theorem dX7_names_42 : decode cX7_names 42 = .ok (.iload 6, 2) := dk_21 6 (dk_at dksX7_names_1 20 rfl rfl)
theorem dX7_names_44 : decode cX7_names 44 = .ok (.iastore, 1) := dk_79 (dk_at dksX7_names_1 22 rfl rfl)
theorem dX7_names_45 : decode cX7_names 45 = .ok (.return_, 1) := dk_177 (dk_at dksX7_names_1 23 rfl rfl)
abbrev cX7_says : ByteArray := prog_19_method_36_code
def yX7_says : MethodName := ⟨RX7, "says", "(II)I"⟩
def dkwX7_says_9 : List UInt8 := [167, 0, 23, 42, 180, 0, 132, 3, 46, 28, 164, 0, 7, 28, 167, 0, 9, 42, 180, 0, 132, 3, 46, 172]
abbrev dktX7_says_9 : List UInt8 := dkwX7_says_9 ++ []
def dkwX7_says_8 : List UInt8 := [29, 46, 184, 1, 11, 79, 132, 4, 1, 167, 255, 76, 42, 180, 0, 132, 3, 46, 156, 0, 7, 3]
abbrev dktX7_says_8 : List UInt8 := dkwX7_says_8 ++ dktX7_says_9
def dkwX7_says_7 : List UInt8 := [132, 3, 255, 42, 180, 0, 132, 29, 4, 100, 21, 5, 42, 180, 0, 132, 29, 4, 100, 46, 42, 180, 0, 132]
abbrev dktX7_says_7 : List UInt8 := dkwX7_says_7 ++ dktX7_says_8
def dkwX7_says_6 : List UInt8 := [160, 0, 23, 42, 180, 0, 132, 29, 4, 100, 42, 180, 0, 132, 29, 4, 100, 46, 116, 79, 167, 0, 33]
abbrev dktX7_says_6 : List UInt8 := dkwX7_says_6 ++ dktX7_says_7
def dkwX7_says_5 : List UInt8 := [42, 180, 0, 132, 29, 4, 100, 46, 154, 0, 7, 4, 167, 0, 4, 3, 79, 167, 0, 60, 21, 5, 16, 19]
abbrev dktX7_says_5 : List UInt8 := dkwX7_says_5 ++ dktX7_says_6
def dkwX7_says_4 : List UInt8 := [18, 252, 100, 79, 132, 3, 1, 167, 0, 94, 21, 5, 16, 13, 160, 0, 30, 42, 180, 0, 132, 29, 4, 100]
abbrev dktX7_says_4 : List UInt8 := dkwX7_says_4 ++ dktX7_says_5
def dkwX7_says_3 : List UInt8 := [180, 0, 132, 29, 21, 5, 16, 11, 162, 0, 13, 42, 180, 0, 135, 21, 5, 46, 167, 0, 8, 21, 5]
abbrev dktX7_says_3 : List UInt8 := dkwX7_says_3 ++ dktX7_says_4
def dkwX7_says_2 : List UInt8 := [104, 21, 4, 96, 46, 54, 5, 21, 5, 18, 252, 162, 0, 10, 21, 5, 16, 11, 162, 0, 37, 42]
abbrev dktX7_says_2 : List UInt8 := dkwX7_says_2 ++ dktX7_says_3
def dkwX7_says_1 : List UInt8 := [42, 180, 0, 203, 104, 27, 96, 4, 96, 46, 162, 0, 166, 42, 180, 0, 55, 17, 0, 200, 42, 180, 0, 203]
abbrev dktX7_says_1 : List UInt8 := dkwX7_says_1 ++ dktX7_says_2
def dkwX7_says_0 : List UInt8 := [3, 62, 42, 180, 0, 58, 7, 42, 180, 0, 203, 104, 27, 96, 46, 54, 4, 21, 4, 42, 180, 0, 58, 7]
abbrev dktX7_says_0 : List UInt8 := dkwX7_says_0 ++ dktX7_says_1
theorem dksX7_says_0 : cX7_says.data.toList.drop 0 = dktX7_says_0 := by decide +kernel
theorem dksX7_says_1 : cX7_says.data.toList.drop 24 = dktX7_says_1 := dk_seg dksX7_says_0 24 rfl rfl
theorem dksX7_says_2 : cX7_says.data.toList.drop 48 = dktX7_says_2 := dk_seg dksX7_says_1 24 rfl rfl
theorem dksX7_says_3 : cX7_says.data.toList.drop 70 = dktX7_says_3 := dk_seg dksX7_says_2 22 rfl rfl
theorem dksX7_says_4 : cX7_says.data.toList.drop 93 = dktX7_says_4 := dk_seg dksX7_says_3 23 rfl rfl
theorem dksX7_says_5 : cX7_says.data.toList.drop 117 = dktX7_says_5 := dk_seg dksX7_says_4 24 rfl rfl
theorem dksX7_says_6 : cX7_says.data.toList.drop 141 = dktX7_says_6 := dk_seg dksX7_says_5 24 rfl rfl
theorem dksX7_says_7 : cX7_says.data.toList.drop 164 = dktX7_says_7 := dk_seg dksX7_says_6 23 rfl rfl
theorem dksX7_says_8 : cX7_says.data.toList.drop 188 = dktX7_says_8 := dk_seg dksX7_says_7 24 rfl rfl
theorem dksX7_says_9 : cX7_says.data.toList.drop 210 = dktX7_says_9 := dk_seg dksX7_says_8 22 rfl rfl
theorem dX7_says_0 : decode cX7_says 0 = .ok (.iconst 0, 1) := dk_3 (dk_at dksX7_says_0 0 rfl rfl)
theorem dX7_says_1 : decode cX7_says 1 = .ok (.istore_n 3, 1) := dk_62 (dk_at dksX7_says_0 1 rfl rfl)
theorem dX7_says_2 : decode cX7_says 2 = .ok (.aload_n 0, 1) := dk_42 (dk_at dksX7_says_0 2 rfl rfl)
theorem dX7_says_3 : decode cX7_says 3 = .ok (.getfield 58, 3) := dk_180 0 58 (dk_at dksX7_says_0 3 rfl rfl)
theorem dX7_says_6 : decode cX7_says 6 = .ok (.iconst 4, 1) := dk_7 (dk_at dksX7_says_0 6 rfl rfl)
theorem dX7_says_7 : decode cX7_says 7 = .ok (.aload_n 0, 1) := dk_42 (dk_at dksX7_says_0 7 rfl rfl)
theorem dX7_says_8 : decode cX7_says 8 = .ok (.getfield 203, 3) := dk_180 0 203 (dk_at dksX7_says_0 8 rfl rfl)
theorem dX7_says_11 : decode cX7_says 11 = .ok (.imul, 1) := dk_104 (dk_at dksX7_says_0 11 rfl rfl)
theorem dX7_says_12 : decode cX7_says 12 = .ok (.iload_n 1, 1) := dk_27 (dk_at dksX7_says_0 12 rfl rfl)
theorem dX7_says_13 : decode cX7_says 13 = .ok (.iadd, 1) := dk_96 (dk_at dksX7_says_0 13 rfl rfl)
theorem dX7_says_14 : decode cX7_says 14 = .ok (.iaload, 1) := dk_46 (dk_at dksX7_says_0 14 rfl rfl)
theorem dX7_says_15 : decode cX7_says 15 = .ok (.istore 4, 2) := dk_54 4 (dk_at dksX7_says_0 15 rfl rfl)
theorem dX7_says_17 : decode cX7_says 17 = .ok (.iload 4, 2) := dk_21 4 (dk_at dksX7_says_0 17 rfl rfl)
theorem dX7_says_19 : decode cX7_says 19 = .ok (.aload_n 0, 1) := dk_42 (dk_at dksX7_says_0 19 rfl rfl)
theorem dX7_says_20 : decode cX7_says 20 = .ok (.getfield 58, 3) := dk_180 0 58 (dk_at dksX7_says_0 20 rfl rfl)
theorem dX7_says_23 : decode cX7_says 23 = .ok (.iconst 4, 1) := dk_7 (dk_at dksX7_says_0 23 rfl rfl)
theorem dX7_says_24 : decode cX7_says 24 = .ok (.aload_n 0, 1) := dk_42 (dk_at dksX7_says_1 0 rfl rfl)
theorem dX7_says_25 : decode cX7_says 25 = .ok (.getfield 203, 3) := dk_180 0 203 (dk_at dksX7_says_1 1 rfl rfl)
theorem dX7_says_28 : decode cX7_says 28 = .ok (.imul, 1) := dk_104 (dk_at dksX7_says_1 4 rfl rfl)
theorem dX7_says_29 : decode cX7_says 29 = .ok (.iload_n 1, 1) := dk_27 (dk_at dksX7_says_1 5 rfl rfl)
theorem dX7_says_30 : decode cX7_says 30 = .ok (.iadd, 1) := dk_96 (dk_at dksX7_says_1 6 rfl rfl)
theorem dX7_says_31 : decode cX7_says 31 = .ok (.iconst 1, 1) := dk_4 (dk_at dksX7_says_1 7 rfl rfl)
theorem dX7_says_32 : decode cX7_says 32 = .ok (.iadd, 1) := dk_96 (dk_at dksX7_says_1 8 rfl rfl)
theorem dX7_says_33 : decode cX7_says 33 = .ok (.iaload, 1) := dk_46 (dk_at dksX7_says_1 9 rfl rfl)
theorem dX7_says_34 : decode cX7_says 34 = .ok (.if_icmp .ge 166, 3) := dk_162 0 166 (dk_at dksX7_says_1 10 rfl rfl)
theorem dX7_says_37 : decode cX7_says 37 = .ok (.aload_n 0, 1) := dk_42 (dk_at dksX7_says_1 13 rfl rfl)
theorem dX7_says_38 : decode cX7_says 38 = .ok (.getfield 55, 3) := dk_180 0 55 (dk_at dksX7_says_1 14 rfl rfl)
theorem dX7_says_41 : decode cX7_says 41 = .ok (.sipush 200, 3) := dk_17 0 200 (dk_at dksX7_says_1 17 rfl rfl)
theorem dX7_says_44 : decode cX7_says 44 = .ok (.aload_n 0, 1) := dk_42 (dk_at dksX7_says_1 20 rfl rfl)
theorem dX7_says_45 : decode cX7_says 45 = .ok (.getfield 203, 3) := dk_180 0 203 (dk_at dksX7_says_1 21 rfl rfl)
theorem dX7_says_48 : decode cX7_says 48 = .ok (.imul, 1) := dk_104 (dk_at dksX7_says_2 0 rfl rfl)
theorem dX7_says_49 : decode cX7_says 49 = .ok (.iload 4, 2) := dk_21 4 (dk_at dksX7_says_2 1 rfl rfl)
theorem dX7_says_51 : decode cX7_says 51 = .ok (.iadd, 1) := dk_96 (dk_at dksX7_says_2 3 rfl rfl)
theorem dX7_says_52 : decode cX7_says 52 = .ok (.iaload, 1) := dk_46 (dk_at dksX7_says_2 4 rfl rfl)
theorem dX7_says_53 : decode cX7_says 53 = .ok (.istore 5, 2) := dk_54 5 (dk_at dksX7_says_2 5 rfl rfl)
theorem dX7_says_55 : decode cX7_says 55 = .ok (.iload 5, 2) := dk_21 5 (dk_at dksX7_says_2 7 rfl rfl)
theorem dX7_says_57 : decode cX7_says 57 = .ok (.ldc 252, 2) := dk_18 252 (dk_at dksX7_says_2 9 rfl rfl)
theorem dX7_says_59 : decode cX7_says 59 = .ok (.if_icmp .ge 10, 3) := dk_162 0 10 (dk_at dksX7_says_2 11 rfl rfl)
theorem dX7_says_62 : decode cX7_says 62 = .ok (.iload 5, 2) := dk_21 5 (dk_at dksX7_says_2 14 rfl rfl)
theorem dX7_says_64 : decode cX7_says 64 = .ok (.bipush 11, 2) := dk_16 11 (dk_at dksX7_says_2 16 rfl rfl)
theorem dX7_says_66 : decode cX7_says 66 = .ok (.if_icmp .ge 37, 3) := dk_162 0 37 (dk_at dksX7_says_2 18 rfl rfl)
theorem dX7_says_69 : decode cX7_says 69 = .ok (.aload_n 0, 1) := dk_42 (dk_at dksX7_says_2 21 rfl rfl)
theorem dX7_says_70 : decode cX7_says 70 = .ok (.getfield 132, 3) := dk_180 0 132 (dk_at dksX7_says_3 0 rfl rfl)
theorem dX7_says_73 : decode cX7_says 73 = .ok (.iload_n 3, 1) := dk_29 (dk_at dksX7_says_3 3 rfl rfl)
theorem dX7_says_74 : decode cX7_says 74 = .ok (.iload 5, 2) := dk_21 5 (dk_at dksX7_says_3 4 rfl rfl)
theorem dX7_says_76 : decode cX7_says 76 = .ok (.bipush 11, 2) := dk_16 11 (dk_at dksX7_says_3 6 rfl rfl)
theorem dX7_says_78 : decode cX7_says 78 = .ok (.if_icmp .ge 13, 3) := dk_162 0 13 (dk_at dksX7_says_3 8 rfl rfl)
theorem dX7_says_81 : decode cX7_says 81 = .ok (.aload_n 0, 1) := dk_42 (dk_at dksX7_says_3 11 rfl rfl)
theorem dX7_says_82 : decode cX7_says 82 = .ok (.getfield 135, 3) := dk_180 0 135 (dk_at dksX7_says_3 12 rfl rfl)
theorem dX7_says_85 : decode cX7_says 85 = .ok (.iload 5, 2) := dk_21 5 (dk_at dksX7_says_3 15 rfl rfl)
theorem dX7_says_87 : decode cX7_says 87 = .ok (.iaload, 1) := dk_46 (dk_at dksX7_says_3 17 rfl rfl)
theorem dX7_says_88 : decode cX7_says 88 = .ok (.goto 8, 3) := dk_167 0 8 (dk_at dksX7_says_3 18 rfl rfl)
theorem dX7_says_91 : decode cX7_says 91 = .ok (.iload 5, 2) := dk_21 5 (dk_at dksX7_says_3 21 rfl rfl)
theorem dX7_says_93 : decode cX7_says 93 = .ok (.ldc 252, 2) := dk_18 252 (dk_at dksX7_says_4 0 rfl rfl)
theorem dX7_says_95 : decode cX7_says 95 = .ok (.isub, 1) := dk_100 (dk_at dksX7_says_4 2 rfl rfl)
theorem dX7_says_96 : decode cX7_says 96 = .ok (.iastore, 1) := dk_79 (dk_at dksX7_says_4 3 rfl rfl)
theorem dX7_says_97 : decode cX7_says 97 = .ok (.iinc 3 1, 3) := dk_132 3 1 (dk_at dksX7_says_4 4 rfl rfl)
theorem dX7_says_100 : decode cX7_says 100 = .ok (.goto 94, 3) := dk_167 0 94 (dk_at dksX7_says_4 7 rfl rfl)
theorem dX7_says_103 : decode cX7_says 103 = .ok (.iload 5, 2) := dk_21 5 (dk_at dksX7_says_4 10 rfl rfl)
theorem dX7_says_105 : decode cX7_says 105 = .ok (.bipush 13, 2) := dk_16 13 (dk_at dksX7_says_4 12 rfl rfl)
theorem dX7_says_107 : decode cX7_says 107 = .ok (.if_icmp .ne 30, 3) := dk_160 0 30 (dk_at dksX7_says_4 14 rfl rfl)
theorem dX7_says_110 : decode cX7_says 110 = .ok (.aload_n 0, 1) := dk_42 (dk_at dksX7_says_4 17 rfl rfl)
theorem dX7_says_111 : decode cX7_says 111 = .ok (.getfield 132, 3) := dk_180 0 132 (dk_at dksX7_says_4 18 rfl rfl)
theorem dX7_says_114 : decode cX7_says 114 = .ok (.iload_n 3, 1) := dk_29 (dk_at dksX7_says_4 21 rfl rfl)
theorem dX7_says_115 : decode cX7_says 115 = .ok (.iconst 1, 1) := dk_4 (dk_at dksX7_says_4 22 rfl rfl)
theorem dX7_says_116 : decode cX7_says 116 = .ok (.isub, 1) := dk_100 (dk_at dksX7_says_4 23 rfl rfl)
theorem dX7_says_117 : decode cX7_says 117 = .ok (.aload_n 0, 1) := dk_42 (dk_at dksX7_says_5 0 rfl rfl)
theorem dX7_says_118 : decode cX7_says 118 = .ok (.getfield 132, 3) := dk_180 0 132 (dk_at dksX7_says_5 1 rfl rfl)
theorem dX7_says_121 : decode cX7_says 121 = .ok (.iload_n 3, 1) := dk_29 (dk_at dksX7_says_5 4 rfl rfl)
theorem dX7_says_122 : decode cX7_says 122 = .ok (.iconst 1, 1) := dk_4 (dk_at dksX7_says_5 5 rfl rfl)
theorem dX7_says_123 : decode cX7_says 123 = .ok (.isub, 1) := dk_100 (dk_at dksX7_says_5 6 rfl rfl)
theorem dX7_says_124 : decode cX7_says 124 = .ok (.iaload, 1) := dk_46 (dk_at dksX7_says_5 7 rfl rfl)
theorem dX7_says_125 : decode cX7_says 125 = .ok (.ifCond .ne 7, 3) := dk_154 0 7 (dk_at dksX7_says_5 8 rfl rfl)
theorem dX7_says_128 : decode cX7_says 128 = .ok (.iconst 1, 1) := dk_4 (dk_at dksX7_says_5 11 rfl rfl)
theorem dX7_says_129 : decode cX7_says 129 = .ok (.goto 4, 3) := dk_167 0 4 (dk_at dksX7_says_5 12 rfl rfl)
theorem dX7_says_132 : decode cX7_says 132 = .ok (.iconst 0, 1) := dk_3 (dk_at dksX7_says_5 15 rfl rfl)
theorem dX7_says_133 : decode cX7_says 133 = .ok (.iastore, 1) := dk_79 (dk_at dksX7_says_5 16 rfl rfl)
theorem dX7_says_134 : decode cX7_says 134 = .ok (.goto 60, 3) := dk_167 0 60 (dk_at dksX7_says_5 17 rfl rfl)
theorem dX7_says_137 : decode cX7_says 137 = .ok (.iload 5, 2) := dk_21 5 (dk_at dksX7_says_5 20 rfl rfl)
theorem dX7_says_139 : decode cX7_says 139 = .ok (.bipush 19, 2) := dk_16 19 (dk_at dksX7_says_5 22 rfl rfl)
theorem dX7_says_141 : decode cX7_says 141 = .ok (.if_icmp .ne 23, 3) := dk_160 0 23 (dk_at dksX7_says_6 0 rfl rfl)
theorem dX7_says_144 : decode cX7_says 144 = .ok (.aload_n 0, 1) := dk_42 (dk_at dksX7_says_6 3 rfl rfl)
theorem dX7_says_145 : decode cX7_says 145 = .ok (.getfield 132, 3) := dk_180 0 132 (dk_at dksX7_says_6 4 rfl rfl)
theorem dX7_says_148 : decode cX7_says 148 = .ok (.iload_n 3, 1) := dk_29 (dk_at dksX7_says_6 7 rfl rfl)
theorem dX7_says_149 : decode cX7_says 149 = .ok (.iconst 1, 1) := dk_4 (dk_at dksX7_says_6 8 rfl rfl)
theorem dX7_says_150 : decode cX7_says 150 = .ok (.isub, 1) := dk_100 (dk_at dksX7_says_6 9 rfl rfl)
theorem dX7_says_151 : decode cX7_says 151 = .ok (.aload_n 0, 1) := dk_42 (dk_at dksX7_says_6 10 rfl rfl)
theorem dX7_says_152 : decode cX7_says 152 = .ok (.getfield 132, 3) := dk_180 0 132 (dk_at dksX7_says_6 11 rfl rfl)
theorem dX7_says_155 : decode cX7_says 155 = .ok (.iload_n 3, 1) := dk_29 (dk_at dksX7_says_6 14 rfl rfl)
theorem dX7_says_156 : decode cX7_says 156 = .ok (.iconst 1, 1) := dk_4 (dk_at dksX7_says_6 15 rfl rfl)
theorem dX7_says_157 : decode cX7_says 157 = .ok (.isub, 1) := dk_100 (dk_at dksX7_says_6 16 rfl rfl)
theorem dX7_says_158 : decode cX7_says 158 = .ok (.iaload, 1) := dk_46 (dk_at dksX7_says_6 17 rfl rfl)
theorem dX7_says_159 : decode cX7_says 159 = .ok (.ineg, 1) := dk_116 (dk_at dksX7_says_6 18 rfl rfl)
theorem dX7_says_160 : decode cX7_says 160 = .ok (.iastore, 1) := dk_79 (dk_at dksX7_says_6 19 rfl rfl)
theorem dX7_says_161 : decode cX7_says 161 = .ok (.goto 33, 3) := dk_167 0 33 (dk_at dksX7_says_6 20 rfl rfl)
theorem dX7_says_164 : decode cX7_says 164 = .ok (.iinc 3 (-1), 3) := dk_132 3 255 (dk_at dksX7_says_7 0 rfl rfl)
theorem dX7_says_167 : decode cX7_says 167 = .ok (.aload_n 0, 1) := dk_42 (dk_at dksX7_says_7 3 rfl rfl)
theorem dX7_says_168 : decode cX7_says 168 = .ok (.getfield 132, 3) := dk_180 0 132 (dk_at dksX7_says_7 4 rfl rfl)
theorem dX7_says_171 : decode cX7_says 171 = .ok (.iload_n 3, 1) := dk_29 (dk_at dksX7_says_7 7 rfl rfl)
theorem dX7_says_172 : decode cX7_says 172 = .ok (.iconst 1, 1) := dk_4 (dk_at dksX7_says_7 8 rfl rfl)
theorem dX7_says_173 : decode cX7_says 173 = .ok (.isub, 1) := dk_100 (dk_at dksX7_says_7 9 rfl rfl)
theorem dX7_says_174 : decode cX7_says 174 = .ok (.iload 5, 2) := dk_21 5 (dk_at dksX7_says_7 10 rfl rfl)
theorem dX7_says_176 : decode cX7_says 176 = .ok (.aload_n 0, 1) := dk_42 (dk_at dksX7_says_7 12 rfl rfl)
theorem dX7_says_177 : decode cX7_says 177 = .ok (.getfield 132, 3) := dk_180 0 132 (dk_at dksX7_says_7 13 rfl rfl)
theorem dX7_says_180 : decode cX7_says 180 = .ok (.iload_n 3, 1) := dk_29 (dk_at dksX7_says_7 16 rfl rfl)
theorem dX7_says_181 : decode cX7_says 181 = .ok (.iconst 1, 1) := dk_4 (dk_at dksX7_says_7 17 rfl rfl)
theorem dX7_says_182 : decode cX7_says 182 = .ok (.isub, 1) := dk_100 (dk_at dksX7_says_7 18 rfl rfl)
theorem dX7_says_183 : decode cX7_says 183 = .ok (.iaload, 1) := dk_46 (dk_at dksX7_says_7 19 rfl rfl)
theorem dX7_says_184 : decode cX7_says 184 = .ok (.aload_n 0, 1) := dk_42 (dk_at dksX7_says_7 20 rfl rfl)
theorem dX7_says_185 : decode cX7_says 185 = .ok (.getfield 132, 3) := dk_180 0 132 (dk_at dksX7_says_7 21 rfl rfl)
theorem dX7_says_188 : decode cX7_says 188 = .ok (.iload_n 3, 1) := dk_29 (dk_at dksX7_says_8 0 rfl rfl)
theorem dX7_says_189 : decode cX7_says 189 = .ok (.iaload, 1) := dk_46 (dk_at dksX7_says_8 1 rfl rfl)
theorem dX7_says_190 : decode cX7_says 190 = .ok (.invokestatic 267, 3) := dk_184 1 11 (dk_at dksX7_says_8 2 rfl rfl)
theorem dX7_says_193 : decode cX7_says 193 = .ok (.iastore, 1) := dk_79 (dk_at dksX7_says_8 5 rfl rfl)
theorem dX7_says_194 : decode cX7_says 194 = .ok (.iinc 4 1, 3) := dk_132 4 1 (dk_at dksX7_says_8 6 rfl rfl)
theorem dX7_says_197 : decode cX7_says 197 = .ok (.goto (-180), 3) := dk_167 255 76 (dk_at dksX7_says_8 9 rfl rfl)
theorem dX7_says_200 : decode cX7_says 200 = .ok (.aload_n 0, 1) := dk_42 (dk_at dksX7_says_8 12 rfl rfl)
theorem dX7_says_201 : decode cX7_says 201 = .ok (.getfield 132, 3) := dk_180 0 132 (dk_at dksX7_says_8 13 rfl rfl)
theorem dX7_says_204 : decode cX7_says 204 = .ok (.iconst 0, 1) := dk_3 (dk_at dksX7_says_8 16 rfl rfl)
theorem dX7_says_205 : decode cX7_says 205 = .ok (.iaload, 1) := dk_46 (dk_at dksX7_says_8 17 rfl rfl)
theorem dX7_says_206 : decode cX7_says 206 = .ok (.ifCond .ge 7, 3) := dk_156 0 7 (dk_at dksX7_says_8 18 rfl rfl)
theorem dX7_says_209 : decode cX7_says 209 = .ok (.iconst 0, 1) := dk_3 (dk_at dksX7_says_8 21 rfl rfl)
theorem dX7_says_210 : decode cX7_says 210 = .ok (.goto 23, 3) := dk_167 0 23 (dk_at dksX7_says_9 0 rfl rfl)
theorem dX7_says_213 : decode cX7_says 213 = .ok (.aload_n 0, 1) := dk_42 (dk_at dksX7_says_9 3 rfl rfl)
theorem dX7_says_214 : decode cX7_says 214 = .ok (.getfield 132, 3) := dk_180 0 132 (dk_at dksX7_says_9 4 rfl rfl)
theorem dX7_says_217 : decode cX7_says 217 = .ok (.iconst 0, 1) := dk_3 (dk_at dksX7_says_9 7 rfl rfl)
theorem dX7_says_218 : decode cX7_says 218 = .ok (.iaload, 1) := dk_46 (dk_at dksX7_says_9 8 rfl rfl)
theorem dX7_says_219 : decode cX7_says 219 = .ok (.iload_n 2, 1) := dk_28 (dk_at dksX7_says_9 9 rfl rfl)
theorem dX7_says_220 : decode cX7_says 220 = .ok (.if_icmp .le 7, 3) := dk_164 0 7 (dk_at dksX7_says_9 10 rfl rfl)
theorem dX7_says_223 : decode cX7_says 223 = .ok (.iload_n 2, 1) := dk_28 (dk_at dksX7_says_9 13 rfl rfl)
theorem dX7_says_224 : decode cX7_says 224 = .ok (.goto 9, 3) := dk_167 0 9 (dk_at dksX7_says_9 14 rfl rfl)
theorem dX7_says_227 : decode cX7_says 227 = .ok (.aload_n 0, 1) := dk_42 (dk_at dksX7_says_9 17 rfl rfl)
theorem dX7_says_228 : decode cX7_says 228 = .ok (.getfield 132, 3) := dk_180 0 132 (dk_at dksX7_says_9 18 rfl rfl)
theorem dX7_says_231 : decode cX7_says 231 = .ok (.iconst 0, 1) := dk_3 (dk_at dksX7_says_9 21 rfl rfl)
theorem dX7_says_232 : decode cX7_says 232 = .ok (.iaload, 1) := dk_46 (dk_at dksX7_says_9 22 rfl rfl)
theorem dX7_says_233 : decode cX7_says 233 = .ok (.ireturn, 1) := dk_172 (dk_at dksX7_says_9 23 rfl rfl)
abbrev cX7_two : ByteArray := prog_19_method_35_code
def yX7_two : MethodName := ⟨RX7, "two", "(III)I"⟩
def dkwX7_two_4 : List UInt8 := [167, 0, 4, 3, 172, 27, 28, 96, 172, 27, 28, 100, 172, 27, 28, 104, 172]
abbrev dktX7_two_4 : List UInt8 := dkwX7_two_4 ++ []
def dkwX7_two_3 : List UInt8 := [167, 0, 4, 3, 172, 27, 28, 162, 0, 7, 4, 167, 0, 4, 3, 172, 27, 28, 160, 0, 7, 4]
abbrev dktX7_two_3 : List UInt8 := dkwX7_two_3 ++ dktX7_two_4
def dkwX7_two_2 : List UInt8 := [27, 154, 0, 7, 28, 153, 0, 7, 4, 167, 0, 4, 3, 172, 27, 153, 0, 11, 28, 153, 0, 7, 4]
abbrev dktX7_two_2 : List UInt8 := dkwX7_two_2 ++ dktX7_two_3
def dkwX7_two_1 : List UInt8 := [170, 0, 0, 0, 0, 0, 101, 0, 0, 0, 11, 0, 0, 0, 17, 0, 0, 0, 43, 0, 0, 0, 57, 0, 0, 0, 101, 0, 0, 0, 71, 0, 0, 0, 82, 0, 0, 0, 93, 0, 0, 0, 97]
abbrev dktX7_two_1 : List UInt8 := dkwX7_two_1 ++ dktX7_two_2
def dkwX7_two_0 : List UInt8 := [26]
abbrev dktX7_two_0 : List UInt8 := dkwX7_two_0 ++ dktX7_two_1
theorem dksX7_two_0 : cX7_two.data.toList.drop 0 = dktX7_two_0 := by decide +kernel
theorem dksX7_two_1 : cX7_two.data.toList.drop 1 = dktX7_two_1 := dk_seg dksX7_two_0 1 rfl rfl
theorem dksX7_two_2 : cX7_two.data.toList.drop 44 = dktX7_two_2 := dk_seg dksX7_two_1 43 rfl rfl
theorem dksX7_two_3 : cX7_two.data.toList.drop 67 = dktX7_two_3 := dk_seg dksX7_two_2 23 rfl rfl
theorem dksX7_two_4 : cX7_two.data.toList.drop 89 = dktX7_two_4 := dk_seg dksX7_two_3 22 rfl rfl
theorem dX7_two_0 : decode cX7_two 0 = .ok (.iload_n 0, 1) := dk_26 (dk_at dksX7_two_0 0 rfl rfl)
theorem dX7_two_1 : decode cX7_two 1 = .ok (.tableswitch 101 11 17 #[43, 57, 101, 71, 82, 93, 97], 43) := by decide +kernel
theorem dX7_two_44 : decode cX7_two 44 = .ok (.iload_n 1, 1) := dk_27 (dk_at dksX7_two_2 0 rfl rfl)
theorem dX7_two_45 : decode cX7_two 45 = .ok (.ifCond .ne 7, 3) := dk_154 0 7 (dk_at dksX7_two_2 1 rfl rfl)
theorem dX7_two_48 : decode cX7_two 48 = .ok (.iload_n 2, 1) := dk_28 (dk_at dksX7_two_2 4 rfl rfl)
theorem dX7_two_49 : decode cX7_two 49 = .ok (.ifCond .eq 7, 3) := dk_153 0 7 (dk_at dksX7_two_2 5 rfl rfl)
theorem dX7_two_52 : decode cX7_two 52 = .ok (.iconst 1, 1) := dk_4 (dk_at dksX7_two_2 8 rfl rfl)
theorem dX7_two_53 : decode cX7_two 53 = .ok (.goto 4, 3) := dk_167 0 4 (dk_at dksX7_two_2 9 rfl rfl)
theorem dX7_two_56 : decode cX7_two 56 = .ok (.iconst 0, 1) := dk_3 (dk_at dksX7_two_2 12 rfl rfl)
theorem dX7_two_57 : decode cX7_two 57 = .ok (.ireturn, 1) := dk_172 (dk_at dksX7_two_2 13 rfl rfl)
theorem dX7_two_58 : decode cX7_two 58 = .ok (.iload_n 1, 1) := dk_27 (dk_at dksX7_two_2 14 rfl rfl)
theorem dX7_two_59 : decode cX7_two 59 = .ok (.ifCond .eq 11, 3) := dk_153 0 11 (dk_at dksX7_two_2 15 rfl rfl)
theorem dX7_two_62 : decode cX7_two 62 = .ok (.iload_n 2, 1) := dk_28 (dk_at dksX7_two_2 18 rfl rfl)
theorem dX7_two_63 : decode cX7_two 63 = .ok (.ifCond .eq 7, 3) := dk_153 0 7 (dk_at dksX7_two_2 19 rfl rfl)
theorem dX7_two_66 : decode cX7_two 66 = .ok (.iconst 1, 1) := dk_4 (dk_at dksX7_two_2 22 rfl rfl)
theorem dX7_two_67 : decode cX7_two 67 = .ok (.goto 4, 3) := dk_167 0 4 (dk_at dksX7_two_3 0 rfl rfl)
theorem dX7_two_70 : decode cX7_two 70 = .ok (.iconst 0, 1) := dk_3 (dk_at dksX7_two_3 3 rfl rfl)
theorem dX7_two_71 : decode cX7_two 71 = .ok (.ireturn, 1) := dk_172 (dk_at dksX7_two_3 4 rfl rfl)
theorem dX7_two_72 : decode cX7_two 72 = .ok (.iload_n 1, 1) := dk_27 (dk_at dksX7_two_3 5 rfl rfl)
theorem dX7_two_73 : decode cX7_two 73 = .ok (.iload_n 2, 1) := dk_28 (dk_at dksX7_two_3 6 rfl rfl)
theorem dX7_two_74 : decode cX7_two 74 = .ok (.if_icmp .ge 7, 3) := dk_162 0 7 (dk_at dksX7_two_3 7 rfl rfl)
theorem dX7_two_77 : decode cX7_two 77 = .ok (.iconst 1, 1) := dk_4 (dk_at dksX7_two_3 10 rfl rfl)
theorem dX7_two_78 : decode cX7_two 78 = .ok (.goto 4, 3) := dk_167 0 4 (dk_at dksX7_two_3 11 rfl rfl)
theorem dX7_two_81 : decode cX7_two 81 = .ok (.iconst 0, 1) := dk_3 (dk_at dksX7_two_3 14 rfl rfl)
theorem dX7_two_82 : decode cX7_two 82 = .ok (.ireturn, 1) := dk_172 (dk_at dksX7_two_3 15 rfl rfl)
theorem dX7_two_83 : decode cX7_two 83 = .ok (.iload_n 1, 1) := dk_27 (dk_at dksX7_two_3 16 rfl rfl)
theorem dX7_two_84 : decode cX7_two 84 = .ok (.iload_n 2, 1) := dk_28 (dk_at dksX7_two_3 17 rfl rfl)
theorem dX7_two_85 : decode cX7_two 85 = .ok (.if_icmp .ne 7, 3) := dk_160 0 7 (dk_at dksX7_two_3 18 rfl rfl)
theorem dX7_two_88 : decode cX7_two 88 = .ok (.iconst 1, 1) := dk_4 (dk_at dksX7_two_3 21 rfl rfl)
theorem dX7_two_89 : decode cX7_two 89 = .ok (.goto 4, 3) := dk_167 0 4 (dk_at dksX7_two_4 0 rfl rfl)
theorem dX7_two_92 : decode cX7_two 92 = .ok (.iconst 0, 1) := dk_3 (dk_at dksX7_two_4 3 rfl rfl)
theorem dX7_two_93 : decode cX7_two 93 = .ok (.ireturn, 1) := dk_172 (dk_at dksX7_two_4 4 rfl rfl)
theorem dX7_two_94 : decode cX7_two 94 = .ok (.iload_n 1, 1) := dk_27 (dk_at dksX7_two_4 5 rfl rfl)
theorem dX7_two_95 : decode cX7_two 95 = .ok (.iload_n 2, 1) := dk_28 (dk_at dksX7_two_4 6 rfl rfl)
theorem dX7_two_96 : decode cX7_two 96 = .ok (.iadd, 1) := dk_96 (dk_at dksX7_two_4 7 rfl rfl)
theorem dX7_two_97 : decode cX7_two 97 = .ok (.ireturn, 1) := dk_172 (dk_at dksX7_two_4 8 rfl rfl)
theorem dX7_two_98 : decode cX7_two 98 = .ok (.iload_n 1, 1) := dk_27 (dk_at dksX7_two_4 9 rfl rfl)
theorem dX7_two_99 : decode cX7_two 99 = .ok (.iload_n 2, 1) := dk_28 (dk_at dksX7_two_4 10 rfl rfl)
theorem dX7_two_100 : decode cX7_two 100 = .ok (.isub, 1) := dk_100 (dk_at dksX7_two_4 11 rfl rfl)
theorem dX7_two_101 : decode cX7_two 101 = .ok (.ireturn, 1) := dk_172 (dk_at dksX7_two_4 12 rfl rfl)
theorem dX7_two_102 : decode cX7_two 102 = .ok (.iload_n 1, 1) := dk_27 (dk_at dksX7_two_4 13 rfl rfl)
theorem dX7_two_103 : decode cX7_two 103 = .ok (.iload_n 2, 1) := dk_28 (dk_at dksX7_two_4 14 rfl rfl)
theorem dX7_two_104 : decode cX7_two 104 = .ok (.imul, 1) := dk_104 (dk_at dksX7_two_4 15 rfl rfl)
theorem dX7_two_105 : decode cX7_two 105 = .ok (.ireturn, 1) := dk_172 (dk_at dksX7_two_4 16 rfl rfl)
abbrev cX7_price : ByteArray := prog_19_method_51_code
def yX7_price : MethodName := ⟨RX7, "price", "(II)I"⟩
def dkwX7_price_0 : List UInt8 := [42, 27, 28, 182, 0, 167, 153, 0, 12, 42, 27, 28, 182, 1, 48, 167, 0, 5, 16, 251, 172]
abbrev dktX7_price_0 : List UInt8 := dkwX7_price_0 ++ []
theorem dksX7_price_0 : cX7_price.data.toList.drop 0 = dktX7_price_0 := by decide +kernel
theorem dX7_price_0 : decode cX7_price 0 = .ok (.aload_n 0, 1) := dk_42 (dk_at dksX7_price_0 0 rfl rfl)
theorem dX7_price_1 : decode cX7_price 1 = .ok (.iload_n 1, 1) := dk_27 (dk_at dksX7_price_0 1 rfl rfl)
theorem dX7_price_2 : decode cX7_price 2 = .ok (.iload_n 2, 1) := dk_28 (dk_at dksX7_price_0 2 rfl rfl)
theorem dX7_price_3 : decode cX7_price 3 = .ok (.invokevirtual 167, 3) := dk_182 0 167 (dk_at dksX7_price_0 3 rfl rfl)
theorem dX7_price_6 : decode cX7_price 6 = .ok (.ifCond .eq 12, 3) := dk_153 0 12 (dk_at dksX7_price_0 6 rfl rfl)
theorem dX7_price_9 : decode cX7_price 9 = .ok (.aload_n 0, 1) := dk_42 (dk_at dksX7_price_0 9 rfl rfl)
theorem dX7_price_10 : decode cX7_price 10 = .ok (.iload_n 1, 1) := dk_27 (dk_at dksX7_price_0 10 rfl rfl)
theorem dX7_price_11 : decode cX7_price 11 = .ok (.iload_n 2, 1) := dk_28 (dk_at dksX7_price_0 11 rfl rfl)
theorem dX7_price_12 : decode cX7_price 12 = .ok (.invokevirtual 304, 3) := dk_182 1 48 (dk_at dksX7_price_0 12 rfl rfl)
theorem dX7_price_15 : decode cX7_price 15 = .ok (.goto 5, 3) := dk_167 0 5 (dk_at dksX7_price_0 15 rfl rfl)
theorem dX7_price_18 : decode cX7_price 18 = .ok (.bipush (-5), 2) := dk_16 251 (dk_at dksX7_price_0 18 rfl rfl)
theorem dX7_price_20 : decode cX7_price 20 = .ok (.ireturn, 1) := dk_172 (dk_at dksX7_price_0 20 rfl rfl)
abbrev cX7_priceOf : ByteArray := prog_19_method_50_code
def yX7_priceOf : MethodName := ⟨RX7, "priceOf", "(II)I"⟩
def dkwX7_priceOf_1 : List UInt8 := [180, 0, 34, 16, 8, 27, 104, 28, 96, 46, 182, 1, 35, 42, 4, 17, 3, 231, 182, 1, 39, 172]
abbrev dktX7_priceOf_1 : List UInt8 := dkwX7_priceOf_1 ++ []
def dkwX7_priceOf_0 : List UInt8 := [42, 27, 28, 182, 1, 45, 62, 42, 29, 3, 27, 42, 27, 28, 182, 0, 182, 42, 27, 182, 0, 171, 42]
abbrev dktX7_priceOf_0 : List UInt8 := dkwX7_priceOf_0 ++ dktX7_priceOf_1
theorem dksX7_priceOf_0 : cX7_priceOf.data.toList.drop 0 = dktX7_priceOf_0 := by decide +kernel
theorem dksX7_priceOf_1 : cX7_priceOf.data.toList.drop 23 = dktX7_priceOf_1 := dk_seg dksX7_priceOf_0 23 rfl rfl
theorem dX7_priceOf_0 : decode cX7_priceOf 0 = .ok (.aload_n 0, 1) := dk_42 (dk_at dksX7_priceOf_0 0 rfl rfl)
theorem dX7_priceOf_1 : decode cX7_priceOf 1 = .ok (.iload_n 1, 1) := dk_27 (dk_at dksX7_priceOf_0 1 rfl rfl)
theorem dX7_priceOf_2 : decode cX7_priceOf 2 = .ok (.iload_n 2, 1) := dk_28 (dk_at dksX7_priceOf_0 2 rfl rfl)
theorem dX7_priceOf_3 : decode cX7_priceOf 3 = .ok (.invokevirtual 301, 3) := dk_182 1 45 (dk_at dksX7_priceOf_0 3 rfl rfl)
theorem dX7_priceOf_6 : decode cX7_priceOf 6 = .ok (.istore_n 3, 1) := dk_62 (dk_at dksX7_priceOf_0 6 rfl rfl)
theorem dX7_priceOf_7 : decode cX7_priceOf 7 = .ok (.aload_n 0, 1) := dk_42 (dk_at dksX7_priceOf_0 7 rfl rfl)
theorem dX7_priceOf_8 : decode cX7_priceOf 8 = .ok (.iload_n 3, 1) := dk_29 (dk_at dksX7_priceOf_0 8 rfl rfl)
theorem dX7_priceOf_9 : decode cX7_priceOf 9 = .ok (.iconst 0, 1) := dk_3 (dk_at dksX7_priceOf_0 9 rfl rfl)
theorem dX7_priceOf_10 : decode cX7_priceOf 10 = .ok (.iload_n 1, 1) := dk_27 (dk_at dksX7_priceOf_0 10 rfl rfl)
theorem dX7_priceOf_11 : decode cX7_priceOf 11 = .ok (.aload_n 0, 1) := dk_42 (dk_at dksX7_priceOf_0 11 rfl rfl)
theorem dX7_priceOf_12 : decode cX7_priceOf 12 = .ok (.iload_n 1, 1) := dk_27 (dk_at dksX7_priceOf_0 12 rfl rfl)
theorem dX7_priceOf_13 : decode cX7_priceOf 13 = .ok (.iload_n 2, 1) := dk_28 (dk_at dksX7_priceOf_0 13 rfl rfl)
theorem dX7_priceOf_14 : decode cX7_priceOf 14 = .ok (.invokevirtual 182, 3) := dk_182 0 182 (dk_at dksX7_priceOf_0 14 rfl rfl)
theorem dX7_priceOf_17 : decode cX7_priceOf 17 = .ok (.aload_n 0, 1) := dk_42 (dk_at dksX7_priceOf_0 17 rfl rfl)
theorem dX7_priceOf_18 : decode cX7_priceOf 18 = .ok (.iload_n 1, 1) := dk_27 (dk_at dksX7_priceOf_0 18 rfl rfl)
theorem dX7_priceOf_19 : decode cX7_priceOf 19 = .ok (.invokevirtual 171, 3) := dk_182 0 171 (dk_at dksX7_priceOf_0 19 rfl rfl)
theorem dX7_priceOf_22 : decode cX7_priceOf 22 = .ok (.aload_n 0, 1) := dk_42 (dk_at dksX7_priceOf_0 22 rfl rfl)
theorem dX7_priceOf_23 : decode cX7_priceOf 23 = .ok (.getfield 34, 3) := dk_180 0 34 (dk_at dksX7_priceOf_1 0 rfl rfl)
theorem dX7_priceOf_26 : decode cX7_priceOf 26 = .ok (.bipush 8, 2) := dk_16 8 (dk_at dksX7_priceOf_1 3 rfl rfl)
theorem dX7_priceOf_28 : decode cX7_priceOf 28 = .ok (.iload_n 1, 1) := dk_27 (dk_at dksX7_priceOf_1 5 rfl rfl)
theorem dX7_priceOf_29 : decode cX7_priceOf 29 = .ok (.imul, 1) := dk_104 (dk_at dksX7_priceOf_1 6 rfl rfl)
theorem dX7_priceOf_30 : decode cX7_priceOf 30 = .ok (.iload_n 2, 1) := dk_28 (dk_at dksX7_priceOf_1 7 rfl rfl)
theorem dX7_priceOf_31 : decode cX7_priceOf 31 = .ok (.iadd, 1) := dk_96 (dk_at dksX7_priceOf_1 8 rfl rfl)
theorem dX7_priceOf_32 : decode cX7_priceOf 32 = .ok (.iaload, 1) := dk_46 (dk_at dksX7_priceOf_1 9 rfl rfl)
theorem dX7_priceOf_33 : decode cX7_priceOf 33 = .ok (.invokevirtual 291, 3) := dk_182 1 35 (dk_at dksX7_priceOf_1 10 rfl rfl)
theorem dX7_priceOf_36 : decode cX7_priceOf 36 = .ok (.aload_n 0, 1) := dk_42 (dk_at dksX7_priceOf_1 13 rfl rfl)
theorem dX7_priceOf_37 : decode cX7_priceOf 37 = .ok (.iconst 1, 1) := dk_4 (dk_at dksX7_priceOf_1 14 rfl rfl)
theorem dX7_priceOf_38 : decode cX7_priceOf 38 = .ok (.sipush 999, 3) := dk_17 3 231 (dk_at dksX7_priceOf_1 15 rfl rfl)
theorem dX7_priceOf_41 : decode cX7_priceOf 41 = .ok (.invokevirtual 295, 3) := dk_182 1 39 (dk_at dksX7_priceOf_1 18 rfl rfl)
theorem dX7_priceOf_44 : decode cX7_priceOf 44 = .ok (.ireturn, 1) := dk_172 (dk_at dksX7_priceOf_1 21 rfl rfl)
abbrev cX7_all : ByteArray := prog_19_method_53_code
def yX7_all : MethodName := ⟨RX7, "all", "(I)I"⟩
def dkwX7_all_5 : List UInt8 := [172]
abbrev dktX7_all_5 : List UInt8 := dkwX7_all_5 ++ []
def dkwX7_all_4 : List UInt8 := [3, 160, 0, 7, 4, 167, 0, 4, 3, 96, 61, 132, 4, 1, 167, 255, 174, 132, 3, 1, 167, 255, 157, 28]
abbrev dktX7_all_4 : List UInt8 := dkwX7_all_4 ++ dktX7_all_5
def dkwX7_all_3 : List UInt8 := [182, 1, 45, 167, 0, 30, 21, 5, 27, 5, 160, 0, 14, 4, 42, 180, 0, 197, 120, 4, 100, 167, 0, 4]
abbrev dktX7_all_3 : List UInt8 := dkwX7_all_3 ++ dktX7_all_4
def dkwX7_all_2 : List UInt8 := [27, 154, 0, 13, 42, 29, 21, 4, 182, 1, 48, 167, 0, 45, 27, 4, 160, 0, 13, 42, 29, 21, 4]
abbrev dktX7_all_2 : List UInt8 := dkwX7_all_2 ++ dktX7_all_3
def dkwX7_all_1 : List UInt8 := [3, 54, 4, 21, 4, 42, 180, 0, 22, 29, 46, 162, 0, 77, 42, 29, 21, 4, 182, 1, 32, 54, 5, 28]
abbrev dktX7_all_1 : List UInt8 := dkwX7_all_1 ++ dktX7_all_2
def dkwX7_all_0 : List UInt8 := [27, 3, 6, 184, 0, 159, 154, 0, 6, 16, 254, 172, 3, 61, 3, 62, 29, 42, 180, 0, 156, 162, 0, 97]
abbrev dktX7_all_0 : List UInt8 := dkwX7_all_0 ++ dktX7_all_1
theorem dksX7_all_0 : cX7_all.data.toList.drop 0 = dktX7_all_0 := by decide +kernel
theorem dksX7_all_1 : cX7_all.data.toList.drop 24 = dktX7_all_1 := dk_seg dksX7_all_0 24 rfl rfl
theorem dksX7_all_2 : cX7_all.data.toList.drop 48 = dktX7_all_2 := dk_seg dksX7_all_1 24 rfl rfl
theorem dksX7_all_3 : cX7_all.data.toList.drop 71 = dktX7_all_3 := dk_seg dksX7_all_2 23 rfl rfl
theorem dksX7_all_4 : cX7_all.data.toList.drop 95 = dktX7_all_4 := dk_seg dksX7_all_3 24 rfl rfl
theorem dksX7_all_5 : cX7_all.data.toList.drop 119 = dktX7_all_5 := dk_seg dksX7_all_4 24 rfl rfl
theorem dX7_all_0 : decode cX7_all 0 = .ok (.iload_n 1, 1) := dk_27 (dk_at dksX7_all_0 0 rfl rfl)
theorem dX7_all_1 : decode cX7_all 1 = .ok (.iconst 0, 1) := dk_3 (dk_at dksX7_all_0 1 rfl rfl)
theorem dX7_all_2 : decode cX7_all 2 = .ok (.iconst 3, 1) := dk_6 (dk_at dksX7_all_0 2 rfl rfl)
theorem dX7_all_3 : decode cX7_all 3 = .ok (.invokestatic 159, 3) := dk_184 0 159 (dk_at dksX7_all_0 3 rfl rfl)
theorem dX7_all_6 : decode cX7_all 6 = .ok (.ifCond .ne 6, 3) := dk_154 0 6 (dk_at dksX7_all_0 6 rfl rfl)
theorem dX7_all_9 : decode cX7_all 9 = .ok (.bipush (-2), 2) := dk_16 254 (dk_at dksX7_all_0 9 rfl rfl)
theorem dX7_all_11 : decode cX7_all 11 = .ok (.ireturn, 1) := dk_172 (dk_at dksX7_all_0 11 rfl rfl)
theorem dX7_all_12 : decode cX7_all 12 = .ok (.iconst 0, 1) := dk_3 (dk_at dksX7_all_0 12 rfl rfl)
theorem dX7_all_13 : decode cX7_all 13 = .ok (.istore_n 2, 1) := dk_61 (dk_at dksX7_all_0 13 rfl rfl)
theorem dX7_all_14 : decode cX7_all 14 = .ok (.iconst 0, 1) := dk_3 (dk_at dksX7_all_0 14 rfl rfl)
theorem dX7_all_15 : decode cX7_all 15 = .ok (.istore_n 3, 1) := dk_62 (dk_at dksX7_all_0 15 rfl rfl)
theorem dX7_all_16 : decode cX7_all 16 = .ok (.iload_n 3, 1) := dk_29 (dk_at dksX7_all_0 16 rfl rfl)
theorem dX7_all_17 : decode cX7_all 17 = .ok (.aload_n 0, 1) := dk_42 (dk_at dksX7_all_0 17 rfl rfl)
theorem dX7_all_18 : decode cX7_all 18 = .ok (.getfield 156, 3) := dk_180 0 156 (dk_at dksX7_all_0 18 rfl rfl)
theorem dX7_all_21 : decode cX7_all 21 = .ok (.if_icmp .ge 97, 3) := dk_162 0 97 (dk_at dksX7_all_0 21 rfl rfl)
theorem dX7_all_24 : decode cX7_all 24 = .ok (.iconst 0, 1) := dk_3 (dk_at dksX7_all_1 0 rfl rfl)
theorem dX7_all_25 : decode cX7_all 25 = .ok (.istore 4, 2) := dk_54 4 (dk_at dksX7_all_1 1 rfl rfl)
theorem dX7_all_27 : decode cX7_all 27 = .ok (.iload 4, 2) := dk_21 4 (dk_at dksX7_all_1 3 rfl rfl)
theorem dX7_all_29 : decode cX7_all 29 = .ok (.aload_n 0, 1) := dk_42 (dk_at dksX7_all_1 5 rfl rfl)
theorem dX7_all_30 : decode cX7_all 30 = .ok (.getfield 22, 3) := dk_180 0 22 (dk_at dksX7_all_1 6 rfl rfl)
theorem dX7_all_33 : decode cX7_all 33 = .ok (.iload_n 3, 1) := dk_29 (dk_at dksX7_all_1 9 rfl rfl)
theorem dX7_all_34 : decode cX7_all 34 = .ok (.iaload, 1) := dk_46 (dk_at dksX7_all_1 10 rfl rfl)
theorem dX7_all_35 : decode cX7_all 35 = .ok (.if_icmp .ge 77, 3) := dk_162 0 77 (dk_at dksX7_all_1 11 rfl rfl)
theorem dX7_all_38 : decode cX7_all 38 = .ok (.aload_n 0, 1) := dk_42 (dk_at dksX7_all_1 14 rfl rfl)
theorem dX7_all_39 : decode cX7_all 39 = .ok (.iload_n 3, 1) := dk_29 (dk_at dksX7_all_1 15 rfl rfl)
theorem dX7_all_40 : decode cX7_all 40 = .ok (.iload 4, 2) := dk_21 4 (dk_at dksX7_all_1 16 rfl rfl)
theorem dX7_all_42 : decode cX7_all 42 = .ok (.invokevirtual 288, 3) := dk_182 1 32 (dk_at dksX7_all_1 18 rfl rfl)
theorem dX7_all_45 : decode cX7_all 45 = .ok (.istore 5, 2) := dk_54 5 (dk_at dksX7_all_1 21 rfl rfl)
theorem dX7_all_47 : decode cX7_all 47 = .ok (.iload_n 2, 1) := dk_28 (dk_at dksX7_all_1 23 rfl rfl)
theorem dX7_all_48 : decode cX7_all 48 = .ok (.iload_n 1, 1) := dk_27 (dk_at dksX7_all_2 0 rfl rfl)
theorem dX7_all_49 : decode cX7_all 49 = .ok (.ifCond .ne 13, 3) := dk_154 0 13 (dk_at dksX7_all_2 1 rfl rfl)
theorem dX7_all_52 : decode cX7_all 52 = .ok (.aload_n 0, 1) := dk_42 (dk_at dksX7_all_2 4 rfl rfl)
theorem dX7_all_53 : decode cX7_all 53 = .ok (.iload_n 3, 1) := dk_29 (dk_at dksX7_all_2 5 rfl rfl)
theorem dX7_all_54 : decode cX7_all 54 = .ok (.iload 4, 2) := dk_21 4 (dk_at dksX7_all_2 6 rfl rfl)
theorem dX7_all_56 : decode cX7_all 56 = .ok (.invokevirtual 304, 3) := dk_182 1 48 (dk_at dksX7_all_2 8 rfl rfl)
theorem dX7_all_59 : decode cX7_all 59 = .ok (.goto 45, 3) := dk_167 0 45 (dk_at dksX7_all_2 11 rfl rfl)
theorem dX7_all_62 : decode cX7_all 62 = .ok (.iload_n 1, 1) := dk_27 (dk_at dksX7_all_2 14 rfl rfl)
theorem dX7_all_63 : decode cX7_all 63 = .ok (.iconst 1, 1) := dk_4 (dk_at dksX7_all_2 15 rfl rfl)
theorem dX7_all_64 : decode cX7_all 64 = .ok (.if_icmp .ne 13, 3) := dk_160 0 13 (dk_at dksX7_all_2 16 rfl rfl)
theorem dX7_all_67 : decode cX7_all 67 = .ok (.aload_n 0, 1) := dk_42 (dk_at dksX7_all_2 19 rfl rfl)
theorem dX7_all_68 : decode cX7_all 68 = .ok (.iload_n 3, 1) := dk_29 (dk_at dksX7_all_2 20 rfl rfl)
theorem dX7_all_69 : decode cX7_all 69 = .ok (.iload 4, 2) := dk_21 4 (dk_at dksX7_all_2 21 rfl rfl)
theorem dX7_all_71 : decode cX7_all 71 = .ok (.invokevirtual 301, 3) := dk_182 1 45 (dk_at dksX7_all_3 0 rfl rfl)
theorem dX7_all_74 : decode cX7_all 74 = .ok (.goto 30, 3) := dk_167 0 30 (dk_at dksX7_all_3 3 rfl rfl)
theorem dX7_all_77 : decode cX7_all 77 = .ok (.iload 5, 2) := dk_21 5 (dk_at dksX7_all_3 6 rfl rfl)
theorem dX7_all_79 : decode cX7_all 79 = .ok (.iload_n 1, 1) := dk_27 (dk_at dksX7_all_3 8 rfl rfl)
theorem dX7_all_80 : decode cX7_all 80 = .ok (.iconst 2, 1) := dk_5 (dk_at dksX7_all_3 9 rfl rfl)
theorem dX7_all_81 : decode cX7_all 81 = .ok (.if_icmp .ne 14, 3) := dk_160 0 14 (dk_at dksX7_all_3 10 rfl rfl)
theorem dX7_all_84 : decode cX7_all 84 = .ok (.iconst 1, 1) := dk_4 (dk_at dksX7_all_3 13 rfl rfl)
theorem dX7_all_85 : decode cX7_all 85 = .ok (.aload_n 0, 1) := dk_42 (dk_at dksX7_all_3 14 rfl rfl)
theorem dX7_all_86 : decode cX7_all 86 = .ok (.getfield 197, 3) := dk_180 0 197 (dk_at dksX7_all_3 15 rfl rfl)
theorem dX7_all_89 : decode cX7_all 89 = .ok (.ishl, 1) := dk_120 (dk_at dksX7_all_3 18 rfl rfl)
theorem dX7_all_90 : decode cX7_all 90 = .ok (.iconst 1, 1) := dk_4 (dk_at dksX7_all_3 19 rfl rfl)
theorem dX7_all_91 : decode cX7_all 91 = .ok (.isub, 1) := dk_100 (dk_at dksX7_all_3 20 rfl rfl)
theorem dX7_all_92 : decode cX7_all 92 = .ok (.goto 4, 3) := dk_167 0 4 (dk_at dksX7_all_3 21 rfl rfl)
theorem dX7_all_95 : decode cX7_all 95 = .ok (.iconst 0, 1) := dk_3 (dk_at dksX7_all_4 0 rfl rfl)
theorem dX7_all_96 : decode cX7_all 96 = .ok (.if_icmp .ne 7, 3) := dk_160 0 7 (dk_at dksX7_all_4 1 rfl rfl)
theorem dX7_all_99 : decode cX7_all 99 = .ok (.iconst 1, 1) := dk_4 (dk_at dksX7_all_4 4 rfl rfl)
theorem dX7_all_100 : decode cX7_all 100 = .ok (.goto 4, 3) := dk_167 0 4 (dk_at dksX7_all_4 5 rfl rfl)
theorem dX7_all_103 : decode cX7_all 103 = .ok (.iconst 0, 1) := dk_3 (dk_at dksX7_all_4 8 rfl rfl)
theorem dX7_all_104 : decode cX7_all 104 = .ok (.iadd, 1) := dk_96 (dk_at dksX7_all_4 9 rfl rfl)
theorem dX7_all_105 : decode cX7_all 105 = .ok (.istore_n 2, 1) := dk_61 (dk_at dksX7_all_4 10 rfl rfl)
theorem dX7_all_106 : decode cX7_all 106 = .ok (.iinc 4 1, 3) := dk_132 4 1 (dk_at dksX7_all_4 11 rfl rfl)
theorem dX7_all_109 : decode cX7_all 109 = .ok (.goto (-82), 3) := dk_167 255 174 (dk_at dksX7_all_4 14 rfl rfl)
theorem dX7_all_112 : decode cX7_all 112 = .ok (.iinc 3 1, 3) := dk_132 3 1 (dk_at dksX7_all_4 17 rfl rfl)
theorem dX7_all_115 : decode cX7_all 115 = .ok (.goto (-99), 3) := dk_167 255 157 (dk_at dksX7_all_4 20 rfl rfl)
theorem dX7_all_118 : decode cX7_all 118 = .ok (.iload_n 2, 1) := dk_28 (dk_at dksX7_all_4 23 rfl rfl)
theorem dX7_all_119 : decode cX7_all 119 = .ok (.ireturn, 1) := dk_172 (dk_at dksX7_all_5 0 rfl rfl)
abbrev cX7_cost : ByteArray := prog_19_method_55_code
def yX7_cost : MethodName := ⟨RX7, "cost", "()I"⟩
def dkwX7_cost_2 : List UInt8 := [96, 60, 132, 2, 1, 167, 255, 207, 27, 172]
abbrev dktX7_cost_2 : List UInt8 := dkwX7_cost_2 ++ []
def dkwX7_cost_1 : List UInt8 := [182, 1, 51, 28, 3, 42, 180, 0, 28, 28, 46, 3, 182, 1, 35, 27, 42, 5, 17, 3, 231, 182, 1, 39]
abbrev dktX7_cost_1 : List UInt8 := dkwX7_cost_1 ++ dktX7_cost_2
def dkwX7_cost_0 : List UInt8 := [3, 60, 3, 61, 28, 42, 180, 0, 156, 162, 0, 47, 42, 28, 182, 1, 51, 153, 0, 33, 42, 3, 42, 28]
abbrev dktX7_cost_0 : List UInt8 := dkwX7_cost_0 ++ dktX7_cost_1
theorem dksX7_cost_0 : cX7_cost.data.toList.drop 0 = dktX7_cost_0 := by decide +kernel
theorem dksX7_cost_1 : cX7_cost.data.toList.drop 24 = dktX7_cost_1 := dk_seg dksX7_cost_0 24 rfl rfl
theorem dksX7_cost_2 : cX7_cost.data.toList.drop 48 = dktX7_cost_2 := dk_seg dksX7_cost_1 24 rfl rfl
theorem dX7_cost_0 : decode cX7_cost 0 = .ok (.iconst 0, 1) := dk_3 (dk_at dksX7_cost_0 0 rfl rfl)
theorem dX7_cost_1 : decode cX7_cost 1 = .ok (.istore_n 1, 1) := dk_60 (dk_at dksX7_cost_0 1 rfl rfl)
theorem dX7_cost_2 : decode cX7_cost 2 = .ok (.iconst 0, 1) := dk_3 (dk_at dksX7_cost_0 2 rfl rfl)
theorem dX7_cost_3 : decode cX7_cost 3 = .ok (.istore_n 2, 1) := dk_61 (dk_at dksX7_cost_0 3 rfl rfl)
theorem dX7_cost_4 : decode cX7_cost 4 = .ok (.iload_n 2, 1) := dk_28 (dk_at dksX7_cost_0 4 rfl rfl)
theorem dX7_cost_5 : decode cX7_cost 5 = .ok (.aload_n 0, 1) := dk_42 (dk_at dksX7_cost_0 5 rfl rfl)
theorem dX7_cost_6 : decode cX7_cost 6 = .ok (.getfield 156, 3) := dk_180 0 156 (dk_at dksX7_cost_0 6 rfl rfl)
theorem dX7_cost_9 : decode cX7_cost 9 = .ok (.if_icmp .ge 47, 3) := dk_162 0 47 (dk_at dksX7_cost_0 9 rfl rfl)
theorem dX7_cost_12 : decode cX7_cost 12 = .ok (.aload_n 0, 1) := dk_42 (dk_at dksX7_cost_0 12 rfl rfl)
theorem dX7_cost_13 : decode cX7_cost 13 = .ok (.iload_n 2, 1) := dk_28 (dk_at dksX7_cost_0 13 rfl rfl)
theorem dX7_cost_14 : decode cX7_cost 14 = .ok (.invokevirtual 307, 3) := dk_182 1 51 (dk_at dksX7_cost_0 14 rfl rfl)
theorem dX7_cost_17 : decode cX7_cost 17 = .ok (.ifCond .eq 33, 3) := dk_153 0 33 (dk_at dksX7_cost_0 17 rfl rfl)
theorem dX7_cost_20 : decode cX7_cost 20 = .ok (.aload_n 0, 1) := dk_42 (dk_at dksX7_cost_0 20 rfl rfl)
theorem dX7_cost_21 : decode cX7_cost 21 = .ok (.iconst 0, 1) := dk_3 (dk_at dksX7_cost_0 21 rfl rfl)
theorem dX7_cost_22 : decode cX7_cost 22 = .ok (.aload_n 0, 1) := dk_42 (dk_at dksX7_cost_0 22 rfl rfl)
theorem dX7_cost_23 : decode cX7_cost 23 = .ok (.iload_n 2, 1) := dk_28 (dk_at dksX7_cost_0 23 rfl rfl)
theorem dX7_cost_24 : decode cX7_cost 24 = .ok (.invokevirtual 307, 3) := dk_182 1 51 (dk_at dksX7_cost_1 0 rfl rfl)
theorem dX7_cost_27 : decode cX7_cost 27 = .ok (.iload_n 2, 1) := dk_28 (dk_at dksX7_cost_1 3 rfl rfl)
theorem dX7_cost_28 : decode cX7_cost 28 = .ok (.iconst 0, 1) := dk_3 (dk_at dksX7_cost_1 4 rfl rfl)
theorem dX7_cost_29 : decode cX7_cost 29 = .ok (.aload_n 0, 1) := dk_42 (dk_at dksX7_cost_1 5 rfl rfl)
theorem dX7_cost_30 : decode cX7_cost 30 = .ok (.getfield 28, 3) := dk_180 0 28 (dk_at dksX7_cost_1 6 rfl rfl)
theorem dX7_cost_33 : decode cX7_cost 33 = .ok (.iload_n 2, 1) := dk_28 (dk_at dksX7_cost_1 9 rfl rfl)
theorem dX7_cost_34 : decode cX7_cost 34 = .ok (.iaload, 1) := dk_46 (dk_at dksX7_cost_1 10 rfl rfl)
theorem dX7_cost_35 : decode cX7_cost 35 = .ok (.iconst 0, 1) := dk_3 (dk_at dksX7_cost_1 11 rfl rfl)
theorem dX7_cost_36 : decode cX7_cost 36 = .ok (.invokevirtual 291, 3) := dk_182 1 35 (dk_at dksX7_cost_1 12 rfl rfl)
theorem dX7_cost_39 : decode cX7_cost 39 = .ok (.iload_n 1, 1) := dk_27 (dk_at dksX7_cost_1 15 rfl rfl)
theorem dX7_cost_40 : decode cX7_cost 40 = .ok (.aload_n 0, 1) := dk_42 (dk_at dksX7_cost_1 16 rfl rfl)
theorem dX7_cost_41 : decode cX7_cost 41 = .ok (.iconst 2, 1) := dk_5 (dk_at dksX7_cost_1 17 rfl rfl)
theorem dX7_cost_42 : decode cX7_cost 42 = .ok (.sipush 999, 3) := dk_17 3 231 (dk_at dksX7_cost_1 18 rfl rfl)
theorem dX7_cost_45 : decode cX7_cost 45 = .ok (.invokevirtual 295, 3) := dk_182 1 39 (dk_at dksX7_cost_1 21 rfl rfl)
theorem dX7_cost_48 : decode cX7_cost 48 = .ok (.iadd, 1) := dk_96 (dk_at dksX7_cost_2 0 rfl rfl)
theorem dX7_cost_49 : decode cX7_cost 49 = .ok (.istore_n 1, 1) := dk_60 (dk_at dksX7_cost_2 1 rfl rfl)
theorem dX7_cost_50 : decode cX7_cost 50 = .ok (.iinc 2 1, 3) := dk_132 2 1 (dk_at dksX7_cost_2 2 rfl rfl)
theorem dX7_cost_53 : decode cX7_cost 53 = .ok (.goto (-49), 3) := dk_167 255 207 (dk_at dksX7_cost_2 5 rfl rfl)
theorem dX7_cost_56 : decode cX7_cost 56 = .ok (.iload_n 1, 1) := dk_27 (dk_at dksX7_cost_2 8 rfl rfl)
theorem dX7_cost_57 : decode cX7_cost 57 = .ok (.ireturn, 1) := dk_172 (dk_at dksX7_cost_2 9 rfl rfl)
abbrev cX7_stepOf : ByteArray := prog_19_method_54_code
def yX7_stepOf : MethodName := ⟨RX7, "stepOf", "(I)I"⟩
def dkwX7_stepOf_0 : List UInt8 := [42, 180, 0, 28, 27, 46, 27, 154, 0, 7, 3, 167, 0, 11, 42, 180, 0, 28, 27, 4, 100, 46, 100, 172]
abbrev dktX7_stepOf_0 : List UInt8 := dkwX7_stepOf_0 ++ []
theorem dksX7_stepOf_0 : cX7_stepOf.data.toList.drop 0 = dktX7_stepOf_0 := by decide +kernel
theorem dX7_stepOf_0 : decode cX7_stepOf 0 = .ok (.aload_n 0, 1) := dk_42 (dk_at dksX7_stepOf_0 0 rfl rfl)
theorem dX7_stepOf_1 : decode cX7_stepOf 1 = .ok (.getfield 28, 3) := dk_180 0 28 (dk_at dksX7_stepOf_0 1 rfl rfl)
theorem dX7_stepOf_4 : decode cX7_stepOf 4 = .ok (.iload_n 1, 1) := dk_27 (dk_at dksX7_stepOf_0 4 rfl rfl)
theorem dX7_stepOf_5 : decode cX7_stepOf 5 = .ok (.iaload, 1) := dk_46 (dk_at dksX7_stepOf_0 5 rfl rfl)
theorem dX7_stepOf_6 : decode cX7_stepOf 6 = .ok (.iload_n 1, 1) := dk_27 (dk_at dksX7_stepOf_0 6 rfl rfl)
theorem dX7_stepOf_7 : decode cX7_stepOf 7 = .ok (.ifCond .ne 7, 3) := dk_154 0 7 (dk_at dksX7_stepOf_0 7 rfl rfl)
theorem dX7_stepOf_10 : decode cX7_stepOf 10 = .ok (.iconst 0, 1) := dk_3 (dk_at dksX7_stepOf_0 10 rfl rfl)
theorem dX7_stepOf_11 : decode cX7_stepOf 11 = .ok (.goto 11, 3) := dk_167 0 11 (dk_at dksX7_stepOf_0 11 rfl rfl)
theorem dX7_stepOf_14 : decode cX7_stepOf 14 = .ok (.aload_n 0, 1) := dk_42 (dk_at dksX7_stepOf_0 14 rfl rfl)
theorem dX7_stepOf_15 : decode cX7_stepOf 15 = .ok (.getfield 28, 3) := dk_180 0 28 (dk_at dksX7_stepOf_0 15 rfl rfl)
theorem dX7_stepOf_18 : decode cX7_stepOf 18 = .ok (.iload_n 1, 1) := dk_27 (dk_at dksX7_stepOf_0 18 rfl rfl)
theorem dX7_stepOf_19 : decode cX7_stepOf 19 = .ok (.iconst 1, 1) := dk_4 (dk_at dksX7_stepOf_0 19 rfl rfl)
theorem dX7_stepOf_20 : decode cX7_stepOf 20 = .ok (.isub, 1) := dk_100 (dk_at dksX7_stepOf_0 20 rfl rfl)
theorem dX7_stepOf_21 : decode cX7_stepOf 21 = .ok (.iaload, 1) := dk_46 (dk_at dksX7_stepOf_0 21 rfl rfl)
theorem dX7_stepOf_22 : decode cX7_stepOf 22 = .ok (.isub, 1) := dk_100 (dk_at dksX7_stepOf_0 22 rfl rfl)
theorem dX7_stepOf_23 : decode cX7_stepOf 23 = .ok (.ireturn, 1) := dk_172 (dk_at dksX7_stepOf_0 23 rfl rfl)
abbrev cX7_lawful : ByteArray := prog_19_method_56_code
def yX7_lawful : MethodName := ⟨RX7, "lawful", "(I)I"⟩
def dkwX7_lawful_2 : List UInt8 := [167, 255, 224, 2, 172]
abbrev dktX7_lawful_2 : List UInt8 := dkwX7_lawful_2 ++ []
def dkwX7_lawful_1 : List UInt8 := [28, 182, 1, 51, 27, 163, 0, 13, 42, 28, 182, 1, 51, 27, 116, 162, 0, 5, 28, 172, 132, 2, 1]
abbrev dktX7_lawful_1 : List UInt8 := dkwX7_lawful_1 ++ dktX7_lawful_2
def dkwX7_lawful_0 : List UInt8 := [27, 3, 16, 99, 184, 0, 159, 154, 0, 6, 16, 254, 172, 3, 61, 28, 42, 180, 0, 156, 162, 0, 30, 42]
abbrev dktX7_lawful_0 : List UInt8 := dkwX7_lawful_0 ++ dktX7_lawful_1
theorem dksX7_lawful_0 : cX7_lawful.data.toList.drop 0 = dktX7_lawful_0 := by decide +kernel
theorem dksX7_lawful_1 : cX7_lawful.data.toList.drop 24 = dktX7_lawful_1 := dk_seg dksX7_lawful_0 24 rfl rfl
theorem dksX7_lawful_2 : cX7_lawful.data.toList.drop 47 = dktX7_lawful_2 := dk_seg dksX7_lawful_1 23 rfl rfl
theorem dX7_lawful_0 : decode cX7_lawful 0 = .ok (.iload_n 1, 1) := dk_27 (dk_at dksX7_lawful_0 0 rfl rfl)
theorem dX7_lawful_1 : decode cX7_lawful 1 = .ok (.iconst 0, 1) := dk_3 (dk_at dksX7_lawful_0 1 rfl rfl)
theorem dX7_lawful_2 : decode cX7_lawful 2 = .ok (.bipush 99, 2) := dk_16 99 (dk_at dksX7_lawful_0 2 rfl rfl)
theorem dX7_lawful_4 : decode cX7_lawful 4 = .ok (.invokestatic 159, 3) := dk_184 0 159 (dk_at dksX7_lawful_0 4 rfl rfl)
theorem dX7_lawful_7 : decode cX7_lawful 7 = .ok (.ifCond .ne 6, 3) := dk_154 0 6 (dk_at dksX7_lawful_0 7 rfl rfl)
theorem dX7_lawful_10 : decode cX7_lawful 10 = .ok (.bipush (-2), 2) := dk_16 254 (dk_at dksX7_lawful_0 10 rfl rfl)
theorem dX7_lawful_12 : decode cX7_lawful 12 = .ok (.ireturn, 1) := dk_172 (dk_at dksX7_lawful_0 12 rfl rfl)
theorem dX7_lawful_13 : decode cX7_lawful 13 = .ok (.iconst 0, 1) := dk_3 (dk_at dksX7_lawful_0 13 rfl rfl)
theorem dX7_lawful_14 : decode cX7_lawful 14 = .ok (.istore_n 2, 1) := dk_61 (dk_at dksX7_lawful_0 14 rfl rfl)
theorem dX7_lawful_15 : decode cX7_lawful 15 = .ok (.iload_n 2, 1) := dk_28 (dk_at dksX7_lawful_0 15 rfl rfl)
theorem dX7_lawful_16 : decode cX7_lawful 16 = .ok (.aload_n 0, 1) := dk_42 (dk_at dksX7_lawful_0 16 rfl rfl)
theorem dX7_lawful_17 : decode cX7_lawful 17 = .ok (.getfield 156, 3) := dk_180 0 156 (dk_at dksX7_lawful_0 17 rfl rfl)
theorem dX7_lawful_20 : decode cX7_lawful 20 = .ok (.if_icmp .ge 30, 3) := dk_162 0 30 (dk_at dksX7_lawful_0 20 rfl rfl)
theorem dX7_lawful_23 : decode cX7_lawful 23 = .ok (.aload_n 0, 1) := dk_42 (dk_at dksX7_lawful_0 23 rfl rfl)
theorem dX7_lawful_24 : decode cX7_lawful 24 = .ok (.iload_n 2, 1) := dk_28 (dk_at dksX7_lawful_1 0 rfl rfl)
theorem dX7_lawful_25 : decode cX7_lawful 25 = .ok (.invokevirtual 307, 3) := dk_182 1 51 (dk_at dksX7_lawful_1 1 rfl rfl)
theorem dX7_lawful_28 : decode cX7_lawful 28 = .ok (.iload_n 1, 1) := dk_27 (dk_at dksX7_lawful_1 4 rfl rfl)
theorem dX7_lawful_29 : decode cX7_lawful 29 = .ok (.if_icmp .gt 13, 3) := dk_163 0 13 (dk_at dksX7_lawful_1 5 rfl rfl)
theorem dX7_lawful_32 : decode cX7_lawful 32 = .ok (.aload_n 0, 1) := dk_42 (dk_at dksX7_lawful_1 8 rfl rfl)
theorem dX7_lawful_33 : decode cX7_lawful 33 = .ok (.iload_n 2, 1) := dk_28 (dk_at dksX7_lawful_1 9 rfl rfl)
theorem dX7_lawful_34 : decode cX7_lawful 34 = .ok (.invokevirtual 307, 3) := dk_182 1 51 (dk_at dksX7_lawful_1 10 rfl rfl)
theorem dX7_lawful_37 : decode cX7_lawful 37 = .ok (.iload_n 1, 1) := dk_27 (dk_at dksX7_lawful_1 13 rfl rfl)
theorem dX7_lawful_38 : decode cX7_lawful 38 = .ok (.ineg, 1) := dk_116 (dk_at dksX7_lawful_1 14 rfl rfl)
theorem dX7_lawful_39 : decode cX7_lawful 39 = .ok (.if_icmp .ge 5, 3) := dk_162 0 5 (dk_at dksX7_lawful_1 15 rfl rfl)
theorem dX7_lawful_42 : decode cX7_lawful 42 = .ok (.iload_n 2, 1) := dk_28 (dk_at dksX7_lawful_1 18 rfl rfl)
theorem dX7_lawful_43 : decode cX7_lawful 43 = .ok (.ireturn, 1) := dk_172 (dk_at dksX7_lawful_1 19 rfl rfl)
theorem dX7_lawful_44 : decode cX7_lawful 44 = .ok (.iinc 2 1, 3) := dk_132 2 1 (dk_at dksX7_lawful_1 20 rfl rfl)
theorem dX7_lawful_47 : decode cX7_lawful 47 = .ok (.goto (-32), 3) := dk_167 255 224 (dk_at dksX7_lawful_2 0 rfl rfl)
theorem dX7_lawful_50 : decode cX7_lawful 50 = .ok (.iconst (-1), 1) := dk_2 (dk_at dksX7_lawful_2 3 rfl rfl)
theorem dX7_lawful_51 : decode cX7_lawful 51 = .ok (.ireturn, 1) := dk_172 (dk_at dksX7_lawful_2 4 rfl rfl)
abbrev cX7_judge : ByteArray := prog_19_method_60_code
def yX7_judge : MethodName := ⟨RX7, "judge", "(I)I"⟩
def dkwX7_judge_7 : List UInt8 := [172]
abbrev dktX7_judge_7 : List UInt8 := dkwX7_judge_7 ++ []
def dkwX7_judge_6 : List UInt8 := [182, 1, 57, 153, 0, 7, 29, 167, 0, 5, 21, 4, 62, 132, 4, 255, 167, 255, 232, 42, 182, 1, 60, 29]
abbrev dktX7_judge_6 : List UInt8 := dkwX7_judge_6 ++ dktX7_judge_7
def dkwX7_judge_5 : List UInt8 := [132, 3, 1, 167, 255, 228, 2, 62, 42, 180, 0, 156, 4, 100, 54, 4, 21, 4, 155, 0, 25, 42, 21, 4]
abbrev dktX7_judge_5 : List UInt8 := dkwX7_judge_5 ++ dktX7_judge_6
def dkwX7_judge_4 : List UInt8 := [42, 180, 0, 156, 162, 0, 26, 42, 180, 0, 28, 29, 42, 180, 0, 98, 16, 60, 27, 104, 29, 96, 46, 79]
abbrev dktX7_judge_4 : List UInt8 := dkwX7_judge_4 ++ dktX7_judge_5
def dkwX7_judge_3 : List UInt8 := [184, 0, 159, 61, 132, 3, 1, 167, 255, 223, 28, 154, 0, 6, 16, 254, 172, 42, 182, 1, 54, 3, 62, 29]
abbrev dktX7_judge_3 : List UInt8 := dkwX7_judge_3 ++ dktX7_judge_4
def dkwX7_judge_2 : List UInt8 := [180, 0, 156, 162, 0, 31, 28, 153, 0, 27, 42, 180, 0, 98, 16, 60, 27, 104, 29, 96, 46, 3, 16, 99]
abbrev dktX7_judge_2 : List UInt8 := dkwX7_judge_2 ++ dktX7_judge_3
def dkwX7_judge_1 : List UInt8 := [172, 42, 180, 0, 95, 27, 46, 42, 180, 0, 156, 160, 0, 7, 4, 167, 0, 4, 3, 61, 3, 62, 29, 42]
abbrev dktX7_judge_1 : List UInt8 := dkwX7_judge_1 ++ dktX7_judge_2
def dkwX7_judge_0 : List UInt8 := [27, 3, 6, 184, 0, 159, 154, 0, 6, 16, 254, 172, 42, 180, 0, 92, 27, 46, 2, 160, 0, 6, 16, 245]
abbrev dktX7_judge_0 : List UInt8 := dkwX7_judge_0 ++ dktX7_judge_1
theorem dksX7_judge_0 : cX7_judge.data.toList.drop 0 = dktX7_judge_0 := by decide +kernel
theorem dksX7_judge_1 : cX7_judge.data.toList.drop 24 = dktX7_judge_1 := dk_seg dksX7_judge_0 24 rfl rfl
theorem dksX7_judge_2 : cX7_judge.data.toList.drop 48 = dktX7_judge_2 := dk_seg dksX7_judge_1 24 rfl rfl
theorem dksX7_judge_3 : cX7_judge.data.toList.drop 72 = dktX7_judge_3 := dk_seg dksX7_judge_2 24 rfl rfl
theorem dksX7_judge_4 : cX7_judge.data.toList.drop 96 = dktX7_judge_4 := dk_seg dksX7_judge_3 24 rfl rfl
theorem dksX7_judge_5 : cX7_judge.data.toList.drop 120 = dktX7_judge_5 := dk_seg dksX7_judge_4 24 rfl rfl
theorem dksX7_judge_6 : cX7_judge.data.toList.drop 144 = dktX7_judge_6 := dk_seg dksX7_judge_5 24 rfl rfl
theorem dksX7_judge_7 : cX7_judge.data.toList.drop 168 = dktX7_judge_7 := dk_seg dksX7_judge_6 24 rfl rfl
theorem dX7_judge_0 : decode cX7_judge 0 = .ok (.iload_n 1, 1) := dk_27 (dk_at dksX7_judge_0 0 rfl rfl)
theorem dX7_judge_1 : decode cX7_judge 1 = .ok (.iconst 0, 1) := dk_3 (dk_at dksX7_judge_0 1 rfl rfl)
theorem dX7_judge_2 : decode cX7_judge 2 = .ok (.iconst 3, 1) := dk_6 (dk_at dksX7_judge_0 2 rfl rfl)
theorem dX7_judge_3 : decode cX7_judge 3 = .ok (.invokestatic 159, 3) := dk_184 0 159 (dk_at dksX7_judge_0 3 rfl rfl)
theorem dX7_judge_6 : decode cX7_judge 6 = .ok (.ifCond .ne 6, 3) := dk_154 0 6 (dk_at dksX7_judge_0 6 rfl rfl)
theorem dX7_judge_9 : decode cX7_judge 9 = .ok (.bipush (-2), 2) := dk_16 254 (dk_at dksX7_judge_0 9 rfl rfl)
theorem dX7_judge_11 : decode cX7_judge 11 = .ok (.ireturn, 1) := dk_172 (dk_at dksX7_judge_0 11 rfl rfl)
theorem dX7_judge_12 : decode cX7_judge 12 = .ok (.aload_n 0, 1) := dk_42 (dk_at dksX7_judge_0 12 rfl rfl)
theorem dX7_judge_13 : decode cX7_judge 13 = .ok (.getfield 92, 3) := dk_180 0 92 (dk_at dksX7_judge_0 13 rfl rfl)
theorem dX7_judge_16 : decode cX7_judge 16 = .ok (.iload_n 1, 1) := dk_27 (dk_at dksX7_judge_0 16 rfl rfl)
theorem dX7_judge_17 : decode cX7_judge 17 = .ok (.iaload, 1) := dk_46 (dk_at dksX7_judge_0 17 rfl rfl)
theorem dX7_judge_18 : decode cX7_judge 18 = .ok (.iconst (-1), 1) := dk_2 (dk_at dksX7_judge_0 18 rfl rfl)
theorem dX7_judge_19 : decode cX7_judge 19 = .ok (.if_icmp .ne 6, 3) := dk_160 0 6 (dk_at dksX7_judge_0 19 rfl rfl)
theorem dX7_judge_22 : decode cX7_judge 22 = .ok (.bipush (-11), 2) := dk_16 245 (dk_at dksX7_judge_0 22 rfl rfl)
theorem dX7_judge_24 : decode cX7_judge 24 = .ok (.ireturn, 1) := dk_172 (dk_at dksX7_judge_1 0 rfl rfl)
theorem dX7_judge_25 : decode cX7_judge 25 = .ok (.aload_n 0, 1) := dk_42 (dk_at dksX7_judge_1 1 rfl rfl)
theorem dX7_judge_26 : decode cX7_judge 26 = .ok (.getfield 95, 3) := dk_180 0 95 (dk_at dksX7_judge_1 2 rfl rfl)
theorem dX7_judge_29 : decode cX7_judge 29 = .ok (.iload_n 1, 1) := dk_27 (dk_at dksX7_judge_1 5 rfl rfl)
theorem dX7_judge_30 : decode cX7_judge 30 = .ok (.iaload, 1) := dk_46 (dk_at dksX7_judge_1 6 rfl rfl)
theorem dX7_judge_31 : decode cX7_judge 31 = .ok (.aload_n 0, 1) := dk_42 (dk_at dksX7_judge_1 7 rfl rfl)
theorem dX7_judge_32 : decode cX7_judge 32 = .ok (.getfield 156, 3) := dk_180 0 156 (dk_at dksX7_judge_1 8 rfl rfl)
theorem dX7_judge_35 : decode cX7_judge 35 = .ok (.if_icmp .ne 7, 3) := dk_160 0 7 (dk_at dksX7_judge_1 11 rfl rfl)
theorem dX7_judge_38 : decode cX7_judge 38 = .ok (.iconst 1, 1) := dk_4 (dk_at dksX7_judge_1 14 rfl rfl)
theorem dX7_judge_39 : decode cX7_judge 39 = .ok (.goto 4, 3) := dk_167 0 4 (dk_at dksX7_judge_1 15 rfl rfl)
theorem dX7_judge_42 : decode cX7_judge 42 = .ok (.iconst 0, 1) := dk_3 (dk_at dksX7_judge_1 18 rfl rfl)
theorem dX7_judge_43 : decode cX7_judge 43 = .ok (.istore_n 2, 1) := dk_61 (dk_at dksX7_judge_1 19 rfl rfl)
theorem dX7_judge_44 : decode cX7_judge 44 = .ok (.iconst 0, 1) := dk_3 (dk_at dksX7_judge_1 20 rfl rfl)
theorem dX7_judge_45 : decode cX7_judge 45 = .ok (.istore_n 3, 1) := dk_62 (dk_at dksX7_judge_1 21 rfl rfl)
theorem dX7_judge_46 : decode cX7_judge 46 = .ok (.iload_n 3, 1) := dk_29 (dk_at dksX7_judge_1 22 rfl rfl)
theorem dX7_judge_47 : decode cX7_judge 47 = .ok (.aload_n 0, 1) := dk_42 (dk_at dksX7_judge_1 23 rfl rfl)
theorem dX7_judge_48 : decode cX7_judge 48 = .ok (.getfield 156, 3) := dk_180 0 156 (dk_at dksX7_judge_2 0 rfl rfl)
theorem dX7_judge_51 : decode cX7_judge 51 = .ok (.if_icmp .ge 31, 3) := dk_162 0 31 (dk_at dksX7_judge_2 3 rfl rfl)
theorem dX7_judge_54 : decode cX7_judge 54 = .ok (.iload_n 2, 1) := dk_28 (dk_at dksX7_judge_2 6 rfl rfl)
theorem dX7_judge_55 : decode cX7_judge 55 = .ok (.ifCond .eq 27, 3) := dk_153 0 27 (dk_at dksX7_judge_2 7 rfl rfl)
theorem dX7_judge_58 : decode cX7_judge 58 = .ok (.aload_n 0, 1) := dk_42 (dk_at dksX7_judge_2 10 rfl rfl)
theorem dX7_judge_59 : decode cX7_judge 59 = .ok (.getfield 98, 3) := dk_180 0 98 (dk_at dksX7_judge_2 11 rfl rfl)
theorem dX7_judge_62 : decode cX7_judge 62 = .ok (.bipush 60, 2) := dk_16 60 (dk_at dksX7_judge_2 14 rfl rfl)
theorem dX7_judge_64 : decode cX7_judge 64 = .ok (.iload_n 1, 1) := dk_27 (dk_at dksX7_judge_2 16 rfl rfl)
theorem dX7_judge_65 : decode cX7_judge 65 = .ok (.imul, 1) := dk_104 (dk_at dksX7_judge_2 17 rfl rfl)
theorem dX7_judge_66 : decode cX7_judge 66 = .ok (.iload_n 3, 1) := dk_29 (dk_at dksX7_judge_2 18 rfl rfl)
theorem dX7_judge_67 : decode cX7_judge 67 = .ok (.iadd, 1) := dk_96 (dk_at dksX7_judge_2 19 rfl rfl)
theorem dX7_judge_68 : decode cX7_judge 68 = .ok (.iaload, 1) := dk_46 (dk_at dksX7_judge_2 20 rfl rfl)
theorem dX7_judge_69 : decode cX7_judge 69 = .ok (.iconst 0, 1) := dk_3 (dk_at dksX7_judge_2 21 rfl rfl)
theorem dX7_judge_70 : decode cX7_judge 70 = .ok (.bipush 99, 2) := dk_16 99 (dk_at dksX7_judge_2 22 rfl rfl)
theorem dX7_judge_72 : decode cX7_judge 72 = .ok (.invokestatic 159, 3) := dk_184 0 159 (dk_at dksX7_judge_3 0 rfl rfl)
theorem dX7_judge_75 : decode cX7_judge 75 = .ok (.istore_n 2, 1) := dk_61 (dk_at dksX7_judge_3 3 rfl rfl)
theorem dX7_judge_76 : decode cX7_judge 76 = .ok (.iinc 3 1, 3) := dk_132 3 1 (dk_at dksX7_judge_3 4 rfl rfl)
theorem dX7_judge_79 : decode cX7_judge 79 = .ok (.goto (-33), 3) := dk_167 255 223 (dk_at dksX7_judge_3 7 rfl rfl)
theorem dX7_judge_82 : decode cX7_judge 82 = .ok (.iload_n 2, 1) := dk_28 (dk_at dksX7_judge_3 10 rfl rfl)
theorem dX7_judge_83 : decode cX7_judge 83 = .ok (.ifCond .ne 6, 3) := dk_154 0 6 (dk_at dksX7_judge_3 11 rfl rfl)
theorem dX7_judge_86 : decode cX7_judge 86 = .ok (.bipush (-2), 2) := dk_16 254 (dk_at dksX7_judge_3 14 rfl rfl)
theorem dX7_judge_88 : decode cX7_judge 88 = .ok (.ireturn, 1) := dk_172 (dk_at dksX7_judge_3 16 rfl rfl)
theorem dX7_judge_89 : decode cX7_judge 89 = .ok (.aload_n 0, 1) := dk_42 (dk_at dksX7_judge_3 17 rfl rfl)
theorem dX7_judge_90 : decode cX7_judge 90 = .ok (.invokevirtual 310, 3) := dk_182 1 54 (dk_at dksX7_judge_3 18 rfl rfl)
theorem dX7_judge_93 : decode cX7_judge 93 = .ok (.iconst 0, 1) := dk_3 (dk_at dksX7_judge_3 21 rfl rfl)
theorem dX7_judge_94 : decode cX7_judge 94 = .ok (.istore_n 3, 1) := dk_62 (dk_at dksX7_judge_3 22 rfl rfl)
theorem dX7_judge_95 : decode cX7_judge 95 = .ok (.iload_n 3, 1) := dk_29 (dk_at dksX7_judge_3 23 rfl rfl)
theorem dX7_judge_96 : decode cX7_judge 96 = .ok (.aload_n 0, 1) := dk_42 (dk_at dksX7_judge_4 0 rfl rfl)
theorem dX7_judge_97 : decode cX7_judge 97 = .ok (.getfield 156, 3) := dk_180 0 156 (dk_at dksX7_judge_4 1 rfl rfl)
theorem dX7_judge_100 : decode cX7_judge 100 = .ok (.if_icmp .ge 26, 3) := dk_162 0 26 (dk_at dksX7_judge_4 4 rfl rfl)
theorem dX7_judge_103 : decode cX7_judge 103 = .ok (.aload_n 0, 1) := dk_42 (dk_at dksX7_judge_4 7 rfl rfl)
theorem dX7_judge_104 : decode cX7_judge 104 = .ok (.getfield 28, 3) := dk_180 0 28 (dk_at dksX7_judge_4 8 rfl rfl)
theorem dX7_judge_107 : decode cX7_judge 107 = .ok (.iload_n 3, 1) := dk_29 (dk_at dksX7_judge_4 11 rfl rfl)
theorem dX7_judge_108 : decode cX7_judge 108 = .ok (.aload_n 0, 1) := dk_42 (dk_at dksX7_judge_4 12 rfl rfl)
theorem dX7_judge_109 : decode cX7_judge 109 = .ok (.getfield 98, 3) := dk_180 0 98 (dk_at dksX7_judge_4 13 rfl rfl)
theorem dX7_judge_112 : decode cX7_judge 112 = .ok (.bipush 60, 2) := dk_16 60 (dk_at dksX7_judge_4 16 rfl rfl)
theorem dX7_judge_114 : decode cX7_judge 114 = .ok (.iload_n 1, 1) := dk_27 (dk_at dksX7_judge_4 18 rfl rfl)
theorem dX7_judge_115 : decode cX7_judge 115 = .ok (.imul, 1) := dk_104 (dk_at dksX7_judge_4 19 rfl rfl)
theorem dX7_judge_116 : decode cX7_judge 116 = .ok (.iload_n 3, 1) := dk_29 (dk_at dksX7_judge_4 20 rfl rfl)
theorem dX7_judge_117 : decode cX7_judge 117 = .ok (.iadd, 1) := dk_96 (dk_at dksX7_judge_4 21 rfl rfl)
theorem dX7_judge_118 : decode cX7_judge 118 = .ok (.iaload, 1) := dk_46 (dk_at dksX7_judge_4 22 rfl rfl)
theorem dX7_judge_119 : decode cX7_judge 119 = .ok (.iastore, 1) := dk_79 (dk_at dksX7_judge_4 23 rfl rfl)
theorem dX7_judge_120 : decode cX7_judge 120 = .ok (.iinc 3 1, 3) := dk_132 3 1 (dk_at dksX7_judge_5 0 rfl rfl)
theorem dX7_judge_123 : decode cX7_judge 123 = .ok (.goto (-28), 3) := dk_167 255 228 (dk_at dksX7_judge_5 3 rfl rfl)
theorem dX7_judge_126 : decode cX7_judge 126 = .ok (.iconst (-1), 1) := dk_2 (dk_at dksX7_judge_5 6 rfl rfl)
theorem dX7_judge_127 : decode cX7_judge 127 = .ok (.istore_n 3, 1) := dk_62 (dk_at dksX7_judge_5 7 rfl rfl)
theorem dX7_judge_128 : decode cX7_judge 128 = .ok (.aload_n 0, 1) := dk_42 (dk_at dksX7_judge_5 8 rfl rfl)
theorem dX7_judge_129 : decode cX7_judge 129 = .ok (.getfield 156, 3) := dk_180 0 156 (dk_at dksX7_judge_5 9 rfl rfl)
theorem dX7_judge_132 : decode cX7_judge 132 = .ok (.iconst 1, 1) := dk_4 (dk_at dksX7_judge_5 12 rfl rfl)
theorem dX7_judge_133 : decode cX7_judge 133 = .ok (.isub, 1) := dk_100 (dk_at dksX7_judge_5 13 rfl rfl)
theorem dX7_judge_134 : decode cX7_judge 134 = .ok (.istore 4, 2) := dk_54 4 (dk_at dksX7_judge_5 14 rfl rfl)
theorem dX7_judge_136 : decode cX7_judge 136 = .ok (.iload 4, 2) := dk_21 4 (dk_at dksX7_judge_5 16 rfl rfl)
theorem dX7_judge_138 : decode cX7_judge 138 = .ok (.ifCond .lt 25, 3) := dk_155 0 25 (dk_at dksX7_judge_5 18 rfl rfl)
theorem dX7_judge_141 : decode cX7_judge 141 = .ok (.aload_n 0, 1) := dk_42 (dk_at dksX7_judge_5 21 rfl rfl)
theorem dX7_judge_142 : decode cX7_judge 142 = .ok (.iload 4, 2) := dk_21 4 (dk_at dksX7_judge_5 22 rfl rfl)
theorem dX7_judge_144 : decode cX7_judge 144 = .ok (.invokevirtual 313, 3) := dk_182 1 57 (dk_at dksX7_judge_6 0 rfl rfl)
theorem dX7_judge_147 : decode cX7_judge 147 = .ok (.ifCond .eq 7, 3) := dk_153 0 7 (dk_at dksX7_judge_6 3 rfl rfl)
theorem dX7_judge_150 : decode cX7_judge 150 = .ok (.iload_n 3, 1) := dk_29 (dk_at dksX7_judge_6 6 rfl rfl)
theorem dX7_judge_151 : decode cX7_judge 151 = .ok (.goto 5, 3) := dk_167 0 5 (dk_at dksX7_judge_6 7 rfl rfl)
theorem dX7_judge_154 : decode cX7_judge 154 = .ok (.iload 4, 2) := dk_21 4 (dk_at dksX7_judge_6 10 rfl rfl)
theorem dX7_judge_156 : decode cX7_judge 156 = .ok (.istore_n 3, 1) := dk_62 (dk_at dksX7_judge_6 12 rfl rfl)
theorem dX7_judge_157 : decode cX7_judge 157 = .ok (.iinc 4 (-1), 3) := dk_132 4 255 (dk_at dksX7_judge_6 13 rfl rfl)
theorem dX7_judge_160 : decode cX7_judge 160 = .ok (.goto (-24), 3) := dk_167 255 232 (dk_at dksX7_judge_6 16 rfl rfl)
theorem dX7_judge_163 : decode cX7_judge 163 = .ok (.aload_n 0, 1) := dk_42 (dk_at dksX7_judge_6 19 rfl rfl)
theorem dX7_judge_164 : decode cX7_judge 164 = .ok (.invokevirtual 316, 3) := dk_182 1 60 (dk_at dksX7_judge_6 20 rfl rfl)
theorem dX7_judge_167 : decode cX7_judge 167 = .ok (.iload_n 3, 1) := dk_29 (dk_at dksX7_judge_6 23 rfl rfl)
theorem dX7_judge_168 : decode cX7_judge 168 = .ok (.ireturn, 1) := dk_172 (dk_at dksX7_judge_7 0 rfl rfl)
abbrev cX7_keepsRises : ByteArray := prog_19_method_58_code
def yX7_keepsRises : MethodName := ⟨RX7, "keepsRises", "()V"⟩
def dkwX7_keepsRises_1 : List UInt8 := [167, 255, 235, 177]
abbrev dktX7_keepsRises_1 : List UInt8 := dkwX7_keepsRises_1 ++ []
def dkwX7_keepsRises_0 : List UInt8 := [3, 60, 27, 16, 6, 162, 0, 21, 42, 180, 0, 138, 27, 42, 180, 0, 28, 27, 46, 79, 132, 1, 1]
abbrev dktX7_keepsRises_0 : List UInt8 := dkwX7_keepsRises_0 ++ dktX7_keepsRises_1
theorem dksX7_keepsRises_0 : cX7_keepsRises.data.toList.drop 0 = dktX7_keepsRises_0 := by decide +kernel
theorem dksX7_keepsRises_1 : cX7_keepsRises.data.toList.drop 23 = dktX7_keepsRises_1 := dk_seg dksX7_keepsRises_0 23 rfl rfl
theorem dX7_keepsRises_0 : decode cX7_keepsRises 0 = .ok (.iconst 0, 1) := dk_3 (dk_at dksX7_keepsRises_0 0 rfl rfl)
theorem dX7_keepsRises_1 : decode cX7_keepsRises 1 = .ok (.istore_n 1, 1) := dk_60 (dk_at dksX7_keepsRises_0 1 rfl rfl)
theorem dX7_keepsRises_2 : decode cX7_keepsRises 2 = .ok (.iload_n 1, 1) := dk_27 (dk_at dksX7_keepsRises_0 2 rfl rfl)
theorem dX7_keepsRises_3 : decode cX7_keepsRises 3 = .ok (.bipush 6, 2) := dk_16 6 (dk_at dksX7_keepsRises_0 3 rfl rfl)
theorem dX7_keepsRises_5 : decode cX7_keepsRises 5 = .ok (.if_icmp .ge 21, 3) := dk_162 0 21 (dk_at dksX7_keepsRises_0 5 rfl rfl)
theorem dX7_keepsRises_8 : decode cX7_keepsRises 8 = .ok (.aload_n 0, 1) := dk_42 (dk_at dksX7_keepsRises_0 8 rfl rfl)
theorem dX7_keepsRises_9 : decode cX7_keepsRises 9 = .ok (.getfield 138, 3) := dk_180 0 138 (dk_at dksX7_keepsRises_0 9 rfl rfl)
theorem dX7_keepsRises_12 : decode cX7_keepsRises 12 = .ok (.iload_n 1, 1) := dk_27 (dk_at dksX7_keepsRises_0 12 rfl rfl)
theorem dX7_keepsRises_13 : decode cX7_keepsRises 13 = .ok (.aload_n 0, 1) := dk_42 (dk_at dksX7_keepsRises_0 13 rfl rfl)
theorem dX7_keepsRises_14 : decode cX7_keepsRises 14 = .ok (.getfield 28, 3) := dk_180 0 28 (dk_at dksX7_keepsRises_0 14 rfl rfl)
theorem dX7_keepsRises_17 : decode cX7_keepsRises 17 = .ok (.iload_n 1, 1) := dk_27 (dk_at dksX7_keepsRises_0 17 rfl rfl)
theorem dX7_keepsRises_18 : decode cX7_keepsRises 18 = .ok (.iaload, 1) := dk_46 (dk_at dksX7_keepsRises_0 18 rfl rfl)
theorem dX7_keepsRises_19 : decode cX7_keepsRises 19 = .ok (.iastore, 1) := dk_79 (dk_at dksX7_keepsRises_0 19 rfl rfl)
theorem dX7_keepsRises_20 : decode cX7_keepsRises 20 = .ok (.iinc 1 1, 3) := dk_132 1 1 (dk_at dksX7_keepsRises_0 20 rfl rfl)
theorem dX7_keepsRises_23 : decode cX7_keepsRises 23 = .ok (.goto (-21), 3) := dk_167 255 235 (dk_at dksX7_keepsRises_1 0 rfl rfl)
theorem dX7_keepsRises_26 : decode cX7_keepsRises 26 = .ok (.return_, 1) := dk_177 (dk_at dksX7_keepsRises_1 3 rfl rfl)
abbrev cX7_allSee : ByteArray := prog_19_method_57_code
def yX7_allSee : MethodName := ⟨RX7, "allSee", "(I)Z"⟩
def dkwX7_allSee_1 : List UInt8 := [4, 100, 159, 0, 5, 3, 172, 132, 2, 1, 167, 255, 224, 4, 172]
abbrev dktX7_allSee_1 : List UInt8 := dkwX7_allSee_1 ++ []
def dkwX7_allSee_0 : List UInt8 := [3, 61, 28, 42, 180, 0, 22, 27, 46, 162, 0, 28, 42, 27, 28, 182, 1, 32, 4, 42, 180, 0, 197, 120]
abbrev dktX7_allSee_0 : List UInt8 := dkwX7_allSee_0 ++ dktX7_allSee_1
theorem dksX7_allSee_0 : cX7_allSee.data.toList.drop 0 = dktX7_allSee_0 := by decide +kernel
theorem dksX7_allSee_1 : cX7_allSee.data.toList.drop 24 = dktX7_allSee_1 := dk_seg dksX7_allSee_0 24 rfl rfl
theorem dX7_allSee_0 : decode cX7_allSee 0 = .ok (.iconst 0, 1) := dk_3 (dk_at dksX7_allSee_0 0 rfl rfl)
theorem dX7_allSee_1 : decode cX7_allSee 1 = .ok (.istore_n 2, 1) := dk_61 (dk_at dksX7_allSee_0 1 rfl rfl)
theorem dX7_allSee_2 : decode cX7_allSee 2 = .ok (.iload_n 2, 1) := dk_28 (dk_at dksX7_allSee_0 2 rfl rfl)
theorem dX7_allSee_3 : decode cX7_allSee 3 = .ok (.aload_n 0, 1) := dk_42 (dk_at dksX7_allSee_0 3 rfl rfl)
theorem dX7_allSee_4 : decode cX7_allSee 4 = .ok (.getfield 22, 3) := dk_180 0 22 (dk_at dksX7_allSee_0 4 rfl rfl)
theorem dX7_allSee_7 : decode cX7_allSee 7 = .ok (.iload_n 1, 1) := dk_27 (dk_at dksX7_allSee_0 7 rfl rfl)
theorem dX7_allSee_8 : decode cX7_allSee 8 = .ok (.iaload, 1) := dk_46 (dk_at dksX7_allSee_0 8 rfl rfl)
theorem dX7_allSee_9 : decode cX7_allSee 9 = .ok (.if_icmp .ge 28, 3) := dk_162 0 28 (dk_at dksX7_allSee_0 9 rfl rfl)
theorem dX7_allSee_12 : decode cX7_allSee 12 = .ok (.aload_n 0, 1) := dk_42 (dk_at dksX7_allSee_0 12 rfl rfl)
theorem dX7_allSee_13 : decode cX7_allSee 13 = .ok (.iload_n 1, 1) := dk_27 (dk_at dksX7_allSee_0 13 rfl rfl)
theorem dX7_allSee_14 : decode cX7_allSee 14 = .ok (.iload_n 2, 1) := dk_28 (dk_at dksX7_allSee_0 14 rfl rfl)
theorem dX7_allSee_15 : decode cX7_allSee 15 = .ok (.invokevirtual 288, 3) := dk_182 1 32 (dk_at dksX7_allSee_0 15 rfl rfl)
theorem dX7_allSee_18 : decode cX7_allSee 18 = .ok (.iconst 1, 1) := dk_4 (dk_at dksX7_allSee_0 18 rfl rfl)
theorem dX7_allSee_19 : decode cX7_allSee 19 = .ok (.aload_n 0, 1) := dk_42 (dk_at dksX7_allSee_0 19 rfl rfl)
theorem dX7_allSee_20 : decode cX7_allSee 20 = .ok (.getfield 197, 3) := dk_180 0 197 (dk_at dksX7_allSee_0 20 rfl rfl)
theorem dX7_allSee_23 : decode cX7_allSee 23 = .ok (.ishl, 1) := dk_120 (dk_at dksX7_allSee_0 23 rfl rfl)
theorem dX7_allSee_24 : decode cX7_allSee 24 = .ok (.iconst 1, 1) := dk_4 (dk_at dksX7_allSee_1 0 rfl rfl)
theorem dX7_allSee_25 : decode cX7_allSee 25 = .ok (.isub, 1) := dk_100 (dk_at dksX7_allSee_1 1 rfl rfl)
theorem dX7_allSee_26 : decode cX7_allSee 26 = .ok (.if_icmp .eq 5, 3) := dk_159 0 5 (dk_at dksX7_allSee_1 2 rfl rfl)
theorem dX7_allSee_29 : decode cX7_allSee 29 = .ok (.iconst 0, 1) := dk_3 (dk_at dksX7_allSee_1 5 rfl rfl)
theorem dX7_allSee_30 : decode cX7_allSee 30 = .ok (.ireturn, 1) := dk_172 (dk_at dksX7_allSee_1 6 rfl rfl)
theorem dX7_allSee_31 : decode cX7_allSee 31 = .ok (.iinc 2 1, 3) := dk_132 2 1 (dk_at dksX7_allSee_1 7 rfl rfl)
theorem dX7_allSee_34 : decode cX7_allSee 34 = .ok (.goto (-32), 3) := dk_167 255 224 (dk_at dksX7_allSee_1 10 rfl rfl)
theorem dX7_allSee_37 : decode cX7_allSee 37 = .ok (.iconst 1, 1) := dk_4 (dk_at dksX7_allSee_1 13 rfl rfl)
theorem dX7_allSee_38 : decode cX7_allSee 38 = .ok (.ireturn, 1) := dk_172 (dk_at dksX7_allSee_1 14 rfl rfl)
abbrev cX7_laysRises : ByteArray := prog_19_method_59_code
def yX7_laysRises : MethodName := ⟨RX7, "laysRises", "()V"⟩
def dkwX7_laysRises_1 : List UInt8 := [167, 255, 235, 177]
abbrev dktX7_laysRises_1 : List UInt8 := dkwX7_laysRises_1 ++ []
def dkwX7_laysRises_0 : List UInt8 := [3, 60, 27, 16, 6, 162, 0, 21, 42, 180, 0, 28, 27, 42, 180, 0, 138, 27, 46, 79, 132, 1, 1]
abbrev dktX7_laysRises_0 : List UInt8 := dkwX7_laysRises_0 ++ dktX7_laysRises_1
theorem dksX7_laysRises_0 : cX7_laysRises.data.toList.drop 0 = dktX7_laysRises_0 := by decide +kernel
theorem dksX7_laysRises_1 : cX7_laysRises.data.toList.drop 23 = dktX7_laysRises_1 := dk_seg dksX7_laysRises_0 23 rfl rfl
theorem dX7_laysRises_0 : decode cX7_laysRises 0 = .ok (.iconst 0, 1) := dk_3 (dk_at dksX7_laysRises_0 0 rfl rfl)
theorem dX7_laysRises_1 : decode cX7_laysRises 1 = .ok (.istore_n 1, 1) := dk_60 (dk_at dksX7_laysRises_0 1 rfl rfl)
theorem dX7_laysRises_2 : decode cX7_laysRises 2 = .ok (.iload_n 1, 1) := dk_27 (dk_at dksX7_laysRises_0 2 rfl rfl)
theorem dX7_laysRises_3 : decode cX7_laysRises 3 = .ok (.bipush 6, 2) := dk_16 6 (dk_at dksX7_laysRises_0 3 rfl rfl)
theorem dX7_laysRises_5 : decode cX7_laysRises 5 = .ok (.if_icmp .ge 21, 3) := dk_162 0 21 (dk_at dksX7_laysRises_0 5 rfl rfl)
theorem dX7_laysRises_8 : decode cX7_laysRises 8 = .ok (.aload_n 0, 1) := dk_42 (dk_at dksX7_laysRises_0 8 rfl rfl)
theorem dX7_laysRises_9 : decode cX7_laysRises 9 = .ok (.getfield 28, 3) := dk_180 0 28 (dk_at dksX7_laysRises_0 9 rfl rfl)
theorem dX7_laysRises_12 : decode cX7_laysRises 12 = .ok (.iload_n 1, 1) := dk_27 (dk_at dksX7_laysRises_0 12 rfl rfl)
theorem dX7_laysRises_13 : decode cX7_laysRises 13 = .ok (.aload_n 0, 1) := dk_42 (dk_at dksX7_laysRises_0 13 rfl rfl)
theorem dX7_laysRises_14 : decode cX7_laysRises 14 = .ok (.getfield 138, 3) := dk_180 0 138 (dk_at dksX7_laysRises_0 14 rfl rfl)
theorem dX7_laysRises_17 : decode cX7_laysRises 17 = .ok (.iload_n 1, 1) := dk_27 (dk_at dksX7_laysRises_0 17 rfl rfl)
theorem dX7_laysRises_18 : decode cX7_laysRises 18 = .ok (.iaload, 1) := dk_46 (dk_at dksX7_laysRises_0 18 rfl rfl)
theorem dX7_laysRises_19 : decode cX7_laysRises 19 = .ok (.iastore, 1) := dk_79 (dk_at dksX7_laysRises_0 19 rfl rfl)
theorem dX7_laysRises_20 : decode cX7_laysRises 20 = .ok (.iinc 1 1, 3) := dk_132 1 1 (dk_at dksX7_laysRises_0 20 rfl rfl)
theorem dX7_laysRises_23 : decode cX7_laysRises 23 = .ok (.goto (-21), 3) := dk_167 255 235 (dk_at dksX7_laysRises_1 0 rfl rfl)
theorem dX7_laysRises_26 : decode cX7_laysRises 26 = .ok (.return_, 1) := dk_177 (dk_at dksX7_laysRises_1 3 rfl rfl)
abbrev cX7_chance : ByteArray := prog_19_method_65_code
def yX7_chance : MethodName := ⟨RX7, "chance", "(IIII)J"⟩
def dkwX7_chance_3 : List UInt8 := [184, 1, 83, 173]
abbrev dktX7_chance_3 : List UInt8 := dkwX7_chance_3 ++ []
def dkwX7_chance_2 : List UInt8 := [29, 182, 1, 75, 42, 180, 1, 66, 42, 182, 1, 70, 133, 42, 180, 1, 63, 184, 1, 79, 21, 4]
abbrev dktX7_chance_2 : List UInt8 := dkwX7_chance_2 ++ dktX7_chance_3
def dkwX7_chance_1 : List UInt8 := [21, 4, 3, 4, 184, 0, 159, 153, 0, 10, 42, 182, 1, 70, 154, 0, 7, 20, 1, 73, 173, 42, 27, 28]
abbrev dktX7_chance_1 : List UInt8 := dkwX7_chance_1 ++ dktX7_chance_2
def dkwX7_chance_0 : List UInt8 := [42, 27, 28, 182, 0, 167, 153, 0, 34, 29, 3, 42, 180, 0, 197, 4, 100, 184, 0, 159, 153, 0, 20]
abbrev dktX7_chance_0 : List UInt8 := dkwX7_chance_0 ++ dktX7_chance_1
theorem dksX7_chance_0 : cX7_chance.data.toList.drop 0 = dktX7_chance_0 := by decide +kernel
theorem dksX7_chance_1 : cX7_chance.data.toList.drop 23 = dktX7_chance_1 := dk_seg dksX7_chance_0 23 rfl rfl
theorem dksX7_chance_2 : cX7_chance.data.toList.drop 47 = dktX7_chance_2 := dk_seg dksX7_chance_1 24 rfl rfl
theorem dksX7_chance_3 : cX7_chance.data.toList.drop 69 = dktX7_chance_3 := dk_seg dksX7_chance_2 22 rfl rfl
theorem dX7_chance_0 : decode cX7_chance 0 = .ok (.aload_n 0, 1) := dk_42 (dk_at dksX7_chance_0 0 rfl rfl)
theorem dX7_chance_1 : decode cX7_chance 1 = .ok (.iload_n 1, 1) := dk_27 (dk_at dksX7_chance_0 1 rfl rfl)
theorem dX7_chance_2 : decode cX7_chance 2 = .ok (.iload_n 2, 1) := dk_28 (dk_at dksX7_chance_0 2 rfl rfl)
theorem dX7_chance_3 : decode cX7_chance 3 = .ok (.invokevirtual 167, 3) := dk_182 0 167 (dk_at dksX7_chance_0 3 rfl rfl)
theorem dX7_chance_6 : decode cX7_chance 6 = .ok (.ifCond .eq 34, 3) := dk_153 0 34 (dk_at dksX7_chance_0 6 rfl rfl)
theorem dX7_chance_9 : decode cX7_chance 9 = .ok (.iload_n 3, 1) := dk_29 (dk_at dksX7_chance_0 9 rfl rfl)
theorem dX7_chance_10 : decode cX7_chance 10 = .ok (.iconst 0, 1) := dk_3 (dk_at dksX7_chance_0 10 rfl rfl)
theorem dX7_chance_11 : decode cX7_chance 11 = .ok (.aload_n 0, 1) := dk_42 (dk_at dksX7_chance_0 11 rfl rfl)
theorem dX7_chance_12 : decode cX7_chance 12 = .ok (.getfield 197, 3) := dk_180 0 197 (dk_at dksX7_chance_0 12 rfl rfl)
theorem dX7_chance_15 : decode cX7_chance 15 = .ok (.iconst 1, 1) := dk_4 (dk_at dksX7_chance_0 15 rfl rfl)
theorem dX7_chance_16 : decode cX7_chance 16 = .ok (.isub, 1) := dk_100 (dk_at dksX7_chance_0 16 rfl rfl)
theorem dX7_chance_17 : decode cX7_chance 17 = .ok (.invokestatic 159, 3) := dk_184 0 159 (dk_at dksX7_chance_0 17 rfl rfl)
theorem dX7_chance_20 : decode cX7_chance 20 = .ok (.ifCond .eq 20, 3) := dk_153 0 20 (dk_at dksX7_chance_0 20 rfl rfl)
theorem dX7_chance_23 : decode cX7_chance 23 = .ok (.iload 4, 2) := dk_21 4 (dk_at dksX7_chance_1 0 rfl rfl)
theorem dX7_chance_25 : decode cX7_chance 25 = .ok (.iconst 0, 1) := dk_3 (dk_at dksX7_chance_1 2 rfl rfl)
theorem dX7_chance_26 : decode cX7_chance 26 = .ok (.iconst 1, 1) := dk_4 (dk_at dksX7_chance_1 3 rfl rfl)
theorem dX7_chance_27 : decode cX7_chance 27 = .ok (.invokestatic 159, 3) := dk_184 0 159 (dk_at dksX7_chance_1 4 rfl rfl)
theorem dX7_chance_30 : decode cX7_chance 30 = .ok (.ifCond .eq 10, 3) := dk_153 0 10 (dk_at dksX7_chance_1 7 rfl rfl)
theorem dX7_chance_33 : decode cX7_chance 33 = .ok (.aload_n 0, 1) := dk_42 (dk_at dksX7_chance_1 10 rfl rfl)
theorem dX7_chance_34 : decode cX7_chance 34 = .ok (.invokevirtual 326, 3) := dk_182 1 70 (dk_at dksX7_chance_1 11 rfl rfl)
theorem dX7_chance_37 : decode cX7_chance 37 = .ok (.ifCond .ne 7, 3) := dk_154 0 7 (dk_at dksX7_chance_1 14 rfl rfl)
theorem dX7_chance_40 : decode cX7_chance 40 = .ok (.ldc2_w 329, 3) := dk_20 1 73 (dk_at dksX7_chance_1 17 rfl rfl)
theorem dX7_chance_43 : decode cX7_chance 43 = .ok (.lreturn, 1) := dk_173 (dk_at dksX7_chance_1 20 rfl rfl)
theorem dX7_chance_44 : decode cX7_chance 44 = .ok (.aload_n 0, 1) := dk_42 (dk_at dksX7_chance_1 21 rfl rfl)
theorem dX7_chance_45 : decode cX7_chance 45 = .ok (.iload_n 1, 1) := dk_27 (dk_at dksX7_chance_1 22 rfl rfl)
theorem dX7_chance_46 : decode cX7_chance 46 = .ok (.iload_n 2, 1) := dk_28 (dk_at dksX7_chance_1 23 rfl rfl)
theorem dX7_chance_47 : decode cX7_chance 47 = .ok (.iload_n 3, 1) := dk_29 (dk_at dksX7_chance_2 0 rfl rfl)
theorem dX7_chance_48 : decode cX7_chance 48 = .ok (.invokevirtual 331, 3) := dk_182 1 75 (dk_at dksX7_chance_2 1 rfl rfl)
theorem dX7_chance_51 : decode cX7_chance 51 = .ok (.aload_n 0, 1) := dk_42 (dk_at dksX7_chance_2 4 rfl rfl)
theorem dX7_chance_52 : decode cX7_chance 52 = .ok (.getfield 322, 3) := dk_180 1 66 (dk_at dksX7_chance_2 5 rfl rfl)
theorem dX7_chance_55 : decode cX7_chance 55 = .ok (.aload_n 0, 1) := dk_42 (dk_at dksX7_chance_2 8 rfl rfl)
theorem dX7_chance_56 : decode cX7_chance 56 = .ok (.invokevirtual 326, 3) := dk_182 1 70 (dk_at dksX7_chance_2 9 rfl rfl)
theorem dX7_chance_59 : decode cX7_chance 59 = .ok (.i2l, 1) := dk_133 (dk_at dksX7_chance_2 12 rfl rfl)
theorem dX7_chance_60 : decode cX7_chance 60 = .ok (.aload_n 0, 1) := dk_42 (dk_at dksX7_chance_2 13 rfl rfl)
theorem dX7_chance_61 : decode cX7_chance 61 = .ok (.getfield 319, 3) := dk_180 1 63 (dk_at dksX7_chance_2 14 rfl rfl)
theorem dX7_chance_64 : decode cX7_chance 64 = .ok (.invokestatic 335, 3) := dk_184 1 79 (dk_at dksX7_chance_2 17 rfl rfl)
theorem dX7_chance_67 : decode cX7_chance 67 = .ok (.iload 4, 2) := dk_21 4 (dk_at dksX7_chance_2 20 rfl rfl)
theorem dX7_chance_69 : decode cX7_chance 69 = .ok (.invokestatic 339, 3) := dk_184 1 83 (dk_at dksX7_chance_3 0 rfl rfl)
theorem dX7_chance_72 : decode cX7_chance 72 = .ok (.lreturn, 1) := dk_173 (dk_at dksX7_chance_3 3 rfl rfl)
abbrev cX7_allCounts : ByteArray := prog_19_method_62_code
def yX7_allCounts : MethodName := ⟨RX7, "allCounts", "()I"⟩
def dkwX7_allCounts_1 : List UInt8 := [6, 46, 96, 172]
abbrev dktX7_allCounts_1 : List UInt8 := dkwX7_allCounts_1 ++ []
def dkwX7_allCounts_0 : List UInt8 := [42, 180, 0, 16, 3, 46, 42, 180, 0, 16, 4, 46, 96, 42, 180, 0, 16, 5, 46, 96, 42, 180, 0, 16]
abbrev dktX7_allCounts_0 : List UInt8 := dkwX7_allCounts_0 ++ dktX7_allCounts_1
theorem dksX7_allCounts_0 : cX7_allCounts.data.toList.drop 0 = dktX7_allCounts_0 := by decide +kernel
theorem dksX7_allCounts_1 : cX7_allCounts.data.toList.drop 24 = dktX7_allCounts_1 := dk_seg dksX7_allCounts_0 24 rfl rfl
theorem dX7_allCounts_0 : decode cX7_allCounts 0 = .ok (.aload_n 0, 1) := dk_42 (dk_at dksX7_allCounts_0 0 rfl rfl)
theorem dX7_allCounts_1 : decode cX7_allCounts 1 = .ok (.getfield 16, 3) := dk_180 0 16 (dk_at dksX7_allCounts_0 1 rfl rfl)
theorem dX7_allCounts_4 : decode cX7_allCounts 4 = .ok (.iconst 0, 1) := dk_3 (dk_at dksX7_allCounts_0 4 rfl rfl)
theorem dX7_allCounts_5 : decode cX7_allCounts 5 = .ok (.iaload, 1) := dk_46 (dk_at dksX7_allCounts_0 5 rfl rfl)
theorem dX7_allCounts_6 : decode cX7_allCounts 6 = .ok (.aload_n 0, 1) := dk_42 (dk_at dksX7_allCounts_0 6 rfl rfl)
theorem dX7_allCounts_7 : decode cX7_allCounts 7 = .ok (.getfield 16, 3) := dk_180 0 16 (dk_at dksX7_allCounts_0 7 rfl rfl)
theorem dX7_allCounts_10 : decode cX7_allCounts 10 = .ok (.iconst 1, 1) := dk_4 (dk_at dksX7_allCounts_0 10 rfl rfl)
theorem dX7_allCounts_11 : decode cX7_allCounts 11 = .ok (.iaload, 1) := dk_46 (dk_at dksX7_allCounts_0 11 rfl rfl)
theorem dX7_allCounts_12 : decode cX7_allCounts 12 = .ok (.iadd, 1) := dk_96 (dk_at dksX7_allCounts_0 12 rfl rfl)
theorem dX7_allCounts_13 : decode cX7_allCounts 13 = .ok (.aload_n 0, 1) := dk_42 (dk_at dksX7_allCounts_0 13 rfl rfl)
theorem dX7_allCounts_14 : decode cX7_allCounts 14 = .ok (.getfield 16, 3) := dk_180 0 16 (dk_at dksX7_allCounts_0 14 rfl rfl)
theorem dX7_allCounts_17 : decode cX7_allCounts 17 = .ok (.iconst 2, 1) := dk_5 (dk_at dksX7_allCounts_0 17 rfl rfl)
theorem dX7_allCounts_18 : decode cX7_allCounts 18 = .ok (.iaload, 1) := dk_46 (dk_at dksX7_allCounts_0 18 rfl rfl)
theorem dX7_allCounts_19 : decode cX7_allCounts 19 = .ok (.iadd, 1) := dk_96 (dk_at dksX7_allCounts_0 19 rfl rfl)
theorem dX7_allCounts_20 : decode cX7_allCounts 20 = .ok (.aload_n 0, 1) := dk_42 (dk_at dksX7_allCounts_0 20 rfl rfl)
theorem dX7_allCounts_21 : decode cX7_allCounts 21 = .ok (.getfield 16, 3) := dk_180 0 16 (dk_at dksX7_allCounts_0 21 rfl rfl)
theorem dX7_allCounts_24 : decode cX7_allCounts 24 = .ok (.iconst 3, 1) := dk_6 (dk_at dksX7_allCounts_1 0 rfl rfl)
theorem dX7_allCounts_25 : decode cX7_allCounts 25 = .ok (.iaload, 1) := dk_46 (dk_at dksX7_allCounts_1 1 rfl rfl)
theorem dX7_allCounts_26 : decode cX7_allCounts 26 = .ok (.iadd, 1) := dk_96 (dk_at dksX7_allCounts_1 2 rfl rfl)
theorem dX7_allCounts_27 : decode cX7_allCounts 27 = .ok (.ireturn, 1) := dk_172 (dk_at dksX7_allCounts_1 3 rfl rfl)
abbrev cX7_cases : ByteArray := prog_19_method_63_code
def yX7_cases : MethodName := ⟨RX7, "cases", "(III)V"⟩
def dkwX7_cases_7 : List UInt8 := [167, 0, 4, 9, 181, 1, 66, 177]
abbrev dktX7_cases_7 : List UInt8 := dkwX7_cases_7 ++ []
def dkwX7_cases_6 : List UInt8 := [132, 4, 1, 167, 255, 127, 42, 42, 27, 28, 29, 182, 1, 26, 2, 160, 0, 10, 42, 180, 1, 66]
abbrev dktX7_cases_6 : List UInt8 := dkwX7_cases_6 ++ dktX7_cases_7
def dkwX7_cases_5 : List UInt8 := [4, 96, 181, 1, 63, 42, 89, 180, 1, 66, 21, 6, 133, 105, 181, 1, 66, 132, 5, 1, 167, 255, 142]
abbrev dktX7_cases_5 : List UInt8 := dkwX7_cases_5 ++ dktX7_cases_6
def dkwX7_cases_4 : List UInt8 := [167, 0, 10, 42, 180, 0, 16, 21, 7, 46, 96, 54, 6, 132, 7, 1, 167, 255, 202, 42, 89, 180, 1, 63]
abbrev dktX7_cases_4 : List UInt8 := dkwX7_cases_4 ++ dktX7_cases_5
def dkwX7_cases_3 : List UInt8 := [180, 0, 13, 21, 7, 46, 182, 0, 175, 42, 21, 4, 182, 0, 185, 182, 1, 23, 153, 0, 7, 3]
abbrev dktX7_cases_3 : List UInt8 := dkwX7_cases_3 ++ dktX7_cases_4
def dkwX7_cases_2 : List UInt8 := [3, 54, 6, 3, 54, 7, 21, 7, 7, 162, 0, 54, 21, 6, 42, 27, 28, 29, 42, 21, 4, 42]
abbrev dktX7_cases_2 : List UInt8 := dkwX7_cases_2 ++ dktX7_cases_3
def dkwX7_cases_1 : List UInt8 := [42, 180, 0, 22, 21, 4, 46, 162, 0, 108, 42, 27, 28, 29, 21, 4, 21, 5, 182, 1, 19, 153, 0, 88]
abbrev dktX7_cases_1 : List UInt8 := dkwX7_cases_1 ++ dktX7_cases_2
def dkwX7_cases_0 : List UInt8 := [42, 3, 181, 1, 63, 42, 10, 181, 1, 66, 3, 54, 4, 21, 4, 27, 162, 0, 129, 3, 54, 5, 21, 5]
abbrev dktX7_cases_0 : List UInt8 := dkwX7_cases_0 ++ dktX7_cases_1
theorem dksX7_cases_0 : cX7_cases.data.toList.drop 0 = dktX7_cases_0 := by decide +kernel
theorem dksX7_cases_1 : cX7_cases.data.toList.drop 24 = dktX7_cases_1 := dk_seg dksX7_cases_0 24 rfl rfl
theorem dksX7_cases_2 : cX7_cases.data.toList.drop 48 = dktX7_cases_2 := dk_seg dksX7_cases_1 24 rfl rfl
theorem dksX7_cases_3 : cX7_cases.data.toList.drop 70 = dktX7_cases_3 := dk_seg dksX7_cases_2 22 rfl rfl
theorem dksX7_cases_4 : cX7_cases.data.toList.drop 92 = dktX7_cases_4 := dk_seg dksX7_cases_3 22 rfl rfl
theorem dksX7_cases_5 : cX7_cases.data.toList.drop 116 = dktX7_cases_5 := dk_seg dksX7_cases_4 24 rfl rfl
theorem dksX7_cases_6 : cX7_cases.data.toList.drop 139 = dktX7_cases_6 := dk_seg dksX7_cases_5 23 rfl rfl
theorem dksX7_cases_7 : cX7_cases.data.toList.drop 161 = dktX7_cases_7 := dk_seg dksX7_cases_6 22 rfl rfl
theorem dX7_cases_0 : decode cX7_cases 0 = .ok (.aload_n 0, 1) := dk_42 (dk_at dksX7_cases_0 0 rfl rfl)
theorem dX7_cases_1 : decode cX7_cases 1 = .ok (.iconst 0, 1) := dk_3 (dk_at dksX7_cases_0 1 rfl rfl)
theorem dX7_cases_2 : decode cX7_cases 2 = .ok (.putfield 319, 3) := dk_181 1 63 (dk_at dksX7_cases_0 2 rfl rfl)
theorem dX7_cases_5 : decode cX7_cases 5 = .ok (.aload_n 0, 1) := dk_42 (dk_at dksX7_cases_0 5 rfl rfl)
theorem dX7_cases_6 : decode cX7_cases 6 = .ok (.lconst 1, 1) := dk_10 (dk_at dksX7_cases_0 6 rfl rfl)
theorem dX7_cases_7 : decode cX7_cases 7 = .ok (.putfield 322, 3) := dk_181 1 66 (dk_at dksX7_cases_0 7 rfl rfl)
theorem dX7_cases_10 : decode cX7_cases 10 = .ok (.iconst 0, 1) := dk_3 (dk_at dksX7_cases_0 10 rfl rfl)
theorem dX7_cases_11 : decode cX7_cases 11 = .ok (.istore 4, 2) := dk_54 4 (dk_at dksX7_cases_0 11 rfl rfl)
theorem dX7_cases_13 : decode cX7_cases 13 = .ok (.iload 4, 2) := dk_21 4 (dk_at dksX7_cases_0 13 rfl rfl)
theorem dX7_cases_15 : decode cX7_cases 15 = .ok (.iload_n 1, 1) := dk_27 (dk_at dksX7_cases_0 15 rfl rfl)
theorem dX7_cases_16 : decode cX7_cases 16 = .ok (.if_icmp .ge 129, 3) := dk_162 0 129 (dk_at dksX7_cases_0 16 rfl rfl)
theorem dX7_cases_19 : decode cX7_cases 19 = .ok (.iconst 0, 1) := dk_3 (dk_at dksX7_cases_0 19 rfl rfl)
theorem dX7_cases_20 : decode cX7_cases 20 = .ok (.istore 5, 2) := dk_54 5 (dk_at dksX7_cases_0 20 rfl rfl)
theorem dX7_cases_22 : decode cX7_cases 22 = .ok (.iload 5, 2) := dk_21 5 (dk_at dksX7_cases_0 22 rfl rfl)
theorem dX7_cases_24 : decode cX7_cases 24 = .ok (.aload_n 0, 1) := dk_42 (dk_at dksX7_cases_1 0 rfl rfl)
theorem dX7_cases_25 : decode cX7_cases 25 = .ok (.getfield 22, 3) := dk_180 0 22 (dk_at dksX7_cases_1 1 rfl rfl)
theorem dX7_cases_28 : decode cX7_cases 28 = .ok (.iload 4, 2) := dk_21 4 (dk_at dksX7_cases_1 4 rfl rfl)
theorem dX7_cases_30 : decode cX7_cases 30 = .ok (.iaload, 1) := dk_46 (dk_at dksX7_cases_1 6 rfl rfl)
theorem dX7_cases_31 : decode cX7_cases 31 = .ok (.if_icmp .ge 108, 3) := dk_162 0 108 (dk_at dksX7_cases_1 7 rfl rfl)
theorem dX7_cases_34 : decode cX7_cases 34 = .ok (.aload_n 0, 1) := dk_42 (dk_at dksX7_cases_1 10 rfl rfl)
theorem dX7_cases_35 : decode cX7_cases 35 = .ok (.iload_n 1, 1) := dk_27 (dk_at dksX7_cases_1 11 rfl rfl)
theorem dX7_cases_36 : decode cX7_cases 36 = .ok (.iload_n 2, 1) := dk_28 (dk_at dksX7_cases_1 12 rfl rfl)
theorem dX7_cases_37 : decode cX7_cases 37 = .ok (.iload_n 3, 1) := dk_29 (dk_at dksX7_cases_1 13 rfl rfl)
theorem dX7_cases_38 : decode cX7_cases 38 = .ok (.iload 4, 2) := dk_21 4 (dk_at dksX7_cases_1 14 rfl rfl)
theorem dX7_cases_40 : decode cX7_cases 40 = .ok (.iload 5, 2) := dk_21 5 (dk_at dksX7_cases_1 16 rfl rfl)
theorem dX7_cases_42 : decode cX7_cases 42 = .ok (.invokevirtual 275, 3) := dk_182 1 19 (dk_at dksX7_cases_1 18 rfl rfl)
theorem dX7_cases_45 : decode cX7_cases 45 = .ok (.ifCond .eq 88, 3) := dk_153 0 88 (dk_at dksX7_cases_1 21 rfl rfl)
theorem dX7_cases_48 : decode cX7_cases 48 = .ok (.iconst 0, 1) := dk_3 (dk_at dksX7_cases_2 0 rfl rfl)
theorem dX7_cases_49 : decode cX7_cases 49 = .ok (.istore 6, 2) := dk_54 6 (dk_at dksX7_cases_2 1 rfl rfl)
theorem dX7_cases_51 : decode cX7_cases 51 = .ok (.iconst 0, 1) := dk_3 (dk_at dksX7_cases_2 3 rfl rfl)
theorem dX7_cases_52 : decode cX7_cases 52 = .ok (.istore 7, 2) := dk_54 7 (dk_at dksX7_cases_2 4 rfl rfl)
theorem dX7_cases_54 : decode cX7_cases 54 = .ok (.iload 7, 2) := dk_21 7 (dk_at dksX7_cases_2 6 rfl rfl)
theorem dX7_cases_56 : decode cX7_cases 56 = .ok (.iconst 4, 1) := dk_7 (dk_at dksX7_cases_2 8 rfl rfl)
theorem dX7_cases_57 : decode cX7_cases 57 = .ok (.if_icmp .ge 54, 3) := dk_162 0 54 (dk_at dksX7_cases_2 9 rfl rfl)
theorem dX7_cases_60 : decode cX7_cases 60 = .ok (.iload 6, 2) := dk_21 6 (dk_at dksX7_cases_2 12 rfl rfl)
theorem dX7_cases_62 : decode cX7_cases 62 = .ok (.aload_n 0, 1) := dk_42 (dk_at dksX7_cases_2 14 rfl rfl)
theorem dX7_cases_63 : decode cX7_cases 63 = .ok (.iload_n 1, 1) := dk_27 (dk_at dksX7_cases_2 15 rfl rfl)
theorem dX7_cases_64 : decode cX7_cases 64 = .ok (.iload_n 2, 1) := dk_28 (dk_at dksX7_cases_2 16 rfl rfl)
theorem dX7_cases_65 : decode cX7_cases 65 = .ok (.iload_n 3, 1) := dk_29 (dk_at dksX7_cases_2 17 rfl rfl)
theorem dX7_cases_66 : decode cX7_cases 66 = .ok (.aload_n 0, 1) := dk_42 (dk_at dksX7_cases_2 18 rfl rfl)
theorem dX7_cases_67 : decode cX7_cases 67 = .ok (.iload 4, 2) := dk_21 4 (dk_at dksX7_cases_2 19 rfl rfl)
theorem dX7_cases_69 : decode cX7_cases 69 = .ok (.aload_n 0, 1) := dk_42 (dk_at dksX7_cases_2 21 rfl rfl)
theorem dX7_cases_70 : decode cX7_cases 70 = .ok (.getfield 13, 3) := dk_180 0 13 (dk_at dksX7_cases_3 0 rfl rfl)
theorem dX7_cases_73 : decode cX7_cases 73 = .ok (.iload 7, 2) := dk_21 7 (dk_at dksX7_cases_3 3 rfl rfl)
theorem dX7_cases_75 : decode cX7_cases 75 = .ok (.iaload, 1) := dk_46 (dk_at dksX7_cases_3 5 rfl rfl)
theorem dX7_cases_76 : decode cX7_cases 76 = .ok (.invokevirtual 175, 3) := dk_182 0 175 (dk_at dksX7_cases_3 6 rfl rfl)
theorem dX7_cases_79 : decode cX7_cases 79 = .ok (.aload_n 0, 1) := dk_42 (dk_at dksX7_cases_3 9 rfl rfl)
theorem dX7_cases_80 : decode cX7_cases 80 = .ok (.iload 4, 2) := dk_21 4 (dk_at dksX7_cases_3 10 rfl rfl)
theorem dX7_cases_82 : decode cX7_cases 82 = .ok (.invokevirtual 185, 3) := dk_182 0 185 (dk_at dksX7_cases_3 12 rfl rfl)
theorem dX7_cases_85 : decode cX7_cases 85 = .ok (.invokevirtual 279, 3) := dk_182 1 23 (dk_at dksX7_cases_3 15 rfl rfl)
theorem dX7_cases_88 : decode cX7_cases 88 = .ok (.ifCond .eq 7, 3) := dk_153 0 7 (dk_at dksX7_cases_3 18 rfl rfl)
theorem dX7_cases_91 : decode cX7_cases 91 = .ok (.iconst 0, 1) := dk_3 (dk_at dksX7_cases_3 21 rfl rfl)
theorem dX7_cases_92 : decode cX7_cases 92 = .ok (.goto 10, 3) := dk_167 0 10 (dk_at dksX7_cases_4 0 rfl rfl)
theorem dX7_cases_95 : decode cX7_cases 95 = .ok (.aload_n 0, 1) := dk_42 (dk_at dksX7_cases_4 3 rfl rfl)
theorem dX7_cases_96 : decode cX7_cases 96 = .ok (.getfield 16, 3) := dk_180 0 16 (dk_at dksX7_cases_4 4 rfl rfl)
theorem dX7_cases_99 : decode cX7_cases 99 = .ok (.iload 7, 2) := dk_21 7 (dk_at dksX7_cases_4 7 rfl rfl)
theorem dX7_cases_101 : decode cX7_cases 101 = .ok (.iaload, 1) := dk_46 (dk_at dksX7_cases_4 9 rfl rfl)
theorem dX7_cases_102 : decode cX7_cases 102 = .ok (.iadd, 1) := dk_96 (dk_at dksX7_cases_4 10 rfl rfl)
theorem dX7_cases_103 : decode cX7_cases 103 = .ok (.istore 6, 2) := dk_54 6 (dk_at dksX7_cases_4 11 rfl rfl)
theorem dX7_cases_105 : decode cX7_cases 105 = .ok (.iinc 7 1, 3) := dk_132 7 1 (dk_at dksX7_cases_4 13 rfl rfl)
theorem dX7_cases_108 : decode cX7_cases 108 = .ok (.goto (-54), 3) := dk_167 255 202 (dk_at dksX7_cases_4 16 rfl rfl)
theorem dX7_cases_111 : decode cX7_cases 111 = .ok (.aload_n 0, 1) := dk_42 (dk_at dksX7_cases_4 19 rfl rfl)
theorem dX7_cases_112 : decode cX7_cases 112 = .ok (.dup, 1) := dk_89 (dk_at dksX7_cases_4 20 rfl rfl)
theorem dX7_cases_113 : decode cX7_cases 113 = .ok (.getfield 319, 3) := dk_180 1 63 (dk_at dksX7_cases_4 21 rfl rfl)
theorem dX7_cases_116 : decode cX7_cases 116 = .ok (.iconst 1, 1) := dk_4 (dk_at dksX7_cases_5 0 rfl rfl)
theorem dX7_cases_117 : decode cX7_cases 117 = .ok (.iadd, 1) := dk_96 (dk_at dksX7_cases_5 1 rfl rfl)
theorem dX7_cases_118 : decode cX7_cases 118 = .ok (.putfield 319, 3) := dk_181 1 63 (dk_at dksX7_cases_5 2 rfl rfl)
theorem dX7_cases_121 : decode cX7_cases 121 = .ok (.aload_n 0, 1) := dk_42 (dk_at dksX7_cases_5 5 rfl rfl)
theorem dX7_cases_122 : decode cX7_cases 122 = .ok (.dup, 1) := dk_89 (dk_at dksX7_cases_5 6 rfl rfl)
theorem dX7_cases_123 : decode cX7_cases 123 = .ok (.getfield 322, 3) := dk_180 1 66 (dk_at dksX7_cases_5 7 rfl rfl)
theorem dX7_cases_126 : decode cX7_cases 126 = .ok (.iload 6, 2) := dk_21 6 (dk_at dksX7_cases_5 10 rfl rfl)
theorem dX7_cases_128 : decode cX7_cases 128 = .ok (.i2l, 1) := dk_133 (dk_at dksX7_cases_5 12 rfl rfl)
theorem dX7_cases_129 : decode cX7_cases 129 = .ok (.lmul, 1) := dk_105 (dk_at dksX7_cases_5 13 rfl rfl)
theorem dX7_cases_130 : decode cX7_cases 130 = .ok (.putfield 322, 3) := dk_181 1 66 (dk_at dksX7_cases_5 14 rfl rfl)
theorem dX7_cases_133 : decode cX7_cases 133 = .ok (.iinc 5 1, 3) := dk_132 5 1 (dk_at dksX7_cases_5 17 rfl rfl)
theorem dX7_cases_136 : decode cX7_cases 136 = .ok (.goto (-114), 3) := dk_167 255 142 (dk_at dksX7_cases_5 20 rfl rfl)
theorem dX7_cases_139 : decode cX7_cases 139 = .ok (.iinc 4 1, 3) := dk_132 4 1 (dk_at dksX7_cases_6 0 rfl rfl)
theorem dX7_cases_142 : decode cX7_cases 142 = .ok (.goto (-129), 3) := dk_167 255 127 (dk_at dksX7_cases_6 3 rfl rfl)
theorem dX7_cases_145 : decode cX7_cases 145 = .ok (.aload_n 0, 1) := dk_42 (dk_at dksX7_cases_6 6 rfl rfl)
theorem dX7_cases_146 : decode cX7_cases 146 = .ok (.aload_n 0, 1) := dk_42 (dk_at dksX7_cases_6 7 rfl rfl)
theorem dX7_cases_147 : decode cX7_cases 147 = .ok (.iload_n 1, 1) := dk_27 (dk_at dksX7_cases_6 8 rfl rfl)
theorem dX7_cases_148 : decode cX7_cases 148 = .ok (.iload_n 2, 1) := dk_28 (dk_at dksX7_cases_6 9 rfl rfl)
theorem dX7_cases_149 : decode cX7_cases 149 = .ok (.iload_n 3, 1) := dk_29 (dk_at dksX7_cases_6 10 rfl rfl)
theorem dX7_cases_150 : decode cX7_cases 150 = .ok (.invokevirtual 282, 3) := dk_182 1 26 (dk_at dksX7_cases_6 11 rfl rfl)
theorem dX7_cases_153 : decode cX7_cases 153 = .ok (.iconst (-1), 1) := dk_2 (dk_at dksX7_cases_6 14 rfl rfl)
theorem dX7_cases_154 : decode cX7_cases 154 = .ok (.if_icmp .ne 10, 3) := dk_160 0 10 (dk_at dksX7_cases_6 15 rfl rfl)
theorem dX7_cases_157 : decode cX7_cases 157 = .ok (.aload_n 0, 1) := dk_42 (dk_at dksX7_cases_6 18 rfl rfl)
theorem dX7_cases_158 : decode cX7_cases 158 = .ok (.getfield 322, 3) := dk_180 1 66 (dk_at dksX7_cases_6 19 rfl rfl)
theorem dX7_cases_161 : decode cX7_cases 161 = .ok (.goto 4, 3) := dk_167 0 4 (dk_at dksX7_cases_7 0 rfl rfl)
theorem dX7_cases_164 : decode cX7_cases 164 = .ok (.lconst 0, 1) := dk_9 (dk_at dksX7_cases_7 3 rfl rfl)
theorem dX7_cases_165 : decode cX7_cases 165 = .ok (.putfield 322, 3) := dk_181 1 66 (dk_at dksX7_cases_7 4 rfl rfl)
theorem dX7_cases_168 : decode cX7_cases 168 = .ok (.return_, 1) := dk_177 (dk_at dksX7_cases_7 7 rfl rfl)
abbrev cX7_power : ByteArray := prog_19_method_64_code
def yX7_power : MethodName := ⟨RX7, "power", "(JI)J"⟩
def dkwX7_power_0 : List UInt8 := [10, 66, 3, 54, 5, 21, 5, 28, 162, 0, 13, 33, 30, 105, 66, 132, 5, 1, 167, 255, 243, 33, 173]
abbrev dktX7_power_0 : List UInt8 := dkwX7_power_0 ++ []
theorem dksX7_power_0 : cX7_power.data.toList.drop 0 = dktX7_power_0 := by decide +kernel
theorem dX7_power_0 : decode cX7_power 0 = .ok (.lconst 1, 1) := dk_10 (dk_at dksX7_power_0 0 rfl rfl)
theorem dX7_power_1 : decode cX7_power 1 = .ok (.lstore_n 3, 1) := dk_66 (dk_at dksX7_power_0 1 rfl rfl)
theorem dX7_power_2 : decode cX7_power 2 = .ok (.iconst 0, 1) := dk_3 (dk_at dksX7_power_0 2 rfl rfl)
theorem dX7_power_3 : decode cX7_power 3 = .ok (.istore 5, 2) := dk_54 5 (dk_at dksX7_power_0 3 rfl rfl)
theorem dX7_power_5 : decode cX7_power 5 = .ok (.iload 5, 2) := dk_21 5 (dk_at dksX7_power_0 5 rfl rfl)
theorem dX7_power_7 : decode cX7_power 7 = .ok (.iload_n 2, 1) := dk_28 (dk_at dksX7_power_0 7 rfl rfl)
theorem dX7_power_8 : decode cX7_power 8 = .ok (.if_icmp .ge 13, 3) := dk_162 0 13 (dk_at dksX7_power_0 8 rfl rfl)
theorem dX7_power_11 : decode cX7_power 11 = .ok (.lload_n 3, 1) := dk_33 (dk_at dksX7_power_0 11 rfl rfl)
theorem dX7_power_12 : decode cX7_power 12 = .ok (.lload_n 0, 1) := dk_30 (dk_at dksX7_power_0 12 rfl rfl)
theorem dX7_power_13 : decode cX7_power 13 = .ok (.lmul, 1) := dk_105 (dk_at dksX7_power_0 13 rfl rfl)
theorem dX7_power_14 : decode cX7_power 14 = .ok (.lstore_n 3, 1) := dk_66 (dk_at dksX7_power_0 14 rfl rfl)
theorem dX7_power_15 : decode cX7_power 15 = .ok (.iinc 5 1, 3) := dk_132 5 1 (dk_at dksX7_power_0 15 rfl rfl)
theorem dX7_power_18 : decode cX7_power 18 = .ok (.goto (-13), 3) := dk_167 255 243 (dk_at dksX7_power_0 18 rfl rfl)
theorem dX7_power_21 : decode cX7_power 21 = .ok (.lload_n 3, 1) := dk_33 (dk_at dksX7_power_0 21 rfl rfl)
theorem dX7_power_22 : decode cX7_power 22 = .ok (.lreturn, 1) := dk_173 (dk_at dksX7_power_0 22 rfl rfl)
abbrev cX7_lowest : ByteArray := prog_19_method_61_code
def yX7_lowest : MethodName := ⟨RX7, "lowest", "(JJI)J"⟩
def dkwX7_lowest_2 : List UInt8 := [167, 0, 4, 32, 22, 5, 109, 173]
abbrev dktX7_lowest_2 : List UInt8 := dkwX7_lowest_2 ++ []
def dkwX7_lowest_1 : List UInt8 := [22, 5, 22, 7, 113, 55, 9, 22, 7, 55, 5, 22, 9, 55, 7, 167, 255, 234, 21, 4, 154, 0, 7, 30]
abbrev dktX7_lowest_1 : List UInt8 := dkwX7_lowest_1 ++ dktX7_lowest_2
def dkwX7_lowest_0 : List UInt8 := [30, 9, 148, 154, 0, 7, 21, 4, 133, 173, 30, 55, 5, 32, 55, 7, 22, 7, 9, 148, 153, 0, 21]
abbrev dktX7_lowest_0 : List UInt8 := dkwX7_lowest_0 ++ dktX7_lowest_1
theorem dksX7_lowest_0 : cX7_lowest.data.toList.drop 0 = dktX7_lowest_0 := by decide +kernel
theorem dksX7_lowest_1 : cX7_lowest.data.toList.drop 23 = dktX7_lowest_1 := dk_seg dksX7_lowest_0 23 rfl rfl
theorem dksX7_lowest_2 : cX7_lowest.data.toList.drop 47 = dktX7_lowest_2 := dk_seg dksX7_lowest_1 24 rfl rfl
theorem dX7_lowest_0 : decode cX7_lowest 0 = .ok (.lload_n 0, 1) := dk_30 (dk_at dksX7_lowest_0 0 rfl rfl)
theorem dX7_lowest_1 : decode cX7_lowest 1 = .ok (.lconst 0, 1) := dk_9 (dk_at dksX7_lowest_0 1 rfl rfl)
theorem dX7_lowest_2 : decode cX7_lowest 2 = .ok (.lcmp, 1) := dk_148 (dk_at dksX7_lowest_0 2 rfl rfl)
theorem dX7_lowest_3 : decode cX7_lowest 3 = .ok (.ifCond .ne 7, 3) := dk_154 0 7 (dk_at dksX7_lowest_0 3 rfl rfl)
theorem dX7_lowest_6 : decode cX7_lowest 6 = .ok (.iload 4, 2) := dk_21 4 (dk_at dksX7_lowest_0 6 rfl rfl)
theorem dX7_lowest_8 : decode cX7_lowest 8 = .ok (.i2l, 1) := dk_133 (dk_at dksX7_lowest_0 8 rfl rfl)
theorem dX7_lowest_9 : decode cX7_lowest 9 = .ok (.lreturn, 1) := dk_173 (dk_at dksX7_lowest_0 9 rfl rfl)
theorem dX7_lowest_10 : decode cX7_lowest 10 = .ok (.lload_n 0, 1) := dk_30 (dk_at dksX7_lowest_0 10 rfl rfl)
theorem dX7_lowest_11 : decode cX7_lowest 11 = .ok (.lstore 5, 2) := dk_55 5 (dk_at dksX7_lowest_0 11 rfl rfl)
theorem dX7_lowest_13 : decode cX7_lowest 13 = .ok (.lload_n 2, 1) := dk_32 (dk_at dksX7_lowest_0 13 rfl rfl)
theorem dX7_lowest_14 : decode cX7_lowest 14 = .ok (.lstore 7, 2) := dk_55 7 (dk_at dksX7_lowest_0 14 rfl rfl)
theorem dX7_lowest_16 : decode cX7_lowest 16 = .ok (.lload 7, 2) := dk_22 7 (dk_at dksX7_lowest_0 16 rfl rfl)
theorem dX7_lowest_18 : decode cX7_lowest 18 = .ok (.lconst 0, 1) := dk_9 (dk_at dksX7_lowest_0 18 rfl rfl)
theorem dX7_lowest_19 : decode cX7_lowest 19 = .ok (.lcmp, 1) := dk_148 (dk_at dksX7_lowest_0 19 rfl rfl)
theorem dX7_lowest_20 : decode cX7_lowest 20 = .ok (.ifCond .eq 21, 3) := dk_153 0 21 (dk_at dksX7_lowest_0 20 rfl rfl)
theorem dX7_lowest_23 : decode cX7_lowest 23 = .ok (.lload 5, 2) := dk_22 5 (dk_at dksX7_lowest_1 0 rfl rfl)
theorem dX7_lowest_25 : decode cX7_lowest 25 = .ok (.lload 7, 2) := dk_22 7 (dk_at dksX7_lowest_1 2 rfl rfl)
theorem dX7_lowest_27 : decode cX7_lowest 27 = .ok (.lrem, 1) := dk_113 (dk_at dksX7_lowest_1 4 rfl rfl)
theorem dX7_lowest_28 : decode cX7_lowest 28 = .ok (.lstore 9, 2) := dk_55 9 (dk_at dksX7_lowest_1 5 rfl rfl)
theorem dX7_lowest_30 : decode cX7_lowest 30 = .ok (.lload 7, 2) := dk_22 7 (dk_at dksX7_lowest_1 7 rfl rfl)
theorem dX7_lowest_32 : decode cX7_lowest 32 = .ok (.lstore 5, 2) := dk_55 5 (dk_at dksX7_lowest_1 9 rfl rfl)
theorem dX7_lowest_34 : decode cX7_lowest 34 = .ok (.lload 9, 2) := dk_22 9 (dk_at dksX7_lowest_1 11 rfl rfl)
theorem dX7_lowest_36 : decode cX7_lowest 36 = .ok (.lstore 7, 2) := dk_55 7 (dk_at dksX7_lowest_1 13 rfl rfl)
theorem dX7_lowest_38 : decode cX7_lowest 38 = .ok (.goto (-22), 3) := dk_167 255 234 (dk_at dksX7_lowest_1 15 rfl rfl)
theorem dX7_lowest_41 : decode cX7_lowest 41 = .ok (.iload 4, 2) := dk_21 4 (dk_at dksX7_lowest_1 18 rfl rfl)
theorem dX7_lowest_43 : decode cX7_lowest 43 = .ok (.ifCond .ne 7, 3) := dk_154 0 7 (dk_at dksX7_lowest_1 20 rfl rfl)
theorem dX7_lowest_46 : decode cX7_lowest 46 = .ok (.lload_n 0, 1) := dk_30 (dk_at dksX7_lowest_1 23 rfl rfl)
theorem dX7_lowest_47 : decode cX7_lowest 47 = .ok (.goto 4, 3) := dk_167 0 4 (dk_at dksX7_lowest_2 0 rfl rfl)
theorem dX7_lowest_50 : decode cX7_lowest 50 = .ok (.lload_n 2, 1) := dk_32 (dk_at dksX7_lowest_2 3 rfl rfl)
theorem dX7_lowest_51 : decode cX7_lowest 51 = .ok (.lload 5, 2) := dk_22 5 (dk_at dksX7_lowest_2 4 rfl rfl)
theorem dX7_lowest_53 : decode cX7_lowest 53 = .ok (.ldiv, 1) := dk_109 (dk_at dksX7_lowest_2 6 rfl rfl)
theorem dX7_lowest_54 : decode cX7_lowest 54 = .ok (.lreturn, 1) := dk_173 (dk_at dksX7_lowest_2 7 rfl rfl)
abbrev cX7_mean : ByteArray := prog_19_method_66_code
def yX7_mean : MethodName := ⟨RX7, "mean", "(III)J"⟩
def dkwX7_mean_6 : List UInt8 := [22, 5, 42, 182, 1, 70, 133, 21, 4, 184, 1, 79, 29, 184, 1, 83, 173]
abbrev dktX7_mean_6 : List UInt8 := dkwX7_mean_6 ++ []
def dkwX7_mean_5 : List UInt8 := [182, 1, 70, 133, 21, 4, 42, 180, 1, 63, 100, 184, 1, 79, 105, 97, 55, 5, 132, 7, 1, 167, 255, 201]
abbrev dktX7_mean_5 : List UInt8 := dkwX7_mean_5 ++ dktX7_mean_6
def dkwX7_mean_4 : List UInt8 := [27, 28, 21, 7, 182, 1, 75, 22, 5, 42, 27, 28, 21, 7, 182, 1, 42, 133, 42, 180, 1, 66, 105, 42]
abbrev dktX7_mean_4 : List UInt8 := dkwX7_mean_4 ++ dktX7_mean_5
def dkwX7_mean_3 : List UInt8 := [54, 4, 132, 5, 1, 167, 255, 216, 9, 55, 5, 3, 54, 7, 21, 7, 42, 180, 0, 197, 162, 0, 52, 42]
abbrev dktX7_mean_3 : List UInt8 := dkwX7_mean_3 ++ dktX7_mean_4
def dkwX7_mean_2 : List UInt8 := [28, 21, 5, 182, 1, 75, 42, 180, 1, 63, 21, 4, 164, 0, 10, 42, 180, 1, 63, 167, 0, 5, 21, 4]
abbrev dktX7_mean_2 : List UInt8 := dkwX7_mean_2 ++ dktX7_mean_3
def dkwX7_mean_1 : List UInt8 := [154, 0, 7, 20, 1, 73, 173, 3, 54, 4, 3, 54, 5, 21, 5, 42, 180, 0, 197, 162, 0, 37, 42, 27]
abbrev dktX7_mean_1 : List UInt8 := dkwX7_mean_1 ++ dktX7_mean_2
def dkwX7_mean_0 : List UInt8 := [42, 27, 28, 182, 0, 167, 153, 0, 19, 29, 3, 4, 184, 0, 159, 153, 0, 10, 42, 182, 1, 70]
abbrev dktX7_mean_0 : List UInt8 := dkwX7_mean_0 ++ dktX7_mean_1
theorem dksX7_mean_0 : cX7_mean.data.toList.drop 0 = dktX7_mean_0 := by decide +kernel
theorem dksX7_mean_1 : cX7_mean.data.toList.drop 22 = dktX7_mean_1 := dk_seg dksX7_mean_0 22 rfl rfl
theorem dksX7_mean_2 : cX7_mean.data.toList.drop 46 = dktX7_mean_2 := dk_seg dksX7_mean_1 24 rfl rfl
theorem dksX7_mean_3 : cX7_mean.data.toList.drop 70 = dktX7_mean_3 := dk_seg dksX7_mean_2 24 rfl rfl
theorem dksX7_mean_4 : cX7_mean.data.toList.drop 94 = dktX7_mean_4 := dk_seg dksX7_mean_3 24 rfl rfl
theorem dksX7_mean_5 : cX7_mean.data.toList.drop 118 = dktX7_mean_5 := dk_seg dksX7_mean_4 24 rfl rfl
theorem dksX7_mean_6 : cX7_mean.data.toList.drop 142 = dktX7_mean_6 := dk_seg dksX7_mean_5 24 rfl rfl
theorem dX7_mean_0 : decode cX7_mean 0 = .ok (.aload_n 0, 1) := dk_42 (dk_at dksX7_mean_0 0 rfl rfl)
theorem dX7_mean_1 : decode cX7_mean 1 = .ok (.iload_n 1, 1) := dk_27 (dk_at dksX7_mean_0 1 rfl rfl)
theorem dX7_mean_2 : decode cX7_mean 2 = .ok (.iload_n 2, 1) := dk_28 (dk_at dksX7_mean_0 2 rfl rfl)
theorem dX7_mean_3 : decode cX7_mean 3 = .ok (.invokevirtual 167, 3) := dk_182 0 167 (dk_at dksX7_mean_0 3 rfl rfl)
theorem dX7_mean_6 : decode cX7_mean 6 = .ok (.ifCond .eq 19, 3) := dk_153 0 19 (dk_at dksX7_mean_0 6 rfl rfl)
theorem dX7_mean_9 : decode cX7_mean 9 = .ok (.iload_n 3, 1) := dk_29 (dk_at dksX7_mean_0 9 rfl rfl)
theorem dX7_mean_10 : decode cX7_mean 10 = .ok (.iconst 0, 1) := dk_3 (dk_at dksX7_mean_0 10 rfl rfl)
theorem dX7_mean_11 : decode cX7_mean 11 = .ok (.iconst 1, 1) := dk_4 (dk_at dksX7_mean_0 11 rfl rfl)
theorem dX7_mean_12 : decode cX7_mean 12 = .ok (.invokestatic 159, 3) := dk_184 0 159 (dk_at dksX7_mean_0 12 rfl rfl)
theorem dX7_mean_15 : decode cX7_mean 15 = .ok (.ifCond .eq 10, 3) := dk_153 0 10 (dk_at dksX7_mean_0 15 rfl rfl)
theorem dX7_mean_18 : decode cX7_mean 18 = .ok (.aload_n 0, 1) := dk_42 (dk_at dksX7_mean_0 18 rfl rfl)
theorem dX7_mean_19 : decode cX7_mean 19 = .ok (.invokevirtual 326, 3) := dk_182 1 70 (dk_at dksX7_mean_0 19 rfl rfl)
theorem dX7_mean_22 : decode cX7_mean 22 = .ok (.ifCond .ne 7, 3) := dk_154 0 7 (dk_at dksX7_mean_1 0 rfl rfl)
theorem dX7_mean_25 : decode cX7_mean 25 = .ok (.ldc2_w 329, 3) := dk_20 1 73 (dk_at dksX7_mean_1 3 rfl rfl)
theorem dX7_mean_28 : decode cX7_mean 28 = .ok (.lreturn, 1) := dk_173 (dk_at dksX7_mean_1 6 rfl rfl)
theorem dX7_mean_29 : decode cX7_mean 29 = .ok (.iconst 0, 1) := dk_3 (dk_at dksX7_mean_1 7 rfl rfl)
theorem dX7_mean_30 : decode cX7_mean 30 = .ok (.istore 4, 2) := dk_54 4 (dk_at dksX7_mean_1 8 rfl rfl)
theorem dX7_mean_32 : decode cX7_mean 32 = .ok (.iconst 0, 1) := dk_3 (dk_at dksX7_mean_1 10 rfl rfl)
theorem dX7_mean_33 : decode cX7_mean 33 = .ok (.istore 5, 2) := dk_54 5 (dk_at dksX7_mean_1 11 rfl rfl)
theorem dX7_mean_35 : decode cX7_mean 35 = .ok (.iload 5, 2) := dk_21 5 (dk_at dksX7_mean_1 13 rfl rfl)
theorem dX7_mean_37 : decode cX7_mean 37 = .ok (.aload_n 0, 1) := dk_42 (dk_at dksX7_mean_1 15 rfl rfl)
theorem dX7_mean_38 : decode cX7_mean 38 = .ok (.getfield 197, 3) := dk_180 0 197 (dk_at dksX7_mean_1 16 rfl rfl)
theorem dX7_mean_41 : decode cX7_mean 41 = .ok (.if_icmp .ge 37, 3) := dk_162 0 37 (dk_at dksX7_mean_1 19 rfl rfl)
theorem dX7_mean_44 : decode cX7_mean 44 = .ok (.aload_n 0, 1) := dk_42 (dk_at dksX7_mean_1 22 rfl rfl)
theorem dX7_mean_45 : decode cX7_mean 45 = .ok (.iload_n 1, 1) := dk_27 (dk_at dksX7_mean_1 23 rfl rfl)
theorem dX7_mean_46 : decode cX7_mean 46 = .ok (.iload_n 2, 1) := dk_28 (dk_at dksX7_mean_2 0 rfl rfl)
theorem dX7_mean_47 : decode cX7_mean 47 = .ok (.iload 5, 2) := dk_21 5 (dk_at dksX7_mean_2 1 rfl rfl)
theorem dX7_mean_49 : decode cX7_mean 49 = .ok (.invokevirtual 331, 3) := dk_182 1 75 (dk_at dksX7_mean_2 3 rfl rfl)
theorem dX7_mean_52 : decode cX7_mean 52 = .ok (.aload_n 0, 1) := dk_42 (dk_at dksX7_mean_2 6 rfl rfl)
theorem dX7_mean_53 : decode cX7_mean 53 = .ok (.getfield 319, 3) := dk_180 1 63 (dk_at dksX7_mean_2 7 rfl rfl)
theorem dX7_mean_56 : decode cX7_mean 56 = .ok (.iload 4, 2) := dk_21 4 (dk_at dksX7_mean_2 10 rfl rfl)
theorem dX7_mean_58 : decode cX7_mean 58 = .ok (.if_icmp .le 10, 3) := dk_164 0 10 (dk_at dksX7_mean_2 12 rfl rfl)
theorem dX7_mean_61 : decode cX7_mean 61 = .ok (.aload_n 0, 1) := dk_42 (dk_at dksX7_mean_2 15 rfl rfl)
theorem dX7_mean_62 : decode cX7_mean 62 = .ok (.getfield 319, 3) := dk_180 1 63 (dk_at dksX7_mean_2 16 rfl rfl)
theorem dX7_mean_65 : decode cX7_mean 65 = .ok (.goto 5, 3) := dk_167 0 5 (dk_at dksX7_mean_2 19 rfl rfl)
theorem dX7_mean_68 : decode cX7_mean 68 = .ok (.iload 4, 2) := dk_21 4 (dk_at dksX7_mean_2 22 rfl rfl)
theorem dX7_mean_70 : decode cX7_mean 70 = .ok (.istore 4, 2) := dk_54 4 (dk_at dksX7_mean_3 0 rfl rfl)
theorem dX7_mean_72 : decode cX7_mean 72 = .ok (.iinc 5 1, 3) := dk_132 5 1 (dk_at dksX7_mean_3 2 rfl rfl)
theorem dX7_mean_75 : decode cX7_mean 75 = .ok (.goto (-40), 3) := dk_167 255 216 (dk_at dksX7_mean_3 5 rfl rfl)
theorem dX7_mean_78 : decode cX7_mean 78 = .ok (.lconst 0, 1) := dk_9 (dk_at dksX7_mean_3 8 rfl rfl)
theorem dX7_mean_79 : decode cX7_mean 79 = .ok (.lstore 5, 2) := dk_55 5 (dk_at dksX7_mean_3 9 rfl rfl)
theorem dX7_mean_81 : decode cX7_mean 81 = .ok (.iconst 0, 1) := dk_3 (dk_at dksX7_mean_3 11 rfl rfl)
theorem dX7_mean_82 : decode cX7_mean 82 = .ok (.istore 7, 2) := dk_54 7 (dk_at dksX7_mean_3 12 rfl rfl)
theorem dX7_mean_84 : decode cX7_mean 84 = .ok (.iload 7, 2) := dk_21 7 (dk_at dksX7_mean_3 14 rfl rfl)
theorem dX7_mean_86 : decode cX7_mean 86 = .ok (.aload_n 0, 1) := dk_42 (dk_at dksX7_mean_3 16 rfl rfl)
theorem dX7_mean_87 : decode cX7_mean 87 = .ok (.getfield 197, 3) := dk_180 0 197 (dk_at dksX7_mean_3 17 rfl rfl)
theorem dX7_mean_90 : decode cX7_mean 90 = .ok (.if_icmp .ge 52, 3) := dk_162 0 52 (dk_at dksX7_mean_3 20 rfl rfl)
theorem dX7_mean_93 : decode cX7_mean 93 = .ok (.aload_n 0, 1) := dk_42 (dk_at dksX7_mean_3 23 rfl rfl)
theorem dX7_mean_94 : decode cX7_mean 94 = .ok (.iload_n 1, 1) := dk_27 (dk_at dksX7_mean_4 0 rfl rfl)
theorem dX7_mean_95 : decode cX7_mean 95 = .ok (.iload_n 2, 1) := dk_28 (dk_at dksX7_mean_4 1 rfl rfl)
theorem dX7_mean_96 : decode cX7_mean 96 = .ok (.iload 7, 2) := dk_21 7 (dk_at dksX7_mean_4 2 rfl rfl)
theorem dX7_mean_98 : decode cX7_mean 98 = .ok (.invokevirtual 331, 3) := dk_182 1 75 (dk_at dksX7_mean_4 4 rfl rfl)
theorem dX7_mean_101 : decode cX7_mean 101 = .ok (.lload 5, 2) := dk_22 5 (dk_at dksX7_mean_4 7 rfl rfl)
theorem dX7_mean_103 : decode cX7_mean 103 = .ok (.aload_n 0, 1) := dk_42 (dk_at dksX7_mean_4 9 rfl rfl)
theorem dX7_mean_104 : decode cX7_mean 104 = .ok (.iload_n 1, 1) := dk_27 (dk_at dksX7_mean_4 10 rfl rfl)
theorem dX7_mean_105 : decode cX7_mean 105 = .ok (.iload_n 2, 1) := dk_28 (dk_at dksX7_mean_4 11 rfl rfl)
theorem dX7_mean_106 : decode cX7_mean 106 = .ok (.iload 7, 2) := dk_21 7 (dk_at dksX7_mean_4 12 rfl rfl)
theorem dX7_mean_108 : decode cX7_mean 108 = .ok (.invokevirtual 298, 3) := dk_182 1 42 (dk_at dksX7_mean_4 14 rfl rfl)
theorem dX7_mean_111 : decode cX7_mean 111 = .ok (.i2l, 1) := dk_133 (dk_at dksX7_mean_4 17 rfl rfl)
theorem dX7_mean_112 : decode cX7_mean 112 = .ok (.aload_n 0, 1) := dk_42 (dk_at dksX7_mean_4 18 rfl rfl)
theorem dX7_mean_113 : decode cX7_mean 113 = .ok (.getfield 322, 3) := dk_180 1 66 (dk_at dksX7_mean_4 19 rfl rfl)
theorem dX7_mean_116 : decode cX7_mean 116 = .ok (.lmul, 1) := dk_105 (dk_at dksX7_mean_4 22 rfl rfl)
theorem dX7_mean_117 : decode cX7_mean 117 = .ok (.aload_n 0, 1) := dk_42 (dk_at dksX7_mean_4 23 rfl rfl)
theorem dX7_mean_118 : decode cX7_mean 118 = .ok (.invokevirtual 326, 3) := dk_182 1 70 (dk_at dksX7_mean_5 0 rfl rfl)
theorem dX7_mean_121 : decode cX7_mean 121 = .ok (.i2l, 1) := dk_133 (dk_at dksX7_mean_5 3 rfl rfl)
theorem dX7_mean_122 : decode cX7_mean 122 = .ok (.iload 4, 2) := dk_21 4 (dk_at dksX7_mean_5 4 rfl rfl)
theorem dX7_mean_124 : decode cX7_mean 124 = .ok (.aload_n 0, 1) := dk_42 (dk_at dksX7_mean_5 6 rfl rfl)
theorem dX7_mean_125 : decode cX7_mean 125 = .ok (.getfield 319, 3) := dk_180 1 63 (dk_at dksX7_mean_5 7 rfl rfl)
theorem dX7_mean_128 : decode cX7_mean 128 = .ok (.isub, 1) := dk_100 (dk_at dksX7_mean_5 10 rfl rfl)
theorem dX7_mean_129 : decode cX7_mean 129 = .ok (.invokestatic 335, 3) := dk_184 1 79 (dk_at dksX7_mean_5 11 rfl rfl)
theorem dX7_mean_132 : decode cX7_mean 132 = .ok (.lmul, 1) := dk_105 (dk_at dksX7_mean_5 14 rfl rfl)
theorem dX7_mean_133 : decode cX7_mean 133 = .ok (.ladd, 1) := dk_97 (dk_at dksX7_mean_5 15 rfl rfl)
theorem dX7_mean_134 : decode cX7_mean 134 = .ok (.lstore 5, 2) := dk_55 5 (dk_at dksX7_mean_5 16 rfl rfl)
theorem dX7_mean_136 : decode cX7_mean 136 = .ok (.iinc 7 1, 3) := dk_132 7 1 (dk_at dksX7_mean_5 18 rfl rfl)
theorem dX7_mean_139 : decode cX7_mean 139 = .ok (.goto (-55), 3) := dk_167 255 201 (dk_at dksX7_mean_5 21 rfl rfl)
theorem dX7_mean_142 : decode cX7_mean 142 = .ok (.lload 5, 2) := dk_22 5 (dk_at dksX7_mean_6 0 rfl rfl)
theorem dX7_mean_144 : decode cX7_mean 144 = .ok (.aload_n 0, 1) := dk_42 (dk_at dksX7_mean_6 2 rfl rfl)
theorem dX7_mean_145 : decode cX7_mean 145 = .ok (.invokevirtual 326, 3) := dk_182 1 70 (dk_at dksX7_mean_6 3 rfl rfl)
theorem dX7_mean_148 : decode cX7_mean 148 = .ok (.i2l, 1) := dk_133 (dk_at dksX7_mean_6 6 rfl rfl)
theorem dX7_mean_149 : decode cX7_mean 149 = .ok (.iload 4, 2) := dk_21 4 (dk_at dksX7_mean_6 7 rfl rfl)
theorem dX7_mean_151 : decode cX7_mean 151 = .ok (.invokestatic 335, 3) := dk_184 1 79 (dk_at dksX7_mean_6 9 rfl rfl)
theorem dX7_mean_154 : decode cX7_mean 154 = .ok (.iload_n 3, 1) := dk_29 (dk_at dksX7_mean_6 12 rfl rfl)
theorem dX7_mean_155 : decode cX7_mean 155 = .ok (.invokestatic 339, 3) := dk_184 1 83 (dk_at dksX7_mean_6 13 rfl rfl)
theorem dX7_mean_158 : decode cX7_mean 158 = .ok (.lreturn, 1) := dk_173 (dk_at dksX7_mean_6 16 rfl rfl)
abbrev cX7_tall : ByteArray := prog_19_method_69_code
def yX7_tall : MethodName := ⟨RX7, "tall", "(I)I"⟩
def dkwX7_tall_1 : List UInt8 := [42, 180, 0, 34, 28, 27, 79, 132, 2, 1, 167, 255, 240, 42, 182, 1, 90, 61, 42, 182, 1, 93, 28, 172]
abbrev dktX7_tall_1 : List UInt8 := dkwX7_tall_1 ++ []
def dkwX7_tall_0 : List UInt8 := [27, 3, 6, 184, 0, 159, 154, 0, 6, 16, 254, 172, 42, 182, 1, 87, 3, 61, 28, 16, 48, 162, 0, 16]
abbrev dktX7_tall_0 : List UInt8 := dkwX7_tall_0 ++ dktX7_tall_1
theorem dksX7_tall_0 : cX7_tall.data.toList.drop 0 = dktX7_tall_0 := by decide +kernel
theorem dksX7_tall_1 : cX7_tall.data.toList.drop 24 = dktX7_tall_1 := dk_seg dksX7_tall_0 24 rfl rfl
theorem dX7_tall_0 : decode cX7_tall 0 = .ok (.iload_n 1, 1) := dk_27 (dk_at dksX7_tall_0 0 rfl rfl)
theorem dX7_tall_1 : decode cX7_tall 1 = .ok (.iconst 0, 1) := dk_3 (dk_at dksX7_tall_0 1 rfl rfl)
theorem dX7_tall_2 : decode cX7_tall 2 = .ok (.iconst 3, 1) := dk_6 (dk_at dksX7_tall_0 2 rfl rfl)
theorem dX7_tall_3 : decode cX7_tall 3 = .ok (.invokestatic 159, 3) := dk_184 0 159 (dk_at dksX7_tall_0 3 rfl rfl)
theorem dX7_tall_6 : decode cX7_tall 6 = .ok (.ifCond .ne 6, 3) := dk_154 0 6 (dk_at dksX7_tall_0 6 rfl rfl)
theorem dX7_tall_9 : decode cX7_tall 9 = .ok (.bipush (-2), 2) := dk_16 254 (dk_at dksX7_tall_0 9 rfl rfl)
theorem dX7_tall_11 : decode cX7_tall 11 = .ok (.ireturn, 1) := dk_172 (dk_at dksX7_tall_0 11 rfl rfl)
theorem dX7_tall_12 : decode cX7_tall 12 = .ok (.aload_n 0, 1) := dk_42 (dk_at dksX7_tall_0 12 rfl rfl)
theorem dX7_tall_13 : decode cX7_tall 13 = .ok (.invokevirtual 343, 3) := dk_182 1 87 (dk_at dksX7_tall_0 13 rfl rfl)
theorem dX7_tall_16 : decode cX7_tall 16 = .ok (.iconst 0, 1) := dk_3 (dk_at dksX7_tall_0 16 rfl rfl)
theorem dX7_tall_17 : decode cX7_tall 17 = .ok (.istore_n 2, 1) := dk_61 (dk_at dksX7_tall_0 17 rfl rfl)
theorem dX7_tall_18 : decode cX7_tall 18 = .ok (.iload_n 2, 1) := dk_28 (dk_at dksX7_tall_0 18 rfl rfl)
theorem dX7_tall_19 : decode cX7_tall 19 = .ok (.bipush 48, 2) := dk_16 48 (dk_at dksX7_tall_0 19 rfl rfl)
theorem dX7_tall_21 : decode cX7_tall 21 = .ok (.if_icmp .ge 16, 3) := dk_162 0 16 (dk_at dksX7_tall_0 21 rfl rfl)
theorem dX7_tall_24 : decode cX7_tall 24 = .ok (.aload_n 0, 1) := dk_42 (dk_at dksX7_tall_1 0 rfl rfl)
theorem dX7_tall_25 : decode cX7_tall 25 = .ok (.getfield 34, 3) := dk_180 0 34 (dk_at dksX7_tall_1 1 rfl rfl)
theorem dX7_tall_28 : decode cX7_tall 28 = .ok (.iload_n 2, 1) := dk_28 (dk_at dksX7_tall_1 4 rfl rfl)
theorem dX7_tall_29 : decode cX7_tall 29 = .ok (.iload_n 1, 1) := dk_27 (dk_at dksX7_tall_1 5 rfl rfl)
theorem dX7_tall_30 : decode cX7_tall 30 = .ok (.iastore, 1) := dk_79 (dk_at dksX7_tall_1 6 rfl rfl)
theorem dX7_tall_31 : decode cX7_tall 31 = .ok (.iinc 2 1, 3) := dk_132 2 1 (dk_at dksX7_tall_1 7 rfl rfl)
theorem dX7_tall_34 : decode cX7_tall 34 = .ok (.goto (-16), 3) := dk_167 255 240 (dk_at dksX7_tall_1 10 rfl rfl)
theorem dX7_tall_37 : decode cX7_tall 37 = .ok (.aload_n 0, 1) := dk_42 (dk_at dksX7_tall_1 13 rfl rfl)
theorem dX7_tall_38 : decode cX7_tall 38 = .ok (.invokevirtual 346, 3) := dk_182 1 90 (dk_at dksX7_tall_1 14 rfl rfl)
theorem dX7_tall_41 : decode cX7_tall 41 = .ok (.istore_n 2, 1) := dk_61 (dk_at dksX7_tall_1 17 rfl rfl)
theorem dX7_tall_42 : decode cX7_tall 42 = .ok (.aload_n 0, 1) := dk_42 (dk_at dksX7_tall_1 18 rfl rfl)
theorem dX7_tall_43 : decode cX7_tall 43 = .ok (.invokevirtual 349, 3) := dk_182 1 93 (dk_at dksX7_tall_1 19 rfl rfl)
theorem dX7_tall_46 : decode cX7_tall 46 = .ok (.iload_n 2, 1) := dk_28 (dk_at dksX7_tall_1 22 rfl rfl)
theorem dX7_tall_47 : decode cX7_tall 47 = .ok (.ireturn, 1) := dk_172 (dk_at dksX7_tall_1 23 rfl rfl)
abbrev cX7_keepsSorts : ByteArray := prog_19_method_67_code
def yX7_keepsSorts : MethodName := ⟨RX7, "keepsSorts", "()V"⟩
def dkwX7_keepsSorts_1 : List UInt8 := [167, 255, 235, 177]
abbrev dktX7_keepsSorts_1 : List UInt8 := dkwX7_keepsSorts_1 ++ []
def dkwX7_keepsSorts_0 : List UInt8 := [3, 60, 27, 16, 48, 162, 0, 21, 42, 180, 0, 141, 27, 42, 180, 0, 34, 27, 46, 79, 132, 1, 1]
abbrev dktX7_keepsSorts_0 : List UInt8 := dkwX7_keepsSorts_0 ++ dktX7_keepsSorts_1
theorem dksX7_keepsSorts_0 : cX7_keepsSorts.data.toList.drop 0 = dktX7_keepsSorts_0 := by decide +kernel
theorem dksX7_keepsSorts_1 : cX7_keepsSorts.data.toList.drop 23 = dktX7_keepsSorts_1 := dk_seg dksX7_keepsSorts_0 23 rfl rfl
theorem dX7_keepsSorts_0 : decode cX7_keepsSorts 0 = .ok (.iconst 0, 1) := dk_3 (dk_at dksX7_keepsSorts_0 0 rfl rfl)
theorem dX7_keepsSorts_1 : decode cX7_keepsSorts 1 = .ok (.istore_n 1, 1) := dk_60 (dk_at dksX7_keepsSorts_0 1 rfl rfl)
theorem dX7_keepsSorts_2 : decode cX7_keepsSorts 2 = .ok (.iload_n 1, 1) := dk_27 (dk_at dksX7_keepsSorts_0 2 rfl rfl)
theorem dX7_keepsSorts_3 : decode cX7_keepsSorts 3 = .ok (.bipush 48, 2) := dk_16 48 (dk_at dksX7_keepsSorts_0 3 rfl rfl)
theorem dX7_keepsSorts_5 : decode cX7_keepsSorts 5 = .ok (.if_icmp .ge 21, 3) := dk_162 0 21 (dk_at dksX7_keepsSorts_0 5 rfl rfl)
theorem dX7_keepsSorts_8 : decode cX7_keepsSorts 8 = .ok (.aload_n 0, 1) := dk_42 (dk_at dksX7_keepsSorts_0 8 rfl rfl)
theorem dX7_keepsSorts_9 : decode cX7_keepsSorts 9 = .ok (.getfield 141, 3) := dk_180 0 141 (dk_at dksX7_keepsSorts_0 9 rfl rfl)
theorem dX7_keepsSorts_12 : decode cX7_keepsSorts 12 = .ok (.iload_n 1, 1) := dk_27 (dk_at dksX7_keepsSorts_0 12 rfl rfl)
theorem dX7_keepsSorts_13 : decode cX7_keepsSorts 13 = .ok (.aload_n 0, 1) := dk_42 (dk_at dksX7_keepsSorts_0 13 rfl rfl)
theorem dX7_keepsSorts_14 : decode cX7_keepsSorts 14 = .ok (.getfield 34, 3) := dk_180 0 34 (dk_at dksX7_keepsSorts_0 14 rfl rfl)
theorem dX7_keepsSorts_17 : decode cX7_keepsSorts 17 = .ok (.iload_n 1, 1) := dk_27 (dk_at dksX7_keepsSorts_0 17 rfl rfl)
theorem dX7_keepsSorts_18 : decode cX7_keepsSorts 18 = .ok (.iaload, 1) := dk_46 (dk_at dksX7_keepsSorts_0 18 rfl rfl)
theorem dX7_keepsSorts_19 : decode cX7_keepsSorts 19 = .ok (.iastore, 1) := dk_79 (dk_at dksX7_keepsSorts_0 19 rfl rfl)
theorem dX7_keepsSorts_20 : decode cX7_keepsSorts 20 = .ok (.iinc 1 1, 3) := dk_132 1 1 (dk_at dksX7_keepsSorts_0 20 rfl rfl)
theorem dX7_keepsSorts_23 : decode cX7_keepsSorts 23 = .ok (.goto (-21), 3) := dk_167 255 235 (dk_at dksX7_keepsSorts_1 0 rfl rfl)
theorem dX7_keepsSorts_26 : decode cX7_keepsSorts 26 = .ok (.return_, 1) := dk_177 (dk_at dksX7_keepsSorts_1 3 rfl rfl)
abbrev cX7_allWorth : ByteArray := prog_19_method_52_code
def yX7_allWorth : MethodName := ⟨RX7, "allWorth", "()I"⟩
def dkwX7_allWorth_1 : List UInt8 := [27, 42, 28, 29, 182, 1, 45, 96, 60, 132, 3, 1, 167, 255, 234, 132, 2, 1, 167, 255, 218, 27, 172]
abbrev dktX7_allWorth_1 : List UInt8 := dkwX7_allWorth_1 ++ []
def dkwX7_allWorth_0 : List UInt8 := [3, 60, 3, 61, 28, 42, 180, 0, 156, 162, 0, 36, 3, 62, 29, 42, 180, 0, 22, 28, 46, 162, 0, 18]
abbrev dktX7_allWorth_0 : List UInt8 := dkwX7_allWorth_0 ++ dktX7_allWorth_1
theorem dksX7_allWorth_0 : cX7_allWorth.data.toList.drop 0 = dktX7_allWorth_0 := by decide +kernel
theorem dksX7_allWorth_1 : cX7_allWorth.data.toList.drop 24 = dktX7_allWorth_1 := dk_seg dksX7_allWorth_0 24 rfl rfl
theorem dX7_allWorth_0 : decode cX7_allWorth 0 = .ok (.iconst 0, 1) := dk_3 (dk_at dksX7_allWorth_0 0 rfl rfl)
theorem dX7_allWorth_1 : decode cX7_allWorth 1 = .ok (.istore_n 1, 1) := dk_60 (dk_at dksX7_allWorth_0 1 rfl rfl)
theorem dX7_allWorth_2 : decode cX7_allWorth 2 = .ok (.iconst 0, 1) := dk_3 (dk_at dksX7_allWorth_0 2 rfl rfl)
theorem dX7_allWorth_3 : decode cX7_allWorth 3 = .ok (.istore_n 2, 1) := dk_61 (dk_at dksX7_allWorth_0 3 rfl rfl)
theorem dX7_allWorth_4 : decode cX7_allWorth 4 = .ok (.iload_n 2, 1) := dk_28 (dk_at dksX7_allWorth_0 4 rfl rfl)
theorem dX7_allWorth_5 : decode cX7_allWorth 5 = .ok (.aload_n 0, 1) := dk_42 (dk_at dksX7_allWorth_0 5 rfl rfl)
theorem dX7_allWorth_6 : decode cX7_allWorth 6 = .ok (.getfield 156, 3) := dk_180 0 156 (dk_at dksX7_allWorth_0 6 rfl rfl)
theorem dX7_allWorth_9 : decode cX7_allWorth 9 = .ok (.if_icmp .ge 36, 3) := dk_162 0 36 (dk_at dksX7_allWorth_0 9 rfl rfl)
theorem dX7_allWorth_12 : decode cX7_allWorth 12 = .ok (.iconst 0, 1) := dk_3 (dk_at dksX7_allWorth_0 12 rfl rfl)
theorem dX7_allWorth_13 : decode cX7_allWorth 13 = .ok (.istore_n 3, 1) := dk_62 (dk_at dksX7_allWorth_0 13 rfl rfl)
theorem dX7_allWorth_14 : decode cX7_allWorth 14 = .ok (.iload_n 3, 1) := dk_29 (dk_at dksX7_allWorth_0 14 rfl rfl)
theorem dX7_allWorth_15 : decode cX7_allWorth 15 = .ok (.aload_n 0, 1) := dk_42 (dk_at dksX7_allWorth_0 15 rfl rfl)
theorem dX7_allWorth_16 : decode cX7_allWorth 16 = .ok (.getfield 22, 3) := dk_180 0 22 (dk_at dksX7_allWorth_0 16 rfl rfl)
theorem dX7_allWorth_19 : decode cX7_allWorth 19 = .ok (.iload_n 2, 1) := dk_28 (dk_at dksX7_allWorth_0 19 rfl rfl)
theorem dX7_allWorth_20 : decode cX7_allWorth 20 = .ok (.iaload, 1) := dk_46 (dk_at dksX7_allWorth_0 20 rfl rfl)
theorem dX7_allWorth_21 : decode cX7_allWorth 21 = .ok (.if_icmp .ge 18, 3) := dk_162 0 18 (dk_at dksX7_allWorth_0 21 rfl rfl)
theorem dX7_allWorth_24 : decode cX7_allWorth 24 = .ok (.iload_n 1, 1) := dk_27 (dk_at dksX7_allWorth_1 0 rfl rfl)
theorem dX7_allWorth_25 : decode cX7_allWorth 25 = .ok (.aload_n 0, 1) := dk_42 (dk_at dksX7_allWorth_1 1 rfl rfl)
theorem dX7_allWorth_26 : decode cX7_allWorth 26 = .ok (.iload_n 2, 1) := dk_28 (dk_at dksX7_allWorth_1 2 rfl rfl)
theorem dX7_allWorth_27 : decode cX7_allWorth 27 = .ok (.iload_n 3, 1) := dk_29 (dk_at dksX7_allWorth_1 3 rfl rfl)
theorem dX7_allWorth_28 : decode cX7_allWorth 28 = .ok (.invokevirtual 301, 3) := dk_182 1 45 (dk_at dksX7_allWorth_1 4 rfl rfl)
theorem dX7_allWorth_31 : decode cX7_allWorth 31 = .ok (.iadd, 1) := dk_96 (dk_at dksX7_allWorth_1 7 rfl rfl)
theorem dX7_allWorth_32 : decode cX7_allWorth 32 = .ok (.istore_n 1, 1) := dk_60 (dk_at dksX7_allWorth_1 8 rfl rfl)
theorem dX7_allWorth_33 : decode cX7_allWorth 33 = .ok (.iinc 3 1, 3) := dk_132 3 1 (dk_at dksX7_allWorth_1 9 rfl rfl)
theorem dX7_allWorth_36 : decode cX7_allWorth 36 = .ok (.goto (-22), 3) := dk_167 255 234 (dk_at dksX7_allWorth_1 12 rfl rfl)
theorem dX7_allWorth_39 : decode cX7_allWorth 39 = .ok (.iinc 2 1, 3) := dk_132 2 1 (dk_at dksX7_allWorth_1 15 rfl rfl)
theorem dX7_allWorth_42 : decode cX7_allWorth 42 = .ok (.goto (-38), 3) := dk_167 255 218 (dk_at dksX7_allWorth_1 18 rfl rfl)
theorem dX7_allWorth_45 : decode cX7_allWorth 45 = .ok (.iload_n 1, 1) := dk_27 (dk_at dksX7_allWorth_1 21 rfl rfl)
theorem dX7_allWorth_46 : decode cX7_allWorth 46 = .ok (.ireturn, 1) := dk_172 (dk_at dksX7_allWorth_1 22 rfl rfl)
abbrev cX7_laysSorts : ByteArray := prog_19_method_68_code
def yX7_laysSorts : MethodName := ⟨RX7, "laysSorts", "()V"⟩
def dkwX7_laysSorts_1 : List UInt8 := [167, 255, 235, 177]
abbrev dktX7_laysSorts_1 : List UInt8 := dkwX7_laysSorts_1 ++ []
def dkwX7_laysSorts_0 : List UInt8 := [3, 60, 27, 16, 48, 162, 0, 21, 42, 180, 0, 34, 27, 42, 180, 0, 141, 27, 46, 79, 132, 1, 1]
abbrev dktX7_laysSorts_0 : List UInt8 := dkwX7_laysSorts_0 ++ dktX7_laysSorts_1
theorem dksX7_laysSorts_0 : cX7_laysSorts.data.toList.drop 0 = dktX7_laysSorts_0 := by decide +kernel
theorem dksX7_laysSorts_1 : cX7_laysSorts.data.toList.drop 23 = dktX7_laysSorts_1 := dk_seg dksX7_laysSorts_0 23 rfl rfl
theorem dX7_laysSorts_0 : decode cX7_laysSorts 0 = .ok (.iconst 0, 1) := dk_3 (dk_at dksX7_laysSorts_0 0 rfl rfl)
theorem dX7_laysSorts_1 : decode cX7_laysSorts 1 = .ok (.istore_n 1, 1) := dk_60 (dk_at dksX7_laysSorts_0 1 rfl rfl)
theorem dX7_laysSorts_2 : decode cX7_laysSorts 2 = .ok (.iload_n 1, 1) := dk_27 (dk_at dksX7_laysSorts_0 2 rfl rfl)
theorem dX7_laysSorts_3 : decode cX7_laysSorts 3 = .ok (.bipush 48, 2) := dk_16 48 (dk_at dksX7_laysSorts_0 3 rfl rfl)
theorem dX7_laysSorts_5 : decode cX7_laysSorts 5 = .ok (.if_icmp .ge 21, 3) := dk_162 0 21 (dk_at dksX7_laysSorts_0 5 rfl rfl)
theorem dX7_laysSorts_8 : decode cX7_laysSorts 8 = .ok (.aload_n 0, 1) := dk_42 (dk_at dksX7_laysSorts_0 8 rfl rfl)
theorem dX7_laysSorts_9 : decode cX7_laysSorts 9 = .ok (.getfield 34, 3) := dk_180 0 34 (dk_at dksX7_laysSorts_0 9 rfl rfl)
theorem dX7_laysSorts_12 : decode cX7_laysSorts 12 = .ok (.iload_n 1, 1) := dk_27 (dk_at dksX7_laysSorts_0 12 rfl rfl)
theorem dX7_laysSorts_13 : decode cX7_laysSorts 13 = .ok (.aload_n 0, 1) := dk_42 (dk_at dksX7_laysSorts_0 13 rfl rfl)
theorem dX7_laysSorts_14 : decode cX7_laysSorts 14 = .ok (.getfield 141, 3) := dk_180 0 141 (dk_at dksX7_laysSorts_0 14 rfl rfl)
theorem dX7_laysSorts_17 : decode cX7_laysSorts 17 = .ok (.iload_n 1, 1) := dk_27 (dk_at dksX7_laysSorts_0 17 rfl rfl)
theorem dX7_laysSorts_18 : decode cX7_laysSorts 18 = .ok (.iaload, 1) := dk_46 (dk_at dksX7_laysSorts_0 18 rfl rfl)
theorem dX7_laysSorts_19 : decode cX7_laysSorts 19 = .ok (.iastore, 1) := dk_79 (dk_at dksX7_laysSorts_0 19 rfl rfl)
theorem dX7_laysSorts_20 : decode cX7_laysSorts 20 = .ok (.iinc 1 1, 3) := dk_132 1 1 (dk_at dksX7_laysSorts_0 20 rfl rfl)
theorem dX7_laysSorts_23 : decode cX7_laysSorts 23 = .ok (.goto (-21), 3) := dk_167 255 235 (dk_at dksX7_laysSorts_1 0 rfl rfl)
theorem dX7_laysSorts_26 : decode cX7_laysSorts 26 = .ok (.return_, 1) := dk_177 (dk_at dksX7_laysSorts_1 3 rfl rfl)
abbrev cX7_needs : ByteArray := prog_19_method_71_code
def yX7_needs : MethodName := ⟨RX7, "needs", "(I)I"⟩
def dkwX7_needs_1 : List UInt8 := [182, 1, 60, 28, 172]
abbrev dktX7_needs_1 : List UInt8 := dkwX7_needs_1 ++ []
def dkwX7_needs_0 : List UInt8 := [42, 27, 182, 0, 163, 154, 0, 6, 16, 251, 172, 42, 182, 1, 54, 42, 27, 3, 182, 1, 96, 61, 42]
abbrev dktX7_needs_0 : List UInt8 := dkwX7_needs_0 ++ dktX7_needs_1
theorem dksX7_needs_0 : cX7_needs.data.toList.drop 0 = dktX7_needs_0 := by decide +kernel
theorem dksX7_needs_1 : cX7_needs.data.toList.drop 23 = dktX7_needs_1 := dk_seg dksX7_needs_0 23 rfl rfl
theorem dX7_needs_0 : decode cX7_needs 0 = .ok (.aload_n 0, 1) := dk_42 (dk_at dksX7_needs_0 0 rfl rfl)
theorem dX7_needs_1 : decode cX7_needs 1 = .ok (.iload_n 1, 1) := dk_27 (dk_at dksX7_needs_0 1 rfl rfl)
theorem dX7_needs_2 : decode cX7_needs 2 = .ok (.invokevirtual 163, 3) := dk_182 0 163 (dk_at dksX7_needs_0 2 rfl rfl)
theorem dX7_needs_5 : decode cX7_needs 5 = .ok (.ifCond .ne 6, 3) := dk_154 0 6 (dk_at dksX7_needs_0 5 rfl rfl)
theorem dX7_needs_8 : decode cX7_needs 8 = .ok (.bipush (-5), 2) := dk_16 251 (dk_at dksX7_needs_0 8 rfl rfl)
theorem dX7_needs_10 : decode cX7_needs 10 = .ok (.ireturn, 1) := dk_172 (dk_at dksX7_needs_0 10 rfl rfl)
theorem dX7_needs_11 : decode cX7_needs 11 = .ok (.aload_n 0, 1) := dk_42 (dk_at dksX7_needs_0 11 rfl rfl)
theorem dX7_needs_12 : decode cX7_needs 12 = .ok (.invokevirtual 310, 3) := dk_182 1 54 (dk_at dksX7_needs_0 12 rfl rfl)
theorem dX7_needs_15 : decode cX7_needs 15 = .ok (.aload_n 0, 1) := dk_42 (dk_at dksX7_needs_0 15 rfl rfl)
theorem dX7_needs_16 : decode cX7_needs 16 = .ok (.iload_n 1, 1) := dk_27 (dk_at dksX7_needs_0 16 rfl rfl)
theorem dX7_needs_17 : decode cX7_needs 17 = .ok (.iconst 0, 1) := dk_3 (dk_at dksX7_needs_0 17 rfl rfl)
theorem dX7_needs_18 : decode cX7_needs 18 = .ok (.invokevirtual 352, 3) := dk_182 1 96 (dk_at dksX7_needs_0 18 rfl rfl)
theorem dX7_needs_21 : decode cX7_needs 21 = .ok (.istore_n 2, 1) := dk_61 (dk_at dksX7_needs_0 21 rfl rfl)
theorem dX7_needs_22 : decode cX7_needs 22 = .ok (.aload_n 0, 1) := dk_42 (dk_at dksX7_needs_0 22 rfl rfl)
theorem dX7_needs_23 : decode cX7_needs 23 = .ok (.invokevirtual 316, 3) := dk_182 1 60 (dk_at dksX7_needs_1 0 rfl rfl)
theorem dX7_needs_26 : decode cX7_needs 26 = .ok (.iload_n 2, 1) := dk_28 (dk_at dksX7_needs_1 3 rfl rfl)
theorem dX7_needs_27 : decode cX7_needs 27 = .ok (.ireturn, 1) := dk_172 (dk_at dksX7_needs_1 4 rfl rfl)
abbrev cX7_raises : ByteArray := prog_19_method_70_code
def yX7_raises : MethodName := ⟨RX7, "raises", "(II)I"⟩
def dkwX7_raises_1 : List UInt8 := [172, 132, 3, 1, 167, 255, 230, 2, 172]
abbrev dktX7_raises_1 : List UInt8 := dkwX7_raises_1 ++ []
def dkwX7_raises_0 : List UInt8 := [28, 62, 29, 16, 99, 163, 0, 26, 42, 180, 0, 28, 27, 29, 79, 42, 27, 182, 1, 57, 153, 0, 5, 29]
abbrev dktX7_raises_0 : List UInt8 := dkwX7_raises_0 ++ dktX7_raises_1
theorem dksX7_raises_0 : cX7_raises.data.toList.drop 0 = dktX7_raises_0 := by decide +kernel
theorem dksX7_raises_1 : cX7_raises.data.toList.drop 24 = dktX7_raises_1 := dk_seg dksX7_raises_0 24 rfl rfl
theorem dX7_raises_0 : decode cX7_raises 0 = .ok (.iload_n 2, 1) := dk_28 (dk_at dksX7_raises_0 0 rfl rfl)
theorem dX7_raises_1 : decode cX7_raises 1 = .ok (.istore_n 3, 1) := dk_62 (dk_at dksX7_raises_0 1 rfl rfl)
theorem dX7_raises_2 : decode cX7_raises 2 = .ok (.iload_n 3, 1) := dk_29 (dk_at dksX7_raises_0 2 rfl rfl)
theorem dX7_raises_3 : decode cX7_raises 3 = .ok (.bipush 99, 2) := dk_16 99 (dk_at dksX7_raises_0 3 rfl rfl)
theorem dX7_raises_5 : decode cX7_raises 5 = .ok (.if_icmp .gt 26, 3) := dk_163 0 26 (dk_at dksX7_raises_0 5 rfl rfl)
theorem dX7_raises_8 : decode cX7_raises 8 = .ok (.aload_n 0, 1) := dk_42 (dk_at dksX7_raises_0 8 rfl rfl)
theorem dX7_raises_9 : decode cX7_raises 9 = .ok (.getfield 28, 3) := dk_180 0 28 (dk_at dksX7_raises_0 9 rfl rfl)
theorem dX7_raises_12 : decode cX7_raises 12 = .ok (.iload_n 1, 1) := dk_27 (dk_at dksX7_raises_0 12 rfl rfl)
theorem dX7_raises_13 : decode cX7_raises 13 = .ok (.iload_n 3, 1) := dk_29 (dk_at dksX7_raises_0 13 rfl rfl)
theorem dX7_raises_14 : decode cX7_raises 14 = .ok (.iastore, 1) := dk_79 (dk_at dksX7_raises_0 14 rfl rfl)
theorem dX7_raises_15 : decode cX7_raises 15 = .ok (.aload_n 0, 1) := dk_42 (dk_at dksX7_raises_0 15 rfl rfl)
theorem dX7_raises_16 : decode cX7_raises 16 = .ok (.iload_n 1, 1) := dk_27 (dk_at dksX7_raises_0 16 rfl rfl)
theorem dX7_raises_17 : decode cX7_raises 17 = .ok (.invokevirtual 313, 3) := dk_182 1 57 (dk_at dksX7_raises_0 17 rfl rfl)
theorem dX7_raises_20 : decode cX7_raises 20 = .ok (.ifCond .eq 5, 3) := dk_153 0 5 (dk_at dksX7_raises_0 20 rfl rfl)
theorem dX7_raises_23 : decode cX7_raises 23 = .ok (.iload_n 3, 1) := dk_29 (dk_at dksX7_raises_0 23 rfl rfl)
theorem dX7_raises_24 : decode cX7_raises 24 = .ok (.ireturn, 1) := dk_172 (dk_at dksX7_raises_1 0 rfl rfl)
theorem dX7_raises_25 : decode cX7_raises 25 = .ok (.iinc 3 1, 3) := dk_132 3 1 (dk_at dksX7_raises_1 1 rfl rfl)
theorem dX7_raises_28 : decode cX7_raises 28 = .ok (.goto (-26), 3) := dk_167 255 230 (dk_at dksX7_raises_1 4 rfl rfl)
theorem dX7_raises_31 : decode cX7_raises 31 = .ok (.iconst (-1), 1) := dk_2 (dk_at dksX7_raises_1 7 rfl rfl)
theorem dX7_raises_32 : decode cX7_raises 32 = .ok (.ireturn, 1) := dk_172 (dk_at dksX7_raises_1 8 rfl rfl)
abbrev cX7_proof : ByteArray := prog_19_method_72_code
def yX7_proof : MethodName := ⟨RX7, "proof", "(I)I"⟩
def dkwX7_proof_1 : List UInt8 := [28, 2, 159, 0, 16, 42, 29, 28, 182, 1, 96, 61, 132, 3, 1, 167, 255, 236, 42, 182, 1, 60, 28, 172]
abbrev dktX7_proof_1 : List UInt8 := dkwX7_proof_1 ++ []
def dkwX7_proof_0 : List UInt8 := [42, 27, 182, 0, 163, 154, 0, 6, 16, 251, 172, 42, 182, 1, 54, 3, 61, 3, 62, 29, 27, 163, 0, 21]
abbrev dktX7_proof_0 : List UInt8 := dkwX7_proof_0 ++ dktX7_proof_1
theorem dksX7_proof_0 : cX7_proof.data.toList.drop 0 = dktX7_proof_0 := by decide +kernel
theorem dksX7_proof_1 : cX7_proof.data.toList.drop 24 = dktX7_proof_1 := dk_seg dksX7_proof_0 24 rfl rfl
theorem dX7_proof_0 : decode cX7_proof 0 = .ok (.aload_n 0, 1) := dk_42 (dk_at dksX7_proof_0 0 rfl rfl)
theorem dX7_proof_1 : decode cX7_proof 1 = .ok (.iload_n 1, 1) := dk_27 (dk_at dksX7_proof_0 1 rfl rfl)
theorem dX7_proof_2 : decode cX7_proof 2 = .ok (.invokevirtual 163, 3) := dk_182 0 163 (dk_at dksX7_proof_0 2 rfl rfl)
theorem dX7_proof_5 : decode cX7_proof 5 = .ok (.ifCond .ne 6, 3) := dk_154 0 6 (dk_at dksX7_proof_0 5 rfl rfl)
theorem dX7_proof_8 : decode cX7_proof 8 = .ok (.bipush (-5), 2) := dk_16 251 (dk_at dksX7_proof_0 8 rfl rfl)
theorem dX7_proof_10 : decode cX7_proof 10 = .ok (.ireturn, 1) := dk_172 (dk_at dksX7_proof_0 10 rfl rfl)
theorem dX7_proof_11 : decode cX7_proof 11 = .ok (.aload_n 0, 1) := dk_42 (dk_at dksX7_proof_0 11 rfl rfl)
theorem dX7_proof_12 : decode cX7_proof 12 = .ok (.invokevirtual 310, 3) := dk_182 1 54 (dk_at dksX7_proof_0 12 rfl rfl)
theorem dX7_proof_15 : decode cX7_proof 15 = .ok (.iconst 0, 1) := dk_3 (dk_at dksX7_proof_0 15 rfl rfl)
theorem dX7_proof_16 : decode cX7_proof 16 = .ok (.istore_n 2, 1) := dk_61 (dk_at dksX7_proof_0 16 rfl rfl)
theorem dX7_proof_17 : decode cX7_proof 17 = .ok (.iconst 0, 1) := dk_3 (dk_at dksX7_proof_0 17 rfl rfl)
theorem dX7_proof_18 : decode cX7_proof 18 = .ok (.istore_n 3, 1) := dk_62 (dk_at dksX7_proof_0 18 rfl rfl)
theorem dX7_proof_19 : decode cX7_proof 19 = .ok (.iload_n 3, 1) := dk_29 (dk_at dksX7_proof_0 19 rfl rfl)
theorem dX7_proof_20 : decode cX7_proof 20 = .ok (.iload_n 1, 1) := dk_27 (dk_at dksX7_proof_0 20 rfl rfl)
theorem dX7_proof_21 : decode cX7_proof 21 = .ok (.if_icmp .gt 21, 3) := dk_163 0 21 (dk_at dksX7_proof_0 21 rfl rfl)
theorem dX7_proof_24 : decode cX7_proof 24 = .ok (.iload_n 2, 1) := dk_28 (dk_at dksX7_proof_1 0 rfl rfl)
theorem dX7_proof_25 : decode cX7_proof 25 = .ok (.iconst (-1), 1) := dk_2 (dk_at dksX7_proof_1 1 rfl rfl)
theorem dX7_proof_26 : decode cX7_proof 26 = .ok (.if_icmp .eq 16, 3) := dk_159 0 16 (dk_at dksX7_proof_1 2 rfl rfl)
theorem dX7_proof_29 : decode cX7_proof 29 = .ok (.aload_n 0, 1) := dk_42 (dk_at dksX7_proof_1 5 rfl rfl)
theorem dX7_proof_30 : decode cX7_proof 30 = .ok (.iload_n 3, 1) := dk_29 (dk_at dksX7_proof_1 6 rfl rfl)
theorem dX7_proof_31 : decode cX7_proof 31 = .ok (.iload_n 2, 1) := dk_28 (dk_at dksX7_proof_1 7 rfl rfl)
theorem dX7_proof_32 : decode cX7_proof 32 = .ok (.invokevirtual 352, 3) := dk_182 1 96 (dk_at dksX7_proof_1 8 rfl rfl)
theorem dX7_proof_35 : decode cX7_proof 35 = .ok (.istore_n 2, 1) := dk_61 (dk_at dksX7_proof_1 11 rfl rfl)
theorem dX7_proof_36 : decode cX7_proof 36 = .ok (.iinc 3 1, 3) := dk_132 3 1 (dk_at dksX7_proof_1 12 rfl rfl)
theorem dX7_proof_39 : decode cX7_proof 39 = .ok (.goto (-20), 3) := dk_167 255 236 (dk_at dksX7_proof_1 15 rfl rfl)
theorem dX7_proof_42 : decode cX7_proof 42 = .ok (.aload_n 0, 1) := dk_42 (dk_at dksX7_proof_1 18 rfl rfl)
theorem dX7_proof_43 : decode cX7_proof 43 = .ok (.invokevirtual 316, 3) := dk_182 1 60 (dk_at dksX7_proof_1 19 rfl rfl)
theorem dX7_proof_46 : decode cX7_proof 46 = .ok (.iload_n 2, 1) := dk_28 (dk_at dksX7_proof_1 22 rfl rfl)
theorem dX7_proof_47 : decode cX7_proof 47 = .ok (.ireturn, 1) := dk_172 (dk_at dksX7_proof_1 23 rfl rfl)
abbrev cX7_shifts : ByteArray := prog_19_method_73_code
def yX7_shifts : MethodName := ⟨RX7, "shifts", "(I)I"⟩
def dkwX7_shifts_6 : List UInt8 := [154, 0, 7, 28, 167, 0, 4, 29, 172]
abbrev dktX7_shifts_6 : List UInt8 := dkwX7_shifts_6 ++ []
def dkwX7_shifts_5 : List UInt8 := [162, 0, 23, 42, 180, 0, 31, 21, 4, 42, 180, 0, 144, 21, 4, 46, 79, 132, 4, 1, 167, 255, 232, 27]
abbrev dktX7_shifts_5 : List UInt8 := dkwX7_shifts_5 ++ dktX7_shifts_6
def dkwX7_shifts_4 : List UInt8 := [29, 164, 0, 9, 21, 4, 61, 21, 5, 62, 132, 4, 1, 167, 255, 192, 3, 54, 4, 21, 4, 16, 6]
abbrev dktX7_shifts_4 : List UInt8 := dkwX7_shifts_4 ++ dktX7_shifts_5
def dkwX7_shifts_3 : List UInt8 := [21, 5, 21, 4, 21, 5, 122, 4, 126, 79, 132, 5, 1, 167, 255, 230, 42, 182, 1, 90, 54, 5, 21, 5]
abbrev dktX7_shifts_3 : List UInt8 := dkwX7_shifts_3 ++ dktX7_shifts_4
def dkwX7_shifts_2 : List UInt8 := [42, 180, 0, 156, 120, 162, 0, 59, 3, 54, 5, 21, 5, 42, 180, 0, 156, 162, 0, 23, 42, 180, 0, 31]
abbrev dktX7_shifts_2 : List UInt8 := dkwX7_shifts_2 ++ dktX7_shifts_3
def dkwX7_shifts_1 : List UInt8 := [28, 42, 180, 0, 31, 28, 46, 79, 132, 2, 1, 167, 255, 235, 3, 61, 2, 62, 3, 54, 4, 21, 4, 4]
abbrev dktX7_shifts_1 : List UInt8 := dkwX7_shifts_1 ++ dktX7_shifts_2
def dkwX7_shifts_0 : List UInt8 := [27, 3, 4, 184, 0, 159, 154, 0, 6, 16, 254, 172, 3, 61, 28, 16, 6, 162, 0, 21, 42, 180, 0, 144]
abbrev dktX7_shifts_0 : List UInt8 := dkwX7_shifts_0 ++ dktX7_shifts_1
theorem dksX7_shifts_0 : cX7_shifts.data.toList.drop 0 = dktX7_shifts_0 := by decide +kernel
theorem dksX7_shifts_1 : cX7_shifts.data.toList.drop 24 = dktX7_shifts_1 := dk_seg dksX7_shifts_0 24 rfl rfl
theorem dksX7_shifts_2 : cX7_shifts.data.toList.drop 48 = dktX7_shifts_2 := dk_seg dksX7_shifts_1 24 rfl rfl
theorem dksX7_shifts_3 : cX7_shifts.data.toList.drop 72 = dktX7_shifts_3 := dk_seg dksX7_shifts_2 24 rfl rfl
theorem dksX7_shifts_4 : cX7_shifts.data.toList.drop 96 = dktX7_shifts_4 := dk_seg dksX7_shifts_3 24 rfl rfl
theorem dksX7_shifts_5 : cX7_shifts.data.toList.drop 119 = dktX7_shifts_5 := dk_seg dksX7_shifts_4 23 rfl rfl
theorem dksX7_shifts_6 : cX7_shifts.data.toList.drop 143 = dktX7_shifts_6 := dk_seg dksX7_shifts_5 24 rfl rfl
theorem dX7_shifts_0 : decode cX7_shifts 0 = .ok (.iload_n 1, 1) := dk_27 (dk_at dksX7_shifts_0 0 rfl rfl)
theorem dX7_shifts_1 : decode cX7_shifts 1 = .ok (.iconst 0, 1) := dk_3 (dk_at dksX7_shifts_0 1 rfl rfl)
theorem dX7_shifts_2 : decode cX7_shifts 2 = .ok (.iconst 1, 1) := dk_4 (dk_at dksX7_shifts_0 2 rfl rfl)
theorem dX7_shifts_3 : decode cX7_shifts 3 = .ok (.invokestatic 159, 3) := dk_184 0 159 (dk_at dksX7_shifts_0 3 rfl rfl)
theorem dX7_shifts_6 : decode cX7_shifts 6 = .ok (.ifCond .ne 6, 3) := dk_154 0 6 (dk_at dksX7_shifts_0 6 rfl rfl)
theorem dX7_shifts_9 : decode cX7_shifts 9 = .ok (.bipush (-2), 2) := dk_16 254 (dk_at dksX7_shifts_0 9 rfl rfl)
theorem dX7_shifts_11 : decode cX7_shifts 11 = .ok (.ireturn, 1) := dk_172 (dk_at dksX7_shifts_0 11 rfl rfl)
theorem dX7_shifts_12 : decode cX7_shifts 12 = .ok (.iconst 0, 1) := dk_3 (dk_at dksX7_shifts_0 12 rfl rfl)
theorem dX7_shifts_13 : decode cX7_shifts 13 = .ok (.istore_n 2, 1) := dk_61 (dk_at dksX7_shifts_0 13 rfl rfl)
theorem dX7_shifts_14 : decode cX7_shifts 14 = .ok (.iload_n 2, 1) := dk_28 (dk_at dksX7_shifts_0 14 rfl rfl)
theorem dX7_shifts_15 : decode cX7_shifts 15 = .ok (.bipush 6, 2) := dk_16 6 (dk_at dksX7_shifts_0 15 rfl rfl)
theorem dX7_shifts_17 : decode cX7_shifts 17 = .ok (.if_icmp .ge 21, 3) := dk_162 0 21 (dk_at dksX7_shifts_0 17 rfl rfl)
theorem dX7_shifts_20 : decode cX7_shifts 20 = .ok (.aload_n 0, 1) := dk_42 (dk_at dksX7_shifts_0 20 rfl rfl)
theorem dX7_shifts_21 : decode cX7_shifts 21 = .ok (.getfield 144, 3) := dk_180 0 144 (dk_at dksX7_shifts_0 21 rfl rfl)
theorem dX7_shifts_24 : decode cX7_shifts 24 = .ok (.iload_n 2, 1) := dk_28 (dk_at dksX7_shifts_1 0 rfl rfl)
theorem dX7_shifts_25 : decode cX7_shifts 25 = .ok (.aload_n 0, 1) := dk_42 (dk_at dksX7_shifts_1 1 rfl rfl)
theorem dX7_shifts_26 : decode cX7_shifts 26 = .ok (.getfield 31, 3) := dk_180 0 31 (dk_at dksX7_shifts_1 2 rfl rfl)
theorem dX7_shifts_29 : decode cX7_shifts 29 = .ok (.iload_n 2, 1) := dk_28 (dk_at dksX7_shifts_1 5 rfl rfl)
theorem dX7_shifts_30 : decode cX7_shifts 30 = .ok (.iaload, 1) := dk_46 (dk_at dksX7_shifts_1 6 rfl rfl)
theorem dX7_shifts_31 : decode cX7_shifts 31 = .ok (.iastore, 1) := dk_79 (dk_at dksX7_shifts_1 7 rfl rfl)
theorem dX7_shifts_32 : decode cX7_shifts 32 = .ok (.iinc 2 1, 3) := dk_132 2 1 (dk_at dksX7_shifts_1 8 rfl rfl)
theorem dX7_shifts_35 : decode cX7_shifts 35 = .ok (.goto (-21), 3) := dk_167 255 235 (dk_at dksX7_shifts_1 11 rfl rfl)
theorem dX7_shifts_38 : decode cX7_shifts 38 = .ok (.iconst 0, 1) := dk_3 (dk_at dksX7_shifts_1 14 rfl rfl)
theorem dX7_shifts_39 : decode cX7_shifts 39 = .ok (.istore_n 2, 1) := dk_61 (dk_at dksX7_shifts_1 15 rfl rfl)
theorem dX7_shifts_40 : decode cX7_shifts 40 = .ok (.iconst (-1), 1) := dk_2 (dk_at dksX7_shifts_1 16 rfl rfl)
theorem dX7_shifts_41 : decode cX7_shifts 41 = .ok (.istore_n 3, 1) := dk_62 (dk_at dksX7_shifts_1 17 rfl rfl)
theorem dX7_shifts_42 : decode cX7_shifts 42 = .ok (.iconst 0, 1) := dk_3 (dk_at dksX7_shifts_1 18 rfl rfl)
theorem dX7_shifts_43 : decode cX7_shifts 43 = .ok (.istore 4, 2) := dk_54 4 (dk_at dksX7_shifts_1 19 rfl rfl)
theorem dX7_shifts_45 : decode cX7_shifts 45 = .ok (.iload 4, 2) := dk_21 4 (dk_at dksX7_shifts_1 21 rfl rfl)
theorem dX7_shifts_47 : decode cX7_shifts 47 = .ok (.iconst 1, 1) := dk_4 (dk_at dksX7_shifts_1 23 rfl rfl)
theorem dX7_shifts_48 : decode cX7_shifts 48 = .ok (.aload_n 0, 1) := dk_42 (dk_at dksX7_shifts_2 0 rfl rfl)
theorem dX7_shifts_49 : decode cX7_shifts 49 = .ok (.getfield 156, 3) := dk_180 0 156 (dk_at dksX7_shifts_2 1 rfl rfl)
theorem dX7_shifts_52 : decode cX7_shifts 52 = .ok (.ishl, 1) := dk_120 (dk_at dksX7_shifts_2 4 rfl rfl)
theorem dX7_shifts_53 : decode cX7_shifts 53 = .ok (.if_icmp .ge 59, 3) := dk_162 0 59 (dk_at dksX7_shifts_2 5 rfl rfl)
theorem dX7_shifts_56 : decode cX7_shifts 56 = .ok (.iconst 0, 1) := dk_3 (dk_at dksX7_shifts_2 8 rfl rfl)
theorem dX7_shifts_57 : decode cX7_shifts 57 = .ok (.istore 5, 2) := dk_54 5 (dk_at dksX7_shifts_2 9 rfl rfl)
theorem dX7_shifts_59 : decode cX7_shifts 59 = .ok (.iload 5, 2) := dk_21 5 (dk_at dksX7_shifts_2 11 rfl rfl)
theorem dX7_shifts_61 : decode cX7_shifts 61 = .ok (.aload_n 0, 1) := dk_42 (dk_at dksX7_shifts_2 13 rfl rfl)
theorem dX7_shifts_62 : decode cX7_shifts 62 = .ok (.getfield 156, 3) := dk_180 0 156 (dk_at dksX7_shifts_2 14 rfl rfl)
theorem dX7_shifts_65 : decode cX7_shifts 65 = .ok (.if_icmp .ge 23, 3) := dk_162 0 23 (dk_at dksX7_shifts_2 17 rfl rfl)
theorem dX7_shifts_68 : decode cX7_shifts 68 = .ok (.aload_n 0, 1) := dk_42 (dk_at dksX7_shifts_2 20 rfl rfl)
theorem dX7_shifts_69 : decode cX7_shifts 69 = .ok (.getfield 31, 3) := dk_180 0 31 (dk_at dksX7_shifts_2 21 rfl rfl)
theorem dX7_shifts_72 : decode cX7_shifts 72 = .ok (.iload 5, 2) := dk_21 5 (dk_at dksX7_shifts_3 0 rfl rfl)
theorem dX7_shifts_74 : decode cX7_shifts 74 = .ok (.iload 4, 2) := dk_21 4 (dk_at dksX7_shifts_3 2 rfl rfl)
theorem dX7_shifts_76 : decode cX7_shifts 76 = .ok (.iload 5, 2) := dk_21 5 (dk_at dksX7_shifts_3 4 rfl rfl)
theorem dX7_shifts_78 : decode cX7_shifts 78 = .ok (.ishr, 1) := dk_122 (dk_at dksX7_shifts_3 6 rfl rfl)
theorem dX7_shifts_79 : decode cX7_shifts 79 = .ok (.iconst 1, 1) := dk_4 (dk_at dksX7_shifts_3 7 rfl rfl)
theorem dX7_shifts_80 : decode cX7_shifts 80 = .ok (.iand, 1) := dk_126 (dk_at dksX7_shifts_3 8 rfl rfl)
theorem dX7_shifts_81 : decode cX7_shifts 81 = .ok (.iastore, 1) := dk_79 (dk_at dksX7_shifts_3 9 rfl rfl)
theorem dX7_shifts_82 : decode cX7_shifts 82 = .ok (.iinc 5 1, 3) := dk_132 5 1 (dk_at dksX7_shifts_3 10 rfl rfl)
theorem dX7_shifts_85 : decode cX7_shifts 85 = .ok (.goto (-26), 3) := dk_167 255 230 (dk_at dksX7_shifts_3 13 rfl rfl)
theorem dX7_shifts_88 : decode cX7_shifts 88 = .ok (.aload_n 0, 1) := dk_42 (dk_at dksX7_shifts_3 16 rfl rfl)
theorem dX7_shifts_89 : decode cX7_shifts 89 = .ok (.invokevirtual 346, 3) := dk_182 1 90 (dk_at dksX7_shifts_3 17 rfl rfl)
theorem dX7_shifts_92 : decode cX7_shifts 92 = .ok (.istore 5, 2) := dk_54 5 (dk_at dksX7_shifts_3 20 rfl rfl)
theorem dX7_shifts_94 : decode cX7_shifts 94 = .ok (.iload 5, 2) := dk_21 5 (dk_at dksX7_shifts_3 22 rfl rfl)
theorem dX7_shifts_96 : decode cX7_shifts 96 = .ok (.iload_n 3, 1) := dk_29 (dk_at dksX7_shifts_4 0 rfl rfl)
theorem dX7_shifts_97 : decode cX7_shifts 97 = .ok (.if_icmp .le 9, 3) := dk_164 0 9 (dk_at dksX7_shifts_4 1 rfl rfl)
theorem dX7_shifts_100 : decode cX7_shifts 100 = .ok (.iload 4, 2) := dk_21 4 (dk_at dksX7_shifts_4 4 rfl rfl)
theorem dX7_shifts_102 : decode cX7_shifts 102 = .ok (.istore_n 2, 1) := dk_61 (dk_at dksX7_shifts_4 6 rfl rfl)
theorem dX7_shifts_103 : decode cX7_shifts 103 = .ok (.iload 5, 2) := dk_21 5 (dk_at dksX7_shifts_4 7 rfl rfl)
theorem dX7_shifts_105 : decode cX7_shifts 105 = .ok (.istore_n 3, 1) := dk_62 (dk_at dksX7_shifts_4 9 rfl rfl)
theorem dX7_shifts_106 : decode cX7_shifts 106 = .ok (.iinc 4 1, 3) := dk_132 4 1 (dk_at dksX7_shifts_4 10 rfl rfl)
theorem dX7_shifts_109 : decode cX7_shifts 109 = .ok (.goto (-64), 3) := dk_167 255 192 (dk_at dksX7_shifts_4 13 rfl rfl)
theorem dX7_shifts_112 : decode cX7_shifts 112 = .ok (.iconst 0, 1) := dk_3 (dk_at dksX7_shifts_4 16 rfl rfl)
theorem dX7_shifts_113 : decode cX7_shifts 113 = .ok (.istore 4, 2) := dk_54 4 (dk_at dksX7_shifts_4 17 rfl rfl)
theorem dX7_shifts_115 : decode cX7_shifts 115 = .ok (.iload 4, 2) := dk_21 4 (dk_at dksX7_shifts_4 19 rfl rfl)
theorem dX7_shifts_117 : decode cX7_shifts 117 = .ok (.bipush 6, 2) := dk_16 6 (dk_at dksX7_shifts_4 21 rfl rfl)
theorem dX7_shifts_119 : decode cX7_shifts 119 = .ok (.if_icmp .ge 23, 3) := dk_162 0 23 (dk_at dksX7_shifts_5 0 rfl rfl)
theorem dX7_shifts_122 : decode cX7_shifts 122 = .ok (.aload_n 0, 1) := dk_42 (dk_at dksX7_shifts_5 3 rfl rfl)
theorem dX7_shifts_123 : decode cX7_shifts 123 = .ok (.getfield 31, 3) := dk_180 0 31 (dk_at dksX7_shifts_5 4 rfl rfl)
theorem dX7_shifts_126 : decode cX7_shifts 126 = .ok (.iload 4, 2) := dk_21 4 (dk_at dksX7_shifts_5 7 rfl rfl)
theorem dX7_shifts_128 : decode cX7_shifts 128 = .ok (.aload_n 0, 1) := dk_42 (dk_at dksX7_shifts_5 9 rfl rfl)
theorem dX7_shifts_129 : decode cX7_shifts 129 = .ok (.getfield 144, 3) := dk_180 0 144 (dk_at dksX7_shifts_5 10 rfl rfl)
theorem dX7_shifts_132 : decode cX7_shifts 132 = .ok (.iload 4, 2) := dk_21 4 (dk_at dksX7_shifts_5 13 rfl rfl)
theorem dX7_shifts_134 : decode cX7_shifts 134 = .ok (.iaload, 1) := dk_46 (dk_at dksX7_shifts_5 15 rfl rfl)
theorem dX7_shifts_135 : decode cX7_shifts 135 = .ok (.iastore, 1) := dk_79 (dk_at dksX7_shifts_5 16 rfl rfl)
theorem dX7_shifts_136 : decode cX7_shifts 136 = .ok (.iinc 4 1, 3) := dk_132 4 1 (dk_at dksX7_shifts_5 17 rfl rfl)
theorem dX7_shifts_139 : decode cX7_shifts 139 = .ok (.goto (-24), 3) := dk_167 255 232 (dk_at dksX7_shifts_5 20 rfl rfl)
theorem dX7_shifts_142 : decode cX7_shifts 142 = .ok (.iload_n 1, 1) := dk_27 (dk_at dksX7_shifts_5 23 rfl rfl)
theorem dX7_shifts_143 : decode cX7_shifts 143 = .ok (.ifCond .ne 7, 3) := dk_154 0 7 (dk_at dksX7_shifts_6 0 rfl rfl)
theorem dX7_shifts_146 : decode cX7_shifts 146 = .ok (.iload_n 2, 1) := dk_28 (dk_at dksX7_shifts_6 3 rfl rfl)
theorem dX7_shifts_147 : decode cX7_shifts 147 = .ok (.goto 4, 3) := dk_167 0 4 (dk_at dksX7_shifts_6 4 rfl rfl)
theorem dX7_shifts_150 : decode cX7_shifts 150 = .ok (.iload_n 3, 1) := dk_29 (dk_at dksX7_shifts_6 7 rfl rfl)
theorem dX7_shifts_151 : decode cX7_shifts 151 = .ok (.ireturn, 1) := dk_172 (dk_at dksX7_shifts_6 8 rfl rfl)
abbrev cX7_coin : ByteArray := prog_19_method_74_code
def yX7_coin : MethodName := ⟨RX7, "coin", "(II)I"⟩
def dkwX7_coin_8 : List UInt8 := [42, 182, 1, 60, 21, 5, 2, 159, 0, 7, 28, 154, 0, 8, 21, 5, 167, 0, 5, 21, 6, 172]
abbrev dktX7_coin_8 : List UInt8 := dkwX7_coin_8 ++ []
def dkwX7_coin_7 : List UInt8 := [159, 0, 10, 21, 11, 21, 6, 164, 0, 11, 21, 9, 54, 5, 21, 11, 54, 6, 132, 7, 1, 167, 255, 146]
abbrev dktX7_coin_7 : List UInt8 := dkwX7_coin_7 ++ dktX7_coin_8
def dkwX7_coin_6 : List UInt8 := [132, 11, 255, 167, 255, 209, 42, 182, 1, 100, 27, 163, 0, 30, 42, 182, 1, 90, 54, 11, 21, 5, 2]
abbrev dktX7_coin_6 : List UInt8 := dkwX7_coin_6 ++ dktX7_coin_7
def dkwX7_coin_5 : List UInt8 := [21, 10, 21, 8, 6, 112, 104, 96, 54, 9, 21, 10, 16, 10, 104, 54, 10, 21, 8, 6, 108, 54, 8]
abbrev dktX7_coin_5 : List UInt8 := dkwX7_coin_5 ++ dktX7_coin_6
def dkwX7_coin_4 : List UInt8 := [100, 54, 11, 21, 11, 155, 0, 48, 42, 180, 0, 28, 21, 11, 16, 6, 21, 8, 6, 112, 104, 79, 21, 9]
abbrev dktX7_coin_4 : List UInt8 := dkwX7_coin_4 ++ dktX7_coin_5
def dkwX7_coin_3 : List UInt8 := [54, 6, 3, 54, 7, 21, 7, 21, 4, 162, 0, 109, 21, 7, 54, 8, 3, 54, 9, 4, 54, 10, 29, 4]
abbrev dktX7_coin_3 : List UInt8 := dkwX7_coin_3 ++ dktX7_coin_4
def dkwX7_coin_2 : List UInt8 := [29, 162, 0, 15, 21, 4, 6, 104, 54, 4, 132, 5, 1, 167, 255, 241, 42, 182, 1, 54, 2, 54, 5, 3]
abbrev dktX7_coin_2 : List UInt8 := dkwX7_coin_2 ++ dktX7_coin_3
def dkwX7_coin_1 : List UInt8 := [180, 0, 156, 7, 162, 0, 10, 42, 180, 0, 156, 167, 0, 4, 7, 62, 4, 54, 4, 3, 54, 5, 21, 5]
abbrev dktX7_coin_1 : List UInt8 := dkwX7_coin_1 ++ dktX7_coin_2
def dkwX7_coin_0 : List UInt8 := [27, 3, 19, 1, 99, 184, 0, 159, 153, 0, 12, 28, 3, 4, 184, 0, 159, 154, 0, 6, 16, 254, 172, 42]
abbrev dktX7_coin_0 : List UInt8 := dkwX7_coin_0 ++ dktX7_coin_1
theorem dksX7_coin_0 : cX7_coin.data.toList.drop 0 = dktX7_coin_0 := by decide +kernel
theorem dksX7_coin_1 : cX7_coin.data.toList.drop 24 = dktX7_coin_1 := dk_seg dksX7_coin_0 24 rfl rfl
theorem dksX7_coin_2 : cX7_coin.data.toList.drop 48 = dktX7_coin_2 := dk_seg dksX7_coin_1 24 rfl rfl
theorem dksX7_coin_3 : cX7_coin.data.toList.drop 72 = dktX7_coin_3 := dk_seg dksX7_coin_2 24 rfl rfl
theorem dksX7_coin_4 : cX7_coin.data.toList.drop 96 = dktX7_coin_4 := dk_seg dksX7_coin_3 24 rfl rfl
theorem dksX7_coin_5 : cX7_coin.data.toList.drop 120 = dktX7_coin_5 := dk_seg dksX7_coin_4 24 rfl rfl
theorem dksX7_coin_6 : cX7_coin.data.toList.drop 143 = dktX7_coin_6 := dk_seg dksX7_coin_5 23 rfl rfl
theorem dksX7_coin_7 : cX7_coin.data.toList.drop 166 = dktX7_coin_7 := dk_seg dksX7_coin_6 23 rfl rfl
theorem dksX7_coin_8 : cX7_coin.data.toList.drop 190 = dktX7_coin_8 := dk_seg dksX7_coin_7 24 rfl rfl
theorem dX7_coin_0 : decode cX7_coin 0 = .ok (.iload_n 1, 1) := dk_27 (dk_at dksX7_coin_0 0 rfl rfl)
theorem dX7_coin_1 : decode cX7_coin 1 = .ok (.iconst 0, 1) := dk_3 (dk_at dksX7_coin_0 1 rfl rfl)
theorem dX7_coin_2 : decode cX7_coin 2 = .ok (.ldc_w 355, 3) := dk_19 1 99 (dk_at dksX7_coin_0 2 rfl rfl)
theorem dX7_coin_5 : decode cX7_coin 5 = .ok (.invokestatic 159, 3) := dk_184 0 159 (dk_at dksX7_coin_0 5 rfl rfl)
theorem dX7_coin_8 : decode cX7_coin 8 = .ok (.ifCond .eq 12, 3) := dk_153 0 12 (dk_at dksX7_coin_0 8 rfl rfl)
theorem dX7_coin_11 : decode cX7_coin 11 = .ok (.iload_n 2, 1) := dk_28 (dk_at dksX7_coin_0 11 rfl rfl)
theorem dX7_coin_12 : decode cX7_coin 12 = .ok (.iconst 0, 1) := dk_3 (dk_at dksX7_coin_0 12 rfl rfl)
theorem dX7_coin_13 : decode cX7_coin 13 = .ok (.iconst 1, 1) := dk_4 (dk_at dksX7_coin_0 13 rfl rfl)
theorem dX7_coin_14 : decode cX7_coin 14 = .ok (.invokestatic 159, 3) := dk_184 0 159 (dk_at dksX7_coin_0 14 rfl rfl)
theorem dX7_coin_17 : decode cX7_coin 17 = .ok (.ifCond .ne 6, 3) := dk_154 0 6 (dk_at dksX7_coin_0 17 rfl rfl)
theorem dX7_coin_20 : decode cX7_coin 20 = .ok (.bipush (-2), 2) := dk_16 254 (dk_at dksX7_coin_0 20 rfl rfl)
theorem dX7_coin_22 : decode cX7_coin 22 = .ok (.ireturn, 1) := dk_172 (dk_at dksX7_coin_0 22 rfl rfl)
theorem dX7_coin_23 : decode cX7_coin 23 = .ok (.aload_n 0, 1) := dk_42 (dk_at dksX7_coin_0 23 rfl rfl)
theorem dX7_coin_24 : decode cX7_coin 24 = .ok (.getfield 156, 3) := dk_180 0 156 (dk_at dksX7_coin_1 0 rfl rfl)
theorem dX7_coin_27 : decode cX7_coin 27 = .ok (.iconst 4, 1) := dk_7 (dk_at dksX7_coin_1 3 rfl rfl)
theorem dX7_coin_28 : decode cX7_coin 28 = .ok (.if_icmp .ge 10, 3) := dk_162 0 10 (dk_at dksX7_coin_1 4 rfl rfl)
theorem dX7_coin_31 : decode cX7_coin 31 = .ok (.aload_n 0, 1) := dk_42 (dk_at dksX7_coin_1 7 rfl rfl)
theorem dX7_coin_32 : decode cX7_coin 32 = .ok (.getfield 156, 3) := dk_180 0 156 (dk_at dksX7_coin_1 8 rfl rfl)
theorem dX7_coin_35 : decode cX7_coin 35 = .ok (.goto 4, 3) := dk_167 0 4 (dk_at dksX7_coin_1 11 rfl rfl)
theorem dX7_coin_38 : decode cX7_coin 38 = .ok (.iconst 4, 1) := dk_7 (dk_at dksX7_coin_1 14 rfl rfl)
theorem dX7_coin_39 : decode cX7_coin 39 = .ok (.istore_n 3, 1) := dk_62 (dk_at dksX7_coin_1 15 rfl rfl)
theorem dX7_coin_40 : decode cX7_coin 40 = .ok (.iconst 1, 1) := dk_4 (dk_at dksX7_coin_1 16 rfl rfl)
theorem dX7_coin_41 : decode cX7_coin 41 = .ok (.istore 4, 2) := dk_54 4 (dk_at dksX7_coin_1 17 rfl rfl)
theorem dX7_coin_43 : decode cX7_coin 43 = .ok (.iconst 0, 1) := dk_3 (dk_at dksX7_coin_1 19 rfl rfl)
theorem dX7_coin_44 : decode cX7_coin 44 = .ok (.istore 5, 2) := dk_54 5 (dk_at dksX7_coin_1 20 rfl rfl)
theorem dX7_coin_46 : decode cX7_coin 46 = .ok (.iload 5, 2) := dk_21 5 (dk_at dksX7_coin_1 22 rfl rfl)
theorem dX7_coin_48 : decode cX7_coin 48 = .ok (.iload_n 3, 1) := dk_29 (dk_at dksX7_coin_2 0 rfl rfl)
theorem dX7_coin_49 : decode cX7_coin 49 = .ok (.if_icmp .ge 15, 3) := dk_162 0 15 (dk_at dksX7_coin_2 1 rfl rfl)
theorem dX7_coin_52 : decode cX7_coin 52 = .ok (.iload 4, 2) := dk_21 4 (dk_at dksX7_coin_2 4 rfl rfl)
theorem dX7_coin_54 : decode cX7_coin 54 = .ok (.iconst 3, 1) := dk_6 (dk_at dksX7_coin_2 6 rfl rfl)
theorem dX7_coin_55 : decode cX7_coin 55 = .ok (.imul, 1) := dk_104 (dk_at dksX7_coin_2 7 rfl rfl)
theorem dX7_coin_56 : decode cX7_coin 56 = .ok (.istore 4, 2) := dk_54 4 (dk_at dksX7_coin_2 8 rfl rfl)
theorem dX7_coin_58 : decode cX7_coin 58 = .ok (.iinc 5 1, 3) := dk_132 5 1 (dk_at dksX7_coin_2 10 rfl rfl)
theorem dX7_coin_61 : decode cX7_coin 61 = .ok (.goto (-15), 3) := dk_167 255 241 (dk_at dksX7_coin_2 13 rfl rfl)
theorem dX7_coin_64 : decode cX7_coin 64 = .ok (.aload_n 0, 1) := dk_42 (dk_at dksX7_coin_2 16 rfl rfl)
theorem dX7_coin_65 : decode cX7_coin 65 = .ok (.invokevirtual 310, 3) := dk_182 1 54 (dk_at dksX7_coin_2 17 rfl rfl)
theorem dX7_coin_68 : decode cX7_coin 68 = .ok (.iconst (-1), 1) := dk_2 (dk_at dksX7_coin_2 20 rfl rfl)
theorem dX7_coin_69 : decode cX7_coin 69 = .ok (.istore 5, 2) := dk_54 5 (dk_at dksX7_coin_2 21 rfl rfl)
theorem dX7_coin_71 : decode cX7_coin 71 = .ok (.iconst 0, 1) := dk_3 (dk_at dksX7_coin_2 23 rfl rfl)
theorem dX7_coin_72 : decode cX7_coin 72 = .ok (.istore 6, 2) := dk_54 6 (dk_at dksX7_coin_3 0 rfl rfl)
theorem dX7_coin_74 : decode cX7_coin 74 = .ok (.iconst 0, 1) := dk_3 (dk_at dksX7_coin_3 2 rfl rfl)
theorem dX7_coin_75 : decode cX7_coin 75 = .ok (.istore 7, 2) := dk_54 7 (dk_at dksX7_coin_3 3 rfl rfl)
theorem dX7_coin_77 : decode cX7_coin 77 = .ok (.iload 7, 2) := dk_21 7 (dk_at dksX7_coin_3 5 rfl rfl)
theorem dX7_coin_79 : decode cX7_coin 79 = .ok (.iload 4, 2) := dk_21 4 (dk_at dksX7_coin_3 7 rfl rfl)
theorem dX7_coin_81 : decode cX7_coin 81 = .ok (.if_icmp .ge 109, 3) := dk_162 0 109 (dk_at dksX7_coin_3 9 rfl rfl)
theorem dX7_coin_84 : decode cX7_coin 84 = .ok (.iload 7, 2) := dk_21 7 (dk_at dksX7_coin_3 12 rfl rfl)
theorem dX7_coin_86 : decode cX7_coin 86 = .ok (.istore 8, 2) := dk_54 8 (dk_at dksX7_coin_3 14 rfl rfl)
theorem dX7_coin_88 : decode cX7_coin 88 = .ok (.iconst 0, 1) := dk_3 (dk_at dksX7_coin_3 16 rfl rfl)
theorem dX7_coin_89 : decode cX7_coin 89 = .ok (.istore 9, 2) := dk_54 9 (dk_at dksX7_coin_3 17 rfl rfl)
theorem dX7_coin_91 : decode cX7_coin 91 = .ok (.iconst 1, 1) := dk_4 (dk_at dksX7_coin_3 19 rfl rfl)
theorem dX7_coin_92 : decode cX7_coin 92 = .ok (.istore 10, 2) := dk_54 10 (dk_at dksX7_coin_3 20 rfl rfl)
theorem dX7_coin_94 : decode cX7_coin 94 = .ok (.iload_n 3, 1) := dk_29 (dk_at dksX7_coin_3 22 rfl rfl)
theorem dX7_coin_95 : decode cX7_coin 95 = .ok (.iconst 1, 1) := dk_4 (dk_at dksX7_coin_3 23 rfl rfl)
theorem dX7_coin_96 : decode cX7_coin 96 = .ok (.isub, 1) := dk_100 (dk_at dksX7_coin_4 0 rfl rfl)
theorem dX7_coin_97 : decode cX7_coin 97 = .ok (.istore 11, 2) := dk_54 11 (dk_at dksX7_coin_4 1 rfl rfl)
theorem dX7_coin_99 : decode cX7_coin 99 = .ok (.iload 11, 2) := dk_21 11 (dk_at dksX7_coin_4 3 rfl rfl)
theorem dX7_coin_101 : decode cX7_coin 101 = .ok (.ifCond .lt 48, 3) := dk_155 0 48 (dk_at dksX7_coin_4 5 rfl rfl)
theorem dX7_coin_104 : decode cX7_coin 104 = .ok (.aload_n 0, 1) := dk_42 (dk_at dksX7_coin_4 8 rfl rfl)
theorem dX7_coin_105 : decode cX7_coin 105 = .ok (.getfield 28, 3) := dk_180 0 28 (dk_at dksX7_coin_4 9 rfl rfl)
theorem dX7_coin_108 : decode cX7_coin 108 = .ok (.iload 11, 2) := dk_21 11 (dk_at dksX7_coin_4 12 rfl rfl)
theorem dX7_coin_110 : decode cX7_coin 110 = .ok (.bipush 6, 2) := dk_16 6 (dk_at dksX7_coin_4 14 rfl rfl)
theorem dX7_coin_112 : decode cX7_coin 112 = .ok (.iload 8, 2) := dk_21 8 (dk_at dksX7_coin_4 16 rfl rfl)
theorem dX7_coin_114 : decode cX7_coin 114 = .ok (.iconst 3, 1) := dk_6 (dk_at dksX7_coin_4 18 rfl rfl)
theorem dX7_coin_115 : decode cX7_coin 115 = .ok (.irem, 1) := dk_112 (dk_at dksX7_coin_4 19 rfl rfl)
theorem dX7_coin_116 : decode cX7_coin 116 = .ok (.imul, 1) := dk_104 (dk_at dksX7_coin_4 20 rfl rfl)
theorem dX7_coin_117 : decode cX7_coin 117 = .ok (.iastore, 1) := dk_79 (dk_at dksX7_coin_4 21 rfl rfl)
theorem dX7_coin_118 : decode cX7_coin 118 = .ok (.iload 9, 2) := dk_21 9 (dk_at dksX7_coin_4 22 rfl rfl)
theorem dX7_coin_120 : decode cX7_coin 120 = .ok (.iload 10, 2) := dk_21 10 (dk_at dksX7_coin_5 0 rfl rfl)
theorem dX7_coin_122 : decode cX7_coin 122 = .ok (.iload 8, 2) := dk_21 8 (dk_at dksX7_coin_5 2 rfl rfl)
theorem dX7_coin_124 : decode cX7_coin 124 = .ok (.iconst 3, 1) := dk_6 (dk_at dksX7_coin_5 4 rfl rfl)
theorem dX7_coin_125 : decode cX7_coin 125 = .ok (.irem, 1) := dk_112 (dk_at dksX7_coin_5 5 rfl rfl)
theorem dX7_coin_126 : decode cX7_coin 126 = .ok (.imul, 1) := dk_104 (dk_at dksX7_coin_5 6 rfl rfl)
theorem dX7_coin_127 : decode cX7_coin 127 = .ok (.iadd, 1) := dk_96 (dk_at dksX7_coin_5 7 rfl rfl)
theorem dX7_coin_128 : decode cX7_coin 128 = .ok (.istore 9, 2) := dk_54 9 (dk_at dksX7_coin_5 8 rfl rfl)
theorem dX7_coin_130 : decode cX7_coin 130 = .ok (.iload 10, 2) := dk_21 10 (dk_at dksX7_coin_5 10 rfl rfl)
theorem dX7_coin_132 : decode cX7_coin 132 = .ok (.bipush 10, 2) := dk_16 10 (dk_at dksX7_coin_5 12 rfl rfl)
theorem dX7_coin_134 : decode cX7_coin 134 = .ok (.imul, 1) := dk_104 (dk_at dksX7_coin_5 14 rfl rfl)
theorem dX7_coin_135 : decode cX7_coin 135 = .ok (.istore 10, 2) := dk_54 10 (dk_at dksX7_coin_5 15 rfl rfl)
theorem dX7_coin_137 : decode cX7_coin 137 = .ok (.iload 8, 2) := dk_21 8 (dk_at dksX7_coin_5 17 rfl rfl)
theorem dX7_coin_139 : decode cX7_coin 139 = .ok (.iconst 3, 1) := dk_6 (dk_at dksX7_coin_5 19 rfl rfl)
theorem dX7_coin_140 : decode cX7_coin 140 = .ok (.idiv, 1) := dk_108 (dk_at dksX7_coin_5 20 rfl rfl)
theorem dX7_coin_141 : decode cX7_coin 141 = .ok (.istore 8, 2) := dk_54 8 (dk_at dksX7_coin_5 21 rfl rfl)
theorem dX7_coin_143 : decode cX7_coin 143 = .ok (.iinc 11 (-1), 3) := dk_132 11 255 (dk_at dksX7_coin_6 0 rfl rfl)
theorem dX7_coin_146 : decode cX7_coin 146 = .ok (.goto (-47), 3) := dk_167 255 209 (dk_at dksX7_coin_6 3 rfl rfl)
theorem dX7_coin_149 : decode cX7_coin 149 = .ok (.aload_n 0, 1) := dk_42 (dk_at dksX7_coin_6 6 rfl rfl)
theorem dX7_coin_150 : decode cX7_coin 150 = .ok (.invokevirtual 356, 3) := dk_182 1 100 (dk_at dksX7_coin_6 7 rfl rfl)
theorem dX7_coin_153 : decode cX7_coin 153 = .ok (.iload_n 1, 1) := dk_27 (dk_at dksX7_coin_6 10 rfl rfl)
theorem dX7_coin_154 : decode cX7_coin 154 = .ok (.if_icmp .gt 30, 3) := dk_163 0 30 (dk_at dksX7_coin_6 11 rfl rfl)
theorem dX7_coin_157 : decode cX7_coin 157 = .ok (.aload_n 0, 1) := dk_42 (dk_at dksX7_coin_6 14 rfl rfl)
theorem dX7_coin_158 : decode cX7_coin 158 = .ok (.invokevirtual 346, 3) := dk_182 1 90 (dk_at dksX7_coin_6 15 rfl rfl)
theorem dX7_coin_161 : decode cX7_coin 161 = .ok (.istore 11, 2) := dk_54 11 (dk_at dksX7_coin_6 18 rfl rfl)
theorem dX7_coin_163 : decode cX7_coin 163 = .ok (.iload 5, 2) := dk_21 5 (dk_at dksX7_coin_6 20 rfl rfl)
theorem dX7_coin_165 : decode cX7_coin 165 = .ok (.iconst (-1), 1) := dk_2 (dk_at dksX7_coin_6 22 rfl rfl)
theorem dX7_coin_166 : decode cX7_coin 166 = .ok (.if_icmp .eq 10, 3) := dk_159 0 10 (dk_at dksX7_coin_7 0 rfl rfl)
theorem dX7_coin_169 : decode cX7_coin 169 = .ok (.iload 11, 2) := dk_21 11 (dk_at dksX7_coin_7 3 rfl rfl)
theorem dX7_coin_171 : decode cX7_coin 171 = .ok (.iload 6, 2) := dk_21 6 (dk_at dksX7_coin_7 5 rfl rfl)
theorem dX7_coin_173 : decode cX7_coin 173 = .ok (.if_icmp .le 11, 3) := dk_164 0 11 (dk_at dksX7_coin_7 7 rfl rfl)
theorem dX7_coin_176 : decode cX7_coin 176 = .ok (.iload 9, 2) := dk_21 9 (dk_at dksX7_coin_7 10 rfl rfl)
theorem dX7_coin_178 : decode cX7_coin 178 = .ok (.istore 5, 2) := dk_54 5 (dk_at dksX7_coin_7 12 rfl rfl)
theorem dX7_coin_180 : decode cX7_coin 180 = .ok (.iload 11, 2) := dk_21 11 (dk_at dksX7_coin_7 14 rfl rfl)
theorem dX7_coin_182 : decode cX7_coin 182 = .ok (.istore 6, 2) := dk_54 6 (dk_at dksX7_coin_7 16 rfl rfl)
theorem dX7_coin_184 : decode cX7_coin 184 = .ok (.iinc 7 1, 3) := dk_132 7 1 (dk_at dksX7_coin_7 18 rfl rfl)
theorem dX7_coin_187 : decode cX7_coin 187 = .ok (.goto (-110), 3) := dk_167 255 146 (dk_at dksX7_coin_7 21 rfl rfl)
theorem dX7_coin_190 : decode cX7_coin 190 = .ok (.aload_n 0, 1) := dk_42 (dk_at dksX7_coin_8 0 rfl rfl)
theorem dX7_coin_191 : decode cX7_coin 191 = .ok (.invokevirtual 316, 3) := dk_182 1 60 (dk_at dksX7_coin_8 1 rfl rfl)
theorem dX7_coin_194 : decode cX7_coin 194 = .ok (.iload 5, 2) := dk_21 5 (dk_at dksX7_coin_8 4 rfl rfl)
theorem dX7_coin_196 : decode cX7_coin 196 = .ok (.iconst (-1), 1) := dk_2 (dk_at dksX7_coin_8 6 rfl rfl)
theorem dX7_coin_197 : decode cX7_coin 197 = .ok (.if_icmp .eq 7, 3) := dk_159 0 7 (dk_at dksX7_coin_8 7 rfl rfl)
theorem dX7_coin_200 : decode cX7_coin 200 = .ok (.iload_n 2, 1) := dk_28 (dk_at dksX7_coin_8 10 rfl rfl)
theorem dX7_coin_201 : decode cX7_coin 201 = .ok (.ifCond .ne 8, 3) := dk_154 0 8 (dk_at dksX7_coin_8 11 rfl rfl)
theorem dX7_coin_204 : decode cX7_coin 204 = .ok (.iload 5, 2) := dk_21 5 (dk_at dksX7_coin_8 14 rfl rfl)
theorem dX7_coin_206 : decode cX7_coin 206 = .ok (.goto 5, 3) := dk_167 0 5 (dk_at dksX7_coin_8 16 rfl rfl)
theorem dX7_coin_209 : decode cX7_coin 209 = .ok (.iload 6, 2) := dk_21 6 (dk_at dksX7_coin_8 19 rfl rfl)
theorem dX7_coin_211 : decode cX7_coin 211 = .ok (.ireturn, 1) := dk_172 (dk_at dksX7_coin_8 21 rfl rfl)
abbrev cX7_stage : ByteArray := prog_19_method_75_code
def yX7_stage : MethodName := ⟨RX7, "stage", "()I"⟩
def dkwX7_stage_4 : List UInt8 := [172]
abbrev dktX7_stage_4 : List UInt8 := dkwX7_stage_4 ++ []
def dkwX7_stage_3 : List UInt8 := [180, 0, 197, 162, 0, 20, 42, 180, 0, 40, 29, 92, 46, 16, 10, 100, 79, 132, 3, 1, 167, 255, 234, 27]
abbrev dktX7_stage_3 : List UInt8 := dkwX7_stage_3 ++ dktX7_stage_4
def dkwX7_stage_2 : List UInt8 := [54, 4, 21, 4, 28, 164, 0, 8, 29, 60, 21, 4, 61, 132, 3, 1, 167, 255, 201, 3, 62, 29, 42]
abbrev dktX7_stage_2 : List UInt8 := dkwX7_stage_2 ++ dktX7_stage_3
def dkwX7_stage_1 : List UInt8 := [162, 0, 20, 42, 180, 0, 40, 21, 4, 92, 46, 4, 96, 79, 132, 4, 1, 167, 255, 233, 42, 182, 1, 90]
abbrev dktX7_stage_1 : List UInt8 := dkwX7_stage_1 ++ dktX7_stage_2
def dkwX7_stage_0 : List UInt8 := [3, 60, 42, 182, 1, 90, 61, 4, 62, 29, 16, 10, 163, 0, 55, 3, 54, 4, 21, 4, 42, 180, 0, 197]
abbrev dktX7_stage_0 : List UInt8 := dkwX7_stage_0 ++ dktX7_stage_1
theorem dksX7_stage_0 : cX7_stage.data.toList.drop 0 = dktX7_stage_0 := by decide +kernel
theorem dksX7_stage_1 : cX7_stage.data.toList.drop 24 = dktX7_stage_1 := dk_seg dksX7_stage_0 24 rfl rfl
theorem dksX7_stage_2 : cX7_stage.data.toList.drop 48 = dktX7_stage_2 := dk_seg dksX7_stage_1 24 rfl rfl
theorem dksX7_stage_3 : cX7_stage.data.toList.drop 71 = dktX7_stage_3 := dk_seg dksX7_stage_2 23 rfl rfl
theorem dksX7_stage_4 : cX7_stage.data.toList.drop 95 = dktX7_stage_4 := dk_seg dksX7_stage_3 24 rfl rfl
theorem dX7_stage_0 : decode cX7_stage 0 = .ok (.iconst 0, 1) := dk_3 (dk_at dksX7_stage_0 0 rfl rfl)
theorem dX7_stage_1 : decode cX7_stage 1 = .ok (.istore_n 1, 1) := dk_60 (dk_at dksX7_stage_0 1 rfl rfl)
theorem dX7_stage_2 : decode cX7_stage 2 = .ok (.aload_n 0, 1) := dk_42 (dk_at dksX7_stage_0 2 rfl rfl)
theorem dX7_stage_3 : decode cX7_stage 3 = .ok (.invokevirtual 346, 3) := dk_182 1 90 (dk_at dksX7_stage_0 3 rfl rfl)
theorem dX7_stage_6 : decode cX7_stage 6 = .ok (.istore_n 2, 1) := dk_61 (dk_at dksX7_stage_0 6 rfl rfl)
theorem dX7_stage_7 : decode cX7_stage 7 = .ok (.iconst 1, 1) := dk_4 (dk_at dksX7_stage_0 7 rfl rfl)
theorem dX7_stage_8 : decode cX7_stage 8 = .ok (.istore_n 3, 1) := dk_62 (dk_at dksX7_stage_0 8 rfl rfl)
theorem dX7_stage_9 : decode cX7_stage 9 = .ok (.iload_n 3, 1) := dk_29 (dk_at dksX7_stage_0 9 rfl rfl)
theorem dX7_stage_10 : decode cX7_stage 10 = .ok (.bipush 10, 2) := dk_16 10 (dk_at dksX7_stage_0 10 rfl rfl)
theorem dX7_stage_12 : decode cX7_stage 12 = .ok (.if_icmp .gt 55, 3) := dk_163 0 55 (dk_at dksX7_stage_0 12 rfl rfl)
theorem dX7_stage_15 : decode cX7_stage 15 = .ok (.iconst 0, 1) := dk_3 (dk_at dksX7_stage_0 15 rfl rfl)
theorem dX7_stage_16 : decode cX7_stage 16 = .ok (.istore 4, 2) := dk_54 4 (dk_at dksX7_stage_0 16 rfl rfl)
theorem dX7_stage_18 : decode cX7_stage 18 = .ok (.iload 4, 2) := dk_21 4 (dk_at dksX7_stage_0 18 rfl rfl)
theorem dX7_stage_20 : decode cX7_stage 20 = .ok (.aload_n 0, 1) := dk_42 (dk_at dksX7_stage_0 20 rfl rfl)
theorem dX7_stage_21 : decode cX7_stage 21 = .ok (.getfield 197, 3) := dk_180 0 197 (dk_at dksX7_stage_0 21 rfl rfl)
theorem dX7_stage_24 : decode cX7_stage 24 = .ok (.if_icmp .ge 20, 3) := dk_162 0 20 (dk_at dksX7_stage_1 0 rfl rfl)
theorem dX7_stage_27 : decode cX7_stage 27 = .ok (.aload_n 0, 1) := dk_42 (dk_at dksX7_stage_1 3 rfl rfl)
theorem dX7_stage_28 : decode cX7_stage 28 = .ok (.getfield 40, 3) := dk_180 0 40 (dk_at dksX7_stage_1 4 rfl rfl)
theorem dX7_stage_31 : decode cX7_stage 31 = .ok (.iload 4, 2) := dk_21 4 (dk_at dksX7_stage_1 7 rfl rfl)
theorem dX7_stage_33 : decode cX7_stage 33 = .ok (.dup2, 1) := dk_92 (dk_at dksX7_stage_1 9 rfl rfl)
theorem dX7_stage_34 : decode cX7_stage 34 = .ok (.iaload, 1) := dk_46 (dk_at dksX7_stage_1 10 rfl rfl)
theorem dX7_stage_35 : decode cX7_stage 35 = .ok (.iconst 1, 1) := dk_4 (dk_at dksX7_stage_1 11 rfl rfl)
theorem dX7_stage_36 : decode cX7_stage 36 = .ok (.iadd, 1) := dk_96 (dk_at dksX7_stage_1 12 rfl rfl)
theorem dX7_stage_37 : decode cX7_stage 37 = .ok (.iastore, 1) := dk_79 (dk_at dksX7_stage_1 13 rfl rfl)
theorem dX7_stage_38 : decode cX7_stage 38 = .ok (.iinc 4 1, 3) := dk_132 4 1 (dk_at dksX7_stage_1 14 rfl rfl)
theorem dX7_stage_41 : decode cX7_stage 41 = .ok (.goto (-23), 3) := dk_167 255 233 (dk_at dksX7_stage_1 17 rfl rfl)
theorem dX7_stage_44 : decode cX7_stage 44 = .ok (.aload_n 0, 1) := dk_42 (dk_at dksX7_stage_1 20 rfl rfl)
theorem dX7_stage_45 : decode cX7_stage 45 = .ok (.invokevirtual 346, 3) := dk_182 1 90 (dk_at dksX7_stage_1 21 rfl rfl)
theorem dX7_stage_48 : decode cX7_stage 48 = .ok (.istore 4, 2) := dk_54 4 (dk_at dksX7_stage_2 0 rfl rfl)
theorem dX7_stage_50 : decode cX7_stage 50 = .ok (.iload 4, 2) := dk_21 4 (dk_at dksX7_stage_2 2 rfl rfl)
theorem dX7_stage_52 : decode cX7_stage 52 = .ok (.iload_n 2, 1) := dk_28 (dk_at dksX7_stage_2 4 rfl rfl)
theorem dX7_stage_53 : decode cX7_stage 53 = .ok (.if_icmp .le 8, 3) := dk_164 0 8 (dk_at dksX7_stage_2 5 rfl rfl)
theorem dX7_stage_56 : decode cX7_stage 56 = .ok (.iload_n 3, 1) := dk_29 (dk_at dksX7_stage_2 8 rfl rfl)
theorem dX7_stage_57 : decode cX7_stage 57 = .ok (.istore_n 1, 1) := dk_60 (dk_at dksX7_stage_2 9 rfl rfl)
theorem dX7_stage_58 : decode cX7_stage 58 = .ok (.iload 4, 2) := dk_21 4 (dk_at dksX7_stage_2 10 rfl rfl)
theorem dX7_stage_60 : decode cX7_stage 60 = .ok (.istore_n 2, 1) := dk_61 (dk_at dksX7_stage_2 12 rfl rfl)
theorem dX7_stage_61 : decode cX7_stage 61 = .ok (.iinc 3 1, 3) := dk_132 3 1 (dk_at dksX7_stage_2 13 rfl rfl)
theorem dX7_stage_64 : decode cX7_stage 64 = .ok (.goto (-55), 3) := dk_167 255 201 (dk_at dksX7_stage_2 16 rfl rfl)
theorem dX7_stage_67 : decode cX7_stage 67 = .ok (.iconst 0, 1) := dk_3 (dk_at dksX7_stage_2 19 rfl rfl)
theorem dX7_stage_68 : decode cX7_stage 68 = .ok (.istore_n 3, 1) := dk_62 (dk_at dksX7_stage_2 20 rfl rfl)
theorem dX7_stage_69 : decode cX7_stage 69 = .ok (.iload_n 3, 1) := dk_29 (dk_at dksX7_stage_2 21 rfl rfl)
theorem dX7_stage_70 : decode cX7_stage 70 = .ok (.aload_n 0, 1) := dk_42 (dk_at dksX7_stage_2 22 rfl rfl)
theorem dX7_stage_71 : decode cX7_stage 71 = .ok (.getfield 197, 3) := dk_180 0 197 (dk_at dksX7_stage_3 0 rfl rfl)
theorem dX7_stage_74 : decode cX7_stage 74 = .ok (.if_icmp .ge 20, 3) := dk_162 0 20 (dk_at dksX7_stage_3 3 rfl rfl)
theorem dX7_stage_77 : decode cX7_stage 77 = .ok (.aload_n 0, 1) := dk_42 (dk_at dksX7_stage_3 6 rfl rfl)
theorem dX7_stage_78 : decode cX7_stage 78 = .ok (.getfield 40, 3) := dk_180 0 40 (dk_at dksX7_stage_3 7 rfl rfl)
theorem dX7_stage_81 : decode cX7_stage 81 = .ok (.iload_n 3, 1) := dk_29 (dk_at dksX7_stage_3 10 rfl rfl)
theorem dX7_stage_82 : decode cX7_stage 82 = .ok (.dup2, 1) := dk_92 (dk_at dksX7_stage_3 11 rfl rfl)
theorem dX7_stage_83 : decode cX7_stage 83 = .ok (.iaload, 1) := dk_46 (dk_at dksX7_stage_3 12 rfl rfl)
theorem dX7_stage_84 : decode cX7_stage 84 = .ok (.bipush 10, 2) := dk_16 10 (dk_at dksX7_stage_3 13 rfl rfl)
theorem dX7_stage_86 : decode cX7_stage 86 = .ok (.isub, 1) := dk_100 (dk_at dksX7_stage_3 15 rfl rfl)
theorem dX7_stage_87 : decode cX7_stage 87 = .ok (.iastore, 1) := dk_79 (dk_at dksX7_stage_3 16 rfl rfl)
theorem dX7_stage_88 : decode cX7_stage 88 = .ok (.iinc 3 1, 3) := dk_132 3 1 (dk_at dksX7_stage_3 17 rfl rfl)
theorem dX7_stage_91 : decode cX7_stage 91 = .ok (.goto (-22), 3) := dk_167 255 234 (dk_at dksX7_stage_3 20 rfl rfl)
theorem dX7_stage_94 : decode cX7_stage 94 = .ok (.iload_n 1, 1) := dk_27 (dk_at dksX7_stage_3 23 rfl rfl)
theorem dX7_stage_95 : decode cX7_stage 95 = .ok (.ireturn, 1) := dk_172 (dk_at dksX7_stage_4 0 rfl rfl)
abbrev cX7_swap : ByteArray := prog_19_method_78_code
def yX7_swap : MethodName := ⟨RX7, "swap", "(IIII)I"⟩
def dkwX7_swap_1 : List UInt8 := [28, 96, 16, 8, 29, 104, 21, 4, 96, 182, 1, 107, 167, 0, 6, 19, 1, 110, 172]
abbrev dktX7_swap_1 : List UInt8 := dkwX7_swap_1 ++ []
def dkwX7_swap_0 : List UInt8 := [42, 27, 28, 182, 0, 167, 153, 0, 33, 42, 29, 21, 4, 182, 0, 167, 153, 0, 23, 42, 16, 8, 27, 104]
abbrev dktX7_swap_0 : List UInt8 := dkwX7_swap_0 ++ dktX7_swap_1
theorem dksX7_swap_0 : cX7_swap.data.toList.drop 0 = dktX7_swap_0 := by decide +kernel
theorem dksX7_swap_1 : cX7_swap.data.toList.drop 24 = dktX7_swap_1 := dk_seg dksX7_swap_0 24 rfl rfl
theorem dX7_swap_0 : decode cX7_swap 0 = .ok (.aload_n 0, 1) := dk_42 (dk_at dksX7_swap_0 0 rfl rfl)
theorem dX7_swap_1 : decode cX7_swap 1 = .ok (.iload_n 1, 1) := dk_27 (dk_at dksX7_swap_0 1 rfl rfl)
theorem dX7_swap_2 : decode cX7_swap 2 = .ok (.iload_n 2, 1) := dk_28 (dk_at dksX7_swap_0 2 rfl rfl)
theorem dX7_swap_3 : decode cX7_swap 3 = .ok (.invokevirtual 167, 3) := dk_182 0 167 (dk_at dksX7_swap_0 3 rfl rfl)
theorem dX7_swap_6 : decode cX7_swap 6 = .ok (.ifCond .eq 33, 3) := dk_153 0 33 (dk_at dksX7_swap_0 6 rfl rfl)
theorem dX7_swap_9 : decode cX7_swap 9 = .ok (.aload_n 0, 1) := dk_42 (dk_at dksX7_swap_0 9 rfl rfl)
theorem dX7_swap_10 : decode cX7_swap 10 = .ok (.iload_n 3, 1) := dk_29 (dk_at dksX7_swap_0 10 rfl rfl)
theorem dX7_swap_11 : decode cX7_swap 11 = .ok (.iload 4, 2) := dk_21 4 (dk_at dksX7_swap_0 11 rfl rfl)
theorem dX7_swap_13 : decode cX7_swap 13 = .ok (.invokevirtual 167, 3) := dk_182 0 167 (dk_at dksX7_swap_0 13 rfl rfl)
theorem dX7_swap_16 : decode cX7_swap 16 = .ok (.ifCond .eq 23, 3) := dk_153 0 23 (dk_at dksX7_swap_0 16 rfl rfl)
theorem dX7_swap_19 : decode cX7_swap 19 = .ok (.aload_n 0, 1) := dk_42 (dk_at dksX7_swap_0 19 rfl rfl)
theorem dX7_swap_20 : decode cX7_swap 20 = .ok (.bipush 8, 2) := dk_16 8 (dk_at dksX7_swap_0 20 rfl rfl)
theorem dX7_swap_22 : decode cX7_swap 22 = .ok (.iload_n 1, 1) := dk_27 (dk_at dksX7_swap_0 22 rfl rfl)
theorem dX7_swap_23 : decode cX7_swap 23 = .ok (.imul, 1) := dk_104 (dk_at dksX7_swap_0 23 rfl rfl)
theorem dX7_swap_24 : decode cX7_swap 24 = .ok (.iload_n 2, 1) := dk_28 (dk_at dksX7_swap_1 0 rfl rfl)
theorem dX7_swap_25 : decode cX7_swap 25 = .ok (.iadd, 1) := dk_96 (dk_at dksX7_swap_1 1 rfl rfl)
theorem dX7_swap_26 : decode cX7_swap 26 = .ok (.bipush 8, 2) := dk_16 8 (dk_at dksX7_swap_1 2 rfl rfl)
theorem dX7_swap_28 : decode cX7_swap 28 = .ok (.iload_n 3, 1) := dk_29 (dk_at dksX7_swap_1 4 rfl rfl)
theorem dX7_swap_29 : decode cX7_swap 29 = .ok (.imul, 1) := dk_104 (dk_at dksX7_swap_1 5 rfl rfl)
theorem dX7_swap_30 : decode cX7_swap 30 = .ok (.iload 4, 2) := dk_21 4 (dk_at dksX7_swap_1 6 rfl rfl)
theorem dX7_swap_32 : decode cX7_swap 32 = .ok (.iadd, 1) := dk_96 (dk_at dksX7_swap_1 8 rfl rfl)
theorem dX7_swap_33 : decode cX7_swap 33 = .ok (.invokevirtual 363, 3) := dk_182 1 107 (dk_at dksX7_swap_1 9 rfl rfl)
theorem dX7_swap_36 : decode cX7_swap 36 = .ok (.goto 6, 3) := dk_167 0 6 (dk_at dksX7_swap_1 12 rfl rfl)
theorem dX7_swap_39 : decode cX7_swap 39 = .ok (.ldc_w 366, 3) := dk_19 1 110 (dk_at dksX7_swap_1 15 rfl rfl)
theorem dX7_swap_42 : decode cX7_swap 42 = .ok (.ireturn, 1) := dk_172 (dk_at dksX7_swap_1 18 rfl rfl)
abbrev cX7_gainBy : ByteArray := prog_19_method_77_code
def yX7_gainBy : MethodName := ⟨RX7, "gainBy", "(II)I"⟩
def dkwX7_gainBy_1 : List UInt8 := [21, 4, 29, 100, 172]
abbrev dktX7_gainBy_1 : List UInt8 := dkwX7_gainBy_1 ++ []
def dkwX7_gainBy_0 : List UInt8 := [42, 182, 1, 90, 62, 42, 27, 28, 182, 1, 103, 42, 182, 1, 90, 54, 4, 42, 27, 28, 182, 1, 103]
abbrev dktX7_gainBy_0 : List UInt8 := dkwX7_gainBy_0 ++ dktX7_gainBy_1
theorem dksX7_gainBy_0 : cX7_gainBy.data.toList.drop 0 = dktX7_gainBy_0 := by decide +kernel
theorem dksX7_gainBy_1 : cX7_gainBy.data.toList.drop 23 = dktX7_gainBy_1 := dk_seg dksX7_gainBy_0 23 rfl rfl
theorem dX7_gainBy_0 : decode cX7_gainBy 0 = .ok (.aload_n 0, 1) := dk_42 (dk_at dksX7_gainBy_0 0 rfl rfl)
theorem dX7_gainBy_1 : decode cX7_gainBy 1 = .ok (.invokevirtual 346, 3) := dk_182 1 90 (dk_at dksX7_gainBy_0 1 rfl rfl)
theorem dX7_gainBy_4 : decode cX7_gainBy 4 = .ok (.istore_n 3, 1) := dk_62 (dk_at dksX7_gainBy_0 4 rfl rfl)
theorem dX7_gainBy_5 : decode cX7_gainBy 5 = .ok (.aload_n 0, 1) := dk_42 (dk_at dksX7_gainBy_0 5 rfl rfl)
theorem dX7_gainBy_6 : decode cX7_gainBy 6 = .ok (.iload_n 1, 1) := dk_27 (dk_at dksX7_gainBy_0 6 rfl rfl)
theorem dX7_gainBy_7 : decode cX7_gainBy 7 = .ok (.iload_n 2, 1) := dk_28 (dk_at dksX7_gainBy_0 7 rfl rfl)
theorem dX7_gainBy_8 : decode cX7_gainBy 8 = .ok (.invokevirtual 359, 3) := dk_182 1 103 (dk_at dksX7_gainBy_0 8 rfl rfl)
theorem dX7_gainBy_11 : decode cX7_gainBy 11 = .ok (.aload_n 0, 1) := dk_42 (dk_at dksX7_gainBy_0 11 rfl rfl)
theorem dX7_gainBy_12 : decode cX7_gainBy 12 = .ok (.invokevirtual 346, 3) := dk_182 1 90 (dk_at dksX7_gainBy_0 12 rfl rfl)
theorem dX7_gainBy_15 : decode cX7_gainBy 15 = .ok (.istore 4, 2) := dk_54 4 (dk_at dksX7_gainBy_0 15 rfl rfl)
theorem dX7_gainBy_17 : decode cX7_gainBy 17 = .ok (.aload_n 0, 1) := dk_42 (dk_at dksX7_gainBy_0 17 rfl rfl)
theorem dX7_gainBy_18 : decode cX7_gainBy 18 = .ok (.iload_n 1, 1) := dk_27 (dk_at dksX7_gainBy_0 18 rfl rfl)
theorem dX7_gainBy_19 : decode cX7_gainBy 19 = .ok (.iload_n 2, 1) := dk_28 (dk_at dksX7_gainBy_0 19 rfl rfl)
theorem dX7_gainBy_20 : decode cX7_gainBy 20 = .ok (.invokevirtual 359, 3) := dk_182 1 103 (dk_at dksX7_gainBy_0 20 rfl rfl)
theorem dX7_gainBy_23 : decode cX7_gainBy 23 = .ok (.iload 4, 2) := dk_21 4 (dk_at dksX7_gainBy_1 0 rfl rfl)
theorem dX7_gainBy_25 : decode cX7_gainBy 25 = .ok (.iload_n 3, 1) := dk_29 (dk_at dksX7_gainBy_1 2 rfl rfl)
theorem dX7_gainBy_26 : decode cX7_gainBy 26 = .ok (.isub, 1) := dk_100 (dk_at dksX7_gainBy_1 3 rfl rfl)
theorem dX7_gainBy_27 : decode cX7_gainBy 27 = .ok (.ireturn, 1) := dk_172 (dk_at dksX7_gainBy_1 4 rfl rfl)
abbrev cX7_changes : ByteArray := prog_19_method_76_code
def yX7_changes : MethodName := ⟨RX7, "changes", "(II)V"⟩
def dkwX7_changes_1 : List UInt8 := [29, 79, 177]
abbrev dktX7_changes_1 : List UInt8 := dkwX7_changes_1 ++ []
def dkwX7_changes_0 : List UInt8 := [42, 180, 0, 34, 27, 46, 62, 42, 180, 0, 34, 27, 42, 180, 0, 34, 28, 46, 79, 42, 180, 0, 34, 28]
abbrev dktX7_changes_0 : List UInt8 := dkwX7_changes_0 ++ dktX7_changes_1
theorem dksX7_changes_0 : cX7_changes.data.toList.drop 0 = dktX7_changes_0 := by decide +kernel
theorem dksX7_changes_1 : cX7_changes.data.toList.drop 24 = dktX7_changes_1 := dk_seg dksX7_changes_0 24 rfl rfl
theorem dX7_changes_0 : decode cX7_changes 0 = .ok (.aload_n 0, 1) := dk_42 (dk_at dksX7_changes_0 0 rfl rfl)
theorem dX7_changes_1 : decode cX7_changes 1 = .ok (.getfield 34, 3) := dk_180 0 34 (dk_at dksX7_changes_0 1 rfl rfl)
theorem dX7_changes_4 : decode cX7_changes 4 = .ok (.iload_n 1, 1) := dk_27 (dk_at dksX7_changes_0 4 rfl rfl)
theorem dX7_changes_5 : decode cX7_changes 5 = .ok (.iaload, 1) := dk_46 (dk_at dksX7_changes_0 5 rfl rfl)
theorem dX7_changes_6 : decode cX7_changes 6 = .ok (.istore_n 3, 1) := dk_62 (dk_at dksX7_changes_0 6 rfl rfl)
theorem dX7_changes_7 : decode cX7_changes 7 = .ok (.aload_n 0, 1) := dk_42 (dk_at dksX7_changes_0 7 rfl rfl)
theorem dX7_changes_8 : decode cX7_changes 8 = .ok (.getfield 34, 3) := dk_180 0 34 (dk_at dksX7_changes_0 8 rfl rfl)
theorem dX7_changes_11 : decode cX7_changes 11 = .ok (.iload_n 1, 1) := dk_27 (dk_at dksX7_changes_0 11 rfl rfl)
theorem dX7_changes_12 : decode cX7_changes 12 = .ok (.aload_n 0, 1) := dk_42 (dk_at dksX7_changes_0 12 rfl rfl)
theorem dX7_changes_13 : decode cX7_changes 13 = .ok (.getfield 34, 3) := dk_180 0 34 (dk_at dksX7_changes_0 13 rfl rfl)
theorem dX7_changes_16 : decode cX7_changes 16 = .ok (.iload_n 2, 1) := dk_28 (dk_at dksX7_changes_0 16 rfl rfl)
theorem dX7_changes_17 : decode cX7_changes 17 = .ok (.iaload, 1) := dk_46 (dk_at dksX7_changes_0 17 rfl rfl)
theorem dX7_changes_18 : decode cX7_changes 18 = .ok (.iastore, 1) := dk_79 (dk_at dksX7_changes_0 18 rfl rfl)
theorem dX7_changes_19 : decode cX7_changes 19 = .ok (.aload_n 0, 1) := dk_42 (dk_at dksX7_changes_0 19 rfl rfl)
theorem dX7_changes_20 : decode cX7_changes 20 = .ok (.getfield 34, 3) := dk_180 0 34 (dk_at dksX7_changes_0 20 rfl rfl)
theorem dX7_changes_23 : decode cX7_changes 23 = .ok (.iload_n 2, 1) := dk_28 (dk_at dksX7_changes_0 23 rfl rfl)
theorem dX7_changes_24 : decode cX7_changes 24 = .ok (.iload_n 3, 1) := dk_29 (dk_at dksX7_changes_1 0 rfl rfl)
theorem dX7_changes_25 : decode cX7_changes 25 = .ok (.iastore, 1) := dk_79 (dk_at dksX7_changes_1 1 rfl rfl)
theorem dX7_changes_26 : decode cX7_changes 26 = .ok (.return_, 1) := dk_177 (dk_at dksX7_changes_1 2 rfl rfl)
abbrev cX7_people : ByteArray := prog_19_method_80_code
def yX7_people : MethodName := ⟨RX7, "people", "(II)I"⟩
def dkwX7_people_1 : List UInt8 := [27, 182, 1, 117, 28, 154, 0, 10, 42, 180, 1, 111, 167, 0, 7, 42, 180, 1, 114, 172]
abbrev dktX7_people_1 : List UInt8 := dkwX7_people_1 ++ []
def dkwX7_people_0 : List UInt8 := [42, 27, 182, 0, 163, 154, 0, 6, 16, 251, 172, 28, 3, 4, 184, 0, 159, 154, 0, 6, 16, 249, 172, 42]
abbrev dktX7_people_0 : List UInt8 := dkwX7_people_0 ++ dktX7_people_1
theorem dksX7_people_0 : cX7_people.data.toList.drop 0 = dktX7_people_0 := by decide +kernel
theorem dksX7_people_1 : cX7_people.data.toList.drop 24 = dktX7_people_1 := dk_seg dksX7_people_0 24 rfl rfl
theorem dX7_people_0 : decode cX7_people 0 = .ok (.aload_n 0, 1) := dk_42 (dk_at dksX7_people_0 0 rfl rfl)
theorem dX7_people_1 : decode cX7_people 1 = .ok (.iload_n 1, 1) := dk_27 (dk_at dksX7_people_0 1 rfl rfl)
theorem dX7_people_2 : decode cX7_people 2 = .ok (.invokevirtual 163, 3) := dk_182 0 163 (dk_at dksX7_people_0 2 rfl rfl)
theorem dX7_people_5 : decode cX7_people 5 = .ok (.ifCond .ne 6, 3) := dk_154 0 6 (dk_at dksX7_people_0 5 rfl rfl)
theorem dX7_people_8 : decode cX7_people 8 = .ok (.bipush (-5), 2) := dk_16 251 (dk_at dksX7_people_0 8 rfl rfl)
theorem dX7_people_10 : decode cX7_people 10 = .ok (.ireturn, 1) := dk_172 (dk_at dksX7_people_0 10 rfl rfl)
theorem dX7_people_11 : decode cX7_people 11 = .ok (.iload_n 2, 1) := dk_28 (dk_at dksX7_people_0 11 rfl rfl)
theorem dX7_people_12 : decode cX7_people 12 = .ok (.iconst 0, 1) := dk_3 (dk_at dksX7_people_0 12 rfl rfl)
theorem dX7_people_13 : decode cX7_people 13 = .ok (.iconst 1, 1) := dk_4 (dk_at dksX7_people_0 13 rfl rfl)
theorem dX7_people_14 : decode cX7_people 14 = .ok (.invokestatic 159, 3) := dk_184 0 159 (dk_at dksX7_people_0 14 rfl rfl)
theorem dX7_people_17 : decode cX7_people 17 = .ok (.ifCond .ne 6, 3) := dk_154 0 6 (dk_at dksX7_people_0 17 rfl rfl)
theorem dX7_people_20 : decode cX7_people 20 = .ok (.bipush (-7), 2) := dk_16 249 (dk_at dksX7_people_0 20 rfl rfl)
theorem dX7_people_22 : decode cX7_people 22 = .ok (.ireturn, 1) := dk_172 (dk_at dksX7_people_0 22 rfl rfl)
theorem dX7_people_23 : decode cX7_people 23 = .ok (.aload_n 0, 1) := dk_42 (dk_at dksX7_people_0 23 rfl rfl)
theorem dX7_people_24 : decode cX7_people 24 = .ok (.iload_n 1, 1) := dk_27 (dk_at dksX7_people_1 0 rfl rfl)
theorem dX7_people_25 : decode cX7_people 25 = .ok (.invokevirtual 373, 3) := dk_182 1 117 (dk_at dksX7_people_1 1 rfl rfl)
theorem dX7_people_28 : decode cX7_people 28 = .ok (.iload_n 2, 1) := dk_28 (dk_at dksX7_people_1 4 rfl rfl)
theorem dX7_people_29 : decode cX7_people 29 = .ok (.ifCond .ne 10, 3) := dk_154 0 10 (dk_at dksX7_people_1 5 rfl rfl)
theorem dX7_people_32 : decode cX7_people 32 = .ok (.aload_n 0, 1) := dk_42 (dk_at dksX7_people_1 8 rfl rfl)
theorem dX7_people_33 : decode cX7_people 33 = .ok (.getfield 367, 3) := dk_180 1 111 (dk_at dksX7_people_1 9 rfl rfl)
theorem dX7_people_36 : decode cX7_people 36 = .ok (.goto 7, 3) := dk_167 0 7 (dk_at dksX7_people_1 12 rfl rfl)
theorem dX7_people_39 : decode cX7_people 39 = .ok (.aload_n 0, 1) := dk_42 (dk_at dksX7_people_1 15 rfl rfl)
theorem dX7_people_40 : decode cX7_people 40 = .ok (.getfield 370, 3) := dk_180 1 114 (dk_at dksX7_people_1 16 rfl rfl)
theorem dX7_people_43 : decode cX7_people 43 = .ok (.ireturn, 1) := dk_172 (dk_at dksX7_people_1 19 rfl rfl)
abbrev cX7_finds : ByteArray := prog_19_method_79_code
def yX7_finds : MethodName := ⟨RX7, "finds", "(I)V"⟩
def dkwX7_finds_5 : List UInt8 := [177]
abbrev dktX7_finds_5 : List UInt8 := dkwX7_finds_5 ++ []
def dkwX7_finds_4 : List UInt8 := [104, 29, 96, 181, 1, 111, 42, 21, 4, 181, 1, 114, 132, 3, 1, 167, 255, 171, 132, 2, 1, 167, 255, 151]
abbrev dktX7_finds_4 : List UInt8 := dkwX7_finds_4 ++ dktX7_finds_5
def dkwX7_finds_3 : List UInt8 := [16, 8, 27, 104, 29, 96, 182, 1, 107, 54, 4, 21, 4, 42, 180, 1, 114, 164, 0, 19, 42, 16, 10, 28]
abbrev dktX7_finds_3 : List UInt8 := dkwX7_finds_3 ++ dktX7_finds_4
def dkwX7_finds_2 : List UInt8 := [180, 0, 34, 16, 8, 27, 104, 29, 96, 46, 160, 0, 7, 3, 167, 0, 19, 42, 16, 8, 27, 104, 28, 96]
abbrev dktX7_finds_2 : List UInt8 := dkwX7_finds_2 ++ dktX7_finds_3
def dkwX7_finds_1 : List UInt8 := [96, 62, 29, 42, 180, 0, 22, 27, 46, 162, 0, 81, 42, 180, 0, 34, 16, 8, 27, 104, 28, 96, 46, 42]
abbrev dktX7_finds_1 : List UInt8 := dkwX7_finds_1 ++ dktX7_finds_2
def dkwX7_finds_0 : List UInt8 := [42, 2, 181, 1, 111, 42, 3, 181, 1, 114, 3, 61, 28, 42, 180, 0, 22, 27, 46, 162, 0, 101, 28, 4]
abbrev dktX7_finds_0 : List UInt8 := dkwX7_finds_0 ++ dktX7_finds_1
theorem dksX7_finds_0 : cX7_finds.data.toList.drop 0 = dktX7_finds_0 := by decide +kernel
theorem dksX7_finds_1 : cX7_finds.data.toList.drop 24 = dktX7_finds_1 := dk_seg dksX7_finds_0 24 rfl rfl
theorem dksX7_finds_2 : cX7_finds.data.toList.drop 48 = dktX7_finds_2 := dk_seg dksX7_finds_1 24 rfl rfl
theorem dksX7_finds_3 : cX7_finds.data.toList.drop 72 = dktX7_finds_3 := dk_seg dksX7_finds_2 24 rfl rfl
theorem dksX7_finds_4 : cX7_finds.data.toList.drop 96 = dktX7_finds_4 := dk_seg dksX7_finds_3 24 rfl rfl
theorem dksX7_finds_5 : cX7_finds.data.toList.drop 120 = dktX7_finds_5 := dk_seg dksX7_finds_4 24 rfl rfl
theorem dX7_finds_0 : decode cX7_finds 0 = .ok (.aload_n 0, 1) := dk_42 (dk_at dksX7_finds_0 0 rfl rfl)
theorem dX7_finds_1 : decode cX7_finds 1 = .ok (.iconst (-1), 1) := dk_2 (dk_at dksX7_finds_0 1 rfl rfl)
theorem dX7_finds_2 : decode cX7_finds 2 = .ok (.putfield 367, 3) := dk_181 1 111 (dk_at dksX7_finds_0 2 rfl rfl)
theorem dX7_finds_5 : decode cX7_finds 5 = .ok (.aload_n 0, 1) := dk_42 (dk_at dksX7_finds_0 5 rfl rfl)
theorem dX7_finds_6 : decode cX7_finds 6 = .ok (.iconst 0, 1) := dk_3 (dk_at dksX7_finds_0 6 rfl rfl)
theorem dX7_finds_7 : decode cX7_finds 7 = .ok (.putfield 370, 3) := dk_181 1 114 (dk_at dksX7_finds_0 7 rfl rfl)
theorem dX7_finds_10 : decode cX7_finds 10 = .ok (.iconst 0, 1) := dk_3 (dk_at dksX7_finds_0 10 rfl rfl)
theorem dX7_finds_11 : decode cX7_finds 11 = .ok (.istore_n 2, 1) := dk_61 (dk_at dksX7_finds_0 11 rfl rfl)
theorem dX7_finds_12 : decode cX7_finds 12 = .ok (.iload_n 2, 1) := dk_28 (dk_at dksX7_finds_0 12 rfl rfl)
theorem dX7_finds_13 : decode cX7_finds 13 = .ok (.aload_n 0, 1) := dk_42 (dk_at dksX7_finds_0 13 rfl rfl)
theorem dX7_finds_14 : decode cX7_finds 14 = .ok (.getfield 22, 3) := dk_180 0 22 (dk_at dksX7_finds_0 14 rfl rfl)
theorem dX7_finds_17 : decode cX7_finds 17 = .ok (.iload_n 1, 1) := dk_27 (dk_at dksX7_finds_0 17 rfl rfl)
theorem dX7_finds_18 : decode cX7_finds 18 = .ok (.iaload, 1) := dk_46 (dk_at dksX7_finds_0 18 rfl rfl)
theorem dX7_finds_19 : decode cX7_finds 19 = .ok (.if_icmp .ge 101, 3) := dk_162 0 101 (dk_at dksX7_finds_0 19 rfl rfl)
theorem dX7_finds_22 : decode cX7_finds 22 = .ok (.iload_n 2, 1) := dk_28 (dk_at dksX7_finds_0 22 rfl rfl)
theorem dX7_finds_23 : decode cX7_finds 23 = .ok (.iconst 1, 1) := dk_4 (dk_at dksX7_finds_0 23 rfl rfl)
theorem dX7_finds_24 : decode cX7_finds 24 = .ok (.iadd, 1) := dk_96 (dk_at dksX7_finds_1 0 rfl rfl)
theorem dX7_finds_25 : decode cX7_finds 25 = .ok (.istore_n 3, 1) := dk_62 (dk_at dksX7_finds_1 1 rfl rfl)
theorem dX7_finds_26 : decode cX7_finds 26 = .ok (.iload_n 3, 1) := dk_29 (dk_at dksX7_finds_1 2 rfl rfl)
theorem dX7_finds_27 : decode cX7_finds 27 = .ok (.aload_n 0, 1) := dk_42 (dk_at dksX7_finds_1 3 rfl rfl)
theorem dX7_finds_28 : decode cX7_finds 28 = .ok (.getfield 22, 3) := dk_180 0 22 (dk_at dksX7_finds_1 4 rfl rfl)
theorem dX7_finds_31 : decode cX7_finds 31 = .ok (.iload_n 1, 1) := dk_27 (dk_at dksX7_finds_1 7 rfl rfl)
theorem dX7_finds_32 : decode cX7_finds 32 = .ok (.iaload, 1) := dk_46 (dk_at dksX7_finds_1 8 rfl rfl)
theorem dX7_finds_33 : decode cX7_finds 33 = .ok (.if_icmp .ge 81, 3) := dk_162 0 81 (dk_at dksX7_finds_1 9 rfl rfl)
theorem dX7_finds_36 : decode cX7_finds 36 = .ok (.aload_n 0, 1) := dk_42 (dk_at dksX7_finds_1 12 rfl rfl)
theorem dX7_finds_37 : decode cX7_finds 37 = .ok (.getfield 34, 3) := dk_180 0 34 (dk_at dksX7_finds_1 13 rfl rfl)
theorem dX7_finds_40 : decode cX7_finds 40 = .ok (.bipush 8, 2) := dk_16 8 (dk_at dksX7_finds_1 16 rfl rfl)
theorem dX7_finds_42 : decode cX7_finds 42 = .ok (.iload_n 1, 1) := dk_27 (dk_at dksX7_finds_1 18 rfl rfl)
theorem dX7_finds_43 : decode cX7_finds 43 = .ok (.imul, 1) := dk_104 (dk_at dksX7_finds_1 19 rfl rfl)
theorem dX7_finds_44 : decode cX7_finds 44 = .ok (.iload_n 2, 1) := dk_28 (dk_at dksX7_finds_1 20 rfl rfl)
theorem dX7_finds_45 : decode cX7_finds 45 = .ok (.iadd, 1) := dk_96 (dk_at dksX7_finds_1 21 rfl rfl)
theorem dX7_finds_46 : decode cX7_finds 46 = .ok (.iaload, 1) := dk_46 (dk_at dksX7_finds_1 22 rfl rfl)
theorem dX7_finds_47 : decode cX7_finds 47 = .ok (.aload_n 0, 1) := dk_42 (dk_at dksX7_finds_1 23 rfl rfl)
theorem dX7_finds_48 : decode cX7_finds 48 = .ok (.getfield 34, 3) := dk_180 0 34 (dk_at dksX7_finds_2 0 rfl rfl)
theorem dX7_finds_51 : decode cX7_finds 51 = .ok (.bipush 8, 2) := dk_16 8 (dk_at dksX7_finds_2 3 rfl rfl)
theorem dX7_finds_53 : decode cX7_finds 53 = .ok (.iload_n 1, 1) := dk_27 (dk_at dksX7_finds_2 5 rfl rfl)
theorem dX7_finds_54 : decode cX7_finds 54 = .ok (.imul, 1) := dk_104 (dk_at dksX7_finds_2 6 rfl rfl)
theorem dX7_finds_55 : decode cX7_finds 55 = .ok (.iload_n 3, 1) := dk_29 (dk_at dksX7_finds_2 7 rfl rfl)
theorem dX7_finds_56 : decode cX7_finds 56 = .ok (.iadd, 1) := dk_96 (dk_at dksX7_finds_2 8 rfl rfl)
theorem dX7_finds_57 : decode cX7_finds 57 = .ok (.iaload, 1) := dk_46 (dk_at dksX7_finds_2 9 rfl rfl)
theorem dX7_finds_58 : decode cX7_finds 58 = .ok (.if_icmp .ne 7, 3) := dk_160 0 7 (dk_at dksX7_finds_2 10 rfl rfl)
theorem dX7_finds_61 : decode cX7_finds 61 = .ok (.iconst 0, 1) := dk_3 (dk_at dksX7_finds_2 13 rfl rfl)
theorem dX7_finds_62 : decode cX7_finds 62 = .ok (.goto 19, 3) := dk_167 0 19 (dk_at dksX7_finds_2 14 rfl rfl)
theorem dX7_finds_65 : decode cX7_finds 65 = .ok (.aload_n 0, 1) := dk_42 (dk_at dksX7_finds_2 17 rfl rfl)
theorem dX7_finds_66 : decode cX7_finds 66 = .ok (.bipush 8, 2) := dk_16 8 (dk_at dksX7_finds_2 18 rfl rfl)
theorem dX7_finds_68 : decode cX7_finds 68 = .ok (.iload_n 1, 1) := dk_27 (dk_at dksX7_finds_2 20 rfl rfl)
theorem dX7_finds_69 : decode cX7_finds 69 = .ok (.imul, 1) := dk_104 (dk_at dksX7_finds_2 21 rfl rfl)
theorem dX7_finds_70 : decode cX7_finds 70 = .ok (.iload_n 2, 1) := dk_28 (dk_at dksX7_finds_2 22 rfl rfl)
theorem dX7_finds_71 : decode cX7_finds 71 = .ok (.iadd, 1) := dk_96 (dk_at dksX7_finds_2 23 rfl rfl)
theorem dX7_finds_72 : decode cX7_finds 72 = .ok (.bipush 8, 2) := dk_16 8 (dk_at dksX7_finds_3 0 rfl rfl)
theorem dX7_finds_74 : decode cX7_finds 74 = .ok (.iload_n 1, 1) := dk_27 (dk_at dksX7_finds_3 2 rfl rfl)
theorem dX7_finds_75 : decode cX7_finds 75 = .ok (.imul, 1) := dk_104 (dk_at dksX7_finds_3 3 rfl rfl)
theorem dX7_finds_76 : decode cX7_finds 76 = .ok (.iload_n 3, 1) := dk_29 (dk_at dksX7_finds_3 4 rfl rfl)
theorem dX7_finds_77 : decode cX7_finds 77 = .ok (.iadd, 1) := dk_96 (dk_at dksX7_finds_3 5 rfl rfl)
theorem dX7_finds_78 : decode cX7_finds 78 = .ok (.invokevirtual 363, 3) := dk_182 1 107 (dk_at dksX7_finds_3 6 rfl rfl)
theorem dX7_finds_81 : decode cX7_finds 81 = .ok (.istore 4, 2) := dk_54 4 (dk_at dksX7_finds_3 9 rfl rfl)
theorem dX7_finds_83 : decode cX7_finds 83 = .ok (.iload 4, 2) := dk_21 4 (dk_at dksX7_finds_3 11 rfl rfl)
theorem dX7_finds_85 : decode cX7_finds 85 = .ok (.aload_n 0, 1) := dk_42 (dk_at dksX7_finds_3 13 rfl rfl)
theorem dX7_finds_86 : decode cX7_finds 86 = .ok (.getfield 370, 3) := dk_180 1 114 (dk_at dksX7_finds_3 14 rfl rfl)
theorem dX7_finds_89 : decode cX7_finds 89 = .ok (.if_icmp .le 19, 3) := dk_164 0 19 (dk_at dksX7_finds_3 17 rfl rfl)
theorem dX7_finds_92 : decode cX7_finds 92 = .ok (.aload_n 0, 1) := dk_42 (dk_at dksX7_finds_3 20 rfl rfl)
theorem dX7_finds_93 : decode cX7_finds 93 = .ok (.bipush 10, 2) := dk_16 10 (dk_at dksX7_finds_3 21 rfl rfl)
theorem dX7_finds_95 : decode cX7_finds 95 = .ok (.iload_n 2, 1) := dk_28 (dk_at dksX7_finds_3 23 rfl rfl)
theorem dX7_finds_96 : decode cX7_finds 96 = .ok (.imul, 1) := dk_104 (dk_at dksX7_finds_4 0 rfl rfl)
theorem dX7_finds_97 : decode cX7_finds 97 = .ok (.iload_n 3, 1) := dk_29 (dk_at dksX7_finds_4 1 rfl rfl)
theorem dX7_finds_98 : decode cX7_finds 98 = .ok (.iadd, 1) := dk_96 (dk_at dksX7_finds_4 2 rfl rfl)
theorem dX7_finds_99 : decode cX7_finds 99 = .ok (.putfield 367, 3) := dk_181 1 111 (dk_at dksX7_finds_4 3 rfl rfl)
theorem dX7_finds_102 : decode cX7_finds 102 = .ok (.aload_n 0, 1) := dk_42 (dk_at dksX7_finds_4 6 rfl rfl)
theorem dX7_finds_103 : decode cX7_finds 103 = .ok (.iload 4, 2) := dk_21 4 (dk_at dksX7_finds_4 7 rfl rfl)
theorem dX7_finds_105 : decode cX7_finds 105 = .ok (.putfield 370, 3) := dk_181 1 114 (dk_at dksX7_finds_4 9 rfl rfl)
theorem dX7_finds_108 : decode cX7_finds 108 = .ok (.iinc 3 1, 3) := dk_132 3 1 (dk_at dksX7_finds_4 12 rfl rfl)
theorem dX7_finds_111 : decode cX7_finds 111 = .ok (.goto (-85), 3) := dk_167 255 171 (dk_at dksX7_finds_4 15 rfl rfl)
theorem dX7_finds_114 : decode cX7_finds 114 = .ok (.iinc 2 1, 3) := dk_132 2 1 (dk_at dksX7_finds_4 18 rfl rfl)
theorem dX7_finds_117 : decode cX7_finds 117 = .ok (.goto (-105), 3) := dk_167 255 151 (dk_at dksX7_finds_4 21 rfl rfl)
theorem dX7_finds_120 : decode cX7_finds 120 = .ok (.return_, 1) := dk_177 (dk_at dksX7_finds_5 0 rfl rfl)
abbrev cX7_settle : ByteArray := prog_19_method_81_code
def yX7_settle : MethodName := ⟨RX7, "settle", "(II)I"⟩
def dkwX7_settle_3 : List UInt8 := [132, 3, 1, 42, 27, 182, 1, 117, 167, 255, 207, 29, 172]
abbrev dktX7_settle_3 : List UInt8 := dkwX7_settle_3 ++ []
def dkwX7_settle_2 : List UInt8 := [42, 180, 1, 111, 16, 10, 108, 96, 16, 8, 27, 104, 42, 180, 1, 111, 16, 10, 112, 96, 182, 1, 103]
abbrev dktX7_settle_2 : List UInt8 := dkwX7_settle_2 ++ dktX7_settle_3
def dkwX7_settle_1 : List UInt8 := [62, 42, 27, 182, 1, 117, 29, 28, 162, 0, 50, 42, 180, 1, 111, 2, 159, 0, 42, 42, 16, 8, 27, 104]
abbrev dktX7_settle_1 : List UInt8 := dkwX7_settle_1 ++ dktX7_settle_2
def dkwX7_settle_0 : List UInt8 := [42, 27, 182, 0, 163, 154, 0, 6, 16, 251, 172, 28, 3, 8, 184, 0, 159, 154, 0, 6, 16, 249, 172, 3]
abbrev dktX7_settle_0 : List UInt8 := dkwX7_settle_0 ++ dktX7_settle_1
theorem dksX7_settle_0 : cX7_settle.data.toList.drop 0 = dktX7_settle_0 := by decide +kernel
theorem dksX7_settle_1 : cX7_settle.data.toList.drop 24 = dktX7_settle_1 := dk_seg dksX7_settle_0 24 rfl rfl
theorem dksX7_settle_2 : cX7_settle.data.toList.drop 48 = dktX7_settle_2 := dk_seg dksX7_settle_1 24 rfl rfl
theorem dksX7_settle_3 : cX7_settle.data.toList.drop 71 = dktX7_settle_3 := dk_seg dksX7_settle_2 23 rfl rfl
theorem dX7_settle_0 : decode cX7_settle 0 = .ok (.aload_n 0, 1) := dk_42 (dk_at dksX7_settle_0 0 rfl rfl)
theorem dX7_settle_1 : decode cX7_settle 1 = .ok (.iload_n 1, 1) := dk_27 (dk_at dksX7_settle_0 1 rfl rfl)
theorem dX7_settle_2 : decode cX7_settle 2 = .ok (.invokevirtual 163, 3) := dk_182 0 163 (dk_at dksX7_settle_0 2 rfl rfl)
theorem dX7_settle_5 : decode cX7_settle 5 = .ok (.ifCond .ne 6, 3) := dk_154 0 6 (dk_at dksX7_settle_0 5 rfl rfl)
theorem dX7_settle_8 : decode cX7_settle 8 = .ok (.bipush (-5), 2) := dk_16 251 (dk_at dksX7_settle_0 8 rfl rfl)
theorem dX7_settle_10 : decode cX7_settle 10 = .ok (.ireturn, 1) := dk_172 (dk_at dksX7_settle_0 10 rfl rfl)
theorem dX7_settle_11 : decode cX7_settle 11 = .ok (.iload_n 2, 1) := dk_28 (dk_at dksX7_settle_0 11 rfl rfl)
theorem dX7_settle_12 : decode cX7_settle 12 = .ok (.iconst 0, 1) := dk_3 (dk_at dksX7_settle_0 12 rfl rfl)
theorem dX7_settle_13 : decode cX7_settle 13 = .ok (.iconst 5, 1) := dk_8 (dk_at dksX7_settle_0 13 rfl rfl)
theorem dX7_settle_14 : decode cX7_settle 14 = .ok (.invokestatic 159, 3) := dk_184 0 159 (dk_at dksX7_settle_0 14 rfl rfl)
theorem dX7_settle_17 : decode cX7_settle 17 = .ok (.ifCond .ne 6, 3) := dk_154 0 6 (dk_at dksX7_settle_0 17 rfl rfl)
theorem dX7_settle_20 : decode cX7_settle 20 = .ok (.bipush (-7), 2) := dk_16 249 (dk_at dksX7_settle_0 20 rfl rfl)
theorem dX7_settle_22 : decode cX7_settle 22 = .ok (.ireturn, 1) := dk_172 (dk_at dksX7_settle_0 22 rfl rfl)
theorem dX7_settle_23 : decode cX7_settle 23 = .ok (.iconst 0, 1) := dk_3 (dk_at dksX7_settle_0 23 rfl rfl)
theorem dX7_settle_24 : decode cX7_settle 24 = .ok (.istore_n 3, 1) := dk_62 (dk_at dksX7_settle_1 0 rfl rfl)
theorem dX7_settle_25 : decode cX7_settle 25 = .ok (.aload_n 0, 1) := dk_42 (dk_at dksX7_settle_1 1 rfl rfl)
theorem dX7_settle_26 : decode cX7_settle 26 = .ok (.iload_n 1, 1) := dk_27 (dk_at dksX7_settle_1 2 rfl rfl)
theorem dX7_settle_27 : decode cX7_settle 27 = .ok (.invokevirtual 373, 3) := dk_182 1 117 (dk_at dksX7_settle_1 3 rfl rfl)
theorem dX7_settle_30 : decode cX7_settle 30 = .ok (.iload_n 3, 1) := dk_29 (dk_at dksX7_settle_1 6 rfl rfl)
theorem dX7_settle_31 : decode cX7_settle 31 = .ok (.iload_n 2, 1) := dk_28 (dk_at dksX7_settle_1 7 rfl rfl)
theorem dX7_settle_32 : decode cX7_settle 32 = .ok (.if_icmp .ge 50, 3) := dk_162 0 50 (dk_at dksX7_settle_1 8 rfl rfl)
theorem dX7_settle_35 : decode cX7_settle 35 = .ok (.aload_n 0, 1) := dk_42 (dk_at dksX7_settle_1 11 rfl rfl)
theorem dX7_settle_36 : decode cX7_settle 36 = .ok (.getfield 367, 3) := dk_180 1 111 (dk_at dksX7_settle_1 12 rfl rfl)
theorem dX7_settle_39 : decode cX7_settle 39 = .ok (.iconst (-1), 1) := dk_2 (dk_at dksX7_settle_1 15 rfl rfl)
theorem dX7_settle_40 : decode cX7_settle 40 = .ok (.if_icmp .eq 42, 3) := dk_159 0 42 (dk_at dksX7_settle_1 16 rfl rfl)
theorem dX7_settle_43 : decode cX7_settle 43 = .ok (.aload_n 0, 1) := dk_42 (dk_at dksX7_settle_1 19 rfl rfl)
theorem dX7_settle_44 : decode cX7_settle 44 = .ok (.bipush 8, 2) := dk_16 8 (dk_at dksX7_settle_1 20 rfl rfl)
theorem dX7_settle_46 : decode cX7_settle 46 = .ok (.iload_n 1, 1) := dk_27 (dk_at dksX7_settle_1 22 rfl rfl)
theorem dX7_settle_47 : decode cX7_settle 47 = .ok (.imul, 1) := dk_104 (dk_at dksX7_settle_1 23 rfl rfl)
theorem dX7_settle_48 : decode cX7_settle 48 = .ok (.aload_n 0, 1) := dk_42 (dk_at dksX7_settle_2 0 rfl rfl)
theorem dX7_settle_49 : decode cX7_settle 49 = .ok (.getfield 367, 3) := dk_180 1 111 (dk_at dksX7_settle_2 1 rfl rfl)
theorem dX7_settle_52 : decode cX7_settle 52 = .ok (.bipush 10, 2) := dk_16 10 (dk_at dksX7_settle_2 4 rfl rfl)
theorem dX7_settle_54 : decode cX7_settle 54 = .ok (.idiv, 1) := dk_108 (dk_at dksX7_settle_2 6 rfl rfl)
theorem dX7_settle_55 : decode cX7_settle 55 = .ok (.iadd, 1) := dk_96 (dk_at dksX7_settle_2 7 rfl rfl)
theorem dX7_settle_56 : decode cX7_settle 56 = .ok (.bipush 8, 2) := dk_16 8 (dk_at dksX7_settle_2 8 rfl rfl)
theorem dX7_settle_58 : decode cX7_settle 58 = .ok (.iload_n 1, 1) := dk_27 (dk_at dksX7_settle_2 10 rfl rfl)
theorem dX7_settle_59 : decode cX7_settle 59 = .ok (.imul, 1) := dk_104 (dk_at dksX7_settle_2 11 rfl rfl)
theorem dX7_settle_60 : decode cX7_settle 60 = .ok (.aload_n 0, 1) := dk_42 (dk_at dksX7_settle_2 12 rfl rfl)
theorem dX7_settle_61 : decode cX7_settle 61 = .ok (.getfield 367, 3) := dk_180 1 111 (dk_at dksX7_settle_2 13 rfl rfl)
theorem dX7_settle_64 : decode cX7_settle 64 = .ok (.bipush 10, 2) := dk_16 10 (dk_at dksX7_settle_2 16 rfl rfl)
theorem dX7_settle_66 : decode cX7_settle 66 = .ok (.irem, 1) := dk_112 (dk_at dksX7_settle_2 18 rfl rfl)
theorem dX7_settle_67 : decode cX7_settle 67 = .ok (.iadd, 1) := dk_96 (dk_at dksX7_settle_2 19 rfl rfl)
theorem dX7_settle_68 : decode cX7_settle 68 = .ok (.invokevirtual 359, 3) := dk_182 1 103 (dk_at dksX7_settle_2 20 rfl rfl)
theorem dX7_settle_71 : decode cX7_settle 71 = .ok (.iinc 3 1, 3) := dk_132 3 1 (dk_at dksX7_settle_3 0 rfl rfl)
theorem dX7_settle_74 : decode cX7_settle 74 = .ok (.aload_n 0, 1) := dk_42 (dk_at dksX7_settle_3 3 rfl rfl)
theorem dX7_settle_75 : decode cX7_settle 75 = .ok (.iload_n 1, 1) := dk_27 (dk_at dksX7_settle_3 4 rfl rfl)
theorem dX7_settle_76 : decode cX7_settle 76 = .ok (.invokevirtual 373, 3) := dk_182 1 117 (dk_at dksX7_settle_3 5 rfl rfl)
theorem dX7_settle_79 : decode cX7_settle 79 = .ok (.goto (-49), 3) := dk_167 255 207 (dk_at dksX7_settle_3 8 rfl rfl)
theorem dX7_settle_82 : decode cX7_settle 82 = .ok (.iload_n 3, 1) := dk_29 (dk_at dksX7_settle_3 11 rfl rfl)
theorem dX7_settle_83 : decode cX7_settle 83 = .ok (.ireturn, 1) := dk_172 (dk_at dksX7_settle_3 12 rfl rfl)
abbrev cX7_hat : ByteArray := prog_19_method_82_code
def yX7_hat : MethodName := ⟨RX7, "hat", "(III)I"⟩
def dkwX7_hat_2 : List UInt8 := [182, 1, 90, 54, 5, 42, 2, 181, 0, 65, 21, 4, 21, 5, 100, 172]
abbrev dktX7_hat_2 : List UInt8 := dkwX7_hat_2 ++ []
def dkwX7_hat_1 : List UInt8 := [172, 42, 182, 1, 90, 54, 4, 42, 16, 8, 27, 104, 28, 96, 181, 0, 65, 42, 29, 181, 0, 179, 42]
abbrev dktX7_hat_1 : List UInt8 := dkwX7_hat_1 ++ dktX7_hat_2
def dkwX7_hat_0 : List UInt8 := [42, 27, 28, 182, 0, 167, 154, 0, 6, 16, 251, 172, 29, 3, 16, 40, 184, 0, 159, 154, 0, 6, 16, 249]
abbrev dktX7_hat_0 : List UInt8 := dkwX7_hat_0 ++ dktX7_hat_1
theorem dksX7_hat_0 : cX7_hat.data.toList.drop 0 = dktX7_hat_0 := by decide +kernel
theorem dksX7_hat_1 : cX7_hat.data.toList.drop 24 = dktX7_hat_1 := dk_seg dksX7_hat_0 24 rfl rfl
theorem dksX7_hat_2 : cX7_hat.data.toList.drop 47 = dktX7_hat_2 := dk_seg dksX7_hat_1 23 rfl rfl
theorem dX7_hat_0 : decode cX7_hat 0 = .ok (.aload_n 0, 1) := dk_42 (dk_at dksX7_hat_0 0 rfl rfl)
theorem dX7_hat_1 : decode cX7_hat 1 = .ok (.iload_n 1, 1) := dk_27 (dk_at dksX7_hat_0 1 rfl rfl)
theorem dX7_hat_2 : decode cX7_hat 2 = .ok (.iload_n 2, 1) := dk_28 (dk_at dksX7_hat_0 2 rfl rfl)
theorem dX7_hat_3 : decode cX7_hat 3 = .ok (.invokevirtual 167, 3) := dk_182 0 167 (dk_at dksX7_hat_0 3 rfl rfl)
theorem dX7_hat_6 : decode cX7_hat 6 = .ok (.ifCond .ne 6, 3) := dk_154 0 6 (dk_at dksX7_hat_0 6 rfl rfl)
theorem dX7_hat_9 : decode cX7_hat 9 = .ok (.bipush (-5), 2) := dk_16 251 (dk_at dksX7_hat_0 9 rfl rfl)
theorem dX7_hat_11 : decode cX7_hat 11 = .ok (.ireturn, 1) := dk_172 (dk_at dksX7_hat_0 11 rfl rfl)
theorem dX7_hat_12 : decode cX7_hat 12 = .ok (.iload_n 3, 1) := dk_29 (dk_at dksX7_hat_0 12 rfl rfl)
theorem dX7_hat_13 : decode cX7_hat 13 = .ok (.iconst 0, 1) := dk_3 (dk_at dksX7_hat_0 13 rfl rfl)
theorem dX7_hat_14 : decode cX7_hat 14 = .ok (.bipush 40, 2) := dk_16 40 (dk_at dksX7_hat_0 14 rfl rfl)
theorem dX7_hat_16 : decode cX7_hat 16 = .ok (.invokestatic 159, 3) := dk_184 0 159 (dk_at dksX7_hat_0 16 rfl rfl)
theorem dX7_hat_19 : decode cX7_hat 19 = .ok (.ifCond .ne 6, 3) := dk_154 0 6 (dk_at dksX7_hat_0 19 rfl rfl)
theorem dX7_hat_22 : decode cX7_hat 22 = .ok (.bipush (-7), 2) := dk_16 249 (dk_at dksX7_hat_0 22 rfl rfl)
theorem dX7_hat_24 : decode cX7_hat 24 = .ok (.ireturn, 1) := dk_172 (dk_at dksX7_hat_1 0 rfl rfl)
theorem dX7_hat_25 : decode cX7_hat 25 = .ok (.aload_n 0, 1) := dk_42 (dk_at dksX7_hat_1 1 rfl rfl)
theorem dX7_hat_26 : decode cX7_hat 26 = .ok (.invokevirtual 346, 3) := dk_182 1 90 (dk_at dksX7_hat_1 2 rfl rfl)
theorem dX7_hat_29 : decode cX7_hat 29 = .ok (.istore 4, 2) := dk_54 4 (dk_at dksX7_hat_1 5 rfl rfl)
theorem dX7_hat_31 : decode cX7_hat 31 = .ok (.aload_n 0, 1) := dk_42 (dk_at dksX7_hat_1 7 rfl rfl)
theorem dX7_hat_32 : decode cX7_hat 32 = .ok (.bipush 8, 2) := dk_16 8 (dk_at dksX7_hat_1 8 rfl rfl)
theorem dX7_hat_34 : decode cX7_hat 34 = .ok (.iload_n 1, 1) := dk_27 (dk_at dksX7_hat_1 10 rfl rfl)
theorem dX7_hat_35 : decode cX7_hat 35 = .ok (.imul, 1) := dk_104 (dk_at dksX7_hat_1 11 rfl rfl)
theorem dX7_hat_36 : decode cX7_hat 36 = .ok (.iload_n 2, 1) := dk_28 (dk_at dksX7_hat_1 12 rfl rfl)
theorem dX7_hat_37 : decode cX7_hat 37 = .ok (.iadd, 1) := dk_96 (dk_at dksX7_hat_1 13 rfl rfl)
theorem dX7_hat_38 : decode cX7_hat 38 = .ok (.putfield 65, 3) := dk_181 0 65 (dk_at dksX7_hat_1 14 rfl rfl)
theorem dX7_hat_41 : decode cX7_hat 41 = .ok (.aload_n 0, 1) := dk_42 (dk_at dksX7_hat_1 17 rfl rfl)
theorem dX7_hat_42 : decode cX7_hat 42 = .ok (.iload_n 3, 1) := dk_29 (dk_at dksX7_hat_1 18 rfl rfl)
theorem dX7_hat_43 : decode cX7_hat 43 = .ok (.putfield 179, 3) := dk_181 0 179 (dk_at dksX7_hat_1 19 rfl rfl)
theorem dX7_hat_46 : decode cX7_hat 46 = .ok (.aload_n 0, 1) := dk_42 (dk_at dksX7_hat_1 22 rfl rfl)
theorem dX7_hat_47 : decode cX7_hat 47 = .ok (.invokevirtual 346, 3) := dk_182 1 90 (dk_at dksX7_hat_2 0 rfl rfl)
theorem dX7_hat_50 : decode cX7_hat 50 = .ok (.istore 5, 2) := dk_54 5 (dk_at dksX7_hat_2 3 rfl rfl)
theorem dX7_hat_52 : decode cX7_hat 52 = .ok (.aload_n 0, 1) := dk_42 (dk_at dksX7_hat_2 5 rfl rfl)
theorem dX7_hat_53 : decode cX7_hat 53 = .ok (.iconst (-1), 1) := dk_2 (dk_at dksX7_hat_2 6 rfl rfl)
theorem dX7_hat_54 : decode cX7_hat 54 = .ok (.putfield 65, 3) := dk_181 0 65 (dk_at dksX7_hat_2 7 rfl rfl)
theorem dX7_hat_57 : decode cX7_hat 57 = .ok (.iload 4, 2) := dk_21 4 (dk_at dksX7_hat_2 10 rfl rfl)
theorem dX7_hat_59 : decode cX7_hat 59 = .ok (.iload 5, 2) := dk_21 5 (dk_at dksX7_hat_2 12 rfl rfl)
theorem dX7_hat_61 : decode cX7_hat 61 = .ok (.isub, 1) := dk_100 (dk_at dksX7_hat_2 14 rfl rfl)
theorem dX7_hat_62 : decode cX7_hat 62 = .ok (.ireturn, 1) := dk_172 (dk_at dksX7_hat_2 15 rfl rfl)
abbrev cX7_least : ByteArray := prog_19_method_83_code
def yX7_least : MethodName := ⟨RX7, "least", "(I)I"⟩
def dkwX7_least_3 : List UInt8 := [167, 255, 218, 42, 180, 0, 46, 27, 28, 79, 29, 172]
abbrev dktX7_least_3 : List UInt8 := dkwX7_least_3 ++ []
def dkwX7_least_2 : List UInt8 := [182, 1, 90, 54, 6, 21, 6, 21, 4, 164, 0, 10, 21, 5, 62, 21, 6, 54, 4, 132, 5, 1]
abbrev dktX7_least_2 : List UInt8 := dkwX7_least_2 ++ dktX7_least_3
def dkwX7_least_1 : List UInt8 := [3, 62, 2, 54, 4, 3, 54, 5, 21, 5, 16, 20, 163, 0, 37, 42, 180, 0, 46, 27, 21, 5, 79, 42]
abbrev dktX7_least_1 : List UInt8 := dkwX7_least_1 ++ dktX7_least_2
def dkwX7_least_0 : List UInt8 := [27, 3, 42, 180, 0, 200, 4, 100, 184, 0, 159, 154, 0, 6, 16, 251, 172, 42, 180, 0, 46, 27, 46, 61]
abbrev dktX7_least_0 : List UInt8 := dkwX7_least_0 ++ dktX7_least_1
theorem dksX7_least_0 : cX7_least.data.toList.drop 0 = dktX7_least_0 := by decide +kernel
theorem dksX7_least_1 : cX7_least.data.toList.drop 24 = dktX7_least_1 := dk_seg dksX7_least_0 24 rfl rfl
theorem dksX7_least_2 : cX7_least.data.toList.drop 48 = dktX7_least_2 := dk_seg dksX7_least_1 24 rfl rfl
theorem dksX7_least_3 : cX7_least.data.toList.drop 70 = dktX7_least_3 := dk_seg dksX7_least_2 22 rfl rfl
theorem dX7_least_0 : decode cX7_least 0 = .ok (.iload_n 1, 1) := dk_27 (dk_at dksX7_least_0 0 rfl rfl)
theorem dX7_least_1 : decode cX7_least 1 = .ok (.iconst 0, 1) := dk_3 (dk_at dksX7_least_0 1 rfl rfl)
theorem dX7_least_2 : decode cX7_least 2 = .ok (.aload_n 0, 1) := dk_42 (dk_at dksX7_least_0 2 rfl rfl)
theorem dX7_least_3 : decode cX7_least 3 = .ok (.getfield 200, 3) := dk_180 0 200 (dk_at dksX7_least_0 3 rfl rfl)
theorem dX7_least_6 : decode cX7_least 6 = .ok (.iconst 1, 1) := dk_4 (dk_at dksX7_least_0 6 rfl rfl)
theorem dX7_least_7 : decode cX7_least 7 = .ok (.isub, 1) := dk_100 (dk_at dksX7_least_0 7 rfl rfl)
theorem dX7_least_8 : decode cX7_least 8 = .ok (.invokestatic 159, 3) := dk_184 0 159 (dk_at dksX7_least_0 8 rfl rfl)
theorem dX7_least_11 : decode cX7_least 11 = .ok (.ifCond .ne 6, 3) := dk_154 0 6 (dk_at dksX7_least_0 11 rfl rfl)
theorem dX7_least_14 : decode cX7_least 14 = .ok (.bipush (-5), 2) := dk_16 251 (dk_at dksX7_least_0 14 rfl rfl)
theorem dX7_least_16 : decode cX7_least 16 = .ok (.ireturn, 1) := dk_172 (dk_at dksX7_least_0 16 rfl rfl)
theorem dX7_least_17 : decode cX7_least 17 = .ok (.aload_n 0, 1) := dk_42 (dk_at dksX7_least_0 17 rfl rfl)
theorem dX7_least_18 : decode cX7_least 18 = .ok (.getfield 46, 3) := dk_180 0 46 (dk_at dksX7_least_0 18 rfl rfl)
theorem dX7_least_21 : decode cX7_least 21 = .ok (.iload_n 1, 1) := dk_27 (dk_at dksX7_least_0 21 rfl rfl)
theorem dX7_least_22 : decode cX7_least 22 = .ok (.iaload, 1) := dk_46 (dk_at dksX7_least_0 22 rfl rfl)
theorem dX7_least_23 : decode cX7_least 23 = .ok (.istore_n 2, 1) := dk_61 (dk_at dksX7_least_0 23 rfl rfl)
theorem dX7_least_24 : decode cX7_least 24 = .ok (.iconst 0, 1) := dk_3 (dk_at dksX7_least_1 0 rfl rfl)
theorem dX7_least_25 : decode cX7_least 25 = .ok (.istore_n 3, 1) := dk_62 (dk_at dksX7_least_1 1 rfl rfl)
theorem dX7_least_26 : decode cX7_least 26 = .ok (.iconst (-1), 1) := dk_2 (dk_at dksX7_least_1 2 rfl rfl)
theorem dX7_least_27 : decode cX7_least 27 = .ok (.istore 4, 2) := dk_54 4 (dk_at dksX7_least_1 3 rfl rfl)
theorem dX7_least_29 : decode cX7_least 29 = .ok (.iconst 0, 1) := dk_3 (dk_at dksX7_least_1 5 rfl rfl)
theorem dX7_least_30 : decode cX7_least 30 = .ok (.istore 5, 2) := dk_54 5 (dk_at dksX7_least_1 6 rfl rfl)
theorem dX7_least_32 : decode cX7_least 32 = .ok (.iload 5, 2) := dk_21 5 (dk_at dksX7_least_1 8 rfl rfl)
theorem dX7_least_34 : decode cX7_least 34 = .ok (.bipush 20, 2) := dk_16 20 (dk_at dksX7_least_1 10 rfl rfl)
theorem dX7_least_36 : decode cX7_least 36 = .ok (.if_icmp .gt 37, 3) := dk_163 0 37 (dk_at dksX7_least_1 12 rfl rfl)
theorem dX7_least_39 : decode cX7_least 39 = .ok (.aload_n 0, 1) := dk_42 (dk_at dksX7_least_1 15 rfl rfl)
theorem dX7_least_40 : decode cX7_least 40 = .ok (.getfield 46, 3) := dk_180 0 46 (dk_at dksX7_least_1 16 rfl rfl)
theorem dX7_least_43 : decode cX7_least 43 = .ok (.iload_n 1, 1) := dk_27 (dk_at dksX7_least_1 19 rfl rfl)
theorem dX7_least_44 : decode cX7_least 44 = .ok (.iload 5, 2) := dk_21 5 (dk_at dksX7_least_1 20 rfl rfl)
theorem dX7_least_46 : decode cX7_least 46 = .ok (.iastore, 1) := dk_79 (dk_at dksX7_least_1 22 rfl rfl)
theorem dX7_least_47 : decode cX7_least 47 = .ok (.aload_n 0, 1) := dk_42 (dk_at dksX7_least_1 23 rfl rfl)
theorem dX7_least_48 : decode cX7_least 48 = .ok (.invokevirtual 346, 3) := dk_182 1 90 (dk_at dksX7_least_2 0 rfl rfl)
theorem dX7_least_51 : decode cX7_least 51 = .ok (.istore 6, 2) := dk_54 6 (dk_at dksX7_least_2 3 rfl rfl)
theorem dX7_least_53 : decode cX7_least 53 = .ok (.iload 6, 2) := dk_21 6 (dk_at dksX7_least_2 5 rfl rfl)
theorem dX7_least_55 : decode cX7_least 55 = .ok (.iload 4, 2) := dk_21 4 (dk_at dksX7_least_2 7 rfl rfl)
theorem dX7_least_57 : decode cX7_least 57 = .ok (.if_icmp .le 10, 3) := dk_164 0 10 (dk_at dksX7_least_2 9 rfl rfl)
theorem dX7_least_60 : decode cX7_least 60 = .ok (.iload 5, 2) := dk_21 5 (dk_at dksX7_least_2 12 rfl rfl)
theorem dX7_least_62 : decode cX7_least 62 = .ok (.istore_n 3, 1) := dk_62 (dk_at dksX7_least_2 14 rfl rfl)
theorem dX7_least_63 : decode cX7_least 63 = .ok (.iload 6, 2) := dk_21 6 (dk_at dksX7_least_2 15 rfl rfl)
theorem dX7_least_65 : decode cX7_least 65 = .ok (.istore 4, 2) := dk_54 4 (dk_at dksX7_least_2 17 rfl rfl)
theorem dX7_least_67 : decode cX7_least 67 = .ok (.iinc 5 1, 3) := dk_132 5 1 (dk_at dksX7_least_2 19 rfl rfl)
theorem dX7_least_70 : decode cX7_least 70 = .ok (.goto (-38), 3) := dk_167 255 218 (dk_at dksX7_least_3 0 rfl rfl)
theorem dX7_least_73 : decode cX7_least 73 = .ok (.aload_n 0, 1) := dk_42 (dk_at dksX7_least_3 3 rfl rfl)
theorem dX7_least_74 : decode cX7_least 74 = .ok (.getfield 46, 3) := dk_180 0 46 (dk_at dksX7_least_3 4 rfl rfl)
theorem dX7_least_77 : decode cX7_least 77 = .ok (.iload_n 1, 1) := dk_27 (dk_at dksX7_least_3 7 rfl rfl)
theorem dX7_least_78 : decode cX7_least 78 = .ok (.iload_n 2, 1) := dk_28 (dk_at dksX7_least_3 8 rfl rfl)
theorem dX7_least_79 : decode cX7_least 79 = .ok (.iastore, 1) := dk_79 (dk_at dksX7_least_3 9 rfl rfl)
theorem dX7_least_80 : decode cX7_least 80 = .ok (.iload_n 3, 1) := dk_29 (dk_at dksX7_least_3 10 rfl rfl)
theorem dX7_least_81 : decode cX7_least 81 = .ok (.ireturn, 1) := dk_172 (dk_at dksX7_least_3 11 rfl rfl)
abbrev cX7_sell : ByteArray := prog_19_method_84_code
def yX7_sell : MethodName := ⟨RX7, "sell", "(I)I"⟩
def dkwX7_sell_6 : List UInt8 := [27, 154, 0, 7, 28, 167, 0, 4, 29, 172]
abbrev dktX7_sell_6 : List UInt8 := dkwX7_sell_6 ++ []
def dkwX7_sell_5 : List UInt8 := [21, 5, 21, 4, 104, 29, 161, 0, 12, 21, 5, 61, 21, 5, 21, 4, 104, 62, 132, 5, 255, 167, 255, 213]
abbrev dktX7_sell_5 : List UInt8 := dkwX7_sell_5 ++ dktX7_sell_6
def dkwX7_sell_4 : List UInt8 := [54, 5, 21, 5, 158, 0, 44, 21, 4, 42, 180, 0, 147, 21, 5, 46, 96, 54, 4, 21, 4, 158, 0, 21]
abbrev dktX7_sell_4 : List UInt8 := dkwX7_sell_4 ++ dktX7_sell_5
def dkwX7_sell_3 : List UInt8 := [79, 132, 3, 1, 167, 255, 228, 132, 2, 1, 167, 255, 212, 3, 61, 3, 62, 3, 54, 4, 17, 3, 231]
abbrev dktX7_sell_3 : List UInt8 := dkwX7_sell_3 ++ dktX7_sell_4
def dkwX7_sell_2 : List UInt8 := [29, 42, 180, 0, 22, 28, 46, 162, 0, 24, 42, 180, 0, 147, 42, 28, 29, 182, 1, 48, 92, 46, 4, 96]
abbrev dktX7_sell_2 : List UInt8 := dkwX7_sell_2 ++ dktX7_sell_3
def dkwX7_sell_1 : List UInt8 := [180, 0, 147, 28, 3, 79, 132, 2, 1, 167, 255, 239, 3, 61, 28, 42, 180, 0, 156, 162, 0, 42, 3, 62]
abbrev dktX7_sell_1 : List UInt8 := dkwX7_sell_1 ++ dktX7_sell_2
def dkwX7_sell_0 : List UInt8 := [27, 3, 4, 184, 0, 159, 154, 0, 6, 16, 254, 172, 3, 61, 28, 17, 3, 233, 162, 0, 16, 42]
abbrev dktX7_sell_0 : List UInt8 := dkwX7_sell_0 ++ dktX7_sell_1
theorem dksX7_sell_0 : cX7_sell.data.toList.drop 0 = dktX7_sell_0 := by decide +kernel
theorem dksX7_sell_1 : cX7_sell.data.toList.drop 22 = dktX7_sell_1 := dk_seg dksX7_sell_0 22 rfl rfl
theorem dksX7_sell_2 : cX7_sell.data.toList.drop 46 = dktX7_sell_2 := dk_seg dksX7_sell_1 24 rfl rfl
theorem dksX7_sell_3 : cX7_sell.data.toList.drop 70 = dktX7_sell_3 := dk_seg dksX7_sell_2 24 rfl rfl
theorem dksX7_sell_4 : cX7_sell.data.toList.drop 93 = dktX7_sell_4 := dk_seg dksX7_sell_3 23 rfl rfl
theorem dksX7_sell_5 : cX7_sell.data.toList.drop 117 = dktX7_sell_5 := dk_seg dksX7_sell_4 24 rfl rfl
theorem dksX7_sell_6 : cX7_sell.data.toList.drop 141 = dktX7_sell_6 := dk_seg dksX7_sell_5 24 rfl rfl
theorem dX7_sell_0 : decode cX7_sell 0 = .ok (.iload_n 1, 1) := dk_27 (dk_at dksX7_sell_0 0 rfl rfl)
theorem dX7_sell_1 : decode cX7_sell 1 = .ok (.iconst 0, 1) := dk_3 (dk_at dksX7_sell_0 1 rfl rfl)
theorem dX7_sell_2 : decode cX7_sell 2 = .ok (.iconst 1, 1) := dk_4 (dk_at dksX7_sell_0 2 rfl rfl)
theorem dX7_sell_3 : decode cX7_sell 3 = .ok (.invokestatic 159, 3) := dk_184 0 159 (dk_at dksX7_sell_0 3 rfl rfl)
theorem dX7_sell_6 : decode cX7_sell 6 = .ok (.ifCond .ne 6, 3) := dk_154 0 6 (dk_at dksX7_sell_0 6 rfl rfl)
theorem dX7_sell_9 : decode cX7_sell 9 = .ok (.bipush (-2), 2) := dk_16 254 (dk_at dksX7_sell_0 9 rfl rfl)
theorem dX7_sell_11 : decode cX7_sell 11 = .ok (.ireturn, 1) := dk_172 (dk_at dksX7_sell_0 11 rfl rfl)
theorem dX7_sell_12 : decode cX7_sell 12 = .ok (.iconst 0, 1) := dk_3 (dk_at dksX7_sell_0 12 rfl rfl)
theorem dX7_sell_13 : decode cX7_sell 13 = .ok (.istore_n 2, 1) := dk_61 (dk_at dksX7_sell_0 13 rfl rfl)
theorem dX7_sell_14 : decode cX7_sell 14 = .ok (.iload_n 2, 1) := dk_28 (dk_at dksX7_sell_0 14 rfl rfl)
theorem dX7_sell_15 : decode cX7_sell 15 = .ok (.sipush 1001, 3) := dk_17 3 233 (dk_at dksX7_sell_0 15 rfl rfl)
theorem dX7_sell_18 : decode cX7_sell 18 = .ok (.if_icmp .ge 16, 3) := dk_162 0 16 (dk_at dksX7_sell_0 18 rfl rfl)
theorem dX7_sell_21 : decode cX7_sell 21 = .ok (.aload_n 0, 1) := dk_42 (dk_at dksX7_sell_0 21 rfl rfl)
theorem dX7_sell_22 : decode cX7_sell 22 = .ok (.getfield 147, 3) := dk_180 0 147 (dk_at dksX7_sell_1 0 rfl rfl)
theorem dX7_sell_25 : decode cX7_sell 25 = .ok (.iload_n 2, 1) := dk_28 (dk_at dksX7_sell_1 3 rfl rfl)
theorem dX7_sell_26 : decode cX7_sell 26 = .ok (.iconst 0, 1) := dk_3 (dk_at dksX7_sell_1 4 rfl rfl)
theorem dX7_sell_27 : decode cX7_sell 27 = .ok (.iastore, 1) := dk_79 (dk_at dksX7_sell_1 5 rfl rfl)
theorem dX7_sell_28 : decode cX7_sell 28 = .ok (.iinc 2 1, 3) := dk_132 2 1 (dk_at dksX7_sell_1 6 rfl rfl)
theorem dX7_sell_31 : decode cX7_sell 31 = .ok (.goto (-17), 3) := dk_167 255 239 (dk_at dksX7_sell_1 9 rfl rfl)
theorem dX7_sell_34 : decode cX7_sell 34 = .ok (.iconst 0, 1) := dk_3 (dk_at dksX7_sell_1 12 rfl rfl)
theorem dX7_sell_35 : decode cX7_sell 35 = .ok (.istore_n 2, 1) := dk_61 (dk_at dksX7_sell_1 13 rfl rfl)
theorem dX7_sell_36 : decode cX7_sell 36 = .ok (.iload_n 2, 1) := dk_28 (dk_at dksX7_sell_1 14 rfl rfl)
theorem dX7_sell_37 : decode cX7_sell 37 = .ok (.aload_n 0, 1) := dk_42 (dk_at dksX7_sell_1 15 rfl rfl)
theorem dX7_sell_38 : decode cX7_sell 38 = .ok (.getfield 156, 3) := dk_180 0 156 (dk_at dksX7_sell_1 16 rfl rfl)
theorem dX7_sell_41 : decode cX7_sell 41 = .ok (.if_icmp .ge 42, 3) := dk_162 0 42 (dk_at dksX7_sell_1 19 rfl rfl)
theorem dX7_sell_44 : decode cX7_sell 44 = .ok (.iconst 0, 1) := dk_3 (dk_at dksX7_sell_1 22 rfl rfl)
theorem dX7_sell_45 : decode cX7_sell 45 = .ok (.istore_n 3, 1) := dk_62 (dk_at dksX7_sell_1 23 rfl rfl)
theorem dX7_sell_46 : decode cX7_sell 46 = .ok (.iload_n 3, 1) := dk_29 (dk_at dksX7_sell_2 0 rfl rfl)
theorem dX7_sell_47 : decode cX7_sell 47 = .ok (.aload_n 0, 1) := dk_42 (dk_at dksX7_sell_2 1 rfl rfl)
theorem dX7_sell_48 : decode cX7_sell 48 = .ok (.getfield 22, 3) := dk_180 0 22 (dk_at dksX7_sell_2 2 rfl rfl)
theorem dX7_sell_51 : decode cX7_sell 51 = .ok (.iload_n 2, 1) := dk_28 (dk_at dksX7_sell_2 5 rfl rfl)
theorem dX7_sell_52 : decode cX7_sell 52 = .ok (.iaload, 1) := dk_46 (dk_at dksX7_sell_2 6 rfl rfl)
theorem dX7_sell_53 : decode cX7_sell 53 = .ok (.if_icmp .ge 24, 3) := dk_162 0 24 (dk_at dksX7_sell_2 7 rfl rfl)
theorem dX7_sell_56 : decode cX7_sell 56 = .ok (.aload_n 0, 1) := dk_42 (dk_at dksX7_sell_2 10 rfl rfl)
theorem dX7_sell_57 : decode cX7_sell 57 = .ok (.getfield 147, 3) := dk_180 0 147 (dk_at dksX7_sell_2 11 rfl rfl)
theorem dX7_sell_60 : decode cX7_sell 60 = .ok (.aload_n 0, 1) := dk_42 (dk_at dksX7_sell_2 14 rfl rfl)
theorem dX7_sell_61 : decode cX7_sell 61 = .ok (.iload_n 2, 1) := dk_28 (dk_at dksX7_sell_2 15 rfl rfl)
theorem dX7_sell_62 : decode cX7_sell 62 = .ok (.iload_n 3, 1) := dk_29 (dk_at dksX7_sell_2 16 rfl rfl)
theorem dX7_sell_63 : decode cX7_sell 63 = .ok (.invokevirtual 304, 3) := dk_182 1 48 (dk_at dksX7_sell_2 17 rfl rfl)
theorem dX7_sell_66 : decode cX7_sell 66 = .ok (.dup2, 1) := dk_92 (dk_at dksX7_sell_2 20 rfl rfl)
theorem dX7_sell_67 : decode cX7_sell 67 = .ok (.iaload, 1) := dk_46 (dk_at dksX7_sell_2 21 rfl rfl)
theorem dX7_sell_68 : decode cX7_sell 68 = .ok (.iconst 1, 1) := dk_4 (dk_at dksX7_sell_2 22 rfl rfl)
theorem dX7_sell_69 : decode cX7_sell 69 = .ok (.iadd, 1) := dk_96 (dk_at dksX7_sell_2 23 rfl rfl)
theorem dX7_sell_70 : decode cX7_sell 70 = .ok (.iastore, 1) := dk_79 (dk_at dksX7_sell_3 0 rfl rfl)
theorem dX7_sell_71 : decode cX7_sell 71 = .ok (.iinc 3 1, 3) := dk_132 3 1 (dk_at dksX7_sell_3 1 rfl rfl)
theorem dX7_sell_74 : decode cX7_sell 74 = .ok (.goto (-28), 3) := dk_167 255 228 (dk_at dksX7_sell_3 4 rfl rfl)
theorem dX7_sell_77 : decode cX7_sell 77 = .ok (.iinc 2 1, 3) := dk_132 2 1 (dk_at dksX7_sell_3 7 rfl rfl)
theorem dX7_sell_80 : decode cX7_sell 80 = .ok (.goto (-44), 3) := dk_167 255 212 (dk_at dksX7_sell_3 10 rfl rfl)
theorem dX7_sell_83 : decode cX7_sell 83 = .ok (.iconst 0, 1) := dk_3 (dk_at dksX7_sell_3 13 rfl rfl)
theorem dX7_sell_84 : decode cX7_sell 84 = .ok (.istore_n 2, 1) := dk_61 (dk_at dksX7_sell_3 14 rfl rfl)
theorem dX7_sell_85 : decode cX7_sell 85 = .ok (.iconst 0, 1) := dk_3 (dk_at dksX7_sell_3 15 rfl rfl)
theorem dX7_sell_86 : decode cX7_sell 86 = .ok (.istore_n 3, 1) := dk_62 (dk_at dksX7_sell_3 16 rfl rfl)
theorem dX7_sell_87 : decode cX7_sell 87 = .ok (.iconst 0, 1) := dk_3 (dk_at dksX7_sell_3 17 rfl rfl)
theorem dX7_sell_88 : decode cX7_sell 88 = .ok (.istore 4, 2) := dk_54 4 (dk_at dksX7_sell_3 18 rfl rfl)
theorem dX7_sell_90 : decode cX7_sell 90 = .ok (.sipush 999, 3) := dk_17 3 231 (dk_at dksX7_sell_3 20 rfl rfl)
theorem dX7_sell_93 : decode cX7_sell 93 = .ok (.istore 5, 2) := dk_54 5 (dk_at dksX7_sell_4 0 rfl rfl)
theorem dX7_sell_95 : decode cX7_sell 95 = .ok (.iload 5, 2) := dk_21 5 (dk_at dksX7_sell_4 2 rfl rfl)
theorem dX7_sell_97 : decode cX7_sell 97 = .ok (.ifCond .le 44, 3) := dk_158 0 44 (dk_at dksX7_sell_4 4 rfl rfl)
theorem dX7_sell_100 : decode cX7_sell 100 = .ok (.iload 4, 2) := dk_21 4 (dk_at dksX7_sell_4 7 rfl rfl)
theorem dX7_sell_102 : decode cX7_sell 102 = .ok (.aload_n 0, 1) := dk_42 (dk_at dksX7_sell_4 9 rfl rfl)
theorem dX7_sell_103 : decode cX7_sell 103 = .ok (.getfield 147, 3) := dk_180 0 147 (dk_at dksX7_sell_4 10 rfl rfl)
theorem dX7_sell_106 : decode cX7_sell 106 = .ok (.iload 5, 2) := dk_21 5 (dk_at dksX7_sell_4 13 rfl rfl)
theorem dX7_sell_108 : decode cX7_sell 108 = .ok (.iaload, 1) := dk_46 (dk_at dksX7_sell_4 15 rfl rfl)
theorem dX7_sell_109 : decode cX7_sell 109 = .ok (.iadd, 1) := dk_96 (dk_at dksX7_sell_4 16 rfl rfl)
theorem dX7_sell_110 : decode cX7_sell 110 = .ok (.istore 4, 2) := dk_54 4 (dk_at dksX7_sell_4 17 rfl rfl)
theorem dX7_sell_112 : decode cX7_sell 112 = .ok (.iload 4, 2) := dk_21 4 (dk_at dksX7_sell_4 19 rfl rfl)
theorem dX7_sell_114 : decode cX7_sell 114 = .ok (.ifCond .le 21, 3) := dk_158 0 21 (dk_at dksX7_sell_4 21 rfl rfl)
theorem dX7_sell_117 : decode cX7_sell 117 = .ok (.iload 5, 2) := dk_21 5 (dk_at dksX7_sell_5 0 rfl rfl)
theorem dX7_sell_119 : decode cX7_sell 119 = .ok (.iload 4, 2) := dk_21 4 (dk_at dksX7_sell_5 2 rfl rfl)
theorem dX7_sell_121 : decode cX7_sell 121 = .ok (.imul, 1) := dk_104 (dk_at dksX7_sell_5 4 rfl rfl)
theorem dX7_sell_122 : decode cX7_sell 122 = .ok (.iload_n 3, 1) := dk_29 (dk_at dksX7_sell_5 5 rfl rfl)
theorem dX7_sell_123 : decode cX7_sell 123 = .ok (.if_icmp .lt 12, 3) := dk_161 0 12 (dk_at dksX7_sell_5 6 rfl rfl)
theorem dX7_sell_126 : decode cX7_sell 126 = .ok (.iload 5, 2) := dk_21 5 (dk_at dksX7_sell_5 9 rfl rfl)
theorem dX7_sell_128 : decode cX7_sell 128 = .ok (.istore_n 2, 1) := dk_61 (dk_at dksX7_sell_5 11 rfl rfl)
theorem dX7_sell_129 : decode cX7_sell 129 = .ok (.iload 5, 2) := dk_21 5 (dk_at dksX7_sell_5 12 rfl rfl)
theorem dX7_sell_131 : decode cX7_sell 131 = .ok (.iload 4, 2) := dk_21 4 (dk_at dksX7_sell_5 14 rfl rfl)
theorem dX7_sell_133 : decode cX7_sell 133 = .ok (.imul, 1) := dk_104 (dk_at dksX7_sell_5 16 rfl rfl)
theorem dX7_sell_134 : decode cX7_sell 134 = .ok (.istore_n 3, 1) := dk_62 (dk_at dksX7_sell_5 17 rfl rfl)
theorem dX7_sell_135 : decode cX7_sell 135 = .ok (.iinc 5 (-1), 3) := dk_132 5 255 (dk_at dksX7_sell_5 18 rfl rfl)
theorem dX7_sell_138 : decode cX7_sell 138 = .ok (.goto (-43), 3) := dk_167 255 213 (dk_at dksX7_sell_5 21 rfl rfl)
theorem dX7_sell_141 : decode cX7_sell 141 = .ok (.iload_n 1, 1) := dk_27 (dk_at dksX7_sell_6 0 rfl rfl)
theorem dX7_sell_142 : decode cX7_sell 142 = .ok (.ifCond .ne 7, 3) := dk_154 0 7 (dk_at dksX7_sell_6 1 rfl rfl)
theorem dX7_sell_145 : decode cX7_sell 145 = .ok (.iload_n 2, 1) := dk_28 (dk_at dksX7_sell_6 4 rfl rfl)
theorem dX7_sell_146 : decode cX7_sell 146 = .ok (.goto 4, 3) := dk_167 0 4 (dk_at dksX7_sell_6 5 rfl rfl)
theorem dX7_sell_149 : decode cX7_sell 149 = .ok (.iload_n 3, 1) := dk_29 (dk_at dksX7_sell_6 8 rfl rfl)
theorem dX7_sell_150 : decode cX7_sell 150 = .ok (.ireturn, 1) := dk_172 (dk_at dksX7_sell_6 9 rfl rfl)
abbrev cX7_flat : ByteArray := prog_19_method_85_code
def yX7_flat : MethodName := ⟨RX7, "flat", "()I"⟩
def dkwX7_flat_1 : List UInt8 := [182, 1, 51, 153, 0, 7, 4, 167, 0, 4, 3, 96, 60, 132, 2, 1, 167, 255, 220, 27, 172]
abbrev dktX7_flat_1 : List UInt8 := dkwX7_flat_1 ++ []
def dkwX7_flat_0 : List UInt8 := [3, 60, 3, 61, 28, 42, 180, 0, 156, 162, 0, 34, 27, 42, 180, 0, 28, 28, 46, 158, 0, 15, 42, 28]
abbrev dktX7_flat_0 : List UInt8 := dkwX7_flat_0 ++ dktX7_flat_1
theorem dksX7_flat_0 : cX7_flat.data.toList.drop 0 = dktX7_flat_0 := by decide +kernel
theorem dksX7_flat_1 : cX7_flat.data.toList.drop 24 = dktX7_flat_1 := dk_seg dksX7_flat_0 24 rfl rfl
theorem dX7_flat_0 : decode cX7_flat 0 = .ok (.iconst 0, 1) := dk_3 (dk_at dksX7_flat_0 0 rfl rfl)
theorem dX7_flat_1 : decode cX7_flat 1 = .ok (.istore_n 1, 1) := dk_60 (dk_at dksX7_flat_0 1 rfl rfl)
theorem dX7_flat_2 : decode cX7_flat 2 = .ok (.iconst 0, 1) := dk_3 (dk_at dksX7_flat_0 2 rfl rfl)
theorem dX7_flat_3 : decode cX7_flat 3 = .ok (.istore_n 2, 1) := dk_61 (dk_at dksX7_flat_0 3 rfl rfl)
theorem dX7_flat_4 : decode cX7_flat 4 = .ok (.iload_n 2, 1) := dk_28 (dk_at dksX7_flat_0 4 rfl rfl)
theorem dX7_flat_5 : decode cX7_flat 5 = .ok (.aload_n 0, 1) := dk_42 (dk_at dksX7_flat_0 5 rfl rfl)
theorem dX7_flat_6 : decode cX7_flat 6 = .ok (.getfield 156, 3) := dk_180 0 156 (dk_at dksX7_flat_0 6 rfl rfl)
theorem dX7_flat_9 : decode cX7_flat 9 = .ok (.if_icmp .ge 34, 3) := dk_162 0 34 (dk_at dksX7_flat_0 9 rfl rfl)
theorem dX7_flat_12 : decode cX7_flat 12 = .ok (.iload_n 1, 1) := dk_27 (dk_at dksX7_flat_0 12 rfl rfl)
theorem dX7_flat_13 : decode cX7_flat 13 = .ok (.aload_n 0, 1) := dk_42 (dk_at dksX7_flat_0 13 rfl rfl)
theorem dX7_flat_14 : decode cX7_flat 14 = .ok (.getfield 28, 3) := dk_180 0 28 (dk_at dksX7_flat_0 14 rfl rfl)
theorem dX7_flat_17 : decode cX7_flat 17 = .ok (.iload_n 2, 1) := dk_28 (dk_at dksX7_flat_0 17 rfl rfl)
theorem dX7_flat_18 : decode cX7_flat 18 = .ok (.iaload, 1) := dk_46 (dk_at dksX7_flat_0 18 rfl rfl)
theorem dX7_flat_19 : decode cX7_flat 19 = .ok (.ifCond .le 15, 3) := dk_158 0 15 (dk_at dksX7_flat_0 19 rfl rfl)
theorem dX7_flat_22 : decode cX7_flat 22 = .ok (.aload_n 0, 1) := dk_42 (dk_at dksX7_flat_0 22 rfl rfl)
theorem dX7_flat_23 : decode cX7_flat 23 = .ok (.iload_n 2, 1) := dk_28 (dk_at dksX7_flat_0 23 rfl rfl)
theorem dX7_flat_24 : decode cX7_flat 24 = .ok (.invokevirtual 307, 3) := dk_182 1 51 (dk_at dksX7_flat_1 0 rfl rfl)
theorem dX7_flat_27 : decode cX7_flat 27 = .ok (.ifCond .eq 7, 3) := dk_153 0 7 (dk_at dksX7_flat_1 3 rfl rfl)
theorem dX7_flat_30 : decode cX7_flat 30 = .ok (.iconst 1, 1) := dk_4 (dk_at dksX7_flat_1 6 rfl rfl)
theorem dX7_flat_31 : decode cX7_flat 31 = .ok (.goto 4, 3) := dk_167 0 4 (dk_at dksX7_flat_1 7 rfl rfl)
theorem dX7_flat_34 : decode cX7_flat 34 = .ok (.iconst 0, 1) := dk_3 (dk_at dksX7_flat_1 10 rfl rfl)
theorem dX7_flat_35 : decode cX7_flat 35 = .ok (.iadd, 1) := dk_96 (dk_at dksX7_flat_1 11 rfl rfl)
theorem dX7_flat_36 : decode cX7_flat 36 = .ok (.istore_n 1, 1) := dk_60 (dk_at dksX7_flat_1 12 rfl rfl)
theorem dX7_flat_37 : decode cX7_flat 37 = .ok (.iinc 2 1, 3) := dk_132 2 1 (dk_at dksX7_flat_1 13 rfl rfl)
theorem dX7_flat_40 : decode cX7_flat 40 = .ok (.goto (-36), 3) := dk_167 255 220 (dk_at dksX7_flat_1 16 rfl rfl)
theorem dX7_flat_43 : decode cX7_flat 43 = .ok (.iload_n 1, 1) := dk_27 (dk_at dksX7_flat_1 19 rfl rfl)
theorem dX7_flat_44 : decode cX7_flat 44 = .ok (.ireturn, 1) := dk_172 (dk_at dksX7_flat_1 20 rfl rfl)
abbrev cX7_thursday : ByteArray := prog_19_method_86_code
def yX7_thursday : MethodName := ⟨RX7, "thursday", "(I)I"⟩
def dkwX7_thursday_3 : List UInt8 := [160, 0, 7, 3, 167, 0, 4, 4, 96, 61, 132, 3, 1, 167, 255, 217, 28, 172]
abbrev dktX7_thursday_3 : List UInt8 := dkwX7_thursday_3 ++ []
def dkwX7_thursday_2 : List UInt8 := [180, 0, 156, 162, 0, 37, 28, 42, 180, 0, 98, 16, 60, 27, 104, 29, 96, 46, 42, 180, 0, 28, 29, 46]
abbrev dktX7_thursday_2 : List UInt8 := dkwX7_thursday_2 ++ dktX7_thursday_3
def dkwX7_thursday_1 : List UInt8 := [172, 42, 180, 0, 95, 27, 46, 42, 180, 0, 156, 159, 0, 6, 16, 254, 172, 3, 61, 3, 62, 29, 42]
abbrev dktX7_thursday_1 : List UInt8 := dkwX7_thursday_1 ++ dktX7_thursday_2
def dkwX7_thursday_0 : List UInt8 := [27, 3, 6, 184, 0, 159, 154, 0, 6, 16, 254, 172, 42, 180, 0, 92, 27, 46, 2, 160, 0, 6, 16, 245]
abbrev dktX7_thursday_0 : List UInt8 := dkwX7_thursday_0 ++ dktX7_thursday_1
theorem dksX7_thursday_0 : cX7_thursday.data.toList.drop 0 = dktX7_thursday_0 := by decide +kernel
theorem dksX7_thursday_1 : cX7_thursday.data.toList.drop 24 = dktX7_thursday_1 := dk_seg dksX7_thursday_0 24 rfl rfl
theorem dksX7_thursday_2 : cX7_thursday.data.toList.drop 47 = dktX7_thursday_2 := dk_seg dksX7_thursday_1 23 rfl rfl
theorem dksX7_thursday_3 : cX7_thursday.data.toList.drop 71 = dktX7_thursday_3 := dk_seg dksX7_thursday_2 24 rfl rfl
theorem dX7_thursday_0 : decode cX7_thursday 0 = .ok (.iload_n 1, 1) := dk_27 (dk_at dksX7_thursday_0 0 rfl rfl)
theorem dX7_thursday_1 : decode cX7_thursday 1 = .ok (.iconst 0, 1) := dk_3 (dk_at dksX7_thursday_0 1 rfl rfl)
theorem dX7_thursday_2 : decode cX7_thursday 2 = .ok (.iconst 3, 1) := dk_6 (dk_at dksX7_thursday_0 2 rfl rfl)
theorem dX7_thursday_3 : decode cX7_thursday 3 = .ok (.invokestatic 159, 3) := dk_184 0 159 (dk_at dksX7_thursday_0 3 rfl rfl)
theorem dX7_thursday_6 : decode cX7_thursday 6 = .ok (.ifCond .ne 6, 3) := dk_154 0 6 (dk_at dksX7_thursday_0 6 rfl rfl)
theorem dX7_thursday_9 : decode cX7_thursday 9 = .ok (.bipush (-2), 2) := dk_16 254 (dk_at dksX7_thursday_0 9 rfl rfl)
theorem dX7_thursday_11 : decode cX7_thursday 11 = .ok (.ireturn, 1) := dk_172 (dk_at dksX7_thursday_0 11 rfl rfl)
theorem dX7_thursday_12 : decode cX7_thursday 12 = .ok (.aload_n 0, 1) := dk_42 (dk_at dksX7_thursday_0 12 rfl rfl)
theorem dX7_thursday_13 : decode cX7_thursday 13 = .ok (.getfield 92, 3) := dk_180 0 92 (dk_at dksX7_thursday_0 13 rfl rfl)
theorem dX7_thursday_16 : decode cX7_thursday 16 = .ok (.iload_n 1, 1) := dk_27 (dk_at dksX7_thursday_0 16 rfl rfl)
theorem dX7_thursday_17 : decode cX7_thursday 17 = .ok (.iaload, 1) := dk_46 (dk_at dksX7_thursday_0 17 rfl rfl)
theorem dX7_thursday_18 : decode cX7_thursday 18 = .ok (.iconst (-1), 1) := dk_2 (dk_at dksX7_thursday_0 18 rfl rfl)
theorem dX7_thursday_19 : decode cX7_thursday 19 = .ok (.if_icmp .ne 6, 3) := dk_160 0 6 (dk_at dksX7_thursday_0 19 rfl rfl)
theorem dX7_thursday_22 : decode cX7_thursday 22 = .ok (.bipush (-11), 2) := dk_16 245 (dk_at dksX7_thursday_0 22 rfl rfl)
theorem dX7_thursday_24 : decode cX7_thursday 24 = .ok (.ireturn, 1) := dk_172 (dk_at dksX7_thursday_1 0 rfl rfl)
theorem dX7_thursday_25 : decode cX7_thursday 25 = .ok (.aload_n 0, 1) := dk_42 (dk_at dksX7_thursday_1 1 rfl rfl)
theorem dX7_thursday_26 : decode cX7_thursday 26 = .ok (.getfield 95, 3) := dk_180 0 95 (dk_at dksX7_thursday_1 2 rfl rfl)
theorem dX7_thursday_29 : decode cX7_thursday 29 = .ok (.iload_n 1, 1) := dk_27 (dk_at dksX7_thursday_1 5 rfl rfl)
theorem dX7_thursday_30 : decode cX7_thursday 30 = .ok (.iaload, 1) := dk_46 (dk_at dksX7_thursday_1 6 rfl rfl)
theorem dX7_thursday_31 : decode cX7_thursday 31 = .ok (.aload_n 0, 1) := dk_42 (dk_at dksX7_thursday_1 7 rfl rfl)
theorem dX7_thursday_32 : decode cX7_thursday 32 = .ok (.getfield 156, 3) := dk_180 0 156 (dk_at dksX7_thursday_1 8 rfl rfl)
theorem dX7_thursday_35 : decode cX7_thursday 35 = .ok (.if_icmp .eq 6, 3) := dk_159 0 6 (dk_at dksX7_thursday_1 11 rfl rfl)
theorem dX7_thursday_38 : decode cX7_thursday 38 = .ok (.bipush (-2), 2) := dk_16 254 (dk_at dksX7_thursday_1 14 rfl rfl)
theorem dX7_thursday_40 : decode cX7_thursday 40 = .ok (.ireturn, 1) := dk_172 (dk_at dksX7_thursday_1 16 rfl rfl)
theorem dX7_thursday_41 : decode cX7_thursday 41 = .ok (.iconst 0, 1) := dk_3 (dk_at dksX7_thursday_1 17 rfl rfl)
theorem dX7_thursday_42 : decode cX7_thursday 42 = .ok (.istore_n 2, 1) := dk_61 (dk_at dksX7_thursday_1 18 rfl rfl)
theorem dX7_thursday_43 : decode cX7_thursday 43 = .ok (.iconst 0, 1) := dk_3 (dk_at dksX7_thursday_1 19 rfl rfl)
theorem dX7_thursday_44 : decode cX7_thursday 44 = .ok (.istore_n 3, 1) := dk_62 (dk_at dksX7_thursday_1 20 rfl rfl)
theorem dX7_thursday_45 : decode cX7_thursday 45 = .ok (.iload_n 3, 1) := dk_29 (dk_at dksX7_thursday_1 21 rfl rfl)
theorem dX7_thursday_46 : decode cX7_thursday 46 = .ok (.aload_n 0, 1) := dk_42 (dk_at dksX7_thursday_1 22 rfl rfl)
theorem dX7_thursday_47 : decode cX7_thursday 47 = .ok (.getfield 156, 3) := dk_180 0 156 (dk_at dksX7_thursday_2 0 rfl rfl)
theorem dX7_thursday_50 : decode cX7_thursday 50 = .ok (.if_icmp .ge 37, 3) := dk_162 0 37 (dk_at dksX7_thursday_2 3 rfl rfl)
theorem dX7_thursday_53 : decode cX7_thursday 53 = .ok (.iload_n 2, 1) := dk_28 (dk_at dksX7_thursday_2 6 rfl rfl)
theorem dX7_thursday_54 : decode cX7_thursday 54 = .ok (.aload_n 0, 1) := dk_42 (dk_at dksX7_thursday_2 7 rfl rfl)
theorem dX7_thursday_55 : decode cX7_thursday 55 = .ok (.getfield 98, 3) := dk_180 0 98 (dk_at dksX7_thursday_2 8 rfl rfl)
theorem dX7_thursday_58 : decode cX7_thursday 58 = .ok (.bipush 60, 2) := dk_16 60 (dk_at dksX7_thursday_2 11 rfl rfl)
theorem dX7_thursday_60 : decode cX7_thursday 60 = .ok (.iload_n 1, 1) := dk_27 (dk_at dksX7_thursday_2 13 rfl rfl)
theorem dX7_thursday_61 : decode cX7_thursday 61 = .ok (.imul, 1) := dk_104 (dk_at dksX7_thursday_2 14 rfl rfl)
theorem dX7_thursday_62 : decode cX7_thursday 62 = .ok (.iload_n 3, 1) := dk_29 (dk_at dksX7_thursday_2 15 rfl rfl)
theorem dX7_thursday_63 : decode cX7_thursday 63 = .ok (.iadd, 1) := dk_96 (dk_at dksX7_thursday_2 16 rfl rfl)
theorem dX7_thursday_64 : decode cX7_thursday 64 = .ok (.iaload, 1) := dk_46 (dk_at dksX7_thursday_2 17 rfl rfl)
theorem dX7_thursday_65 : decode cX7_thursday 65 = .ok (.aload_n 0, 1) := dk_42 (dk_at dksX7_thursday_2 18 rfl rfl)
theorem dX7_thursday_66 : decode cX7_thursday 66 = .ok (.getfield 28, 3) := dk_180 0 28 (dk_at dksX7_thursday_2 19 rfl rfl)
theorem dX7_thursday_69 : decode cX7_thursday 69 = .ok (.iload_n 3, 1) := dk_29 (dk_at dksX7_thursday_2 22 rfl rfl)
theorem dX7_thursday_70 : decode cX7_thursday 70 = .ok (.iaload, 1) := dk_46 (dk_at dksX7_thursday_2 23 rfl rfl)
theorem dX7_thursday_71 : decode cX7_thursday 71 = .ok (.if_icmp .ne 7, 3) := dk_160 0 7 (dk_at dksX7_thursday_3 0 rfl rfl)
theorem dX7_thursday_74 : decode cX7_thursday 74 = .ok (.iconst 0, 1) := dk_3 (dk_at dksX7_thursday_3 3 rfl rfl)
theorem dX7_thursday_75 : decode cX7_thursday 75 = .ok (.goto 4, 3) := dk_167 0 4 (dk_at dksX7_thursday_3 4 rfl rfl)
theorem dX7_thursday_78 : decode cX7_thursday 78 = .ok (.iconst 1, 1) := dk_4 (dk_at dksX7_thursday_3 7 rfl rfl)
theorem dX7_thursday_79 : decode cX7_thursday 79 = .ok (.iadd, 1) := dk_96 (dk_at dksX7_thursday_3 8 rfl rfl)
theorem dX7_thursday_80 : decode cX7_thursday 80 = .ok (.istore_n 2, 1) := dk_61 (dk_at dksX7_thursday_3 9 rfl rfl)
theorem dX7_thursday_81 : decode cX7_thursday 81 = .ok (.iinc 3 1, 3) := dk_132 3 1 (dk_at dksX7_thursday_3 10 rfl rfl)
theorem dX7_thursday_84 : decode cX7_thursday 84 = .ok (.goto (-39), 3) := dk_167 255 217 (dk_at dksX7_thursday_3 13 rfl rfl)
theorem dX7_thursday_87 : decode cX7_thursday 87 = .ok (.iload_n 2, 1) := dk_28 (dk_at dksX7_thursday_3 16 rfl rfl)
theorem dX7_thursday_88 : decode cX7_thursday 88 = .ok (.ireturn, 1) := dk_172 (dk_at dksX7_thursday_3 17 rfl rfl)
abbrev cX7_image : ByteArray := prog_19_method_87_code
def yX7_image : MethodName := ⟨RX7, "image", "()I"⟩
def dkwX7_image_7 : List UInt8 := [180, 0, 156, 172]
abbrev dktX7_image_7 : List UInt8 := dkwX7_image_7 ++ []
def dkwX7_image_6 : List UInt8 := [16, 48, 162, 0, 21, 42, 180, 0, 83, 27, 42, 180, 0, 34, 27, 46, 79, 132, 1, 1, 167, 255, 235, 42]
abbrev dktX7_image_6 : List UInt8 := dkwX7_image_6 ++ dktX7_image_7
def dkwX7_image_5 : List UInt8 := [27, 46, 79, 42, 180, 0, 80, 27, 42, 180, 0, 31, 27, 46, 79, 132, 1, 1, 167, 255, 223, 3, 60, 27]
abbrev dktX7_image_5 : List UInt8 := dkwX7_image_5 ++ dktX7_image_6
def dkwX7_image_4 : List UInt8 := [79, 132, 1, 1, 167, 255, 188, 3, 60, 27, 16, 6, 162, 0, 33, 42, 180, 0, 77, 27, 42, 180, 0, 28]
abbrev dktX7_image_4 : List UInt8 := dkwX7_image_4 ++ dktX7_image_5
def dkwX7_image_3 : List UInt8 := [79, 42, 180, 0, 86, 27, 42, 180, 0, 46, 27, 46, 79, 42, 180, 0, 89, 27, 42, 180, 0, 49, 27, 46]
abbrev dktX7_image_3 : List UInt8 := dkwX7_image_3 ++ dktX7_image_4
def dkwX7_image_2 : List UInt8 := [79, 42, 180, 0, 71, 27, 42, 180, 0, 13, 27, 46, 79, 42, 180, 0, 74, 27, 42, 180, 0, 16, 27, 46]
abbrev dktX7_image_2 : List UInt8 := dkwX7_image_2 ++ dktX7_image_3
def dkwX7_image_1 : List UInt8 := [180, 0, 203, 181, 1, 130, 3, 60, 27, 7, 162, 0, 69, 42, 180, 0, 68, 27, 42, 180, 0, 7, 27, 46]
abbrev dktX7_image_1 : List UInt8 := dkwX7_image_1 ++ dktX7_image_2
def dkwX7_image_0 : List UInt8 := [42, 4, 181, 1, 120, 42, 42, 180, 0, 156, 181, 1, 124, 42, 42, 180, 0, 200, 181, 1, 127, 42, 42]
abbrev dktX7_image_0 : List UInt8 := dkwX7_image_0 ++ dktX7_image_1
theorem dksX7_image_0 : cX7_image.data.toList.drop 0 = dktX7_image_0 := by decide +kernel
theorem dksX7_image_1 : cX7_image.data.toList.drop 23 = dktX7_image_1 := dk_seg dksX7_image_0 23 rfl rfl
theorem dksX7_image_2 : cX7_image.data.toList.drop 47 = dktX7_image_2 := dk_seg dksX7_image_1 24 rfl rfl
theorem dksX7_image_3 : cX7_image.data.toList.drop 71 = dktX7_image_3 := dk_seg dksX7_image_2 24 rfl rfl
theorem dksX7_image_4 : cX7_image.data.toList.drop 95 = dktX7_image_4 := dk_seg dksX7_image_3 24 rfl rfl
theorem dksX7_image_5 : cX7_image.data.toList.drop 119 = dktX7_image_5 := dk_seg dksX7_image_4 24 rfl rfl
theorem dksX7_image_6 : cX7_image.data.toList.drop 143 = dktX7_image_6 := dk_seg dksX7_image_5 24 rfl rfl
theorem dksX7_image_7 : cX7_image.data.toList.drop 167 = dktX7_image_7 := dk_seg dksX7_image_6 24 rfl rfl
theorem dX7_image_0 : decode cX7_image 0 = .ok (.aload_n 0, 1) := dk_42 (dk_at dksX7_image_0 0 rfl rfl)
theorem dX7_image_1 : decode cX7_image 1 = .ok (.iconst 1, 1) := dk_4 (dk_at dksX7_image_0 1 rfl rfl)
theorem dX7_image_2 : decode cX7_image 2 = .ok (.putfield 376, 3) := dk_181 1 120 (dk_at dksX7_image_0 2 rfl rfl)
theorem dX7_image_5 : decode cX7_image 5 = .ok (.aload_n 0, 1) := dk_42 (dk_at dksX7_image_0 5 rfl rfl)
theorem dX7_image_6 : decode cX7_image 6 = .ok (.aload_n 0, 1) := dk_42 (dk_at dksX7_image_0 6 rfl rfl)
theorem dX7_image_7 : decode cX7_image 7 = .ok (.getfield 156, 3) := dk_180 0 156 (dk_at dksX7_image_0 7 rfl rfl)
theorem dX7_image_10 : decode cX7_image 10 = .ok (.putfield 380, 3) := dk_181 1 124 (dk_at dksX7_image_0 10 rfl rfl)
theorem dX7_image_13 : decode cX7_image 13 = .ok (.aload_n 0, 1) := dk_42 (dk_at dksX7_image_0 13 rfl rfl)
theorem dX7_image_14 : decode cX7_image 14 = .ok (.aload_n 0, 1) := dk_42 (dk_at dksX7_image_0 14 rfl rfl)
theorem dX7_image_15 : decode cX7_image 15 = .ok (.getfield 200, 3) := dk_180 0 200 (dk_at dksX7_image_0 15 rfl rfl)
theorem dX7_image_18 : decode cX7_image 18 = .ok (.putfield 383, 3) := dk_181 1 127 (dk_at dksX7_image_0 18 rfl rfl)
theorem dX7_image_21 : decode cX7_image 21 = .ok (.aload_n 0, 1) := dk_42 (dk_at dksX7_image_0 21 rfl rfl)
theorem dX7_image_22 : decode cX7_image 22 = .ok (.aload_n 0, 1) := dk_42 (dk_at dksX7_image_0 22 rfl rfl)
theorem dX7_image_23 : decode cX7_image 23 = .ok (.getfield 203, 3) := dk_180 0 203 (dk_at dksX7_image_1 0 rfl rfl)
theorem dX7_image_26 : decode cX7_image 26 = .ok (.putfield 386, 3) := dk_181 1 130 (dk_at dksX7_image_1 3 rfl rfl)
theorem dX7_image_29 : decode cX7_image 29 = .ok (.iconst 0, 1) := dk_3 (dk_at dksX7_image_1 6 rfl rfl)
theorem dX7_image_30 : decode cX7_image 30 = .ok (.istore_n 1, 1) := dk_60 (dk_at dksX7_image_1 7 rfl rfl)
theorem dX7_image_31 : decode cX7_image 31 = .ok (.iload_n 1, 1) := dk_27 (dk_at dksX7_image_1 8 rfl rfl)
theorem dX7_image_32 : decode cX7_image 32 = .ok (.iconst 4, 1) := dk_7 (dk_at dksX7_image_1 9 rfl rfl)
theorem dX7_image_33 : decode cX7_image 33 = .ok (.if_icmp .ge 69, 3) := dk_162 0 69 (dk_at dksX7_image_1 10 rfl rfl)
theorem dX7_image_36 : decode cX7_image 36 = .ok (.aload_n 0, 1) := dk_42 (dk_at dksX7_image_1 13 rfl rfl)
theorem dX7_image_37 : decode cX7_image 37 = .ok (.getfield 68, 3) := dk_180 0 68 (dk_at dksX7_image_1 14 rfl rfl)
theorem dX7_image_40 : decode cX7_image 40 = .ok (.iload_n 1, 1) := dk_27 (dk_at dksX7_image_1 17 rfl rfl)
theorem dX7_image_41 : decode cX7_image 41 = .ok (.aload_n 0, 1) := dk_42 (dk_at dksX7_image_1 18 rfl rfl)
theorem dX7_image_42 : decode cX7_image 42 = .ok (.getfield 7, 3) := dk_180 0 7 (dk_at dksX7_image_1 19 rfl rfl)
theorem dX7_image_45 : decode cX7_image 45 = .ok (.iload_n 1, 1) := dk_27 (dk_at dksX7_image_1 22 rfl rfl)
theorem dX7_image_46 : decode cX7_image 46 = .ok (.iaload, 1) := dk_46 (dk_at dksX7_image_1 23 rfl rfl)
theorem dX7_image_47 : decode cX7_image 47 = .ok (.iastore, 1) := dk_79 (dk_at dksX7_image_2 0 rfl rfl)
theorem dX7_image_48 : decode cX7_image 48 = .ok (.aload_n 0, 1) := dk_42 (dk_at dksX7_image_2 1 rfl rfl)
theorem dX7_image_49 : decode cX7_image 49 = .ok (.getfield 71, 3) := dk_180 0 71 (dk_at dksX7_image_2 2 rfl rfl)
theorem dX7_image_52 : decode cX7_image 52 = .ok (.iload_n 1, 1) := dk_27 (dk_at dksX7_image_2 5 rfl rfl)
theorem dX7_image_53 : decode cX7_image 53 = .ok (.aload_n 0, 1) := dk_42 (dk_at dksX7_image_2 6 rfl rfl)
theorem dX7_image_54 : decode cX7_image 54 = .ok (.getfield 13, 3) := dk_180 0 13 (dk_at dksX7_image_2 7 rfl rfl)
theorem dX7_image_57 : decode cX7_image 57 = .ok (.iload_n 1, 1) := dk_27 (dk_at dksX7_image_2 10 rfl rfl)
theorem dX7_image_58 : decode cX7_image 58 = .ok (.iaload, 1) := dk_46 (dk_at dksX7_image_2 11 rfl rfl)
theorem dX7_image_59 : decode cX7_image 59 = .ok (.iastore, 1) := dk_79 (dk_at dksX7_image_2 12 rfl rfl)
theorem dX7_image_60 : decode cX7_image 60 = .ok (.aload_n 0, 1) := dk_42 (dk_at dksX7_image_2 13 rfl rfl)
theorem dX7_image_61 : decode cX7_image 61 = .ok (.getfield 74, 3) := dk_180 0 74 (dk_at dksX7_image_2 14 rfl rfl)
theorem dX7_image_64 : decode cX7_image 64 = .ok (.iload_n 1, 1) := dk_27 (dk_at dksX7_image_2 17 rfl rfl)
theorem dX7_image_65 : decode cX7_image 65 = .ok (.aload_n 0, 1) := dk_42 (dk_at dksX7_image_2 18 rfl rfl)
theorem dX7_image_66 : decode cX7_image 66 = .ok (.getfield 16, 3) := dk_180 0 16 (dk_at dksX7_image_2 19 rfl rfl)
theorem dX7_image_69 : decode cX7_image 69 = .ok (.iload_n 1, 1) := dk_27 (dk_at dksX7_image_2 22 rfl rfl)
theorem dX7_image_70 : decode cX7_image 70 = .ok (.iaload, 1) := dk_46 (dk_at dksX7_image_2 23 rfl rfl)
theorem dX7_image_71 : decode cX7_image 71 = .ok (.iastore, 1) := dk_79 (dk_at dksX7_image_3 0 rfl rfl)
theorem dX7_image_72 : decode cX7_image 72 = .ok (.aload_n 0, 1) := dk_42 (dk_at dksX7_image_3 1 rfl rfl)
theorem dX7_image_73 : decode cX7_image 73 = .ok (.getfield 86, 3) := dk_180 0 86 (dk_at dksX7_image_3 2 rfl rfl)
theorem dX7_image_76 : decode cX7_image 76 = .ok (.iload_n 1, 1) := dk_27 (dk_at dksX7_image_3 5 rfl rfl)
theorem dX7_image_77 : decode cX7_image 77 = .ok (.aload_n 0, 1) := dk_42 (dk_at dksX7_image_3 6 rfl rfl)
theorem dX7_image_78 : decode cX7_image 78 = .ok (.getfield 46, 3) := dk_180 0 46 (dk_at dksX7_image_3 7 rfl rfl)
theorem dX7_image_81 : decode cX7_image 81 = .ok (.iload_n 1, 1) := dk_27 (dk_at dksX7_image_3 10 rfl rfl)
theorem dX7_image_82 : decode cX7_image 82 = .ok (.iaload, 1) := dk_46 (dk_at dksX7_image_3 11 rfl rfl)
theorem dX7_image_83 : decode cX7_image 83 = .ok (.iastore, 1) := dk_79 (dk_at dksX7_image_3 12 rfl rfl)
theorem dX7_image_84 : decode cX7_image 84 = .ok (.aload_n 0, 1) := dk_42 (dk_at dksX7_image_3 13 rfl rfl)
theorem dX7_image_85 : decode cX7_image 85 = .ok (.getfield 89, 3) := dk_180 0 89 (dk_at dksX7_image_3 14 rfl rfl)
theorem dX7_image_88 : decode cX7_image 88 = .ok (.iload_n 1, 1) := dk_27 (dk_at dksX7_image_3 17 rfl rfl)
theorem dX7_image_89 : decode cX7_image 89 = .ok (.aload_n 0, 1) := dk_42 (dk_at dksX7_image_3 18 rfl rfl)
theorem dX7_image_90 : decode cX7_image 90 = .ok (.getfield 49, 3) := dk_180 0 49 (dk_at dksX7_image_3 19 rfl rfl)
theorem dX7_image_93 : decode cX7_image 93 = .ok (.iload_n 1, 1) := dk_27 (dk_at dksX7_image_3 22 rfl rfl)
theorem dX7_image_94 : decode cX7_image 94 = .ok (.iaload, 1) := dk_46 (dk_at dksX7_image_3 23 rfl rfl)
theorem dX7_image_95 : decode cX7_image 95 = .ok (.iastore, 1) := dk_79 (dk_at dksX7_image_4 0 rfl rfl)
theorem dX7_image_96 : decode cX7_image 96 = .ok (.iinc 1 1, 3) := dk_132 1 1 (dk_at dksX7_image_4 1 rfl rfl)
theorem dX7_image_99 : decode cX7_image 99 = .ok (.goto (-68), 3) := dk_167 255 188 (dk_at dksX7_image_4 4 rfl rfl)
theorem dX7_image_102 : decode cX7_image 102 = .ok (.iconst 0, 1) := dk_3 (dk_at dksX7_image_4 7 rfl rfl)
theorem dX7_image_103 : decode cX7_image 103 = .ok (.istore_n 1, 1) := dk_60 (dk_at dksX7_image_4 8 rfl rfl)
theorem dX7_image_104 : decode cX7_image 104 = .ok (.iload_n 1, 1) := dk_27 (dk_at dksX7_image_4 9 rfl rfl)
theorem dX7_image_105 : decode cX7_image 105 = .ok (.bipush 6, 2) := dk_16 6 (dk_at dksX7_image_4 10 rfl rfl)
theorem dX7_image_107 : decode cX7_image 107 = .ok (.if_icmp .ge 33, 3) := dk_162 0 33 (dk_at dksX7_image_4 12 rfl rfl)
theorem dX7_image_110 : decode cX7_image 110 = .ok (.aload_n 0, 1) := dk_42 (dk_at dksX7_image_4 15 rfl rfl)
theorem dX7_image_111 : decode cX7_image 111 = .ok (.getfield 77, 3) := dk_180 0 77 (dk_at dksX7_image_4 16 rfl rfl)
theorem dX7_image_114 : decode cX7_image 114 = .ok (.iload_n 1, 1) := dk_27 (dk_at dksX7_image_4 19 rfl rfl)
theorem dX7_image_115 : decode cX7_image 115 = .ok (.aload_n 0, 1) := dk_42 (dk_at dksX7_image_4 20 rfl rfl)
theorem dX7_image_116 : decode cX7_image 116 = .ok (.getfield 28, 3) := dk_180 0 28 (dk_at dksX7_image_4 21 rfl rfl)
theorem dX7_image_119 : decode cX7_image 119 = .ok (.iload_n 1, 1) := dk_27 (dk_at dksX7_image_5 0 rfl rfl)
theorem dX7_image_120 : decode cX7_image 120 = .ok (.iaload, 1) := dk_46 (dk_at dksX7_image_5 1 rfl rfl)
theorem dX7_image_121 : decode cX7_image 121 = .ok (.iastore, 1) := dk_79 (dk_at dksX7_image_5 2 rfl rfl)
theorem dX7_image_122 : decode cX7_image 122 = .ok (.aload_n 0, 1) := dk_42 (dk_at dksX7_image_5 3 rfl rfl)
theorem dX7_image_123 : decode cX7_image 123 = .ok (.getfield 80, 3) := dk_180 0 80 (dk_at dksX7_image_5 4 rfl rfl)
theorem dX7_image_126 : decode cX7_image 126 = .ok (.iload_n 1, 1) := dk_27 (dk_at dksX7_image_5 7 rfl rfl)
theorem dX7_image_127 : decode cX7_image 127 = .ok (.aload_n 0, 1) := dk_42 (dk_at dksX7_image_5 8 rfl rfl)
theorem dX7_image_128 : decode cX7_image 128 = .ok (.getfield 31, 3) := dk_180 0 31 (dk_at dksX7_image_5 9 rfl rfl)
theorem dX7_image_131 : decode cX7_image 131 = .ok (.iload_n 1, 1) := dk_27 (dk_at dksX7_image_5 12 rfl rfl)
theorem dX7_image_132 : decode cX7_image 132 = .ok (.iaload, 1) := dk_46 (dk_at dksX7_image_5 13 rfl rfl)
theorem dX7_image_133 : decode cX7_image 133 = .ok (.iastore, 1) := dk_79 (dk_at dksX7_image_5 14 rfl rfl)
theorem dX7_image_134 : decode cX7_image 134 = .ok (.iinc 1 1, 3) := dk_132 1 1 (dk_at dksX7_image_5 15 rfl rfl)
theorem dX7_image_137 : decode cX7_image 137 = .ok (.goto (-33), 3) := dk_167 255 223 (dk_at dksX7_image_5 18 rfl rfl)
theorem dX7_image_140 : decode cX7_image 140 = .ok (.iconst 0, 1) := dk_3 (dk_at dksX7_image_5 21 rfl rfl)
theorem dX7_image_141 : decode cX7_image 141 = .ok (.istore_n 1, 1) := dk_60 (dk_at dksX7_image_5 22 rfl rfl)
theorem dX7_image_142 : decode cX7_image 142 = .ok (.iload_n 1, 1) := dk_27 (dk_at dksX7_image_5 23 rfl rfl)
theorem dX7_image_143 : decode cX7_image 143 = .ok (.bipush 48, 2) := dk_16 48 (dk_at dksX7_image_6 0 rfl rfl)
theorem dX7_image_145 : decode cX7_image 145 = .ok (.if_icmp .ge 21, 3) := dk_162 0 21 (dk_at dksX7_image_6 2 rfl rfl)
theorem dX7_image_148 : decode cX7_image 148 = .ok (.aload_n 0, 1) := dk_42 (dk_at dksX7_image_6 5 rfl rfl)
theorem dX7_image_149 : decode cX7_image 149 = .ok (.getfield 83, 3) := dk_180 0 83 (dk_at dksX7_image_6 6 rfl rfl)
theorem dX7_image_152 : decode cX7_image 152 = .ok (.iload_n 1, 1) := dk_27 (dk_at dksX7_image_6 9 rfl rfl)
theorem dX7_image_153 : decode cX7_image 153 = .ok (.aload_n 0, 1) := dk_42 (dk_at dksX7_image_6 10 rfl rfl)
theorem dX7_image_154 : decode cX7_image 154 = .ok (.getfield 34, 3) := dk_180 0 34 (dk_at dksX7_image_6 11 rfl rfl)
theorem dX7_image_157 : decode cX7_image 157 = .ok (.iload_n 1, 1) := dk_27 (dk_at dksX7_image_6 14 rfl rfl)
theorem dX7_image_158 : decode cX7_image 158 = .ok (.iaload, 1) := dk_46 (dk_at dksX7_image_6 15 rfl rfl)
theorem dX7_image_159 : decode cX7_image 159 = .ok (.iastore, 1) := dk_79 (dk_at dksX7_image_6 16 rfl rfl)
theorem dX7_image_160 : decode cX7_image 160 = .ok (.iinc 1 1, 3) := dk_132 1 1 (dk_at dksX7_image_6 17 rfl rfl)
theorem dX7_image_163 : decode cX7_image 163 = .ok (.goto (-21), 3) := dk_167 255 235 (dk_at dksX7_image_6 20 rfl rfl)
theorem dX7_image_166 : decode cX7_image 166 = .ok (.aload_n 0, 1) := dk_42 (dk_at dksX7_image_6 23 rfl rfl)
theorem dX7_image_167 : decode cX7_image 167 = .ok (.getfield 156, 3) := dk_180 0 156 (dk_at dksX7_image_7 0 rfl rfl)
theorem dX7_image_170 : decode cX7_image 170 = .ok (.ireturn, 1) := dk_172 (dk_at dksX7_image_7 3 rfl rfl)
abbrev cX7_back : ByteArray := prog_19_method_88_code
def yX7_back : MethodName := ⟨RX7, "back", "()I"⟩
def dkwX7_back_8 : List UInt8 := [104, 28, 96, 46, 79, 132, 2, 1, 167, 255, 225, 132, 1, 1, 167, 255, 185, 42, 180, 0, 156, 172]
abbrev dktX7_back_8 : List UInt8 := dkwX7_back_8 ++ []
def dkwX7_back_7 : List UInt8 := [61, 28, 16, 8, 162, 0, 31, 42, 180, 0, 34, 16, 8, 27, 104, 28, 96, 42, 180, 0, 83, 16, 8, 27]
abbrev dktX7_back_7 : List UInt8 := dkwX7_back_7 ++ dktX7_back_8
def dkwX7_back_6 : List UInt8 := [180, 0, 28, 27, 42, 180, 0, 77, 27, 46, 79, 42, 180, 0, 31, 27, 42, 180, 0, 80, 27, 46, 79, 3]
abbrev dktX7_back_6 : List UInt8 := dkwX7_back_6 ++ dktX7_back_7
def dkwX7_back_5 : List UInt8 := [180, 0, 49, 27, 46, 79, 132, 1, 1, 167, 255, 154, 3, 60, 27, 42, 180, 1, 124, 162, 0, 69, 42]
abbrev dktX7_back_5 : List UInt8 := dkwX7_back_5 ++ dktX7_back_6
def dkwX7_back_4 : List UInt8 := [180, 0, 49, 27, 27, 42, 180, 1, 127, 162, 0, 12, 42, 180, 0, 89, 27, 46, 167, 0, 9, 42]
abbrev dktX7_back_4 : List UInt8 := dkwX7_back_4 ++ dktX7_back_5
def dkwX7_back_3 : List UInt8 := [180, 1, 127, 162, 0, 12, 42, 180, 0, 86, 27, 46, 167, 0, 9, 42, 180, 0, 46, 27, 46, 79, 42]
abbrev dktX7_back_3 : List UInt8 := dkwX7_back_3 ++ dktX7_back_4
def dkwX7_back_2 : List UInt8 := [27, 46, 79, 42, 180, 0, 16, 27, 42, 180, 0, 74, 27, 46, 79, 42, 180, 0, 46, 27, 27, 42]
abbrev dktX7_back_2 : List UInt8 := dkwX7_back_2 ++ dktX7_back_3
def dkwX7_back_1 : List UInt8 := [162, 0, 103, 42, 180, 0, 7, 27, 42, 180, 0, 68, 27, 46, 79, 42, 180, 0, 13, 27, 42, 180, 0, 71]
abbrev dktX7_back_1 : List UInt8 := dkwX7_back_1 ++ dktX7_back_2
def dkwX7_back_0 : List UInt8 := [42, 180, 1, 120, 154, 0, 6, 16, 253, 172, 42, 42, 180, 1, 130, 181, 0, 203, 3, 60, 27, 7]
abbrev dktX7_back_0 : List UInt8 := dkwX7_back_0 ++ dktX7_back_1
theorem dksX7_back_0 : cX7_back.data.toList.drop 0 = dktX7_back_0 := by decide +kernel
theorem dksX7_back_1 : cX7_back.data.toList.drop 22 = dktX7_back_1 := dk_seg dksX7_back_0 22 rfl rfl
theorem dksX7_back_2 : cX7_back.data.toList.drop 46 = dktX7_back_2 := dk_seg dksX7_back_1 24 rfl rfl
theorem dksX7_back_3 : cX7_back.data.toList.drop 68 = dktX7_back_3 := dk_seg dksX7_back_2 22 rfl rfl
theorem dksX7_back_4 : cX7_back.data.toList.drop 91 = dktX7_back_4 := dk_seg dksX7_back_3 23 rfl rfl
theorem dksX7_back_5 : cX7_back.data.toList.drop 113 = dktX7_back_5 := dk_seg dksX7_back_4 22 rfl rfl
theorem dksX7_back_6 : cX7_back.data.toList.drop 136 = dktX7_back_6 := dk_seg dksX7_back_5 23 rfl rfl
theorem dksX7_back_7 : cX7_back.data.toList.drop 160 = dktX7_back_7 := dk_seg dksX7_back_6 24 rfl rfl
theorem dksX7_back_8 : cX7_back.data.toList.drop 184 = dktX7_back_8 := dk_seg dksX7_back_7 24 rfl rfl
theorem dX7_back_0 : decode cX7_back 0 = .ok (.aload_n 0, 1) := dk_42 (dk_at dksX7_back_0 0 rfl rfl)
theorem dX7_back_1 : decode cX7_back 1 = .ok (.getfield 376, 3) := dk_180 1 120 (dk_at dksX7_back_0 1 rfl rfl)
theorem dX7_back_4 : decode cX7_back 4 = .ok (.ifCond .ne 6, 3) := dk_154 0 6 (dk_at dksX7_back_0 4 rfl rfl)
theorem dX7_back_7 : decode cX7_back 7 = .ok (.bipush (-3), 2) := dk_16 253 (dk_at dksX7_back_0 7 rfl rfl)
theorem dX7_back_9 : decode cX7_back 9 = .ok (.ireturn, 1) := dk_172 (dk_at dksX7_back_0 9 rfl rfl)
theorem dX7_back_10 : decode cX7_back 10 = .ok (.aload_n 0, 1) := dk_42 (dk_at dksX7_back_0 10 rfl rfl)
theorem dX7_back_11 : decode cX7_back 11 = .ok (.aload_n 0, 1) := dk_42 (dk_at dksX7_back_0 11 rfl rfl)
theorem dX7_back_12 : decode cX7_back 12 = .ok (.getfield 386, 3) := dk_180 1 130 (dk_at dksX7_back_0 12 rfl rfl)
theorem dX7_back_15 : decode cX7_back 15 = .ok (.putfield 203, 3) := dk_181 0 203 (dk_at dksX7_back_0 15 rfl rfl)
theorem dX7_back_18 : decode cX7_back 18 = .ok (.iconst 0, 1) := dk_3 (dk_at dksX7_back_0 18 rfl rfl)
theorem dX7_back_19 : decode cX7_back 19 = .ok (.istore_n 1, 1) := dk_60 (dk_at dksX7_back_0 19 rfl rfl)
theorem dX7_back_20 : decode cX7_back 20 = .ok (.iload_n 1, 1) := dk_27 (dk_at dksX7_back_0 20 rfl rfl)
theorem dX7_back_21 : decode cX7_back 21 = .ok (.iconst 4, 1) := dk_7 (dk_at dksX7_back_0 21 rfl rfl)
theorem dX7_back_22 : decode cX7_back 22 = .ok (.if_icmp .ge 103, 3) := dk_162 0 103 (dk_at dksX7_back_1 0 rfl rfl)
theorem dX7_back_25 : decode cX7_back 25 = .ok (.aload_n 0, 1) := dk_42 (dk_at dksX7_back_1 3 rfl rfl)
theorem dX7_back_26 : decode cX7_back 26 = .ok (.getfield 7, 3) := dk_180 0 7 (dk_at dksX7_back_1 4 rfl rfl)
theorem dX7_back_29 : decode cX7_back 29 = .ok (.iload_n 1, 1) := dk_27 (dk_at dksX7_back_1 7 rfl rfl)
theorem dX7_back_30 : decode cX7_back 30 = .ok (.aload_n 0, 1) := dk_42 (dk_at dksX7_back_1 8 rfl rfl)
theorem dX7_back_31 : decode cX7_back 31 = .ok (.getfield 68, 3) := dk_180 0 68 (dk_at dksX7_back_1 9 rfl rfl)
theorem dX7_back_34 : decode cX7_back 34 = .ok (.iload_n 1, 1) := dk_27 (dk_at dksX7_back_1 12 rfl rfl)
theorem dX7_back_35 : decode cX7_back 35 = .ok (.iaload, 1) := dk_46 (dk_at dksX7_back_1 13 rfl rfl)
theorem dX7_back_36 : decode cX7_back 36 = .ok (.iastore, 1) := dk_79 (dk_at dksX7_back_1 14 rfl rfl)
theorem dX7_back_37 : decode cX7_back 37 = .ok (.aload_n 0, 1) := dk_42 (dk_at dksX7_back_1 15 rfl rfl)
theorem dX7_back_38 : decode cX7_back 38 = .ok (.getfield 13, 3) := dk_180 0 13 (dk_at dksX7_back_1 16 rfl rfl)
theorem dX7_back_41 : decode cX7_back 41 = .ok (.iload_n 1, 1) := dk_27 (dk_at dksX7_back_1 19 rfl rfl)
theorem dX7_back_42 : decode cX7_back 42 = .ok (.aload_n 0, 1) := dk_42 (dk_at dksX7_back_1 20 rfl rfl)
theorem dX7_back_43 : decode cX7_back 43 = .ok (.getfield 71, 3) := dk_180 0 71 (dk_at dksX7_back_1 21 rfl rfl)
theorem dX7_back_46 : decode cX7_back 46 = .ok (.iload_n 1, 1) := dk_27 (dk_at dksX7_back_2 0 rfl rfl)
theorem dX7_back_47 : decode cX7_back 47 = .ok (.iaload, 1) := dk_46 (dk_at dksX7_back_2 1 rfl rfl)
theorem dX7_back_48 : decode cX7_back 48 = .ok (.iastore, 1) := dk_79 (dk_at dksX7_back_2 2 rfl rfl)
theorem dX7_back_49 : decode cX7_back 49 = .ok (.aload_n 0, 1) := dk_42 (dk_at dksX7_back_2 3 rfl rfl)
theorem dX7_back_50 : decode cX7_back 50 = .ok (.getfield 16, 3) := dk_180 0 16 (dk_at dksX7_back_2 4 rfl rfl)
theorem dX7_back_53 : decode cX7_back 53 = .ok (.iload_n 1, 1) := dk_27 (dk_at dksX7_back_2 7 rfl rfl)
theorem dX7_back_54 : decode cX7_back 54 = .ok (.aload_n 0, 1) := dk_42 (dk_at dksX7_back_2 8 rfl rfl)
theorem dX7_back_55 : decode cX7_back 55 = .ok (.getfield 74, 3) := dk_180 0 74 (dk_at dksX7_back_2 9 rfl rfl)
theorem dX7_back_58 : decode cX7_back 58 = .ok (.iload_n 1, 1) := dk_27 (dk_at dksX7_back_2 12 rfl rfl)
theorem dX7_back_59 : decode cX7_back 59 = .ok (.iaload, 1) := dk_46 (dk_at dksX7_back_2 13 rfl rfl)
theorem dX7_back_60 : decode cX7_back 60 = .ok (.iastore, 1) := dk_79 (dk_at dksX7_back_2 14 rfl rfl)
theorem dX7_back_61 : decode cX7_back 61 = .ok (.aload_n 0, 1) := dk_42 (dk_at dksX7_back_2 15 rfl rfl)
theorem dX7_back_62 : decode cX7_back 62 = .ok (.getfield 46, 3) := dk_180 0 46 (dk_at dksX7_back_2 16 rfl rfl)
theorem dX7_back_65 : decode cX7_back 65 = .ok (.iload_n 1, 1) := dk_27 (dk_at dksX7_back_2 19 rfl rfl)
theorem dX7_back_66 : decode cX7_back 66 = .ok (.iload_n 1, 1) := dk_27 (dk_at dksX7_back_2 20 rfl rfl)
theorem dX7_back_67 : decode cX7_back 67 = .ok (.aload_n 0, 1) := dk_42 (dk_at dksX7_back_2 21 rfl rfl)
theorem dX7_back_68 : decode cX7_back 68 = .ok (.getfield 383, 3) := dk_180 1 127 (dk_at dksX7_back_3 0 rfl rfl)
theorem dX7_back_71 : decode cX7_back 71 = .ok (.if_icmp .ge 12, 3) := dk_162 0 12 (dk_at dksX7_back_3 3 rfl rfl)
theorem dX7_back_74 : decode cX7_back 74 = .ok (.aload_n 0, 1) := dk_42 (dk_at dksX7_back_3 6 rfl rfl)
theorem dX7_back_75 : decode cX7_back 75 = .ok (.getfield 86, 3) := dk_180 0 86 (dk_at dksX7_back_3 7 rfl rfl)
theorem dX7_back_78 : decode cX7_back 78 = .ok (.iload_n 1, 1) := dk_27 (dk_at dksX7_back_3 10 rfl rfl)
theorem dX7_back_79 : decode cX7_back 79 = .ok (.iaload, 1) := dk_46 (dk_at dksX7_back_3 11 rfl rfl)
theorem dX7_back_80 : decode cX7_back 80 = .ok (.goto 9, 3) := dk_167 0 9 (dk_at dksX7_back_3 12 rfl rfl)
theorem dX7_back_83 : decode cX7_back 83 = .ok (.aload_n 0, 1) := dk_42 (dk_at dksX7_back_3 15 rfl rfl)
theorem dX7_back_84 : decode cX7_back 84 = .ok (.getfield 46, 3) := dk_180 0 46 (dk_at dksX7_back_3 16 rfl rfl)
theorem dX7_back_87 : decode cX7_back 87 = .ok (.iload_n 1, 1) := dk_27 (dk_at dksX7_back_3 19 rfl rfl)
theorem dX7_back_88 : decode cX7_back 88 = .ok (.iaload, 1) := dk_46 (dk_at dksX7_back_3 20 rfl rfl)
theorem dX7_back_89 : decode cX7_back 89 = .ok (.iastore, 1) := dk_79 (dk_at dksX7_back_3 21 rfl rfl)
theorem dX7_back_90 : decode cX7_back 90 = .ok (.aload_n 0, 1) := dk_42 (dk_at dksX7_back_3 22 rfl rfl)
theorem dX7_back_91 : decode cX7_back 91 = .ok (.getfield 49, 3) := dk_180 0 49 (dk_at dksX7_back_4 0 rfl rfl)
theorem dX7_back_94 : decode cX7_back 94 = .ok (.iload_n 1, 1) := dk_27 (dk_at dksX7_back_4 3 rfl rfl)
theorem dX7_back_95 : decode cX7_back 95 = .ok (.iload_n 1, 1) := dk_27 (dk_at dksX7_back_4 4 rfl rfl)
theorem dX7_back_96 : decode cX7_back 96 = .ok (.aload_n 0, 1) := dk_42 (dk_at dksX7_back_4 5 rfl rfl)
theorem dX7_back_97 : decode cX7_back 97 = .ok (.getfield 383, 3) := dk_180 1 127 (dk_at dksX7_back_4 6 rfl rfl)
theorem dX7_back_100 : decode cX7_back 100 = .ok (.if_icmp .ge 12, 3) := dk_162 0 12 (dk_at dksX7_back_4 9 rfl rfl)
theorem dX7_back_103 : decode cX7_back 103 = .ok (.aload_n 0, 1) := dk_42 (dk_at dksX7_back_4 12 rfl rfl)
theorem dX7_back_104 : decode cX7_back 104 = .ok (.getfield 89, 3) := dk_180 0 89 (dk_at dksX7_back_4 13 rfl rfl)
theorem dX7_back_107 : decode cX7_back 107 = .ok (.iload_n 1, 1) := dk_27 (dk_at dksX7_back_4 16 rfl rfl)
theorem dX7_back_108 : decode cX7_back 108 = .ok (.iaload, 1) := dk_46 (dk_at dksX7_back_4 17 rfl rfl)
theorem dX7_back_109 : decode cX7_back 109 = .ok (.goto 9, 3) := dk_167 0 9 (dk_at dksX7_back_4 18 rfl rfl)
theorem dX7_back_112 : decode cX7_back 112 = .ok (.aload_n 0, 1) := dk_42 (dk_at dksX7_back_4 21 rfl rfl)
theorem dX7_back_113 : decode cX7_back 113 = .ok (.getfield 49, 3) := dk_180 0 49 (dk_at dksX7_back_5 0 rfl rfl)
theorem dX7_back_116 : decode cX7_back 116 = .ok (.iload_n 1, 1) := dk_27 (dk_at dksX7_back_5 3 rfl rfl)
theorem dX7_back_117 : decode cX7_back 117 = .ok (.iaload, 1) := dk_46 (dk_at dksX7_back_5 4 rfl rfl)
theorem dX7_back_118 : decode cX7_back 118 = .ok (.iastore, 1) := dk_79 (dk_at dksX7_back_5 5 rfl rfl)
theorem dX7_back_119 : decode cX7_back 119 = .ok (.iinc 1 1, 3) := dk_132 1 1 (dk_at dksX7_back_5 6 rfl rfl)
theorem dX7_back_122 : decode cX7_back 122 = .ok (.goto (-102), 3) := dk_167 255 154 (dk_at dksX7_back_5 9 rfl rfl)
theorem dX7_back_125 : decode cX7_back 125 = .ok (.iconst 0, 1) := dk_3 (dk_at dksX7_back_5 12 rfl rfl)
theorem dX7_back_126 : decode cX7_back 126 = .ok (.istore_n 1, 1) := dk_60 (dk_at dksX7_back_5 13 rfl rfl)
theorem dX7_back_127 : decode cX7_back 127 = .ok (.iload_n 1, 1) := dk_27 (dk_at dksX7_back_5 14 rfl rfl)
theorem dX7_back_128 : decode cX7_back 128 = .ok (.aload_n 0, 1) := dk_42 (dk_at dksX7_back_5 15 rfl rfl)
theorem dX7_back_129 : decode cX7_back 129 = .ok (.getfield 380, 3) := dk_180 1 124 (dk_at dksX7_back_5 16 rfl rfl)
theorem dX7_back_132 : decode cX7_back 132 = .ok (.if_icmp .ge 69, 3) := dk_162 0 69 (dk_at dksX7_back_5 19 rfl rfl)
theorem dX7_back_135 : decode cX7_back 135 = .ok (.aload_n 0, 1) := dk_42 (dk_at dksX7_back_5 22 rfl rfl)
theorem dX7_back_136 : decode cX7_back 136 = .ok (.getfield 28, 3) := dk_180 0 28 (dk_at dksX7_back_6 0 rfl rfl)
theorem dX7_back_139 : decode cX7_back 139 = .ok (.iload_n 1, 1) := dk_27 (dk_at dksX7_back_6 3 rfl rfl)
theorem dX7_back_140 : decode cX7_back 140 = .ok (.aload_n 0, 1) := dk_42 (dk_at dksX7_back_6 4 rfl rfl)
theorem dX7_back_141 : decode cX7_back 141 = .ok (.getfield 77, 3) := dk_180 0 77 (dk_at dksX7_back_6 5 rfl rfl)
theorem dX7_back_144 : decode cX7_back 144 = .ok (.iload_n 1, 1) := dk_27 (dk_at dksX7_back_6 8 rfl rfl)
theorem dX7_back_145 : decode cX7_back 145 = .ok (.iaload, 1) := dk_46 (dk_at dksX7_back_6 9 rfl rfl)
theorem dX7_back_146 : decode cX7_back 146 = .ok (.iastore, 1) := dk_79 (dk_at dksX7_back_6 10 rfl rfl)
theorem dX7_back_147 : decode cX7_back 147 = .ok (.aload_n 0, 1) := dk_42 (dk_at dksX7_back_6 11 rfl rfl)
theorem dX7_back_148 : decode cX7_back 148 = .ok (.getfield 31, 3) := dk_180 0 31 (dk_at dksX7_back_6 12 rfl rfl)
theorem dX7_back_151 : decode cX7_back 151 = .ok (.iload_n 1, 1) := dk_27 (dk_at dksX7_back_6 15 rfl rfl)
theorem dX7_back_152 : decode cX7_back 152 = .ok (.aload_n 0, 1) := dk_42 (dk_at dksX7_back_6 16 rfl rfl)
theorem dX7_back_153 : decode cX7_back 153 = .ok (.getfield 80, 3) := dk_180 0 80 (dk_at dksX7_back_6 17 rfl rfl)
theorem dX7_back_156 : decode cX7_back 156 = .ok (.iload_n 1, 1) := dk_27 (dk_at dksX7_back_6 20 rfl rfl)
theorem dX7_back_157 : decode cX7_back 157 = .ok (.iaload, 1) := dk_46 (dk_at dksX7_back_6 21 rfl rfl)
theorem dX7_back_158 : decode cX7_back 158 = .ok (.iastore, 1) := dk_79 (dk_at dksX7_back_6 22 rfl rfl)
theorem dX7_back_159 : decode cX7_back 159 = .ok (.iconst 0, 1) := dk_3 (dk_at dksX7_back_6 23 rfl rfl)
theorem dX7_back_160 : decode cX7_back 160 = .ok (.istore_n 2, 1) := dk_61 (dk_at dksX7_back_7 0 rfl rfl)
theorem dX7_back_161 : decode cX7_back 161 = .ok (.iload_n 2, 1) := dk_28 (dk_at dksX7_back_7 1 rfl rfl)
theorem dX7_back_162 : decode cX7_back 162 = .ok (.bipush 8, 2) := dk_16 8 (dk_at dksX7_back_7 2 rfl rfl)
theorem dX7_back_164 : decode cX7_back 164 = .ok (.if_icmp .ge 31, 3) := dk_162 0 31 (dk_at dksX7_back_7 4 rfl rfl)
theorem dX7_back_167 : decode cX7_back 167 = .ok (.aload_n 0, 1) := dk_42 (dk_at dksX7_back_7 7 rfl rfl)
theorem dX7_back_168 : decode cX7_back 168 = .ok (.getfield 34, 3) := dk_180 0 34 (dk_at dksX7_back_7 8 rfl rfl)
theorem dX7_back_171 : decode cX7_back 171 = .ok (.bipush 8, 2) := dk_16 8 (dk_at dksX7_back_7 11 rfl rfl)
theorem dX7_back_173 : decode cX7_back 173 = .ok (.iload_n 1, 1) := dk_27 (dk_at dksX7_back_7 13 rfl rfl)
theorem dX7_back_174 : decode cX7_back 174 = .ok (.imul, 1) := dk_104 (dk_at dksX7_back_7 14 rfl rfl)
theorem dX7_back_175 : decode cX7_back 175 = .ok (.iload_n 2, 1) := dk_28 (dk_at dksX7_back_7 15 rfl rfl)
theorem dX7_back_176 : decode cX7_back 176 = .ok (.iadd, 1) := dk_96 (dk_at dksX7_back_7 16 rfl rfl)
theorem dX7_back_177 : decode cX7_back 177 = .ok (.aload_n 0, 1) := dk_42 (dk_at dksX7_back_7 17 rfl rfl)
theorem dX7_back_178 : decode cX7_back 178 = .ok (.getfield 83, 3) := dk_180 0 83 (dk_at dksX7_back_7 18 rfl rfl)
theorem dX7_back_181 : decode cX7_back 181 = .ok (.bipush 8, 2) := dk_16 8 (dk_at dksX7_back_7 21 rfl rfl)
theorem dX7_back_183 : decode cX7_back 183 = .ok (.iload_n 1, 1) := dk_27 (dk_at dksX7_back_7 23 rfl rfl)
theorem dX7_back_184 : decode cX7_back 184 = .ok (.imul, 1) := dk_104 (dk_at dksX7_back_8 0 rfl rfl)
theorem dX7_back_185 : decode cX7_back 185 = .ok (.iload_n 2, 1) := dk_28 (dk_at dksX7_back_8 1 rfl rfl)
theorem dX7_back_186 : decode cX7_back 186 = .ok (.iadd, 1) := dk_96 (dk_at dksX7_back_8 2 rfl rfl)
theorem dX7_back_187 : decode cX7_back 187 = .ok (.iaload, 1) := dk_46 (dk_at dksX7_back_8 3 rfl rfl)
theorem dX7_back_188 : decode cX7_back 188 = .ok (.iastore, 1) := dk_79 (dk_at dksX7_back_8 4 rfl rfl)
theorem dX7_back_189 : decode cX7_back 189 = .ok (.iinc 2 1, 3) := dk_132 2 1 (dk_at dksX7_back_8 5 rfl rfl)
theorem dX7_back_192 : decode cX7_back 192 = .ok (.goto (-31), 3) := dk_167 255 225 (dk_at dksX7_back_8 8 rfl rfl)
theorem dX7_back_195 : decode cX7_back 195 = .ok (.iinc 1 1, 3) := dk_132 1 1 (dk_at dksX7_back_8 11 rfl rfl)
theorem dX7_back_198 : decode cX7_back 198 = .ok (.goto (-71), 3) := dk_167 255 185 (dk_at dksX7_back_8 14 rfl rfl)
theorem dX7_back_201 : decode cX7_back 201 = .ok (.aload_n 0, 1) := dk_42 (dk_at dksX7_back_8 17 rfl rfl)
theorem dX7_back_202 : decode cX7_back 202 = .ok (.getfield 156, 3) := dk_180 0 156 (dk_at dksX7_back_8 18 rfl rfl)
theorem dX7_back_205 : decode cX7_back 205 = .ok (.ireturn, 1) := dk_172 (dk_at dksX7_back_8 21 rfl rfl)
abbrev cX7_sheet : ByteArray := prog_19_method_89_code
def yX7_sheet : MethodName := ⟨RX7, "sheet", "(III)I"⟩
def dkwX7_sheet_4 : List UInt8 := [4, 172]
abbrev dktX7_sheet_4 : List UInt8 := dkwX7_sheet_4 ++ []
def dkwX7_sheet_3 : List UInt8 := [16, 60, 162, 0, 22, 42, 180, 0, 98, 16, 60, 27, 104, 21, 4, 96, 3, 79, 132, 4, 1, 167, 255, 233]
abbrev dktX7_sheet_3 : List UInt8 := dkwX7_sheet_3 ++ dktX7_sheet_4
def dkwX7_sheet_2 : List UInt8 := [27, 28, 79, 42, 180, 0, 95, 27, 28, 2, 160, 0, 7, 3, 167, 0, 4, 29, 79, 3, 54, 4, 21, 4]
abbrev dktX7_sheet_2 : List UInt8 := dkwX7_sheet_2 ++ dktX7_sheet_3
def dkwX7_sheet_1 : List UInt8 := [16, 60, 164, 0, 6, 16, 254, 172, 28, 2, 159, 0, 10, 29, 156, 0, 6, 16, 242, 172, 42, 180, 0, 92]
abbrev dktX7_sheet_1 : List UInt8 := dkwX7_sheet_1 ++ dktX7_sheet_2
def dkwX7_sheet_0 : List UInt8 := [27, 3, 6, 184, 0, 159, 153, 0, 23, 28, 2, 5, 184, 0, 159, 153, 0, 14, 28, 2, 159, 0, 12, 29]
abbrev dktX7_sheet_0 : List UInt8 := dkwX7_sheet_0 ++ dktX7_sheet_1
theorem dksX7_sheet_0 : cX7_sheet.data.toList.drop 0 = dktX7_sheet_0 := by decide +kernel
theorem dksX7_sheet_1 : cX7_sheet.data.toList.drop 24 = dktX7_sheet_1 := dk_seg dksX7_sheet_0 24 rfl rfl
theorem dksX7_sheet_2 : cX7_sheet.data.toList.drop 48 = dktX7_sheet_2 := dk_seg dksX7_sheet_1 24 rfl rfl
theorem dksX7_sheet_3 : cX7_sheet.data.toList.drop 72 = dktX7_sheet_3 := dk_seg dksX7_sheet_2 24 rfl rfl
theorem dksX7_sheet_4 : cX7_sheet.data.toList.drop 96 = dktX7_sheet_4 := dk_seg dksX7_sheet_3 24 rfl rfl
theorem dX7_sheet_0 : decode cX7_sheet 0 = .ok (.iload_n 1, 1) := dk_27 (dk_at dksX7_sheet_0 0 rfl rfl)
theorem dX7_sheet_1 : decode cX7_sheet 1 = .ok (.iconst 0, 1) := dk_3 (dk_at dksX7_sheet_0 1 rfl rfl)
theorem dX7_sheet_2 : decode cX7_sheet 2 = .ok (.iconst 3, 1) := dk_6 (dk_at dksX7_sheet_0 2 rfl rfl)
theorem dX7_sheet_3 : decode cX7_sheet 3 = .ok (.invokestatic 159, 3) := dk_184 0 159 (dk_at dksX7_sheet_0 3 rfl rfl)
theorem dX7_sheet_6 : decode cX7_sheet 6 = .ok (.ifCond .eq 23, 3) := dk_153 0 23 (dk_at dksX7_sheet_0 6 rfl rfl)
theorem dX7_sheet_9 : decode cX7_sheet 9 = .ok (.iload_n 2, 1) := dk_28 (dk_at dksX7_sheet_0 9 rfl rfl)
theorem dX7_sheet_10 : decode cX7_sheet 10 = .ok (.iconst (-1), 1) := dk_2 (dk_at dksX7_sheet_0 10 rfl rfl)
theorem dX7_sheet_11 : decode cX7_sheet 11 = .ok (.iconst 2, 1) := dk_5 (dk_at dksX7_sheet_0 11 rfl rfl)
theorem dX7_sheet_12 : decode cX7_sheet 12 = .ok (.invokestatic 159, 3) := dk_184 0 159 (dk_at dksX7_sheet_0 12 rfl rfl)
theorem dX7_sheet_15 : decode cX7_sheet 15 = .ok (.ifCond .eq 14, 3) := dk_153 0 14 (dk_at dksX7_sheet_0 15 rfl rfl)
theorem dX7_sheet_18 : decode cX7_sheet 18 = .ok (.iload_n 2, 1) := dk_28 (dk_at dksX7_sheet_0 18 rfl rfl)
theorem dX7_sheet_19 : decode cX7_sheet 19 = .ok (.iconst (-1), 1) := dk_2 (dk_at dksX7_sheet_0 19 rfl rfl)
theorem dX7_sheet_20 : decode cX7_sheet 20 = .ok (.if_icmp .eq 12, 3) := dk_159 0 12 (dk_at dksX7_sheet_0 20 rfl rfl)
theorem dX7_sheet_23 : decode cX7_sheet 23 = .ok (.iload_n 3, 1) := dk_29 (dk_at dksX7_sheet_0 23 rfl rfl)
theorem dX7_sheet_24 : decode cX7_sheet 24 = .ok (.bipush 60, 2) := dk_16 60 (dk_at dksX7_sheet_1 0 rfl rfl)
theorem dX7_sheet_26 : decode cX7_sheet 26 = .ok (.if_icmp .le 6, 3) := dk_164 0 6 (dk_at dksX7_sheet_1 2 rfl rfl)
theorem dX7_sheet_29 : decode cX7_sheet 29 = .ok (.bipush (-2), 2) := dk_16 254 (dk_at dksX7_sheet_1 5 rfl rfl)
theorem dX7_sheet_31 : decode cX7_sheet 31 = .ok (.ireturn, 1) := dk_172 (dk_at dksX7_sheet_1 7 rfl rfl)
theorem dX7_sheet_32 : decode cX7_sheet 32 = .ok (.iload_n 2, 1) := dk_28 (dk_at dksX7_sheet_1 8 rfl rfl)
theorem dX7_sheet_33 : decode cX7_sheet 33 = .ok (.iconst (-1), 1) := dk_2 (dk_at dksX7_sheet_1 9 rfl rfl)
theorem dX7_sheet_34 : decode cX7_sheet 34 = .ok (.if_icmp .eq 10, 3) := dk_159 0 10 (dk_at dksX7_sheet_1 10 rfl rfl)
theorem dX7_sheet_37 : decode cX7_sheet 37 = .ok (.iload_n 3, 1) := dk_29 (dk_at dksX7_sheet_1 13 rfl rfl)
theorem dX7_sheet_38 : decode cX7_sheet 38 = .ok (.ifCond .ge 6, 3) := dk_156 0 6 (dk_at dksX7_sheet_1 14 rfl rfl)
theorem dX7_sheet_41 : decode cX7_sheet 41 = .ok (.bipush (-14), 2) := dk_16 242 (dk_at dksX7_sheet_1 17 rfl rfl)
theorem dX7_sheet_43 : decode cX7_sheet 43 = .ok (.ireturn, 1) := dk_172 (dk_at dksX7_sheet_1 19 rfl rfl)
theorem dX7_sheet_44 : decode cX7_sheet 44 = .ok (.aload_n 0, 1) := dk_42 (dk_at dksX7_sheet_1 20 rfl rfl)
theorem dX7_sheet_45 : decode cX7_sheet 45 = .ok (.getfield 92, 3) := dk_180 0 92 (dk_at dksX7_sheet_1 21 rfl rfl)
theorem dX7_sheet_48 : decode cX7_sheet 48 = .ok (.iload_n 1, 1) := dk_27 (dk_at dksX7_sheet_2 0 rfl rfl)
theorem dX7_sheet_49 : decode cX7_sheet 49 = .ok (.iload_n 2, 1) := dk_28 (dk_at dksX7_sheet_2 1 rfl rfl)
theorem dX7_sheet_50 : decode cX7_sheet 50 = .ok (.iastore, 1) := dk_79 (dk_at dksX7_sheet_2 2 rfl rfl)
theorem dX7_sheet_51 : decode cX7_sheet 51 = .ok (.aload_n 0, 1) := dk_42 (dk_at dksX7_sheet_2 3 rfl rfl)
theorem dX7_sheet_52 : decode cX7_sheet 52 = .ok (.getfield 95, 3) := dk_180 0 95 (dk_at dksX7_sheet_2 4 rfl rfl)
theorem dX7_sheet_55 : decode cX7_sheet 55 = .ok (.iload_n 1, 1) := dk_27 (dk_at dksX7_sheet_2 7 rfl rfl)
theorem dX7_sheet_56 : decode cX7_sheet 56 = .ok (.iload_n 2, 1) := dk_28 (dk_at dksX7_sheet_2 8 rfl rfl)
theorem dX7_sheet_57 : decode cX7_sheet 57 = .ok (.iconst (-1), 1) := dk_2 (dk_at dksX7_sheet_2 9 rfl rfl)
theorem dX7_sheet_58 : decode cX7_sheet 58 = .ok (.if_icmp .ne 7, 3) := dk_160 0 7 (dk_at dksX7_sheet_2 10 rfl rfl)
theorem dX7_sheet_61 : decode cX7_sheet 61 = .ok (.iconst 0, 1) := dk_3 (dk_at dksX7_sheet_2 13 rfl rfl)
theorem dX7_sheet_62 : decode cX7_sheet 62 = .ok (.goto 4, 3) := dk_167 0 4 (dk_at dksX7_sheet_2 14 rfl rfl)
theorem dX7_sheet_65 : decode cX7_sheet 65 = .ok (.iload_n 3, 1) := dk_29 (dk_at dksX7_sheet_2 17 rfl rfl)
theorem dX7_sheet_66 : decode cX7_sheet 66 = .ok (.iastore, 1) := dk_79 (dk_at dksX7_sheet_2 18 rfl rfl)
theorem dX7_sheet_67 : decode cX7_sheet 67 = .ok (.iconst 0, 1) := dk_3 (dk_at dksX7_sheet_2 19 rfl rfl)
theorem dX7_sheet_68 : decode cX7_sheet 68 = .ok (.istore 4, 2) := dk_54 4 (dk_at dksX7_sheet_2 20 rfl rfl)
theorem dX7_sheet_70 : decode cX7_sheet 70 = .ok (.iload 4, 2) := dk_21 4 (dk_at dksX7_sheet_2 22 rfl rfl)
theorem dX7_sheet_72 : decode cX7_sheet 72 = .ok (.bipush 60, 2) := dk_16 60 (dk_at dksX7_sheet_3 0 rfl rfl)
theorem dX7_sheet_74 : decode cX7_sheet 74 = .ok (.if_icmp .ge 22, 3) := dk_162 0 22 (dk_at dksX7_sheet_3 2 rfl rfl)
theorem dX7_sheet_77 : decode cX7_sheet 77 = .ok (.aload_n 0, 1) := dk_42 (dk_at dksX7_sheet_3 5 rfl rfl)
theorem dX7_sheet_78 : decode cX7_sheet 78 = .ok (.getfield 98, 3) := dk_180 0 98 (dk_at dksX7_sheet_3 6 rfl rfl)
theorem dX7_sheet_81 : decode cX7_sheet 81 = .ok (.bipush 60, 2) := dk_16 60 (dk_at dksX7_sheet_3 9 rfl rfl)
theorem dX7_sheet_83 : decode cX7_sheet 83 = .ok (.iload_n 1, 1) := dk_27 (dk_at dksX7_sheet_3 11 rfl rfl)
theorem dX7_sheet_84 : decode cX7_sheet 84 = .ok (.imul, 1) := dk_104 (dk_at dksX7_sheet_3 12 rfl rfl)
theorem dX7_sheet_85 : decode cX7_sheet 85 = .ok (.iload 4, 2) := dk_21 4 (dk_at dksX7_sheet_3 13 rfl rfl)
theorem dX7_sheet_87 : decode cX7_sheet 87 = .ok (.iadd, 1) := dk_96 (dk_at dksX7_sheet_3 15 rfl rfl)
theorem dX7_sheet_88 : decode cX7_sheet 88 = .ok (.iconst 0, 1) := dk_3 (dk_at dksX7_sheet_3 16 rfl rfl)
theorem dX7_sheet_89 : decode cX7_sheet 89 = .ok (.iastore, 1) := dk_79 (dk_at dksX7_sheet_3 17 rfl rfl)
theorem dX7_sheet_90 : decode cX7_sheet 90 = .ok (.iinc 4 1, 3) := dk_132 4 1 (dk_at dksX7_sheet_3 18 rfl rfl)
theorem dX7_sheet_93 : decode cX7_sheet 93 = .ok (.goto (-23), 3) := dk_167 255 233 (dk_at dksX7_sheet_3 21 rfl rfl)
theorem dX7_sheet_96 : decode cX7_sheet 96 = .ok (.iconst 1, 1) := dk_4 (dk_at dksX7_sheet_4 0 rfl rfl)
theorem dX7_sheet_97 : decode cX7_sheet 97 = .ok (.ireturn, 1) := dk_172 (dk_at dksX7_sheet_4 1 rfl rfl)
abbrev cX7_cell : ByteArray := prog_19_method_90_code
def yX7_cell : MethodName := ⟨RX7, "cell", "(III)I"⟩
def dkwX7_cell_3 : List UInt8 := [27, 46, 4, 160, 0, 8, 29, 147, 167, 0, 4, 29, 79, 4, 172]
abbrev dktX7_cell_3 : List UInt8 := dkwX7_cell_3 ++ []
def dkwX7_cell_2 : List UInt8 := [16, 60, 27, 104, 28, 96, 42, 180, 0, 92, 27, 46, 154, 0, 8, 29, 145, 167, 0, 19, 42, 180, 0, 92]
abbrev dktX7_cell_2 : List UInt8 := dkwX7_cell_2 ++ dktX7_cell_3
def dkwX7_cell_1 : List UInt8 := [172, 28, 3, 42, 180, 0, 95, 27, 46, 4, 100, 184, 0, 159, 154, 0, 6, 16, 244, 172, 42, 180, 0, 98]
abbrev dktX7_cell_1 : List UInt8 := dkwX7_cell_1 ++ dktX7_cell_2
def dkwX7_cell_0 : List UInt8 := [27, 3, 6, 184, 0, 159, 154, 0, 6, 16, 254, 172, 42, 180, 0, 92, 27, 46, 2, 160, 0, 6, 16, 245]
abbrev dktX7_cell_0 : List UInt8 := dkwX7_cell_0 ++ dktX7_cell_1
theorem dksX7_cell_0 : cX7_cell.data.toList.drop 0 = dktX7_cell_0 := by decide +kernel
theorem dksX7_cell_1 : cX7_cell.data.toList.drop 24 = dktX7_cell_1 := dk_seg dksX7_cell_0 24 rfl rfl
theorem dksX7_cell_2 : cX7_cell.data.toList.drop 48 = dktX7_cell_2 := dk_seg dksX7_cell_1 24 rfl rfl
theorem dksX7_cell_3 : cX7_cell.data.toList.drop 72 = dktX7_cell_3 := dk_seg dksX7_cell_2 24 rfl rfl
theorem dX7_cell_0 : decode cX7_cell 0 = .ok (.iload_n 1, 1) := dk_27 (dk_at dksX7_cell_0 0 rfl rfl)
theorem dX7_cell_1 : decode cX7_cell 1 = .ok (.iconst 0, 1) := dk_3 (dk_at dksX7_cell_0 1 rfl rfl)
theorem dX7_cell_2 : decode cX7_cell 2 = .ok (.iconst 3, 1) := dk_6 (dk_at dksX7_cell_0 2 rfl rfl)
theorem dX7_cell_3 : decode cX7_cell 3 = .ok (.invokestatic 159, 3) := dk_184 0 159 (dk_at dksX7_cell_0 3 rfl rfl)
theorem dX7_cell_6 : decode cX7_cell 6 = .ok (.ifCond .ne 6, 3) := dk_154 0 6 (dk_at dksX7_cell_0 6 rfl rfl)
theorem dX7_cell_9 : decode cX7_cell 9 = .ok (.bipush (-2), 2) := dk_16 254 (dk_at dksX7_cell_0 9 rfl rfl)
theorem dX7_cell_11 : decode cX7_cell 11 = .ok (.ireturn, 1) := dk_172 (dk_at dksX7_cell_0 11 rfl rfl)
theorem dX7_cell_12 : decode cX7_cell 12 = .ok (.aload_n 0, 1) := dk_42 (dk_at dksX7_cell_0 12 rfl rfl)
theorem dX7_cell_13 : decode cX7_cell 13 = .ok (.getfield 92, 3) := dk_180 0 92 (dk_at dksX7_cell_0 13 rfl rfl)
theorem dX7_cell_16 : decode cX7_cell 16 = .ok (.iload_n 1, 1) := dk_27 (dk_at dksX7_cell_0 16 rfl rfl)
theorem dX7_cell_17 : decode cX7_cell 17 = .ok (.iaload, 1) := dk_46 (dk_at dksX7_cell_0 17 rfl rfl)
theorem dX7_cell_18 : decode cX7_cell 18 = .ok (.iconst (-1), 1) := dk_2 (dk_at dksX7_cell_0 18 rfl rfl)
theorem dX7_cell_19 : decode cX7_cell 19 = .ok (.if_icmp .ne 6, 3) := dk_160 0 6 (dk_at dksX7_cell_0 19 rfl rfl)
theorem dX7_cell_22 : decode cX7_cell 22 = .ok (.bipush (-11), 2) := dk_16 245 (dk_at dksX7_cell_0 22 rfl rfl)
theorem dX7_cell_24 : decode cX7_cell 24 = .ok (.ireturn, 1) := dk_172 (dk_at dksX7_cell_1 0 rfl rfl)
theorem dX7_cell_25 : decode cX7_cell 25 = .ok (.iload_n 2, 1) := dk_28 (dk_at dksX7_cell_1 1 rfl rfl)
theorem dX7_cell_26 : decode cX7_cell 26 = .ok (.iconst 0, 1) := dk_3 (dk_at dksX7_cell_1 2 rfl rfl)
theorem dX7_cell_27 : decode cX7_cell 27 = .ok (.aload_n 0, 1) := dk_42 (dk_at dksX7_cell_1 3 rfl rfl)
theorem dX7_cell_28 : decode cX7_cell 28 = .ok (.getfield 95, 3) := dk_180 0 95 (dk_at dksX7_cell_1 4 rfl rfl)
theorem dX7_cell_31 : decode cX7_cell 31 = .ok (.iload_n 1, 1) := dk_27 (dk_at dksX7_cell_1 7 rfl rfl)
theorem dX7_cell_32 : decode cX7_cell 32 = .ok (.iaload, 1) := dk_46 (dk_at dksX7_cell_1 8 rfl rfl)
theorem dX7_cell_33 : decode cX7_cell 33 = .ok (.iconst 1, 1) := dk_4 (dk_at dksX7_cell_1 9 rfl rfl)
theorem dX7_cell_34 : decode cX7_cell 34 = .ok (.isub, 1) := dk_100 (dk_at dksX7_cell_1 10 rfl rfl)
theorem dX7_cell_35 : decode cX7_cell 35 = .ok (.invokestatic 159, 3) := dk_184 0 159 (dk_at dksX7_cell_1 11 rfl rfl)
theorem dX7_cell_38 : decode cX7_cell 38 = .ok (.ifCond .ne 6, 3) := dk_154 0 6 (dk_at dksX7_cell_1 14 rfl rfl)
theorem dX7_cell_41 : decode cX7_cell 41 = .ok (.bipush (-12), 2) := dk_16 244 (dk_at dksX7_cell_1 17 rfl rfl)
theorem dX7_cell_43 : decode cX7_cell 43 = .ok (.ireturn, 1) := dk_172 (dk_at dksX7_cell_1 19 rfl rfl)
theorem dX7_cell_44 : decode cX7_cell 44 = .ok (.aload_n 0, 1) := dk_42 (dk_at dksX7_cell_1 20 rfl rfl)
theorem dX7_cell_45 : decode cX7_cell 45 = .ok (.getfield 98, 3) := dk_180 0 98 (dk_at dksX7_cell_1 21 rfl rfl)
theorem dX7_cell_48 : decode cX7_cell 48 = .ok (.bipush 60, 2) := dk_16 60 (dk_at dksX7_cell_2 0 rfl rfl)
theorem dX7_cell_50 : decode cX7_cell 50 = .ok (.iload_n 1, 1) := dk_27 (dk_at dksX7_cell_2 2 rfl rfl)
theorem dX7_cell_51 : decode cX7_cell 51 = .ok (.imul, 1) := dk_104 (dk_at dksX7_cell_2 3 rfl rfl)
theorem dX7_cell_52 : decode cX7_cell 52 = .ok (.iload_n 2, 1) := dk_28 (dk_at dksX7_cell_2 4 rfl rfl)
theorem dX7_cell_53 : decode cX7_cell 53 = .ok (.iadd, 1) := dk_96 (dk_at dksX7_cell_2 5 rfl rfl)
theorem dX7_cell_54 : decode cX7_cell 54 = .ok (.aload_n 0, 1) := dk_42 (dk_at dksX7_cell_2 6 rfl rfl)
theorem dX7_cell_55 : decode cX7_cell 55 = .ok (.getfield 92, 3) := dk_180 0 92 (dk_at dksX7_cell_2 7 rfl rfl)
theorem dX7_cell_58 : decode cX7_cell 58 = .ok (.iload_n 1, 1) := dk_27 (dk_at dksX7_cell_2 10 rfl rfl)
theorem dX7_cell_59 : decode cX7_cell 59 = .ok (.iaload, 1) := dk_46 (dk_at dksX7_cell_2 11 rfl rfl)
theorem dX7_cell_60 : decode cX7_cell 60 = .ok (.ifCond .ne 8, 3) := dk_154 0 8 (dk_at dksX7_cell_2 12 rfl rfl)
theorem dX7_cell_63 : decode cX7_cell 63 = .ok (.iload_n 3, 1) := dk_29 (dk_at dksX7_cell_2 15 rfl rfl)
theorem dX7_cell_64 : decode cX7_cell 64 = .ok (.i2b, 1) := dk_145 (dk_at dksX7_cell_2 16 rfl rfl)
theorem dX7_cell_65 : decode cX7_cell 65 = .ok (.goto 19, 3) := dk_167 0 19 (dk_at dksX7_cell_2 17 rfl rfl)
theorem dX7_cell_68 : decode cX7_cell 68 = .ok (.aload_n 0, 1) := dk_42 (dk_at dksX7_cell_2 20 rfl rfl)
theorem dX7_cell_69 : decode cX7_cell 69 = .ok (.getfield 92, 3) := dk_180 0 92 (dk_at dksX7_cell_2 21 rfl rfl)
theorem dX7_cell_72 : decode cX7_cell 72 = .ok (.iload_n 1, 1) := dk_27 (dk_at dksX7_cell_3 0 rfl rfl)
theorem dX7_cell_73 : decode cX7_cell 73 = .ok (.iaload, 1) := dk_46 (dk_at dksX7_cell_3 1 rfl rfl)
theorem dX7_cell_74 : decode cX7_cell 74 = .ok (.iconst 1, 1) := dk_4 (dk_at dksX7_cell_3 2 rfl rfl)
theorem dX7_cell_75 : decode cX7_cell 75 = .ok (.if_icmp .ne 8, 3) := dk_160 0 8 (dk_at dksX7_cell_3 3 rfl rfl)
theorem dX7_cell_78 : decode cX7_cell 78 = .ok (.iload_n 3, 1) := dk_29 (dk_at dksX7_cell_3 6 rfl rfl)
theorem dX7_cell_79 : decode cX7_cell 79 = .ok (.i2s, 1) := dk_147 (dk_at dksX7_cell_3 7 rfl rfl)
theorem dX7_cell_80 : decode cX7_cell 80 = .ok (.goto 4, 3) := dk_167 0 4 (dk_at dksX7_cell_3 8 rfl rfl)
theorem dX7_cell_83 : decode cX7_cell 83 = .ok (.iload_n 3, 1) := dk_29 (dk_at dksX7_cell_3 11 rfl rfl)
theorem dX7_cell_84 : decode cX7_cell 84 = .ok (.iastore, 1) := dk_79 (dk_at dksX7_cell_3 12 rfl rfl)
theorem dX7_cell_85 : decode cX7_cell 85 = .ok (.iconst 1, 1) := dk_4 (dk_at dksX7_cell_3 13 rfl rfl)
theorem dX7_cell_86 : decode cX7_cell 86 = .ok (.ireturn, 1) := dk_172 (dk_at dksX7_cell_3 14 rfl rfl)
abbrev cX7_copy : ByteArray := prog_19_method_91_code
def yX7_copy : MethodName := ⟨RX7, "copy", "(IIIII)I"⟩
def dkwX7_copy_8 : List UInt8 := [180, 0, 98, 21, 6, 21, 9, 96, 46, 79, 132, 8, 1, 167, 255, 205, 21, 5, 172]
abbrev dktX7_copy_8 : List UInt8 := dkwX7_copy_8 ++ []
def dkwX7_copy_7 : List UInt8 := [4, 100, 21, 8, 100, 167, 0, 5, 21, 8, 54, 9, 42, 180, 0, 98, 21, 7, 21, 9, 96, 42]
abbrev dktX7_copy_7 : List UInt8 := dkwX7_copy_7 ++ dktX7_copy_8
def dkwX7_copy_6 : List UInt8 := [21, 4, 96, 54, 7, 3, 54, 8, 21, 8, 21, 5, 162, 0, 50, 21, 6, 21, 7, 162, 0, 13, 21, 5]
abbrev dktX7_copy_6 : List UInt8 := dkwX7_copy_6 ++ dktX7_copy_7
def dkwX7_copy_5 : List UInt8 := [29, 46, 21, 4, 100, 164, 0, 6, 16, 244, 172, 16, 60, 27, 104, 28, 96, 54, 6, 16, 60, 29, 104]
abbrev dktX7_copy_5 : List UInt8 := dkwX7_copy_5 ++ dktX7_copy_6
def dkwX7_copy_4 : List UInt8 := [29, 46, 163, 0, 30, 21, 5, 42, 180, 0, 95, 27, 46, 28, 100, 163, 0, 17, 21, 5, 42, 180, 0, 95]
abbrev dktX7_copy_4 : List UInt8 := dkwX7_copy_4 ++ dktX7_copy_5
def dkwX7_copy_3 : List UInt8 := [155, 0, 56, 21, 4, 155, 0, 51, 28, 42, 180, 0, 95, 27, 46, 163, 0, 41, 21, 4, 42, 180, 0, 95]
abbrev dktX7_copy_3 : List UInt8 := dkwX7_copy_3 ++ dktX7_copy_4
def dkwX7_copy_2 : List UInt8 := [180, 0, 92, 27, 46, 42, 180, 0, 92, 29, 46, 159, 0, 6, 16, 243, 172, 21, 5, 155, 0, 60, 28]
abbrev dktX7_copy_2 : List UInt8 := dkwX7_copy_2 ++ dktX7_copy_3
def dkwX7_copy_1 : List UInt8 := [180, 0, 92, 27, 46, 2, 159, 0, 13, 42, 180, 0, 92, 29, 46, 2, 160, 0, 6, 16, 245, 172, 42]
abbrev dktX7_copy_1 : List UInt8 := dkwX7_copy_1 ++ dktX7_copy_2
def dkwX7_copy_0 : List UInt8 := [27, 3, 6, 184, 0, 159, 153, 0, 12, 29, 3, 6, 184, 0, 159, 154, 0, 6, 16, 254, 172, 42]
abbrev dktX7_copy_0 : List UInt8 := dkwX7_copy_0 ++ dktX7_copy_1
theorem dksX7_copy_0 : cX7_copy.data.toList.drop 0 = dktX7_copy_0 := by decide +kernel
theorem dksX7_copy_1 : cX7_copy.data.toList.drop 22 = dktX7_copy_1 := dk_seg dksX7_copy_0 22 rfl rfl
theorem dksX7_copy_2 : cX7_copy.data.toList.drop 45 = dktX7_copy_2 := dk_seg dksX7_copy_1 23 rfl rfl
theorem dksX7_copy_3 : cX7_copy.data.toList.drop 68 = dktX7_copy_3 := dk_seg dksX7_copy_2 23 rfl rfl
theorem dksX7_copy_4 : cX7_copy.data.toList.drop 92 = dktX7_copy_4 := dk_seg dksX7_copy_3 24 rfl rfl
theorem dksX7_copy_5 : cX7_copy.data.toList.drop 116 = dktX7_copy_5 := dk_seg dksX7_copy_4 24 rfl rfl
theorem dksX7_copy_6 : cX7_copy.data.toList.drop 139 = dktX7_copy_6 := dk_seg dksX7_copy_5 23 rfl rfl
theorem dksX7_copy_7 : cX7_copy.data.toList.drop 163 = dktX7_copy_7 := dk_seg dksX7_copy_6 24 rfl rfl
theorem dksX7_copy_8 : cX7_copy.data.toList.drop 185 = dktX7_copy_8 := dk_seg dksX7_copy_7 22 rfl rfl
theorem dX7_copy_0 : decode cX7_copy 0 = .ok (.iload_n 1, 1) := dk_27 (dk_at dksX7_copy_0 0 rfl rfl)
theorem dX7_copy_1 : decode cX7_copy 1 = .ok (.iconst 0, 1) := dk_3 (dk_at dksX7_copy_0 1 rfl rfl)
theorem dX7_copy_2 : decode cX7_copy 2 = .ok (.iconst 3, 1) := dk_6 (dk_at dksX7_copy_0 2 rfl rfl)
theorem dX7_copy_3 : decode cX7_copy 3 = .ok (.invokestatic 159, 3) := dk_184 0 159 (dk_at dksX7_copy_0 3 rfl rfl)
theorem dX7_copy_6 : decode cX7_copy 6 = .ok (.ifCond .eq 12, 3) := dk_153 0 12 (dk_at dksX7_copy_0 6 rfl rfl)
theorem dX7_copy_9 : decode cX7_copy 9 = .ok (.iload_n 3, 1) := dk_29 (dk_at dksX7_copy_0 9 rfl rfl)
theorem dX7_copy_10 : decode cX7_copy 10 = .ok (.iconst 0, 1) := dk_3 (dk_at dksX7_copy_0 10 rfl rfl)
theorem dX7_copy_11 : decode cX7_copy 11 = .ok (.iconst 3, 1) := dk_6 (dk_at dksX7_copy_0 11 rfl rfl)
theorem dX7_copy_12 : decode cX7_copy 12 = .ok (.invokestatic 159, 3) := dk_184 0 159 (dk_at dksX7_copy_0 12 rfl rfl)
theorem dX7_copy_15 : decode cX7_copy 15 = .ok (.ifCond .ne 6, 3) := dk_154 0 6 (dk_at dksX7_copy_0 15 rfl rfl)
theorem dX7_copy_18 : decode cX7_copy 18 = .ok (.bipush (-2), 2) := dk_16 254 (dk_at dksX7_copy_0 18 rfl rfl)
theorem dX7_copy_20 : decode cX7_copy 20 = .ok (.ireturn, 1) := dk_172 (dk_at dksX7_copy_0 20 rfl rfl)
theorem dX7_copy_21 : decode cX7_copy 21 = .ok (.aload_n 0, 1) := dk_42 (dk_at dksX7_copy_0 21 rfl rfl)
theorem dX7_copy_22 : decode cX7_copy 22 = .ok (.getfield 92, 3) := dk_180 0 92 (dk_at dksX7_copy_1 0 rfl rfl)
theorem dX7_copy_25 : decode cX7_copy 25 = .ok (.iload_n 1, 1) := dk_27 (dk_at dksX7_copy_1 3 rfl rfl)
theorem dX7_copy_26 : decode cX7_copy 26 = .ok (.iaload, 1) := dk_46 (dk_at dksX7_copy_1 4 rfl rfl)
theorem dX7_copy_27 : decode cX7_copy 27 = .ok (.iconst (-1), 1) := dk_2 (dk_at dksX7_copy_1 5 rfl rfl)
theorem dX7_copy_28 : decode cX7_copy 28 = .ok (.if_icmp .eq 13, 3) := dk_159 0 13 (dk_at dksX7_copy_1 6 rfl rfl)
theorem dX7_copy_31 : decode cX7_copy 31 = .ok (.aload_n 0, 1) := dk_42 (dk_at dksX7_copy_1 9 rfl rfl)
theorem dX7_copy_32 : decode cX7_copy 32 = .ok (.getfield 92, 3) := dk_180 0 92 (dk_at dksX7_copy_1 10 rfl rfl)
theorem dX7_copy_35 : decode cX7_copy 35 = .ok (.iload_n 3, 1) := dk_29 (dk_at dksX7_copy_1 13 rfl rfl)
theorem dX7_copy_36 : decode cX7_copy 36 = .ok (.iaload, 1) := dk_46 (dk_at dksX7_copy_1 14 rfl rfl)
theorem dX7_copy_37 : decode cX7_copy 37 = .ok (.iconst (-1), 1) := dk_2 (dk_at dksX7_copy_1 15 rfl rfl)
theorem dX7_copy_38 : decode cX7_copy 38 = .ok (.if_icmp .ne 6, 3) := dk_160 0 6 (dk_at dksX7_copy_1 16 rfl rfl)
theorem dX7_copy_41 : decode cX7_copy 41 = .ok (.bipush (-11), 2) := dk_16 245 (dk_at dksX7_copy_1 19 rfl rfl)
theorem dX7_copy_43 : decode cX7_copy 43 = .ok (.ireturn, 1) := dk_172 (dk_at dksX7_copy_1 21 rfl rfl)
theorem dX7_copy_44 : decode cX7_copy 44 = .ok (.aload_n 0, 1) := dk_42 (dk_at dksX7_copy_1 22 rfl rfl)
theorem dX7_copy_45 : decode cX7_copy 45 = .ok (.getfield 92, 3) := dk_180 0 92 (dk_at dksX7_copy_2 0 rfl rfl)
theorem dX7_copy_48 : decode cX7_copy 48 = .ok (.iload_n 1, 1) := dk_27 (dk_at dksX7_copy_2 3 rfl rfl)
theorem dX7_copy_49 : decode cX7_copy 49 = .ok (.iaload, 1) := dk_46 (dk_at dksX7_copy_2 4 rfl rfl)
theorem dX7_copy_50 : decode cX7_copy 50 = .ok (.aload_n 0, 1) := dk_42 (dk_at dksX7_copy_2 5 rfl rfl)
theorem dX7_copy_51 : decode cX7_copy 51 = .ok (.getfield 92, 3) := dk_180 0 92 (dk_at dksX7_copy_2 6 rfl rfl)
theorem dX7_copy_54 : decode cX7_copy 54 = .ok (.iload_n 3, 1) := dk_29 (dk_at dksX7_copy_2 9 rfl rfl)
theorem dX7_copy_55 : decode cX7_copy 55 = .ok (.iaload, 1) := dk_46 (dk_at dksX7_copy_2 10 rfl rfl)
theorem dX7_copy_56 : decode cX7_copy 56 = .ok (.if_icmp .eq 6, 3) := dk_159 0 6 (dk_at dksX7_copy_2 11 rfl rfl)
theorem dX7_copy_59 : decode cX7_copy 59 = .ok (.bipush (-13), 2) := dk_16 243 (dk_at dksX7_copy_2 14 rfl rfl)
theorem dX7_copy_61 : decode cX7_copy 61 = .ok (.ireturn, 1) := dk_172 (dk_at dksX7_copy_2 16 rfl rfl)
theorem dX7_copy_62 : decode cX7_copy 62 = .ok (.iload 5, 2) := dk_21 5 (dk_at dksX7_copy_2 17 rfl rfl)
theorem dX7_copy_64 : decode cX7_copy 64 = .ok (.ifCond .lt 60, 3) := dk_155 0 60 (dk_at dksX7_copy_2 19 rfl rfl)
theorem dX7_copy_67 : decode cX7_copy 67 = .ok (.iload_n 2, 1) := dk_28 (dk_at dksX7_copy_2 22 rfl rfl)
theorem dX7_copy_68 : decode cX7_copy 68 = .ok (.ifCond .lt 56, 3) := dk_155 0 56 (dk_at dksX7_copy_3 0 rfl rfl)
theorem dX7_copy_71 : decode cX7_copy 71 = .ok (.iload 4, 2) := dk_21 4 (dk_at dksX7_copy_3 3 rfl rfl)
theorem dX7_copy_73 : decode cX7_copy 73 = .ok (.ifCond .lt 51, 3) := dk_155 0 51 (dk_at dksX7_copy_3 5 rfl rfl)
theorem dX7_copy_76 : decode cX7_copy 76 = .ok (.iload_n 2, 1) := dk_28 (dk_at dksX7_copy_3 8 rfl rfl)
theorem dX7_copy_77 : decode cX7_copy 77 = .ok (.aload_n 0, 1) := dk_42 (dk_at dksX7_copy_3 9 rfl rfl)
theorem dX7_copy_78 : decode cX7_copy 78 = .ok (.getfield 95, 3) := dk_180 0 95 (dk_at dksX7_copy_3 10 rfl rfl)
theorem dX7_copy_81 : decode cX7_copy 81 = .ok (.iload_n 1, 1) := dk_27 (dk_at dksX7_copy_3 13 rfl rfl)
theorem dX7_copy_82 : decode cX7_copy 82 = .ok (.iaload, 1) := dk_46 (dk_at dksX7_copy_3 14 rfl rfl)
theorem dX7_copy_83 : decode cX7_copy 83 = .ok (.if_icmp .gt 41, 3) := dk_163 0 41 (dk_at dksX7_copy_3 15 rfl rfl)
theorem dX7_copy_86 : decode cX7_copy 86 = .ok (.iload 4, 2) := dk_21 4 (dk_at dksX7_copy_3 18 rfl rfl)
theorem dX7_copy_88 : decode cX7_copy 88 = .ok (.aload_n 0, 1) := dk_42 (dk_at dksX7_copy_3 20 rfl rfl)
theorem dX7_copy_89 : decode cX7_copy 89 = .ok (.getfield 95, 3) := dk_180 0 95 (dk_at dksX7_copy_3 21 rfl rfl)
theorem dX7_copy_92 : decode cX7_copy 92 = .ok (.iload_n 3, 1) := dk_29 (dk_at dksX7_copy_4 0 rfl rfl)
theorem dX7_copy_93 : decode cX7_copy 93 = .ok (.iaload, 1) := dk_46 (dk_at dksX7_copy_4 1 rfl rfl)
theorem dX7_copy_94 : decode cX7_copy 94 = .ok (.if_icmp .gt 30, 3) := dk_163 0 30 (dk_at dksX7_copy_4 2 rfl rfl)
theorem dX7_copy_97 : decode cX7_copy 97 = .ok (.iload 5, 2) := dk_21 5 (dk_at dksX7_copy_4 5 rfl rfl)
theorem dX7_copy_99 : decode cX7_copy 99 = .ok (.aload_n 0, 1) := dk_42 (dk_at dksX7_copy_4 7 rfl rfl)
theorem dX7_copy_100 : decode cX7_copy 100 = .ok (.getfield 95, 3) := dk_180 0 95 (dk_at dksX7_copy_4 8 rfl rfl)
theorem dX7_copy_103 : decode cX7_copy 103 = .ok (.iload_n 1, 1) := dk_27 (dk_at dksX7_copy_4 11 rfl rfl)
theorem dX7_copy_104 : decode cX7_copy 104 = .ok (.iaload, 1) := dk_46 (dk_at dksX7_copy_4 12 rfl rfl)
theorem dX7_copy_105 : decode cX7_copy 105 = .ok (.iload_n 2, 1) := dk_28 (dk_at dksX7_copy_4 13 rfl rfl)
theorem dX7_copy_106 : decode cX7_copy 106 = .ok (.isub, 1) := dk_100 (dk_at dksX7_copy_4 14 rfl rfl)
theorem dX7_copy_107 : decode cX7_copy 107 = .ok (.if_icmp .gt 17, 3) := dk_163 0 17 (dk_at dksX7_copy_4 15 rfl rfl)
theorem dX7_copy_110 : decode cX7_copy 110 = .ok (.iload 5, 2) := dk_21 5 (dk_at dksX7_copy_4 18 rfl rfl)
theorem dX7_copy_112 : decode cX7_copy 112 = .ok (.aload_n 0, 1) := dk_42 (dk_at dksX7_copy_4 20 rfl rfl)
theorem dX7_copy_113 : decode cX7_copy 113 = .ok (.getfield 95, 3) := dk_180 0 95 (dk_at dksX7_copy_4 21 rfl rfl)
theorem dX7_copy_116 : decode cX7_copy 116 = .ok (.iload_n 3, 1) := dk_29 (dk_at dksX7_copy_5 0 rfl rfl)
theorem dX7_copy_117 : decode cX7_copy 117 = .ok (.iaload, 1) := dk_46 (dk_at dksX7_copy_5 1 rfl rfl)
theorem dX7_copy_118 : decode cX7_copy 118 = .ok (.iload 4, 2) := dk_21 4 (dk_at dksX7_copy_5 2 rfl rfl)
theorem dX7_copy_120 : decode cX7_copy 120 = .ok (.isub, 1) := dk_100 (dk_at dksX7_copy_5 4 rfl rfl)
theorem dX7_copy_121 : decode cX7_copy 121 = .ok (.if_icmp .le 6, 3) := dk_164 0 6 (dk_at dksX7_copy_5 5 rfl rfl)
theorem dX7_copy_124 : decode cX7_copy 124 = .ok (.bipush (-12), 2) := dk_16 244 (dk_at dksX7_copy_5 8 rfl rfl)
theorem dX7_copy_126 : decode cX7_copy 126 = .ok (.ireturn, 1) := dk_172 (dk_at dksX7_copy_5 10 rfl rfl)
theorem dX7_copy_127 : decode cX7_copy 127 = .ok (.bipush 60, 2) := dk_16 60 (dk_at dksX7_copy_5 11 rfl rfl)
theorem dX7_copy_129 : decode cX7_copy 129 = .ok (.iload_n 1, 1) := dk_27 (dk_at dksX7_copy_5 13 rfl rfl)
theorem dX7_copy_130 : decode cX7_copy 130 = .ok (.imul, 1) := dk_104 (dk_at dksX7_copy_5 14 rfl rfl)
theorem dX7_copy_131 : decode cX7_copy 131 = .ok (.iload_n 2, 1) := dk_28 (dk_at dksX7_copy_5 15 rfl rfl)
theorem dX7_copy_132 : decode cX7_copy 132 = .ok (.iadd, 1) := dk_96 (dk_at dksX7_copy_5 16 rfl rfl)
theorem dX7_copy_133 : decode cX7_copy 133 = .ok (.istore 6, 2) := dk_54 6 (dk_at dksX7_copy_5 17 rfl rfl)
theorem dX7_copy_135 : decode cX7_copy 135 = .ok (.bipush 60, 2) := dk_16 60 (dk_at dksX7_copy_5 19 rfl rfl)
theorem dX7_copy_137 : decode cX7_copy 137 = .ok (.iload_n 3, 1) := dk_29 (dk_at dksX7_copy_5 21 rfl rfl)
theorem dX7_copy_138 : decode cX7_copy 138 = .ok (.imul, 1) := dk_104 (dk_at dksX7_copy_5 22 rfl rfl)
theorem dX7_copy_139 : decode cX7_copy 139 = .ok (.iload 4, 2) := dk_21 4 (dk_at dksX7_copy_6 0 rfl rfl)
theorem dX7_copy_141 : decode cX7_copy 141 = .ok (.iadd, 1) := dk_96 (dk_at dksX7_copy_6 2 rfl rfl)
theorem dX7_copy_142 : decode cX7_copy 142 = .ok (.istore 7, 2) := dk_54 7 (dk_at dksX7_copy_6 3 rfl rfl)
theorem dX7_copy_144 : decode cX7_copy 144 = .ok (.iconst 0, 1) := dk_3 (dk_at dksX7_copy_6 5 rfl rfl)
theorem dX7_copy_145 : decode cX7_copy 145 = .ok (.istore 8, 2) := dk_54 8 (dk_at dksX7_copy_6 6 rfl rfl)
theorem dX7_copy_147 : decode cX7_copy 147 = .ok (.iload 8, 2) := dk_21 8 (dk_at dksX7_copy_6 8 rfl rfl)
theorem dX7_copy_149 : decode cX7_copy 149 = .ok (.iload 5, 2) := dk_21 5 (dk_at dksX7_copy_6 10 rfl rfl)
theorem dX7_copy_151 : decode cX7_copy 151 = .ok (.if_icmp .ge 50, 3) := dk_162 0 50 (dk_at dksX7_copy_6 12 rfl rfl)
theorem dX7_copy_154 : decode cX7_copy 154 = .ok (.iload 6, 2) := dk_21 6 (dk_at dksX7_copy_6 15 rfl rfl)
theorem dX7_copy_156 : decode cX7_copy 156 = .ok (.iload 7, 2) := dk_21 7 (dk_at dksX7_copy_6 17 rfl rfl)
theorem dX7_copy_158 : decode cX7_copy 158 = .ok (.if_icmp .ge 13, 3) := dk_162 0 13 (dk_at dksX7_copy_6 19 rfl rfl)
theorem dX7_copy_161 : decode cX7_copy 161 = .ok (.iload 5, 2) := dk_21 5 (dk_at dksX7_copy_6 22 rfl rfl)
theorem dX7_copy_163 : decode cX7_copy 163 = .ok (.iconst 1, 1) := dk_4 (dk_at dksX7_copy_7 0 rfl rfl)
theorem dX7_copy_164 : decode cX7_copy 164 = .ok (.isub, 1) := dk_100 (dk_at dksX7_copy_7 1 rfl rfl)
theorem dX7_copy_165 : decode cX7_copy 165 = .ok (.iload 8, 2) := dk_21 8 (dk_at dksX7_copy_7 2 rfl rfl)
theorem dX7_copy_167 : decode cX7_copy 167 = .ok (.isub, 1) := dk_100 (dk_at dksX7_copy_7 4 rfl rfl)
theorem dX7_copy_168 : decode cX7_copy 168 = .ok (.goto 5, 3) := dk_167 0 5 (dk_at dksX7_copy_7 5 rfl rfl)
theorem dX7_copy_171 : decode cX7_copy 171 = .ok (.iload 8, 2) := dk_21 8 (dk_at dksX7_copy_7 8 rfl rfl)
theorem dX7_copy_173 : decode cX7_copy 173 = .ok (.istore 9, 2) := dk_54 9 (dk_at dksX7_copy_7 10 rfl rfl)
theorem dX7_copy_175 : decode cX7_copy 175 = .ok (.aload_n 0, 1) := dk_42 (dk_at dksX7_copy_7 12 rfl rfl)
theorem dX7_copy_176 : decode cX7_copy 176 = .ok (.getfield 98, 3) := dk_180 0 98 (dk_at dksX7_copy_7 13 rfl rfl)
theorem dX7_copy_179 : decode cX7_copy 179 = .ok (.iload 7, 2) := dk_21 7 (dk_at dksX7_copy_7 16 rfl rfl)
theorem dX7_copy_181 : decode cX7_copy 181 = .ok (.iload 9, 2) := dk_21 9 (dk_at dksX7_copy_7 18 rfl rfl)
theorem dX7_copy_183 : decode cX7_copy 183 = .ok (.iadd, 1) := dk_96 (dk_at dksX7_copy_7 20 rfl rfl)
theorem dX7_copy_184 : decode cX7_copy 184 = .ok (.aload_n 0, 1) := dk_42 (dk_at dksX7_copy_7 21 rfl rfl)
theorem dX7_copy_185 : decode cX7_copy 185 = .ok (.getfield 98, 3) := dk_180 0 98 (dk_at dksX7_copy_8 0 rfl rfl)
theorem dX7_copy_188 : decode cX7_copy 188 = .ok (.iload 6, 2) := dk_21 6 (dk_at dksX7_copy_8 3 rfl rfl)
theorem dX7_copy_190 : decode cX7_copy 190 = .ok (.iload 9, 2) := dk_21 9 (dk_at dksX7_copy_8 5 rfl rfl)
theorem dX7_copy_192 : decode cX7_copy 192 = .ok (.iadd, 1) := dk_96 (dk_at dksX7_copy_8 7 rfl rfl)
theorem dX7_copy_193 : decode cX7_copy 193 = .ok (.iaload, 1) := dk_46 (dk_at dksX7_copy_8 8 rfl rfl)
theorem dX7_copy_194 : decode cX7_copy 194 = .ok (.iastore, 1) := dk_79 (dk_at dksX7_copy_8 9 rfl rfl)
theorem dX7_copy_195 : decode cX7_copy 195 = .ok (.iinc 8 1, 3) := dk_132 8 1 (dk_at dksX7_copy_8 10 rfl rfl)
theorem dX7_copy_198 : decode cX7_copy 198 = .ok (.goto (-51), 3) := dk_167 255 205 (dk_at dksX7_copy_8 13 rfl rfl)
theorem dX7_copy_201 : decode cX7_copy 201 = .ok (.iload 5, 2) := dk_21 5 (dk_at dksX7_copy_8 16 rfl rfl)
theorem dX7_copy_203 : decode cX7_copy 203 = .ok (.ireturn, 1) := dk_172 (dk_at dksX7_copy_8 18 rfl rfl)
abbrev cX7_sitters : ByteArray := prog_19_method_92_code
def yX7_sitters : MethodName := ⟨RX7, "sitters", "(IIII)I"⟩
def dkwX7_sitters_5 : List UInt8 := [54, 5, 132, 6, 1, 167, 255, 200, 21, 5, 172]
abbrev dktX7_sitters_5 : List UInt8 := dkwX7_sitters_5 ++ []
def dkwX7_sitters_4 : List UInt8 := [180, 0, 98, 16, 60, 27, 104, 21, 6, 96, 46, 182, 1, 133, 155, 0, 7, 4, 167, 0, 4, 3, 96]
abbrev dktX7_sitters_4 : List UInt8 := dkwX7_sitters_4 ++ dktX7_sitters_5
def dkwX7_sitters_3 : List UInt8 := [162, 0, 55, 21, 6, 42, 180, 0, 95, 27, 46, 161, 0, 6, 16, 244, 172, 21, 5, 42, 29, 21, 6, 42]
abbrev dktX7_sitters_3 : List UInt8 := dkwX7_sitters_3 ++ dktX7_sitters_4
def dkwX7_sitters_2 : List UInt8 := [180, 0, 92, 27, 46, 28, 159, 0, 6, 16, 243, 172, 3, 54, 5, 3, 54, 6, 21, 6, 21, 4]
abbrev dktX7_sitters_2 : List UInt8 := dkwX7_sitters_2 ++ dktX7_sitters_3
def dkwX7_sitters_1 : List UInt8 := [184, 0, 159, 154, 0, 6, 16, 254, 172, 42, 180, 0, 92, 27, 46, 2, 160, 0, 6, 16, 245, 172, 42]
abbrev dktX7_sitters_1 : List UInt8 := dkwX7_sitters_1 ++ dktX7_sitters_2
def dkwX7_sitters_0 : List UInt8 := [27, 3, 6, 184, 0, 159, 153, 0, 23, 28, 3, 5, 184, 0, 159, 153, 0, 14, 21, 4, 3, 16, 8]
abbrev dktX7_sitters_0 : List UInt8 := dkwX7_sitters_0 ++ dktX7_sitters_1
theorem dksX7_sitters_0 : cX7_sitters.data.toList.drop 0 = dktX7_sitters_0 := by decide +kernel
theorem dksX7_sitters_1 : cX7_sitters.data.toList.drop 23 = dktX7_sitters_1 := dk_seg dksX7_sitters_0 23 rfl rfl
theorem dksX7_sitters_2 : cX7_sitters.data.toList.drop 46 = dktX7_sitters_2 := dk_seg dksX7_sitters_1 23 rfl rfl
theorem dksX7_sitters_3 : cX7_sitters.data.toList.drop 68 = dktX7_sitters_3 := dk_seg dksX7_sitters_2 22 rfl rfl
theorem dksX7_sitters_4 : cX7_sitters.data.toList.drop 92 = dktX7_sitters_4 := dk_seg dksX7_sitters_3 24 rfl rfl
theorem dksX7_sitters_5 : cX7_sitters.data.toList.drop 115 = dktX7_sitters_5 := dk_seg dksX7_sitters_4 23 rfl rfl
theorem dX7_sitters_0 : decode cX7_sitters 0 = .ok (.iload_n 1, 1) := dk_27 (dk_at dksX7_sitters_0 0 rfl rfl)
theorem dX7_sitters_1 : decode cX7_sitters 1 = .ok (.iconst 0, 1) := dk_3 (dk_at dksX7_sitters_0 1 rfl rfl)
theorem dX7_sitters_2 : decode cX7_sitters 2 = .ok (.iconst 3, 1) := dk_6 (dk_at dksX7_sitters_0 2 rfl rfl)
theorem dX7_sitters_3 : decode cX7_sitters 3 = .ok (.invokestatic 159, 3) := dk_184 0 159 (dk_at dksX7_sitters_0 3 rfl rfl)
theorem dX7_sitters_6 : decode cX7_sitters 6 = .ok (.ifCond .eq 23, 3) := dk_153 0 23 (dk_at dksX7_sitters_0 6 rfl rfl)
theorem dX7_sitters_9 : decode cX7_sitters 9 = .ok (.iload_n 2, 1) := dk_28 (dk_at dksX7_sitters_0 9 rfl rfl)
theorem dX7_sitters_10 : decode cX7_sitters 10 = .ok (.iconst 0, 1) := dk_3 (dk_at dksX7_sitters_0 10 rfl rfl)
theorem dX7_sitters_11 : decode cX7_sitters 11 = .ok (.iconst 2, 1) := dk_5 (dk_at dksX7_sitters_0 11 rfl rfl)
theorem dX7_sitters_12 : decode cX7_sitters 12 = .ok (.invokestatic 159, 3) := dk_184 0 159 (dk_at dksX7_sitters_0 12 rfl rfl)
theorem dX7_sitters_15 : decode cX7_sitters 15 = .ok (.ifCond .eq 14, 3) := dk_153 0 14 (dk_at dksX7_sitters_0 15 rfl rfl)
theorem dX7_sitters_18 : decode cX7_sitters 18 = .ok (.iload 4, 2) := dk_21 4 (dk_at dksX7_sitters_0 18 rfl rfl)
theorem dX7_sitters_20 : decode cX7_sitters 20 = .ok (.iconst 0, 1) := dk_3 (dk_at dksX7_sitters_0 20 rfl rfl)
theorem dX7_sitters_21 : decode cX7_sitters 21 = .ok (.bipush 8, 2) := dk_16 8 (dk_at dksX7_sitters_0 21 rfl rfl)
theorem dX7_sitters_23 : decode cX7_sitters 23 = .ok (.invokestatic 159, 3) := dk_184 0 159 (dk_at dksX7_sitters_1 0 rfl rfl)
theorem dX7_sitters_26 : decode cX7_sitters 26 = .ok (.ifCond .ne 6, 3) := dk_154 0 6 (dk_at dksX7_sitters_1 3 rfl rfl)
theorem dX7_sitters_29 : decode cX7_sitters 29 = .ok (.bipush (-2), 2) := dk_16 254 (dk_at dksX7_sitters_1 6 rfl rfl)
theorem dX7_sitters_31 : decode cX7_sitters 31 = .ok (.ireturn, 1) := dk_172 (dk_at dksX7_sitters_1 8 rfl rfl)
theorem dX7_sitters_32 : decode cX7_sitters 32 = .ok (.aload_n 0, 1) := dk_42 (dk_at dksX7_sitters_1 9 rfl rfl)
theorem dX7_sitters_33 : decode cX7_sitters 33 = .ok (.getfield 92, 3) := dk_180 0 92 (dk_at dksX7_sitters_1 10 rfl rfl)
theorem dX7_sitters_36 : decode cX7_sitters 36 = .ok (.iload_n 1, 1) := dk_27 (dk_at dksX7_sitters_1 13 rfl rfl)
theorem dX7_sitters_37 : decode cX7_sitters 37 = .ok (.iaload, 1) := dk_46 (dk_at dksX7_sitters_1 14 rfl rfl)
theorem dX7_sitters_38 : decode cX7_sitters 38 = .ok (.iconst (-1), 1) := dk_2 (dk_at dksX7_sitters_1 15 rfl rfl)
theorem dX7_sitters_39 : decode cX7_sitters 39 = .ok (.if_icmp .ne 6, 3) := dk_160 0 6 (dk_at dksX7_sitters_1 16 rfl rfl)
theorem dX7_sitters_42 : decode cX7_sitters 42 = .ok (.bipush (-11), 2) := dk_16 245 (dk_at dksX7_sitters_1 19 rfl rfl)
theorem dX7_sitters_44 : decode cX7_sitters 44 = .ok (.ireturn, 1) := dk_172 (dk_at dksX7_sitters_1 21 rfl rfl)
theorem dX7_sitters_45 : decode cX7_sitters 45 = .ok (.aload_n 0, 1) := dk_42 (dk_at dksX7_sitters_1 22 rfl rfl)
theorem dX7_sitters_46 : decode cX7_sitters 46 = .ok (.getfield 92, 3) := dk_180 0 92 (dk_at dksX7_sitters_2 0 rfl rfl)
theorem dX7_sitters_49 : decode cX7_sitters 49 = .ok (.iload_n 1, 1) := dk_27 (dk_at dksX7_sitters_2 3 rfl rfl)
theorem dX7_sitters_50 : decode cX7_sitters 50 = .ok (.iaload, 1) := dk_46 (dk_at dksX7_sitters_2 4 rfl rfl)
theorem dX7_sitters_51 : decode cX7_sitters 51 = .ok (.iload_n 2, 1) := dk_28 (dk_at dksX7_sitters_2 5 rfl rfl)
theorem dX7_sitters_52 : decode cX7_sitters 52 = .ok (.if_icmp .eq 6, 3) := dk_159 0 6 (dk_at dksX7_sitters_2 6 rfl rfl)
theorem dX7_sitters_55 : decode cX7_sitters 55 = .ok (.bipush (-13), 2) := dk_16 243 (dk_at dksX7_sitters_2 9 rfl rfl)
theorem dX7_sitters_57 : decode cX7_sitters 57 = .ok (.ireturn, 1) := dk_172 (dk_at dksX7_sitters_2 11 rfl rfl)
theorem dX7_sitters_58 : decode cX7_sitters 58 = .ok (.iconst 0, 1) := dk_3 (dk_at dksX7_sitters_2 12 rfl rfl)
theorem dX7_sitters_59 : decode cX7_sitters 59 = .ok (.istore 5, 2) := dk_54 5 (dk_at dksX7_sitters_2 13 rfl rfl)
theorem dX7_sitters_61 : decode cX7_sitters 61 = .ok (.iconst 0, 1) := dk_3 (dk_at dksX7_sitters_2 15 rfl rfl)
theorem dX7_sitters_62 : decode cX7_sitters 62 = .ok (.istore 6, 2) := dk_54 6 (dk_at dksX7_sitters_2 16 rfl rfl)
theorem dX7_sitters_64 : decode cX7_sitters 64 = .ok (.iload 6, 2) := dk_21 6 (dk_at dksX7_sitters_2 18 rfl rfl)
theorem dX7_sitters_66 : decode cX7_sitters 66 = .ok (.iload 4, 2) := dk_21 4 (dk_at dksX7_sitters_2 20 rfl rfl)
theorem dX7_sitters_68 : decode cX7_sitters 68 = .ok (.if_icmp .ge 55, 3) := dk_162 0 55 (dk_at dksX7_sitters_3 0 rfl rfl)
theorem dX7_sitters_71 : decode cX7_sitters 71 = .ok (.iload 6, 2) := dk_21 6 (dk_at dksX7_sitters_3 3 rfl rfl)
theorem dX7_sitters_73 : decode cX7_sitters 73 = .ok (.aload_n 0, 1) := dk_42 (dk_at dksX7_sitters_3 5 rfl rfl)
theorem dX7_sitters_74 : decode cX7_sitters 74 = .ok (.getfield 95, 3) := dk_180 0 95 (dk_at dksX7_sitters_3 6 rfl rfl)
theorem dX7_sitters_77 : decode cX7_sitters 77 = .ok (.iload_n 1, 1) := dk_27 (dk_at dksX7_sitters_3 9 rfl rfl)
theorem dX7_sitters_78 : decode cX7_sitters 78 = .ok (.iaload, 1) := dk_46 (dk_at dksX7_sitters_3 10 rfl rfl)
theorem dX7_sitters_79 : decode cX7_sitters 79 = .ok (.if_icmp .lt 6, 3) := dk_161 0 6 (dk_at dksX7_sitters_3 11 rfl rfl)
theorem dX7_sitters_82 : decode cX7_sitters 82 = .ok (.bipush (-12), 2) := dk_16 244 (dk_at dksX7_sitters_3 14 rfl rfl)
theorem dX7_sitters_84 : decode cX7_sitters 84 = .ok (.ireturn, 1) := dk_172 (dk_at dksX7_sitters_3 16 rfl rfl)
theorem dX7_sitters_85 : decode cX7_sitters 85 = .ok (.iload 5, 2) := dk_21 5 (dk_at dksX7_sitters_3 17 rfl rfl)
theorem dX7_sitters_87 : decode cX7_sitters 87 = .ok (.aload_n 0, 1) := dk_42 (dk_at dksX7_sitters_3 19 rfl rfl)
theorem dX7_sitters_88 : decode cX7_sitters 88 = .ok (.iload_n 3, 1) := dk_29 (dk_at dksX7_sitters_3 20 rfl rfl)
theorem dX7_sitters_89 : decode cX7_sitters 89 = .ok (.iload 6, 2) := dk_21 6 (dk_at dksX7_sitters_3 21 rfl rfl)
theorem dX7_sitters_91 : decode cX7_sitters 91 = .ok (.aload_n 0, 1) := dk_42 (dk_at dksX7_sitters_3 23 rfl rfl)
theorem dX7_sitters_92 : decode cX7_sitters 92 = .ok (.getfield 98, 3) := dk_180 0 98 (dk_at dksX7_sitters_4 0 rfl rfl)
theorem dX7_sitters_95 : decode cX7_sitters 95 = .ok (.bipush 60, 2) := dk_16 60 (dk_at dksX7_sitters_4 3 rfl rfl)
theorem dX7_sitters_97 : decode cX7_sitters 97 = .ok (.iload_n 1, 1) := dk_27 (dk_at dksX7_sitters_4 5 rfl rfl)
theorem dX7_sitters_98 : decode cX7_sitters 98 = .ok (.imul, 1) := dk_104 (dk_at dksX7_sitters_4 6 rfl rfl)
theorem dX7_sitters_99 : decode cX7_sitters 99 = .ok (.iload 6, 2) := dk_21 6 (dk_at dksX7_sitters_4 7 rfl rfl)
theorem dX7_sitters_101 : decode cX7_sitters 101 = .ok (.iadd, 1) := dk_96 (dk_at dksX7_sitters_4 9 rfl rfl)
theorem dX7_sitters_102 : decode cX7_sitters 102 = .ok (.iaload, 1) := dk_46 (dk_at dksX7_sitters_4 10 rfl rfl)
theorem dX7_sitters_103 : decode cX7_sitters 103 = .ok (.invokevirtual 389, 3) := dk_182 1 133 (dk_at dksX7_sitters_4 11 rfl rfl)
theorem dX7_sitters_106 : decode cX7_sitters 106 = .ok (.ifCond .lt 7, 3) := dk_155 0 7 (dk_at dksX7_sitters_4 14 rfl rfl)
theorem dX7_sitters_109 : decode cX7_sitters 109 = .ok (.iconst 1, 1) := dk_4 (dk_at dksX7_sitters_4 17 rfl rfl)
theorem dX7_sitters_110 : decode cX7_sitters 110 = .ok (.goto 4, 3) := dk_167 0 4 (dk_at dksX7_sitters_4 18 rfl rfl)
theorem dX7_sitters_113 : decode cX7_sitters 113 = .ok (.iconst 0, 1) := dk_3 (dk_at dksX7_sitters_4 21 rfl rfl)
theorem dX7_sitters_114 : decode cX7_sitters 114 = .ok (.iadd, 1) := dk_96 (dk_at dksX7_sitters_4 22 rfl rfl)
theorem dX7_sitters_115 : decode cX7_sitters 115 = .ok (.istore 5, 2) := dk_54 5 (dk_at dksX7_sitters_5 0 rfl rfl)
theorem dX7_sitters_117 : decode cX7_sitters 117 = .ok (.iinc 6 1, 3) := dk_132 6 1 (dk_at dksX7_sitters_5 2 rfl rfl)
theorem dX7_sitters_120 : decode cX7_sitters 120 = .ok (.goto (-56), 3) := dk_167 255 200 (dk_at dksX7_sitters_5 5 rfl rfl)
theorem dX7_sitters_123 : decode cX7_sitters 123 = .ok (.iload 5, 2) := dk_21 5 (dk_at dksX7_sitters_5 8 rfl rfl)
theorem dX7_sitters_125 : decode cX7_sitters 125 = .ok (.ireturn, 1) := dk_172 (dk_at dksX7_sitters_5 10 rfl rfl)
abbrev cX7_taken : ByteArray := prog_19_method_94_code
def yX7_taken : MethodName := ⟨RX7, "taken", "(II)I"⟩
def dkwX7_taken_4 : List UInt8 := [100, 46, 28, 184, 1, 136, 153, 0, 10, 27, 16, 6, 100, 167, 0, 5, 16, 243, 172]
abbrev dktX7_taken_4 : List UInt8 := dkwX7_taken_4 ++ []
def dkwX7_taken_3 : List UInt8 := [180, 0, 156, 161, 0, 8, 16, 245, 167, 0, 34, 28, 16, 6, 162, 0, 26, 42, 180, 0, 19, 27, 16, 6]
abbrev dktX7_taken_3 : List UInt8 := dkwX7_taken_3 ++ dktX7_taken_4
def dkwX7_taken_2 : List UInt8 := [16, 6, 160, 0, 12, 42, 180, 0, 40, 27, 46, 167, 0, 5, 16, 243, 172, 27, 16, 6, 100, 42]
abbrev dktX7_taken_2 : List UInt8 := dkwX7_taken_2 ++ dktX7_taken_3
def dkwX7_taken_1 : List UInt8 := [16, 244, 172, 27, 16, 6, 162, 0, 34, 27, 42, 180, 0, 197, 161, 0, 8, 16, 245, 167, 0, 20, 28]
abbrev dktX7_taken_1 : List UInt8 := dkwX7_taken_1 ++ dktX7_taken_2
def dkwX7_taken_0 : List UInt8 := [28, 3, 16, 6, 184, 0, 159, 154, 0, 6, 16, 254, 172, 27, 3, 16, 11, 184, 0, 159, 154, 0, 6]
abbrev dktX7_taken_0 : List UInt8 := dkwX7_taken_0 ++ dktX7_taken_1
theorem dksX7_taken_0 : cX7_taken.data.toList.drop 0 = dktX7_taken_0 := by decide +kernel
theorem dksX7_taken_1 : cX7_taken.data.toList.drop 23 = dktX7_taken_1 := dk_seg dksX7_taken_0 23 rfl rfl
theorem dksX7_taken_2 : cX7_taken.data.toList.drop 46 = dktX7_taken_2 := dk_seg dksX7_taken_1 23 rfl rfl
theorem dksX7_taken_3 : cX7_taken.data.toList.drop 68 = dktX7_taken_3 := dk_seg dksX7_taken_2 22 rfl rfl
theorem dksX7_taken_4 : cX7_taken.data.toList.drop 92 = dktX7_taken_4 := dk_seg dksX7_taken_3 24 rfl rfl
theorem dX7_taken_0 : decode cX7_taken 0 = .ok (.iload_n 2, 1) := dk_28 (dk_at dksX7_taken_0 0 rfl rfl)
theorem dX7_taken_1 : decode cX7_taken 1 = .ok (.iconst 0, 1) := dk_3 (dk_at dksX7_taken_0 1 rfl rfl)
theorem dX7_taken_2 : decode cX7_taken 2 = .ok (.bipush 6, 2) := dk_16 6 (dk_at dksX7_taken_0 2 rfl rfl)
theorem dX7_taken_4 : decode cX7_taken 4 = .ok (.invokestatic 159, 3) := dk_184 0 159 (dk_at dksX7_taken_0 4 rfl rfl)
theorem dX7_taken_7 : decode cX7_taken 7 = .ok (.ifCond .ne 6, 3) := dk_154 0 6 (dk_at dksX7_taken_0 7 rfl rfl)
theorem dX7_taken_10 : decode cX7_taken 10 = .ok (.bipush (-2), 2) := dk_16 254 (dk_at dksX7_taken_0 10 rfl rfl)
theorem dX7_taken_12 : decode cX7_taken 12 = .ok (.ireturn, 1) := dk_172 (dk_at dksX7_taken_0 12 rfl rfl)
theorem dX7_taken_13 : decode cX7_taken 13 = .ok (.iload_n 1, 1) := dk_27 (dk_at dksX7_taken_0 13 rfl rfl)
theorem dX7_taken_14 : decode cX7_taken 14 = .ok (.iconst 0, 1) := dk_3 (dk_at dksX7_taken_0 14 rfl rfl)
theorem dX7_taken_15 : decode cX7_taken 15 = .ok (.bipush 11, 2) := dk_16 11 (dk_at dksX7_taken_0 15 rfl rfl)
theorem dX7_taken_17 : decode cX7_taken 17 = .ok (.invokestatic 159, 3) := dk_184 0 159 (dk_at dksX7_taken_0 17 rfl rfl)
theorem dX7_taken_20 : decode cX7_taken 20 = .ok (.ifCond .ne 6, 3) := dk_154 0 6 (dk_at dksX7_taken_0 20 rfl rfl)
theorem dX7_taken_23 : decode cX7_taken 23 = .ok (.bipush (-12), 2) := dk_16 244 (dk_at dksX7_taken_1 0 rfl rfl)
theorem dX7_taken_25 : decode cX7_taken 25 = .ok (.ireturn, 1) := dk_172 (dk_at dksX7_taken_1 2 rfl rfl)
theorem dX7_taken_26 : decode cX7_taken 26 = .ok (.iload_n 1, 1) := dk_27 (dk_at dksX7_taken_1 3 rfl rfl)
theorem dX7_taken_27 : decode cX7_taken 27 = .ok (.bipush 6, 2) := dk_16 6 (dk_at dksX7_taken_1 4 rfl rfl)
theorem dX7_taken_29 : decode cX7_taken 29 = .ok (.if_icmp .ge 34, 3) := dk_162 0 34 (dk_at dksX7_taken_1 6 rfl rfl)
theorem dX7_taken_32 : decode cX7_taken 32 = .ok (.iload_n 1, 1) := dk_27 (dk_at dksX7_taken_1 9 rfl rfl)
theorem dX7_taken_33 : decode cX7_taken 33 = .ok (.aload_n 0, 1) := dk_42 (dk_at dksX7_taken_1 10 rfl rfl)
theorem dX7_taken_34 : decode cX7_taken 34 = .ok (.getfield 197, 3) := dk_180 0 197 (dk_at dksX7_taken_1 11 rfl rfl)
theorem dX7_taken_37 : decode cX7_taken 37 = .ok (.if_icmp .lt 8, 3) := dk_161 0 8 (dk_at dksX7_taken_1 14 rfl rfl)
theorem dX7_taken_40 : decode cX7_taken 40 = .ok (.bipush (-11), 2) := dk_16 245 (dk_at dksX7_taken_1 17 rfl rfl)
theorem dX7_taken_42 : decode cX7_taken 42 = .ok (.goto 20, 3) := dk_167 0 20 (dk_at dksX7_taken_1 19 rfl rfl)
theorem dX7_taken_45 : decode cX7_taken 45 = .ok (.iload_n 2, 1) := dk_28 (dk_at dksX7_taken_1 22 rfl rfl)
theorem dX7_taken_46 : decode cX7_taken 46 = .ok (.bipush 6, 2) := dk_16 6 (dk_at dksX7_taken_2 0 rfl rfl)
theorem dX7_taken_48 : decode cX7_taken 48 = .ok (.if_icmp .ne 12, 3) := dk_160 0 12 (dk_at dksX7_taken_2 2 rfl rfl)
theorem dX7_taken_51 : decode cX7_taken 51 = .ok (.aload_n 0, 1) := dk_42 (dk_at dksX7_taken_2 5 rfl rfl)
theorem dX7_taken_52 : decode cX7_taken 52 = .ok (.getfield 40, 3) := dk_180 0 40 (dk_at dksX7_taken_2 6 rfl rfl)
theorem dX7_taken_55 : decode cX7_taken 55 = .ok (.iload_n 1, 1) := dk_27 (dk_at dksX7_taken_2 9 rfl rfl)
theorem dX7_taken_56 : decode cX7_taken 56 = .ok (.iaload, 1) := dk_46 (dk_at dksX7_taken_2 10 rfl rfl)
theorem dX7_taken_57 : decode cX7_taken 57 = .ok (.goto 5, 3) := dk_167 0 5 (dk_at dksX7_taken_2 11 rfl rfl)
theorem dX7_taken_60 : decode cX7_taken 60 = .ok (.bipush (-13), 2) := dk_16 243 (dk_at dksX7_taken_2 14 rfl rfl)
theorem dX7_taken_62 : decode cX7_taken 62 = .ok (.ireturn, 1) := dk_172 (dk_at dksX7_taken_2 16 rfl rfl)
theorem dX7_taken_63 : decode cX7_taken 63 = .ok (.iload_n 1, 1) := dk_27 (dk_at dksX7_taken_2 17 rfl rfl)
theorem dX7_taken_64 : decode cX7_taken 64 = .ok (.bipush 6, 2) := dk_16 6 (dk_at dksX7_taken_2 18 rfl rfl)
theorem dX7_taken_66 : decode cX7_taken 66 = .ok (.isub, 1) := dk_100 (dk_at dksX7_taken_2 20 rfl rfl)
theorem dX7_taken_67 : decode cX7_taken 67 = .ok (.aload_n 0, 1) := dk_42 (dk_at dksX7_taken_2 21 rfl rfl)
theorem dX7_taken_68 : decode cX7_taken 68 = .ok (.getfield 156, 3) := dk_180 0 156 (dk_at dksX7_taken_3 0 rfl rfl)
theorem dX7_taken_71 : decode cX7_taken 71 = .ok (.if_icmp .lt 8, 3) := dk_161 0 8 (dk_at dksX7_taken_3 3 rfl rfl)
theorem dX7_taken_74 : decode cX7_taken 74 = .ok (.bipush (-11), 2) := dk_16 245 (dk_at dksX7_taken_3 6 rfl rfl)
theorem dX7_taken_76 : decode cX7_taken 76 = .ok (.goto 34, 3) := dk_167 0 34 (dk_at dksX7_taken_3 8 rfl rfl)
theorem dX7_taken_79 : decode cX7_taken 79 = .ok (.iload_n 2, 1) := dk_28 (dk_at dksX7_taken_3 11 rfl rfl)
theorem dX7_taken_80 : decode cX7_taken 80 = .ok (.bipush 6, 2) := dk_16 6 (dk_at dksX7_taken_3 12 rfl rfl)
theorem dX7_taken_82 : decode cX7_taken 82 = .ok (.if_icmp .ge 26, 3) := dk_162 0 26 (dk_at dksX7_taken_3 14 rfl rfl)
theorem dX7_taken_85 : decode cX7_taken 85 = .ok (.aload_n 0, 1) := dk_42 (dk_at dksX7_taken_3 17 rfl rfl)
theorem dX7_taken_86 : decode cX7_taken 86 = .ok (.getfield 19, 3) := dk_180 0 19 (dk_at dksX7_taken_3 18 rfl rfl)
theorem dX7_taken_89 : decode cX7_taken 89 = .ok (.iload_n 1, 1) := dk_27 (dk_at dksX7_taken_3 21 rfl rfl)
theorem dX7_taken_90 : decode cX7_taken 90 = .ok (.bipush 6, 2) := dk_16 6 (dk_at dksX7_taken_3 22 rfl rfl)
theorem dX7_taken_92 : decode cX7_taken 92 = .ok (.isub, 1) := dk_100 (dk_at dksX7_taken_4 0 rfl rfl)
theorem dX7_taken_93 : decode cX7_taken 93 = .ok (.iaload, 1) := dk_46 (dk_at dksX7_taken_4 1 rfl rfl)
theorem dX7_taken_94 : decode cX7_taken 94 = .ok (.iload_n 2, 1) := dk_28 (dk_at dksX7_taken_4 2 rfl rfl)
theorem dX7_taken_95 : decode cX7_taken 95 = .ok (.invokestatic 392, 3) := dk_184 1 136 (dk_at dksX7_taken_4 3 rfl rfl)
theorem dX7_taken_98 : decode cX7_taken 98 = .ok (.ifCond .eq 10, 3) := dk_153 0 10 (dk_at dksX7_taken_4 6 rfl rfl)
theorem dX7_taken_101 : decode cX7_taken 101 = .ok (.iload_n 1, 1) := dk_27 (dk_at dksX7_taken_4 9 rfl rfl)
theorem dX7_taken_102 : decode cX7_taken 102 = .ok (.bipush 6, 2) := dk_16 6 (dk_at dksX7_taken_4 10 rfl rfl)
theorem dX7_taken_104 : decode cX7_taken 104 = .ok (.isub, 1) := dk_100 (dk_at dksX7_taken_4 12 rfl rfl)
theorem dX7_taken_105 : decode cX7_taken 105 = .ok (.goto 5, 3) := dk_167 0 5 (dk_at dksX7_taken_4 13 rfl rfl)
theorem dX7_taken_108 : decode cX7_taken 108 = .ok (.bipush (-13), 2) := dk_16 243 (dk_at dksX7_taken_4 16 rfl rfl)
theorem dX7_taken_110 : decode cX7_taken 110 = .ok (.ireturn, 1) := dk_172 (dk_at dksX7_taken_4 18 rfl rfl)
abbrev cX7_isUnder : ByteArray := prog_19_method_93_code
def yX7_isUnder : MethodName := ⟨RX7, "isUnder", "(II)Z"⟩
def dkwX7_isUnder_1 : List UInt8 := [26, 7, 160, 0, 7, 4, 167, 0, 4, 3, 172]
abbrev dktX7_isUnder_1 : List UInt8 := dkwX7_isUnder_1 ++ []
def dkwX7_isUnder_0 : List UInt8 := [27, 153, 0, 28, 26, 27, 159, 0, 23, 27, 4, 160, 0, 8, 26, 6, 159, 0, 13, 27, 5, 160, 0, 12]
abbrev dktX7_isUnder_0 : List UInt8 := dkwX7_isUnder_0 ++ dktX7_isUnder_1
theorem dksX7_isUnder_0 : cX7_isUnder.data.toList.drop 0 = dktX7_isUnder_0 := by decide +kernel
theorem dksX7_isUnder_1 : cX7_isUnder.data.toList.drop 24 = dktX7_isUnder_1 := dk_seg dksX7_isUnder_0 24 rfl rfl
theorem dX7_isUnder_0 : decode cX7_isUnder 0 = .ok (.iload_n 1, 1) := dk_27 (dk_at dksX7_isUnder_0 0 rfl rfl)
theorem dX7_isUnder_1 : decode cX7_isUnder 1 = .ok (.ifCond .eq 28, 3) := dk_153 0 28 (dk_at dksX7_isUnder_0 1 rfl rfl)
theorem dX7_isUnder_4 : decode cX7_isUnder 4 = .ok (.iload_n 0, 1) := dk_26 (dk_at dksX7_isUnder_0 4 rfl rfl)
theorem dX7_isUnder_5 : decode cX7_isUnder 5 = .ok (.iload_n 1, 1) := dk_27 (dk_at dksX7_isUnder_0 5 rfl rfl)
theorem dX7_isUnder_6 : decode cX7_isUnder 6 = .ok (.if_icmp .eq 23, 3) := dk_159 0 23 (dk_at dksX7_isUnder_0 6 rfl rfl)
theorem dX7_isUnder_9 : decode cX7_isUnder 9 = .ok (.iload_n 1, 1) := dk_27 (dk_at dksX7_isUnder_0 9 rfl rfl)
theorem dX7_isUnder_10 : decode cX7_isUnder 10 = .ok (.iconst 1, 1) := dk_4 (dk_at dksX7_isUnder_0 10 rfl rfl)
theorem dX7_isUnder_11 : decode cX7_isUnder 11 = .ok (.if_icmp .ne 8, 3) := dk_160 0 8 (dk_at dksX7_isUnder_0 11 rfl rfl)
theorem dX7_isUnder_14 : decode cX7_isUnder 14 = .ok (.iload_n 0, 1) := dk_26 (dk_at dksX7_isUnder_0 14 rfl rfl)
theorem dX7_isUnder_15 : decode cX7_isUnder 15 = .ok (.iconst 3, 1) := dk_6 (dk_at dksX7_isUnder_0 15 rfl rfl)
theorem dX7_isUnder_16 : decode cX7_isUnder 16 = .ok (.if_icmp .eq 13, 3) := dk_159 0 13 (dk_at dksX7_isUnder_0 16 rfl rfl)
theorem dX7_isUnder_19 : decode cX7_isUnder 19 = .ok (.iload_n 1, 1) := dk_27 (dk_at dksX7_isUnder_0 19 rfl rfl)
theorem dX7_isUnder_20 : decode cX7_isUnder 20 = .ok (.iconst 2, 1) := dk_5 (dk_at dksX7_isUnder_0 20 rfl rfl)
theorem dX7_isUnder_21 : decode cX7_isUnder 21 = .ok (.if_icmp .ne 12, 3) := dk_160 0 12 (dk_at dksX7_isUnder_0 21 rfl rfl)
theorem dX7_isUnder_24 : decode cX7_isUnder 24 = .ok (.iload_n 0, 1) := dk_26 (dk_at dksX7_isUnder_1 0 rfl rfl)
theorem dX7_isUnder_25 : decode cX7_isUnder 25 = .ok (.iconst 4, 1) := dk_7 (dk_at dksX7_isUnder_1 1 rfl rfl)
theorem dX7_isUnder_26 : decode cX7_isUnder 26 = .ok (.if_icmp .ne 7, 3) := dk_160 0 7 (dk_at dksX7_isUnder_1 2 rfl rfl)
theorem dX7_isUnder_29 : decode cX7_isUnder 29 = .ok (.iconst 1, 1) := dk_4 (dk_at dksX7_isUnder_1 5 rfl rfl)
theorem dX7_isUnder_30 : decode cX7_isUnder 30 = .ok (.goto 4, 3) := dk_167 0 4 (dk_at dksX7_isUnder_1 6 rfl rfl)
theorem dX7_isUnder_33 : decode cX7_isUnder 33 = .ok (.iconst 0, 1) := dk_3 (dk_at dksX7_isUnder_1 9 rfl rfl)
theorem dX7_isUnder_34 : decode cX7_isUnder 34 = .ok (.ireturn, 1) := dk_172 (dk_at dksX7_isUnder_1 10 rfl rfl)
theorem q114 : (Jvm.Cond.initialized "OverTheHeadsModel") ∈ lw_all := lw_g (lw_at lw_m1 25 rfl) rfl
theorem q973 : (Jvm.Cond.selects "OverTheHeadsModel" ({ cls := "java/lang/Object", name := "getClass", desc := "()Ljava/lang/Class;" } : Jvm.MethodName) ({ cls := "java/lang/Object", name := "getClass", desc := "()Ljava/lang/Class;" } : Jvm.MethodName)) ∈ lw_all := lw_g (lw_at lw_m4 164 rfl) rfl
theorem q1524 : (Jvm.Cond.instantiable "OverTheHeadsModel" (59 : Nat)) ∈ lw_all := lw_g (lw_at lw_m6 235 rfl) rfl
theorem q1526 : (Jvm.Cond.instanceMethod ({ cls := "OverTheHeadsModel", name := "<init>", desc := "()V" } : Jvm.MethodName)) ∈ lw_all := lw_g (lw_at lw_m6 237 rfl) rfl
theorem q1527 : (Jvm.Cond.code ({ cls := "OverTheHeadsModel", name := "<init>", desc := "()V" } : Jvm.MethodName) prog_19_method_1_code (1 : Nat) (Option.none : Option Jvm.ClassFile.FieldType)) ∈ lw_all := lw_g (lw_at lw_m6 238 rfl) rfl
theorem q1528 : (Jvm.Cond.methodLink "OverTheHeadsModel" (1 : Nat) ({ cls := "java/lang/Object", name := "<init>", desc := "()V" } : Jvm.MethodName)) ∈ lw_all := lw_g (lw_at lw_m6 239 rfl) rfl
theorem q1529 : (Jvm.Cond.constantLong "OverTheHeadsModel" (101 : Nat) (1818848101 : Int64)) ∈ lw_all := lw_g (lw_at lw_m7 0 rfl) rfl
theorem q1530 : (Jvm.Cond.constantLong "OverTheHeadsModel" (103 : Nat) (482955846501 : Int64)) ∈ lw_all := lw_g (lw_at lw_m7 1 rfl) rfl
theorem q1531 : (Jvm.Cond.constantLong "OverTheHeadsModel" (105 : Nat) (1668248436 : Int64)) ∈ lw_all := lw_g (lw_at lw_m7 2 rfl) rfl
theorem q1532 : (Jvm.Cond.constantLong "OverTheHeadsModel" (107 : Nat) (508440638821 : Int64)) ∈ lw_all := lw_g (lw_at lw_m7 3 rfl) rfl
theorem q1533 : (Jvm.Cond.constantLong "OverTheHeadsModel" (109 : Nat) (1751738216 : Int64)) ∈ lw_all := lw_g (lw_at lw_m7 4 rfl) rfl
theorem q1534 : (Jvm.Cond.constantLong "OverTheHeadsModel" (111 : Nat) (7499639 : Int64)) ∈ lw_all := lw_g (lw_at lw_m7 5 rfl) rfl
theorem q1535 : (Jvm.Cond.constantLong "OverTheHeadsModel" (113 : Nat) (482854658917 : Int64)) ∈ lw_all := lw_g (lw_at lw_m7 6 rfl) rfl
theorem q1536 : (Jvm.Cond.constantLong "OverTheHeadsModel" (115 : Nat) (1919513445 : Int64)) ∈ lw_all := lw_g (lw_at lw_m7 7 rfl) rfl
theorem q1537 : (Jvm.Cond.constantLong "OverTheHeadsModel" (117 : Nat) (1936683636 : Int64)) ∈ lw_all := lw_g (lw_at lw_m7 8 rfl) rfl
theorem q1538 : (Jvm.Cond.constantLong "OverTheHeadsModel" (119 : Nat) (28530 : Int64)) ∈ lw_all := lw_g (lw_at lw_m7 9 rfl) rfl
theorem q1539 : (Jvm.Cond.constantLong "OverTheHeadsModel" (121 : Nat) (6385252 : Int64)) ∈ lw_all := lw_g (lw_at lw_m7 10 rfl) rfl
theorem q1540 : (Jvm.Cond.constantLong "OverTheHeadsModel" (123 : Nat) (7237492 : Int64)) ∈ lw_all := lw_g (lw_at lw_m7 11 rfl) rfl
theorem q1541 : (Jvm.Cond.constant "OverTheHeadsModel" (150 : Nat) (100002 : Int32)) ∈ lw_all := lw_g (lw_at lw_m7 12 rfl) rfl
theorem q1542 : (Jvm.Cond.methodLink "OverTheHeadsModel" (151 : Nat) ({ cls := "OverTheHeadsModel", name := "first", desc := "(IIIII)V" } : Jvm.MethodName)) ∈ lw_all := lw_g (lw_at lw_m7 13 rfl) rfl
theorem q1543 : (Jvm.Cond.privateMethod ({ cls := "OverTheHeadsModel", name := "first", desc := "(IIIII)V" } : Jvm.MethodName)) ∈ lw_tbl := lw_at lw_m7 14 rfl
theorem q1544 : (Jvm.Cond.instanceMethod ({ cls := "OverTheHeadsModel", name := "first", desc := "(IIIII)V" } : Jvm.MethodName)) ∈ lw_all := lw_g (lw_at lw_m7 15 rfl) rfl
theorem q1545 : (Jvm.Cond.code ({ cls := "OverTheHeadsModel", name := "first", desc := "(IIIII)V" } : Jvm.MethodName) prog_19_method_2_code (6 : Nat) (Option.none : Option Jvm.ClassFile.FieldType)) ∈ lw_all := lw_g (lw_at lw_m7 16 rfl) rfl
theorem q1546 : (Jvm.Cond.constant "OverTheHeadsModel" (155 : Nat) (100003 : Int32)) ∈ lw_all := lw_g (lw_at lw_m7 17 rfl) rfl
theorem q1547 : (Jvm.Cond.fieldLink "OverTheHeadsModel" (7 : Nat) "OverTheHeadsModel" "eye" "[I") ∈ lw_all := lw_g (lw_at lw_m7 18 rfl) rfl
theorem q1548 : (Jvm.Cond.fieldLink "OverTheHeadsModel" (13 : Nat) "OverTheHeadsModel" "head" "[I") ∈ lw_all := lw_g (lw_at lw_m7 19 rfl) rfl
theorem q1549 : (Jvm.Cond.fieldLink "OverTheHeadsModel" (16 : Nat) "OverTheHeadsModel" "counts" "[I") ∈ lw_all := lw_g (lw_at lw_m7 20 rfl) rfl
theorem q1550 : (Jvm.Cond.fieldLink "OverTheHeadsModel" (156 : Nat) "OverTheHeadsModel" "rows" "I") ∈ lw_all := lw_g (lw_at lw_m7 21 rfl) rfl
theorem q1551 : (Jvm.Cond.fieldLink "OverTheHeadsModel" (19 : Nat) "OverTheHeadsModel" "kind" "[I") ∈ lw_all := lw_g (lw_at lw_m7 22 rfl) rfl
theorem q1552 : (Jvm.Cond.fieldLink "OverTheHeadsModel" (22 : Nat) "OverTheHeadsModel" "seats" "[I") ∈ lw_all := lw_g (lw_at lw_m7 23 rfl) rfl
theorem q1553 : (Jvm.Cond.fieldLink "OverTheHeadsModel" (25 : Nat) "OverTheHeadsModel" "more" "[I") ∈ lw_all := lw_g (lw_at lw_m7 24 rfl) rfl
theorem q1554 : (Jvm.Cond.fieldLink "OverTheHeadsModel" (28 : Nat) "OverTheHeadsModel" "rise" "[I") ∈ lw_all := lw_g (lw_at lw_m7 25 rfl) rfl
theorem q1555 : (Jvm.Cond.fieldLink "OverTheHeadsModel" (31 : Nat) "OverTheHeadsModel" "shift" "[I") ∈ lw_all := lw_g (lw_at lw_m7 26 rfl) rfl
theorem q1556 : (Jvm.Cond.fieldLink "OverTheHeadsModel" (34 : Nat) "OverTheHeadsModel" "sorts" "[I") ∈ lw_all := lw_g (lw_at lw_m7 27 rfl) rfl
theorem q1557 : (Jvm.Cond.fieldLink "OverTheHeadsModel" (197 : Nat) "OverTheHeadsModel" "points" "I") ∈ lw_all := lw_g (lw_at lw_m7 28 rfl) rfl
theorem q1558 : (Jvm.Cond.fieldLink "OverTheHeadsModel" (37 : Nat) "OverTheHeadsModel" "pointAt" "[I") ∈ lw_all := lw_g (lw_at lw_m7 29 rfl) rfl
theorem q1559 : (Jvm.Cond.fieldLink "OverTheHeadsModel" (40 : Nat) "OverTheHeadsModel" "pointHigh" "[I") ∈ lw_all := lw_g (lw_at lw_m7 30 rfl) rfl
theorem q1560 : (Jvm.Cond.fieldLink "OverTheHeadsModel" (43 : Nat) "OverTheHeadsModel" "pointValue" "[I") ∈ lw_all := lw_g (lw_at lw_m7 31 rfl) rfl
theorem q1561 : (Jvm.Cond.fieldLink "OverTheHeadsModel" (200 : Nat) "OverTheHeadsModel" "posts" "I") ∈ lw_all := lw_g (lw_at lw_m7 32 rfl) rfl
theorem q1562 : (Jvm.Cond.fieldLink "OverTheHeadsModel" (46 : Nat) "OverTheHeadsModel" "postAt" "[I") ∈ lw_all := lw_g (lw_at lw_m7 33 rfl) rfl
theorem q1563 : (Jvm.Cond.fieldLink "OverTheHeadsModel" (49 : Nat) "OverTheHeadsModel" "postFar" "[I") ∈ lw_all := lw_g (lw_at lw_m7 34 rfl) rfl
theorem q1564 : (Jvm.Cond.fieldLink "OverTheHeadsModel" (52 : Nat) "OverTheHeadsModel" "tape" "[I") ∈ lw_all := lw_g (lw_at lw_m7 35 rfl) rfl
theorem q1565 : (Jvm.Cond.fieldLink "OverTheHeadsModel" (206 : Nat) "OverTheHeadsModel" "taped" "I") ∈ lw_all := lw_g (lw_at lw_m7 36 rfl) rfl
theorem q1566 : (Jvm.Cond.fieldLink "OverTheHeadsModel" (55 : Nat) "OverTheHeadsModel" "codes" "[I") ∈ lw_all := lw_g (lw_at lw_m7 37 rfl) rfl
theorem q1567 : (Jvm.Cond.fieldLink "OverTheHeadsModel" (58 : Nat) "OverTheHeadsModel" "starts" "[I") ∈ lw_all := lw_g (lw_at lw_m7 38 rfl) rfl
theorem q1568 : (Jvm.Cond.fieldLink "OverTheHeadsModel" (61 : Nat) "OverTheHeadsModel" "texts" "I") ∈ lw_all := lw_g (lw_at lw_m7 39 rfl) rfl
theorem q1569 : (Jvm.Cond.fieldLink "OverTheHeadsModel" (203 : Nat) "OverTheHeadsModel" "rule" "I") ∈ lw_all := lw_g (lw_at lw_m7 40 rfl) rfl
theorem q1570 : (Jvm.Cond.fieldLink "OverTheHeadsModel" (65 : Nat) "OverTheHeadsModel" "hatSeat" "I") ∈ lw_all := lw_g (lw_at lw_m7 41 rfl) rfl
theorem q1571 : (Jvm.Cond.fieldLink "OverTheHeadsModel" (179 : Nat) "OverTheHeadsModel" "hatHigh" "I") ∈ lw_all := lw_g (lw_at lw_m7 42 rfl) rfl
theorem q1572 : (Jvm.Cond.fieldLink "OverTheHeadsModel" (376 : Nat) "OverTheHeadsModel" "hasImage" "Z") ∈ lw_all := lw_g (lw_at lw_m7 43 rfl) rfl
theorem q1573 : (Jvm.Cond.fieldLink "OverTheHeadsModel" (380 : Nat) "OverTheHeadsModel" "imageRows" "I") ∈ lw_all := lw_g (lw_at lw_m7 44 rfl) rfl
theorem q1574 : (Jvm.Cond.fieldLink "OverTheHeadsModel" (383 : Nat) "OverTheHeadsModel" "imagePosts" "I") ∈ lw_all := lw_g (lw_at lw_m7 45 rfl) rfl
theorem q1575 : (Jvm.Cond.fieldLink "OverTheHeadsModel" (386 : Nat) "OverTheHeadsModel" "imageRule" "I") ∈ lw_all := lw_g (lw_at lw_m7 46 rfl) rfl
theorem q1576 : (Jvm.Cond.fieldLink "OverTheHeadsModel" (68 : Nat) "OverTheHeadsModel" "imageEye" "[I") ∈ lw_all := lw_g (lw_at lw_m7 47 rfl) rfl
theorem q1577 : (Jvm.Cond.fieldLink "OverTheHeadsModel" (71 : Nat) "OverTheHeadsModel" "imageHead" "[I") ∈ lw_all := lw_g (lw_at lw_m7 48 rfl) rfl
theorem q1578 : (Jvm.Cond.fieldLink "OverTheHeadsModel" (74 : Nat) "OverTheHeadsModel" "imageCounts" "[I") ∈ lw_all := lw_g (lw_at lw_m7 49 rfl) rfl
theorem q1579 : (Jvm.Cond.fieldLink "OverTheHeadsModel" (77 : Nat) "OverTheHeadsModel" "imageRise" "[I") ∈ lw_all := lw_g (lw_at lw_m7 50 rfl) rfl
theorem q1580 : (Jvm.Cond.fieldLink "OverTheHeadsModel" (80 : Nat) "OverTheHeadsModel" "imageShift" "[I") ∈ lw_all := lw_g (lw_at lw_m7 51 rfl) rfl
theorem q1581 : (Jvm.Cond.fieldLink "OverTheHeadsModel" (83 : Nat) "OverTheHeadsModel" "imageSorts" "[I") ∈ lw_all := lw_g (lw_at lw_m7 52 rfl) rfl
theorem q1582 : (Jvm.Cond.fieldLink "OverTheHeadsModel" (86 : Nat) "OverTheHeadsModel" "imagePostAt" "[I") ∈ lw_all := lw_g (lw_at lw_m7 53 rfl) rfl
theorem q1583 : (Jvm.Cond.fieldLink "OverTheHeadsModel" (89 : Nat) "OverTheHeadsModel" "imagePostFar" "[I") ∈ lw_all := lw_g (lw_at lw_m7 54 rfl) rfl
theorem q1584 : (Jvm.Cond.fieldLink "OverTheHeadsModel" (92 : Nat) "OverTheHeadsModel" "sheetSort" "[I") ∈ lw_all := lw_g (lw_at lw_m7 55 rfl) rfl
theorem q1585 : (Jvm.Cond.fieldLink "OverTheHeadsModel" (95 : Nat) "OverTheHeadsModel" "sheetSize" "[I") ∈ lw_all := lw_g (lw_at lw_m7 56 rfl) rfl
theorem q1586 : (Jvm.Cond.fieldLink "OverTheHeadsModel" (98 : Nat) "OverTheHeadsModel" "cells" "[I") ∈ lw_all := lw_g (lw_at lw_m7 57 rfl) rfl
theorem q1587 : (Jvm.Cond.fieldLink "OverTheHeadsModel" (211 : Nat) "OverTheHeadsModel" "at" "I") ∈ lw_all := lw_g (lw_at lw_m7 58 rfl) rfl
theorem q1588 : (Jvm.Cond.fieldLink "OverTheHeadsModel" (214 : Nat) "OverTheHeadsModel" "begun" "I") ∈ lw_all := lw_g (lw_at lw_m7 59 rfl) rfl
theorem q1589 : (Jvm.Cond.fieldLink "OverTheHeadsModel" (217 : Nat) "OverTheHeadsModel" "token" "I") ∈ lw_all := lw_g (lw_at lw_m7 60 rfl) rfl
theorem q1590 : (Jvm.Cond.fieldLink "OverTheHeadsModel" (220 : Nat) "OverTheHeadsModel" "value" "I") ∈ lw_all := lw_g (lw_at lw_m7 61 rfl) rfl
theorem q1591 : (Jvm.Cond.fieldLink "OverTheHeadsModel" (125 : Nat) "OverTheHeadsModel" "words" "[J") ∈ lw_all := lw_g (lw_at lw_m7 62 rfl) rfl
theorem q1592 : (Jvm.Cond.fieldLink "OverTheHeadsModel" (129 : Nat) "OverTheHeadsModel" "held" "[I") ∈ lw_all := lw_g (lw_at lw_m7 63 rfl) rfl
theorem q1593 : (Jvm.Cond.fieldLink "OverTheHeadsModel" (230 : Nat) "OverTheHeadsModel" "heldMany" "I") ∈ lw_all := lw_g (lw_at lw_m7 64 rfl) rfl
theorem q1594 : (Jvm.Cond.fieldLink "OverTheHeadsModel" (236 : Nat) "OverTheHeadsModel" "opens" "I") ∈ lw_all := lw_g (lw_at lw_m7 65 rfl) rfl
theorem q1595 : (Jvm.Cond.fieldLink "OverTheHeadsModel" (227 : Nat) "OverTheHeadsModel" "out" "I") ∈ lw_all := lw_g (lw_at lw_m7 66 rfl) rfl
theorem q1596 : (Jvm.Cond.fieldLink "OverTheHeadsModel" (132 : Nat) "OverTheHeadsModel" "stack" "[I") ∈ lw_all := lw_g (lw_at lw_m7 67 rfl) rfl
theorem q1597 : (Jvm.Cond.fieldLink "OverTheHeadsModel" (135 : Nat) "OverTheHeadsModel" "named" "[I") ∈ lw_all := lw_g (lw_at lw_m7 68 rfl) rfl
theorem q1598 : (Jvm.Cond.fieldLink "OverTheHeadsModel" (138 : Nat) "OverTheHeadsModel" "keptRise" "[I") ∈ lw_all := lw_g (lw_at lw_m7 69 rfl) rfl
theorem q1599 : (Jvm.Cond.fieldLink "OverTheHeadsModel" (319 : Nat) "OverTheHeadsModel" "nears" "I") ∈ lw_all := lw_g (lw_at lw_m7 70 rfl) rfl
theorem q1600 : (Jvm.Cond.fieldLink "OverTheHeadsModel" (322 : Nat) "OverTheHeadsModel" "sound" "J") ∈ lw_all := lw_g (lw_at lw_m7 71 rfl) rfl
theorem q1601 : (Jvm.Cond.fieldLink "OverTheHeadsModel" (141 : Nat) "OverTheHeadsModel" "keptSorts" "[I") ∈ lw_all := lw_g (lw_at lw_m7 72 rfl) rfl
theorem q1602 : (Jvm.Cond.fieldLink "OverTheHeadsModel" (144 : Nat) "OverTheHeadsModel" "keptShift" "[I") ∈ lw_all := lw_g (lw_at lw_m7 73 rfl) rfl
theorem q1603 : (Jvm.Cond.fieldLink "OverTheHeadsModel" (367 : Nat) "OverTheHeadsModel" "peopleBest" "I") ∈ lw_all := lw_g (lw_at lw_m7 74 rfl) rfl
theorem q1604 : (Jvm.Cond.fieldLink "OverTheHeadsModel" (370 : Nat) "OverTheHeadsModel" "peopleGain" "I") ∈ lw_all := lw_g (lw_at lw_m7 75 rfl) rfl
theorem q1605 : (Jvm.Cond.fieldLink "OverTheHeadsModel" (147 : Nat) "OverTheHeadsModel" "sold" "[I") ∈ lw_all := lw_g (lw_at lw_m7 76 rfl) rfl
theorem q1606 : (Jvm.Cond.laysFinal "OverTheHeadsModel" "OverTheHeadsModel" "eye" "[I") ∈ lw_all := lw_g (lw_at lw_m7 77 rfl) rfl
theorem q1607 : (Jvm.Cond.soleField "OverTheHeadsModel" "eye") ∈ lw_all := lw_g (lw_at lw_m7 78 rfl) rfl
theorem q1608 : (Jvm.Cond.laysFinal "OverTheHeadsModel" "OverTheHeadsModel" "head" "[I") ∈ lw_all := lw_g (lw_at lw_m7 79 rfl) rfl
theorem q1609 : (Jvm.Cond.soleField "OverTheHeadsModel" "head") ∈ lw_all := lw_g (lw_at lw_m7 80 rfl) rfl
theorem q1610 : (Jvm.Cond.laysFinal "OverTheHeadsModel" "OverTheHeadsModel" "counts" "[I") ∈ lw_all := lw_g (lw_at lw_m7 81 rfl) rfl
theorem q1611 : (Jvm.Cond.soleField "OverTheHeadsModel" "counts") ∈ lw_all := lw_g (lw_at lw_m7 82 rfl) rfl
theorem q1612 : (Jvm.Cond.lays "OverTheHeadsModel" "OverTheHeadsModel" "rows" "I") ∈ lw_all := lw_g (lw_at lw_m7 83 rfl) rfl
theorem q1613 : (Jvm.Cond.soleField "OverTheHeadsModel" "rows") ∈ lw_all := lw_g (lw_at lw_m7 84 rfl) rfl
theorem q1614 : (Jvm.Cond.laysFinal "OverTheHeadsModel" "OverTheHeadsModel" "kind" "[I") ∈ lw_all := lw_g (lw_at lw_m7 85 rfl) rfl
theorem q1615 : (Jvm.Cond.soleField "OverTheHeadsModel" "kind") ∈ lw_all := lw_g (lw_at lw_m7 86 rfl) rfl
theorem q1616 : (Jvm.Cond.laysFinal "OverTheHeadsModel" "OverTheHeadsModel" "seats" "[I") ∈ lw_all := lw_g (lw_at lw_m7 87 rfl) rfl
theorem q1617 : (Jvm.Cond.soleField "OverTheHeadsModel" "seats") ∈ lw_all := lw_g (lw_at lw_m7 88 rfl) rfl
theorem q1618 : (Jvm.Cond.laysFinal "OverTheHeadsModel" "OverTheHeadsModel" "more" "[I") ∈ lw_all := lw_g (lw_at lw_m7 89 rfl) rfl
theorem q1619 : (Jvm.Cond.soleField "OverTheHeadsModel" "more") ∈ lw_all := lw_g (lw_at lw_m7 90 rfl) rfl
theorem q1620 : (Jvm.Cond.laysFinal "OverTheHeadsModel" "OverTheHeadsModel" "rise" "[I") ∈ lw_all := lw_g (lw_at lw_m7 91 rfl) rfl
theorem q1621 : (Jvm.Cond.soleField "OverTheHeadsModel" "rise") ∈ lw_all := lw_g (lw_at lw_m7 92 rfl) rfl
theorem q1622 : (Jvm.Cond.laysFinal "OverTheHeadsModel" "OverTheHeadsModel" "shift" "[I") ∈ lw_all := lw_g (lw_at lw_m7 93 rfl) rfl
theorem q1623 : (Jvm.Cond.soleField "OverTheHeadsModel" "shift") ∈ lw_all := lw_g (lw_at lw_m7 94 rfl) rfl
theorem q1624 : (Jvm.Cond.laysFinal "OverTheHeadsModel" "OverTheHeadsModel" "sorts" "[I") ∈ lw_all := lw_g (lw_at lw_m7 95 rfl) rfl
theorem q1625 : (Jvm.Cond.soleField "OverTheHeadsModel" "sorts") ∈ lw_all := lw_g (lw_at lw_m7 96 rfl) rfl
theorem q1626 : (Jvm.Cond.lays "OverTheHeadsModel" "OverTheHeadsModel" "points" "I") ∈ lw_all := lw_g (lw_at lw_m7 97 rfl) rfl
theorem q1627 : (Jvm.Cond.soleField "OverTheHeadsModel" "points") ∈ lw_all := lw_g (lw_at lw_m7 98 rfl) rfl
theorem q1628 : (Jvm.Cond.laysFinal "OverTheHeadsModel" "OverTheHeadsModel" "pointAt" "[I") ∈ lw_all := lw_g (lw_at lw_m7 99 rfl) rfl
theorem q1629 : (Jvm.Cond.soleField "OverTheHeadsModel" "pointAt") ∈ lw_all := lw_g (lw_at lw_m7 100 rfl) rfl
theorem q1630 : (Jvm.Cond.laysFinal "OverTheHeadsModel" "OverTheHeadsModel" "pointHigh" "[I") ∈ lw_all := lw_g (lw_at lw_m7 101 rfl) rfl
theorem q1631 : (Jvm.Cond.soleField "OverTheHeadsModel" "pointHigh") ∈ lw_all := lw_g (lw_at lw_m7 102 rfl) rfl
theorem q1632 : (Jvm.Cond.laysFinal "OverTheHeadsModel" "OverTheHeadsModel" "pointValue" "[I") ∈ lw_all := lw_g (lw_at lw_m7 103 rfl) rfl
theorem q1633 : (Jvm.Cond.soleField "OverTheHeadsModel" "pointValue") ∈ lw_all := lw_g (lw_at lw_m7 104 rfl) rfl
theorem q1634 : (Jvm.Cond.lays "OverTheHeadsModel" "OverTheHeadsModel" "posts" "I") ∈ lw_all := lw_g (lw_at lw_m7 105 rfl) rfl
theorem q1635 : (Jvm.Cond.soleField "OverTheHeadsModel" "posts") ∈ lw_all := lw_g (lw_at lw_m7 106 rfl) rfl
theorem q1636 : (Jvm.Cond.laysFinal "OverTheHeadsModel" "OverTheHeadsModel" "postAt" "[I") ∈ lw_all := lw_g (lw_at lw_m7 107 rfl) rfl
theorem q1637 : (Jvm.Cond.soleField "OverTheHeadsModel" "postAt") ∈ lw_all := lw_g (lw_at lw_m7 108 rfl) rfl
theorem q1638 : (Jvm.Cond.laysFinal "OverTheHeadsModel" "OverTheHeadsModel" "postFar" "[I") ∈ lw_all := lw_g (lw_at lw_m7 109 rfl) rfl
theorem q1639 : (Jvm.Cond.soleField "OverTheHeadsModel" "postFar") ∈ lw_all := lw_g (lw_at lw_m7 110 rfl) rfl
theorem q1640 : (Jvm.Cond.laysFinal "OverTheHeadsModel" "OverTheHeadsModel" "tape" "[I") ∈ lw_all := lw_g (lw_at lw_m7 111 rfl) rfl
theorem q1641 : (Jvm.Cond.soleField "OverTheHeadsModel" "tape") ∈ lw_all := lw_g (lw_at lw_m7 112 rfl) rfl
theorem q1642 : (Jvm.Cond.lays "OverTheHeadsModel" "OverTheHeadsModel" "taped" "I") ∈ lw_all := lw_g (lw_at lw_m7 113 rfl) rfl
theorem q1643 : (Jvm.Cond.soleField "OverTheHeadsModel" "taped") ∈ lw_all := lw_g (lw_at lw_m7 114 rfl) rfl
theorem q1644 : (Jvm.Cond.laysFinal "OverTheHeadsModel" "OverTheHeadsModel" "codes" "[I") ∈ lw_all := lw_g (lw_at lw_m7 115 rfl) rfl
theorem q1645 : (Jvm.Cond.soleField "OverTheHeadsModel" "codes") ∈ lw_all := lw_g (lw_at lw_m7 116 rfl) rfl
theorem q1646 : (Jvm.Cond.laysFinal "OverTheHeadsModel" "OverTheHeadsModel" "starts" "[I") ∈ lw_all := lw_g (lw_at lw_m7 117 rfl) rfl
theorem q1647 : (Jvm.Cond.soleField "OverTheHeadsModel" "starts") ∈ lw_all := lw_g (lw_at lw_m7 118 rfl) rfl
theorem q1648 : (Jvm.Cond.lays "OverTheHeadsModel" "OverTheHeadsModel" "texts" "I") ∈ lw_all := lw_g (lw_at lw_m7 119 rfl) rfl
theorem q1649 : (Jvm.Cond.soleField "OverTheHeadsModel" "texts") ∈ lw_all := lw_g (lw_at lw_m7 120 rfl) rfl
theorem q1650 : (Jvm.Cond.lays "OverTheHeadsModel" "OverTheHeadsModel" "rule" "I") ∈ lw_all := lw_g (lw_at lw_m7 121 rfl) rfl
theorem q1651 : (Jvm.Cond.soleField "OverTheHeadsModel" "rule") ∈ lw_all := lw_g (lw_at lw_m7 122 rfl) rfl
theorem q1652 : (Jvm.Cond.lays "OverTheHeadsModel" "OverTheHeadsModel" "hatSeat" "I") ∈ lw_all := lw_g (lw_at lw_m7 123 rfl) rfl
theorem q1653 : (Jvm.Cond.soleField "OverTheHeadsModel" "hatSeat") ∈ lw_all := lw_g (lw_at lw_m7 124 rfl) rfl
theorem q1654 : (Jvm.Cond.lays "OverTheHeadsModel" "OverTheHeadsModel" "hatHigh" "I") ∈ lw_all := lw_g (lw_at lw_m7 125 rfl) rfl
theorem q1655 : (Jvm.Cond.soleField "OverTheHeadsModel" "hatHigh") ∈ lw_all := lw_g (lw_at lw_m7 126 rfl) rfl
theorem q1656 : (Jvm.Cond.lays "OverTheHeadsModel" "OverTheHeadsModel" "hasImage" "Z") ∈ lw_all := lw_g (lw_at lw_m7 127 rfl) rfl
theorem q1657 : (Jvm.Cond.soleField "OverTheHeadsModel" "hasImage") ∈ lw_all := lw_g (lw_at lw_m7 128 rfl) rfl
theorem q1658 : (Jvm.Cond.lays "OverTheHeadsModel" "OverTheHeadsModel" "imageRows" "I") ∈ lw_all := lw_g (lw_at lw_m7 129 rfl) rfl
theorem q1659 : (Jvm.Cond.soleField "OverTheHeadsModel" "imageRows") ∈ lw_all := lw_g (lw_at lw_m7 130 rfl) rfl
theorem q1660 : (Jvm.Cond.lays "OverTheHeadsModel" "OverTheHeadsModel" "imagePosts" "I") ∈ lw_all := lw_g (lw_at lw_m7 131 rfl) rfl
theorem q1661 : (Jvm.Cond.soleField "OverTheHeadsModel" "imagePosts") ∈ lw_all := lw_g (lw_at lw_m7 132 rfl) rfl
theorem q1662 : (Jvm.Cond.lays "OverTheHeadsModel" "OverTheHeadsModel" "imageRule" "I") ∈ lw_all := lw_g (lw_at lw_m7 133 rfl) rfl
theorem q1663 : (Jvm.Cond.soleField "OverTheHeadsModel" "imageRule") ∈ lw_all := lw_g (lw_at lw_m7 134 rfl) rfl
theorem q1664 : (Jvm.Cond.laysFinal "OverTheHeadsModel" "OverTheHeadsModel" "imageEye" "[I") ∈ lw_all := lw_g (lw_at lw_m7 135 rfl) rfl
theorem q1665 : (Jvm.Cond.soleField "OverTheHeadsModel" "imageEye") ∈ lw_all := lw_g (lw_at lw_m7 136 rfl) rfl
theorem q1666 : (Jvm.Cond.laysFinal "OverTheHeadsModel" "OverTheHeadsModel" "imageHead" "[I") ∈ lw_all := lw_g (lw_at lw_m7 137 rfl) rfl
theorem q1667 : (Jvm.Cond.soleField "OverTheHeadsModel" "imageHead") ∈ lw_all := lw_g (lw_at lw_m7 138 rfl) rfl
theorem q1668 : (Jvm.Cond.laysFinal "OverTheHeadsModel" "OverTheHeadsModel" "imageCounts" "[I") ∈ lw_all := lw_g (lw_at lw_m7 139 rfl) rfl
theorem q1669 : (Jvm.Cond.soleField "OverTheHeadsModel" "imageCounts") ∈ lw_all := lw_g (lw_at lw_m7 140 rfl) rfl
theorem q1670 : (Jvm.Cond.laysFinal "OverTheHeadsModel" "OverTheHeadsModel" "imageRise" "[I") ∈ lw_all := lw_g (lw_at lw_m7 141 rfl) rfl
theorem q1671 : (Jvm.Cond.soleField "OverTheHeadsModel" "imageRise") ∈ lw_all := lw_g (lw_at lw_m7 142 rfl) rfl
theorem q1672 : (Jvm.Cond.laysFinal "OverTheHeadsModel" "OverTheHeadsModel" "imageShift" "[I") ∈ lw_all := lw_g (lw_at lw_m7 143 rfl) rfl
theorem q1673 : (Jvm.Cond.soleField "OverTheHeadsModel" "imageShift") ∈ lw_all := lw_g (lw_at lw_m7 144 rfl) rfl
theorem q1674 : (Jvm.Cond.laysFinal "OverTheHeadsModel" "OverTheHeadsModel" "imageSorts" "[I") ∈ lw_all := lw_g (lw_at lw_m7 145 rfl) rfl
theorem q1675 : (Jvm.Cond.soleField "OverTheHeadsModel" "imageSorts") ∈ lw_all := lw_g (lw_at lw_m7 146 rfl) rfl
theorem q1676 : (Jvm.Cond.laysFinal "OverTheHeadsModel" "OverTheHeadsModel" "imagePostAt" "[I") ∈ lw_all := lw_g (lw_at lw_m7 147 rfl) rfl
theorem q1677 : (Jvm.Cond.soleField "OverTheHeadsModel" "imagePostAt") ∈ lw_all := lw_g (lw_at lw_m7 148 rfl) rfl
theorem q1678 : (Jvm.Cond.laysFinal "OverTheHeadsModel" "OverTheHeadsModel" "imagePostFar" "[I") ∈ lw_all := lw_g (lw_at lw_m7 149 rfl) rfl
theorem q1679 : (Jvm.Cond.soleField "OverTheHeadsModel" "imagePostFar") ∈ lw_all := lw_g (lw_at lw_m7 150 rfl) rfl
theorem q1680 : (Jvm.Cond.laysFinal "OverTheHeadsModel" "OverTheHeadsModel" "sheetSort" "[I") ∈ lw_all := lw_g (lw_at lw_m7 151 rfl) rfl
theorem q1681 : (Jvm.Cond.soleField "OverTheHeadsModel" "sheetSort") ∈ lw_all := lw_g (lw_at lw_m7 152 rfl) rfl
theorem q1682 : (Jvm.Cond.laysFinal "OverTheHeadsModel" "OverTheHeadsModel" "sheetSize" "[I") ∈ lw_all := lw_g (lw_at lw_m7 153 rfl) rfl
theorem q1683 : (Jvm.Cond.soleField "OverTheHeadsModel" "sheetSize") ∈ lw_all := lw_g (lw_at lw_m7 154 rfl) rfl
theorem q1684 : (Jvm.Cond.laysFinal "OverTheHeadsModel" "OverTheHeadsModel" "cells" "[I") ∈ lw_all := lw_g (lw_at lw_m7 155 rfl) rfl
theorem q1685 : (Jvm.Cond.soleField "OverTheHeadsModel" "cells") ∈ lw_all := lw_g (lw_at lw_m7 156 rfl) rfl
theorem q1686 : (Jvm.Cond.lays "OverTheHeadsModel" "OverTheHeadsModel" "at" "I") ∈ lw_all := lw_g (lw_at lw_m7 157 rfl) rfl
theorem q1687 : (Jvm.Cond.soleField "OverTheHeadsModel" "at") ∈ lw_all := lw_g (lw_at lw_m7 158 rfl) rfl
theorem q1688 : (Jvm.Cond.lays "OverTheHeadsModel" "OverTheHeadsModel" "begun" "I") ∈ lw_all := lw_g (lw_at lw_m7 159 rfl) rfl
theorem q1689 : (Jvm.Cond.soleField "OverTheHeadsModel" "begun") ∈ lw_all := lw_g (lw_at lw_m7 160 rfl) rfl
theorem q1690 : (Jvm.Cond.lays "OverTheHeadsModel" "OverTheHeadsModel" "token" "I") ∈ lw_all := lw_g (lw_at lw_m7 161 rfl) rfl
theorem q1691 : (Jvm.Cond.soleField "OverTheHeadsModel" "token") ∈ lw_all := lw_g (lw_at lw_m7 162 rfl) rfl
theorem q1692 : (Jvm.Cond.lays "OverTheHeadsModel" "OverTheHeadsModel" "value" "I") ∈ lw_all := lw_g (lw_at lw_m7 163 rfl) rfl
theorem q1693 : (Jvm.Cond.soleField "OverTheHeadsModel" "value") ∈ lw_all := lw_g (lw_at lw_m7 164 rfl) rfl
theorem q1694 : (Jvm.Cond.laysFinal "OverTheHeadsModel" "OverTheHeadsModel" "words" "[J") ∈ lw_all := lw_g (lw_at lw_m7 165 rfl) rfl
theorem q1695 : (Jvm.Cond.soleField "OverTheHeadsModel" "words") ∈ lw_all := lw_g (lw_at lw_m7 166 rfl) rfl
theorem q1696 : (Jvm.Cond.laysFinal "OverTheHeadsModel" "OverTheHeadsModel" "held" "[I") ∈ lw_all := lw_g (lw_at lw_m7 167 rfl) rfl
theorem q1697 : (Jvm.Cond.soleField "OverTheHeadsModel" "held") ∈ lw_all := lw_g (lw_at lw_m7 168 rfl) rfl
theorem q1698 : (Jvm.Cond.lays "OverTheHeadsModel" "OverTheHeadsModel" "heldMany" "I") ∈ lw_all := lw_g (lw_at lw_m7 169 rfl) rfl
theorem q1699 : (Jvm.Cond.soleField "OverTheHeadsModel" "heldMany") ∈ lw_all := lw_g (lw_at lw_m7 170 rfl) rfl
theorem q1700 : (Jvm.Cond.lays "OverTheHeadsModel" "OverTheHeadsModel" "opens" "I") ∈ lw_all := lw_g (lw_at lw_m7 171 rfl) rfl
theorem q1701 : (Jvm.Cond.soleField "OverTheHeadsModel" "opens") ∈ lw_all := lw_g (lw_at lw_m7 172 rfl) rfl
theorem q1702 : (Jvm.Cond.lays "OverTheHeadsModel" "OverTheHeadsModel" "out" "I") ∈ lw_all := lw_g (lw_at lw_m7 173 rfl) rfl
theorem q1703 : (Jvm.Cond.soleField "OverTheHeadsModel" "out") ∈ lw_all := lw_g (lw_at lw_m7 174 rfl) rfl
theorem q1704 : (Jvm.Cond.laysFinal "OverTheHeadsModel" "OverTheHeadsModel" "stack" "[I") ∈ lw_all := lw_g (lw_at lw_m7 175 rfl) rfl
theorem q1705 : (Jvm.Cond.soleField "OverTheHeadsModel" "stack") ∈ lw_all := lw_g (lw_at lw_m7 176 rfl) rfl
theorem q1706 : (Jvm.Cond.laysFinal "OverTheHeadsModel" "OverTheHeadsModel" "named" "[I") ∈ lw_all := lw_g (lw_at lw_m7 177 rfl) rfl
theorem q1707 : (Jvm.Cond.soleField "OverTheHeadsModel" "named") ∈ lw_all := lw_g (lw_at lw_m7 178 rfl) rfl
theorem q1708 : (Jvm.Cond.laysFinal "OverTheHeadsModel" "OverTheHeadsModel" "keptRise" "[I") ∈ lw_all := lw_g (lw_at lw_m7 179 rfl) rfl
theorem q1709 : (Jvm.Cond.soleField "OverTheHeadsModel" "keptRise") ∈ lw_all := lw_g (lw_at lw_m7 180 rfl) rfl
theorem q1710 : (Jvm.Cond.lays "OverTheHeadsModel" "OverTheHeadsModel" "nears" "I") ∈ lw_all := lw_g (lw_at lw_m7 181 rfl) rfl
theorem q1711 : (Jvm.Cond.soleField "OverTheHeadsModel" "nears") ∈ lw_all := lw_g (lw_at lw_m7 182 rfl) rfl
theorem q1712 : (Jvm.Cond.lays "OverTheHeadsModel" "OverTheHeadsModel" "sound" "J") ∈ lw_all := lw_g (lw_at lw_m7 183 rfl) rfl
theorem q1713 : (Jvm.Cond.soleField "OverTheHeadsModel" "sound") ∈ lw_all := lw_g (lw_at lw_m7 184 rfl) rfl
theorem q1714 : (Jvm.Cond.laysFinal "OverTheHeadsModel" "OverTheHeadsModel" "keptSorts" "[I") ∈ lw_all := lw_g (lw_at lw_m7 185 rfl) rfl
theorem q1715 : (Jvm.Cond.soleField "OverTheHeadsModel" "keptSorts") ∈ lw_all := lw_g (lw_at lw_m7 186 rfl) rfl
theorem q1716 : (Jvm.Cond.laysFinal "OverTheHeadsModel" "OverTheHeadsModel" "keptShift" "[I") ∈ lw_all := lw_g (lw_at lw_m7 187 rfl) rfl
theorem q1717 : (Jvm.Cond.soleField "OverTheHeadsModel" "keptShift") ∈ lw_all := lw_g (lw_at lw_m7 188 rfl) rfl
theorem q1718 : (Jvm.Cond.lays "OverTheHeadsModel" "OverTheHeadsModel" "peopleBest" "I") ∈ lw_all := lw_g (lw_at lw_m7 189 rfl) rfl
theorem q1719 : (Jvm.Cond.soleField "OverTheHeadsModel" "peopleBest") ∈ lw_all := lw_g (lw_at lw_m7 190 rfl) rfl
theorem q1720 : (Jvm.Cond.lays "OverTheHeadsModel" "OverTheHeadsModel" "peopleGain" "I") ∈ lw_all := lw_g (lw_at lw_m7 191 rfl) rfl
theorem q1721 : (Jvm.Cond.soleField "OverTheHeadsModel" "peopleGain") ∈ lw_all := lw_g (lw_at lw_m7 192 rfl) rfl
theorem q1722 : (Jvm.Cond.laysFinal "OverTheHeadsModel" "OverTheHeadsModel" "sold" "[I") ∈ lw_all := lw_g (lw_at lw_m7 193 rfl) rfl
theorem q1723 : (Jvm.Cond.soleField "OverTheHeadsModel" "sold") ∈ lw_all := lw_g (lw_at lw_m7 194 rfl) rfl
theorem q1724 : (Jvm.Cond.superclass "OverTheHeadsModel" "java/lang/Object") ∈ lw_all := lw_g (lw_at lw_m7 195 rfl) rfl
theorem q1727 : (Jvm.Cond.instanceMethod ({ cls := "OverTheHeadsModel", name := "sort", desc := "(III)I" } : Jvm.MethodName)) ∈ lw_all := lw_g (lw_at lw_m7 198 rfl) rfl
theorem q1728 : (Jvm.Cond.selects "OverTheHeadsModel" ({ cls := "OverTheHeadsModel", name := "sort", desc := "(III)I" } : Jvm.MethodName) ({ cls := "OverTheHeadsModel", name := "sort", desc := "(III)I" } : Jvm.MethodName)) ∈ lw_all := lw_g (lw_at lw_m7 199 rfl) rfl
theorem q1729 : (Jvm.Cond.code ({ cls := "OverTheHeadsModel", name := "sort", desc := "(III)I" } : Jvm.MethodName) prog_19_method_7_code (5 : Nat) (Option.some Jvm.ClassFile.FieldType.int)) ∈ lw_all := lw_g (lw_at lw_m7 200 rfl) rfl
theorem q1730 : (Jvm.Cond.methodLink "OverTheHeadsModel" (159 : Nat) ({ cls := "OverTheHeadsModel", name := "in", desc := "(III)Z" } : Jvm.MethodName)) ∈ lw_all := lw_g (lw_at lw_m7 201 rfl) rfl
theorem q1731 : (Jvm.Cond.static ({ cls := "OverTheHeadsModel", name := "in", desc := "(III)Z" } : Jvm.MethodName)) ∈ lw_all := lw_g (lw_at lw_m7 202 rfl) rfl
theorem q1732 : (Jvm.Cond.code ({ cls := "OverTheHeadsModel", name := "in", desc := "(III)Z" } : Jvm.MethodName) prog_19_method_4_code (3 : Nat) (Option.some Jvm.ClassFile.FieldType.boolean)) ∈ lw_all := lw_g (lw_at lw_m7 203 rfl) rfl
theorem q1734 : (Jvm.Cond.instanceMethod ({ cls := "OverTheHeadsModel", name := "row", desc := "(III)I" } : Jvm.MethodName)) ∈ lw_all := lw_g (lw_at lw_m7 205 rfl) rfl
theorem q1735 : (Jvm.Cond.selects "OverTheHeadsModel" ({ cls := "OverTheHeadsModel", name := "row", desc := "(III)I" } : Jvm.MethodName) ({ cls := "OverTheHeadsModel", name := "row", desc := "(III)I" } : Jvm.MethodName)) ∈ lw_all := lw_g (lw_at lw_m7 206 rfl) rfl
theorem q1736 : (Jvm.Cond.code ({ cls := "OverTheHeadsModel", name := "row", desc := "(III)I" } : Jvm.MethodName) prog_19_method_8_code (4 : Nat) (Option.some Jvm.ClassFile.FieldType.int)) ∈ lw_all := lw_g (lw_at lw_m7 207 rfl) rfl
theorem q1738 : (Jvm.Cond.instanceMethod ({ cls := "OverTheHeadsModel", name := "set", desc := "(III)I" } : Jvm.MethodName)) ∈ lw_all := lw_g (lw_at lw_m7 209 rfl) rfl
theorem q1739 : (Jvm.Cond.selects "OverTheHeadsModel" ({ cls := "OverTheHeadsModel", name := "set", desc := "(III)I" } : Jvm.MethodName) ({ cls := "OverTheHeadsModel", name := "set", desc := "(III)I" } : Jvm.MethodName)) ∈ lw_all := lw_g (lw_at lw_m7 210 rfl) rfl
theorem q1740 : (Jvm.Cond.code ({ cls := "OverTheHeadsModel", name := "set", desc := "(III)I" } : Jvm.MethodName) prog_19_method_9_code (5 : Nat) (Option.some Jvm.ClassFile.FieldType.int)) ∈ lw_all := lw_g (lw_at lw_m7 211 rfl) rfl
theorem q1741 : (Jvm.Cond.methodLink "OverTheHeadsModel" (163 : Nat) ({ cls := "OverTheHeadsModel", name := "isRow", desc := "(I)Z" } : Jvm.MethodName)) ∈ lw_all := lw_g (lw_at lw_m7 212 rfl) rfl
theorem q1742 : (Jvm.Cond.privateMethod ({ cls := "OverTheHeadsModel", name := "isRow", desc := "(I)Z" } : Jvm.MethodName)) ∈ lw_tbl := lw_at lw_m7 213 rfl
theorem q1743 : (Jvm.Cond.instanceMethod ({ cls := "OverTheHeadsModel", name := "isRow", desc := "(I)Z" } : Jvm.MethodName)) ∈ lw_all := lw_g (lw_at lw_m7 214 rfl) rfl
theorem q1744 : (Jvm.Cond.code ({ cls := "OverTheHeadsModel", name := "isRow", desc := "(I)Z" } : Jvm.MethodName) prog_19_method_5_code (2 : Nat) (Option.some Jvm.ClassFile.FieldType.boolean)) ∈ lw_all := lw_g (lw_at lw_m7 215 rfl) rfl
theorem q1746 : (Jvm.Cond.instanceMethod ({ cls := "OverTheHeadsModel", name := "sit", desc := "(III)I" } : Jvm.MethodName)) ∈ lw_all := lw_g (lw_at lw_m7 217 rfl) rfl
theorem q1747 : (Jvm.Cond.selects "OverTheHeadsModel" ({ cls := "OverTheHeadsModel", name := "sit", desc := "(III)I" } : Jvm.MethodName) ({ cls := "OverTheHeadsModel", name := "sit", desc := "(III)I" } : Jvm.MethodName)) ∈ lw_all := lw_g (lw_at lw_m7 218 rfl) rfl
theorem q1748 : (Jvm.Cond.code ({ cls := "OverTheHeadsModel", name := "sit", desc := "(III)I" } : Jvm.MethodName) prog_19_method_10_code (5 : Nat) (Option.some Jvm.ClassFile.FieldType.int)) ∈ lw_all := lw_g (lw_at lw_m7 219 rfl) rfl
theorem q1749 : (Jvm.Cond.methodLink "OverTheHeadsModel" (167 : Nat) ({ cls := "OverTheHeadsModel", name := "isSeat", desc := "(II)Z" } : Jvm.MethodName)) ∈ lw_all := lw_g (lw_at lw_m7 220 rfl) rfl
theorem q1750 : (Jvm.Cond.privateMethod ({ cls := "OverTheHeadsModel", name := "isSeat", desc := "(II)Z" } : Jvm.MethodName)) ∈ lw_tbl := lw_at lw_m7 221 rfl
theorem q1751 : (Jvm.Cond.instanceMethod ({ cls := "OverTheHeadsModel", name := "isSeat", desc := "(II)Z" } : Jvm.MethodName)) ∈ lw_all := lw_g (lw_at lw_m7 222 rfl) rfl
theorem q1752 : (Jvm.Cond.code ({ cls := "OverTheHeadsModel", name := "isSeat", desc := "(II)Z" } : Jvm.MethodName) prog_19_method_6_code (3 : Nat) (Option.some Jvm.ClassFile.FieldType.boolean)) ∈ lw_all := lw_g (lw_at lw_m7 223 rfl) rfl
theorem q1754 : (Jvm.Cond.instanceMethod ({ cls := "OverTheHeadsModel", name := "told", desc := "(III)I" } : Jvm.MethodName)) ∈ lw_all := lw_g (lw_at lw_m7 225 rfl) rfl
theorem q1755 : (Jvm.Cond.selects "OverTheHeadsModel" ({ cls := "OverTheHeadsModel", name := "told", desc := "(III)I" } : Jvm.MethodName) ({ cls := "OverTheHeadsModel", name := "told", desc := "(III)I" } : Jvm.MethodName)) ∈ lw_all := lw_g (lw_at lw_m7 226 rfl) rfl
theorem q1756 : (Jvm.Cond.code ({ cls := "OverTheHeadsModel", name := "told", desc := "(III)I" } : Jvm.MethodName) prog_19_method_18_code (4 : Nat) (Option.some Jvm.ClassFile.FieldType.int)) ∈ lw_all := lw_g (lw_at lw_m7 227 rfl) rfl
theorem q1757 : (Jvm.Cond.methodLink "OverTheHeadsModel" (182 : Nat) ({ cls := "OverTheHeadsModel", name := "placeOf", desc := "(II)I" } : Jvm.MethodName)) ∈ lw_all := lw_g (lw_at lw_m7 228 rfl) rfl
theorem q1758 : (Jvm.Cond.privateMethod ({ cls := "OverTheHeadsModel", name := "placeOf", desc := "(II)I" } : Jvm.MethodName)) ∈ lw_tbl := lw_at lw_m7 229 rfl
theorem q1759 : (Jvm.Cond.instanceMethod ({ cls := "OverTheHeadsModel", name := "placeOf", desc := "(II)I" } : Jvm.MethodName)) ∈ lw_all := lw_g (lw_at lw_m7 230 rfl) rfl
theorem q1760 : (Jvm.Cond.code ({ cls := "OverTheHeadsModel", name := "placeOf", desc := "(II)I" } : Jvm.MethodName) prog_19_method_11_code (3 : Nat) (Option.some Jvm.ClassFile.FieldType.int)) ∈ lw_all := lw_g (lw_at lw_m7 231 rfl) rfl
theorem q1761 : (Jvm.Cond.methodLink "OverTheHeadsModel" (171 : Nat) ({ cls := "OverTheHeadsModel", name := "floorOf", desc := "(I)I" } : Jvm.MethodName)) ∈ lw_all := lw_g (lw_at lw_m7 232 rfl) rfl
theorem q1762 : (Jvm.Cond.privateMethod ({ cls := "OverTheHeadsModel", name := "floorOf", desc := "(I)I" } : Jvm.MethodName)) ∈ lw_tbl := lw_at lw_m7 233 rfl
theorem q1763 : (Jvm.Cond.instanceMethod ({ cls := "OverTheHeadsModel", name := "floorOf", desc := "(I)I" } : Jvm.MethodName)) ∈ lw_all := lw_g (lw_at lw_m7 234 rfl) rfl
theorem q1764 : (Jvm.Cond.code ({ cls := "OverTheHeadsModel", name := "floorOf", desc := "(I)I" } : Jvm.MethodName) prog_19_method_12_code (2 : Nat) (Option.some Jvm.ClassFile.FieldType.int)) ∈ lw_all := lw_g (lw_at lw_m7 235 rfl) rfl
theorem q1765 : (Jvm.Cond.methodLink "OverTheHeadsModel" (185 : Nat) ({ cls := "OverTheHeadsModel", name := "farOf", desc := "(I)I" } : Jvm.MethodName)) ∈ lw_all := lw_g (lw_at lw_m7 236 rfl) rfl
theorem q1766 : (Jvm.Cond.privateMethod ({ cls := "OverTheHeadsModel", name := "farOf", desc := "(I)I" } : Jvm.MethodName)) ∈ lw_tbl := lw_at lw_m7 237 rfl
theorem q1767 : (Jvm.Cond.instanceMethod ({ cls := "OverTheHeadsModel", name := "farOf", desc := "(I)I" } : Jvm.MethodName)) ∈ lw_all := lw_g (lw_at lw_m7 238 rfl) rfl
theorem q1768 : (Jvm.Cond.code ({ cls := "OverTheHeadsModel", name := "farOf", desc := "(I)I" } : Jvm.MethodName) prog_19_method_13_code (2 : Nat) (Option.some Jvm.ClassFile.FieldType.int)) ∈ lw_all := lw_g (lw_at lw_m7 239 rfl) rfl
theorem q1769 : (Jvm.Cond.methodLink "OverTheHeadsModel" (188 : Nat) ({ cls := "OverTheHeadsModel", name := "eyesOf", desc := "(II)I" } : Jvm.MethodName)) ∈ lw_all := lw_g (lw_at lw_m8 0 rfl) rfl
theorem q1770 : (Jvm.Cond.privateMethod ({ cls := "OverTheHeadsModel", name := "eyesOf", desc := "(II)I" } : Jvm.MethodName)) ∈ lw_tbl := lw_at lw_m8 1 rfl
theorem q1771 : (Jvm.Cond.instanceMethod ({ cls := "OverTheHeadsModel", name := "eyesOf", desc := "(II)I" } : Jvm.MethodName)) ∈ lw_all := lw_g (lw_at lw_m8 2 rfl) rfl
theorem q1772 : (Jvm.Cond.code ({ cls := "OverTheHeadsModel", name := "eyesOf", desc := "(II)I" } : Jvm.MethodName) prog_19_method_16_code (3 : Nat) (Option.some Jvm.ClassFile.FieldType.int)) ∈ lw_all := lw_g (lw_at lw_m8 3 rfl) rfl
theorem q1773 : (Jvm.Cond.methodLink "OverTheHeadsModel" (175 : Nat) ({ cls := "OverTheHeadsModel", name := "above", desc := "(II)I" } : Jvm.MethodName)) ∈ lw_all := lw_g (lw_at lw_m8 4 rfl) rfl
theorem q1774 : (Jvm.Cond.privateMethod ({ cls := "OverTheHeadsModel", name := "above", desc := "(II)I" } : Jvm.MethodName)) ∈ lw_tbl := lw_at lw_m8 5 rfl
theorem q1775 : (Jvm.Cond.instanceMethod ({ cls := "OverTheHeadsModel", name := "above", desc := "(II)I" } : Jvm.MethodName)) ∈ lw_all := lw_g (lw_at lw_m8 6 rfl) rfl
theorem q1776 : (Jvm.Cond.code ({ cls := "OverTheHeadsModel", name := "above", desc := "(II)I" } : Jvm.MethodName) prog_19_method_15_code (4 : Nat) (Option.some Jvm.ClassFile.FieldType.int)) ∈ lw_all := lw_g (lw_at lw_m8 7 rfl) rfl
theorem q1777 : (Jvm.Cond.methodLink "OverTheHeadsModel" (191 : Nat) ({ cls := "OverTheHeadsModel", name := "topOf", desc := "(II)I" } : Jvm.MethodName)) ∈ lw_all := lw_g (lw_at lw_m8 8 rfl) rfl
theorem q1778 : (Jvm.Cond.privateMethod ({ cls := "OverTheHeadsModel", name := "topOf", desc := "(II)I" } : Jvm.MethodName)) ∈ lw_tbl := lw_at lw_m8 9 rfl
theorem q1779 : (Jvm.Cond.instanceMethod ({ cls := "OverTheHeadsModel", name := "topOf", desc := "(II)I" } : Jvm.MethodName)) ∈ lw_all := lw_g (lw_at lw_m8 10 rfl) rfl
theorem q1780 : (Jvm.Cond.code ({ cls := "OverTheHeadsModel", name := "topOf", desc := "(II)I" } : Jvm.MethodName) prog_19_method_17_code (3 : Nat) (Option.some Jvm.ClassFile.FieldType.int)) ∈ lw_all := lw_g (lw_at lw_m8 11 rfl) rfl
theorem q1781 : (Jvm.Cond.methodLink "OverTheHeadsModel" (194 : Nat) ({ cls := "OverTheHeadsModel", name := "isAmong", desc := "(I)Z" } : Jvm.MethodName)) ∈ lw_all := lw_g (lw_at lw_m8 12 rfl) rfl
theorem q1782 : (Jvm.Cond.privateMethod ({ cls := "OverTheHeadsModel", name := "isAmong", desc := "(I)Z" } : Jvm.MethodName)) ∈ lw_tbl := lw_at lw_m8 13 rfl
theorem q1783 : (Jvm.Cond.instanceMethod ({ cls := "OverTheHeadsModel", name := "isAmong", desc := "(I)Z" } : Jvm.MethodName)) ∈ lw_all := lw_g (lw_at lw_m8 14 rfl) rfl
theorem q1784 : (Jvm.Cond.code ({ cls := "OverTheHeadsModel", name := "isAmong", desc := "(I)Z" } : Jvm.MethodName) prog_19_method_14_code (2 : Nat) (Option.some Jvm.ClassFile.FieldType.boolean)) ∈ lw_all := lw_g (lw_at lw_m8 15 rfl) rfl
theorem q1786 : (Jvm.Cond.instanceMethod ({ cls := "OverTheHeadsModel", name := "point", desc := "(III)I" } : Jvm.MethodName)) ∈ lw_all := lw_g (lw_at lw_m8 17 rfl) rfl
theorem q1787 : (Jvm.Cond.selects "OverTheHeadsModel" ({ cls := "OverTheHeadsModel", name := "point", desc := "(III)I" } : Jvm.MethodName) ({ cls := "OverTheHeadsModel", name := "point", desc := "(III)I" } : Jvm.MethodName)) ∈ lw_all := lw_g (lw_at lw_m8 18 rfl) rfl
theorem q1788 : (Jvm.Cond.code ({ cls := "OverTheHeadsModel", name := "point", desc := "(III)I" } : Jvm.MethodName) prog_19_method_19_code (4 : Nat) (Option.some Jvm.ClassFile.FieldType.int)) ∈ lw_all := lw_g (lw_at lw_m8 19 rfl) rfl
theorem q1790 : (Jvm.Cond.instanceMethod ({ cls := "OverTheHeadsModel", name := "post", desc := "(II)I" } : Jvm.MethodName)) ∈ lw_all := lw_g (lw_at lw_m8 21 rfl) rfl
theorem q1791 : (Jvm.Cond.selects "OverTheHeadsModel" ({ cls := "OverTheHeadsModel", name := "post", desc := "(II)I" } : Jvm.MethodName) ({ cls := "OverTheHeadsModel", name := "post", desc := "(II)I" } : Jvm.MethodName)) ∈ lw_all := lw_g (lw_at lw_m8 22 rfl) rfl
theorem q1792 : (Jvm.Cond.code ({ cls := "OverTheHeadsModel", name := "post", desc := "(II)I" } : Jvm.MethodName) prog_19_method_20_code (3 : Nat) (Option.some Jvm.ClassFile.FieldType.int)) ∈ lw_all := lw_g (lw_at lw_m8 23 rfl) rfl
theorem q1794 : (Jvm.Cond.instanceMethod ({ cls := "OverTheHeadsModel", name := "moves", desc := "(III)I" } : Jvm.MethodName)) ∈ lw_all := lw_g (lw_at lw_m8 25 rfl) rfl
theorem q1795 : (Jvm.Cond.selects "OverTheHeadsModel" ({ cls := "OverTheHeadsModel", name := "moves", desc := "(III)I" } : Jvm.MethodName) ({ cls := "OverTheHeadsModel", name := "moves", desc := "(III)I" } : Jvm.MethodName)) ∈ lw_all := lw_g (lw_at lw_m8 26 rfl) rfl
theorem q1796 : (Jvm.Cond.code ({ cls := "OverTheHeadsModel", name := "moves", desc := "(III)I" } : Jvm.MethodName) prog_19_method_21_code (5 : Nat) (Option.some Jvm.ClassFile.FieldType.int)) ∈ lw_all := lw_g (lw_at lw_m8 27 rfl) rfl
theorem q1798 : (Jvm.Cond.instanceMethod ({ cls := "OverTheHeadsModel", name := "count", desc := "(I)I" } : Jvm.MethodName)) ∈ lw_all := lw_g (lw_at lw_m8 29 rfl) rfl
theorem q1799 : (Jvm.Cond.selects "OverTheHeadsModel" ({ cls := "OverTheHeadsModel", name := "count", desc := "(I)I" } : Jvm.MethodName) ({ cls := "OverTheHeadsModel", name := "count", desc := "(I)I" } : Jvm.MethodName)) ∈ lw_all := lw_g (lw_at lw_m8 30 rfl) rfl
theorem q1800 : (Jvm.Cond.code ({ cls := "OverTheHeadsModel", name := "count", desc := "(I)I" } : Jvm.MethodName) prog_19_method_22_code (2 : Nat) (Option.some Jvm.ClassFile.FieldType.int)) ∈ lw_all := lw_g (lw_at lw_m8 31 rfl) rfl
theorem q1802 : (Jvm.Cond.instanceMethod ({ cls := "OverTheHeadsModel", name := "feed", desc := "(JI)I" } : Jvm.MethodName)) ∈ lw_all := lw_g (lw_at lw_m8 33 rfl) rfl
theorem q1803 : (Jvm.Cond.selects "OverTheHeadsModel" ({ cls := "OverTheHeadsModel", name := "feed", desc := "(JI)I" } : Jvm.MethodName) ({ cls := "OverTheHeadsModel", name := "feed", desc := "(JI)I" } : Jvm.MethodName)) ∈ lw_all := lw_g (lw_at lw_m8 34 rfl) rfl
theorem q1804 : (Jvm.Cond.code ({ cls := "OverTheHeadsModel", name := "feed", desc := "(JI)I" } : Jvm.MethodName) prog_19_method_23_code (5 : Nat) (Option.some Jvm.ClassFile.FieldType.int)) ∈ lw_all := lw_g (lw_at lw_m8 35 rfl) rfl
theorem q1805 : (Jvm.Cond.constantLong "OverTheHeadsModel" (209 : Nat) (255 : Int64)) ∈ lw_all := lw_g (lw_at lw_m8 36 rfl) rfl
theorem q1807 : (Jvm.Cond.instanceMethod ({ cls := "OverTheHeadsModel", name := "text", desc := "()I" } : Jvm.MethodName)) ∈ lw_all := lw_g (lw_at lw_m8 38 rfl) rfl
theorem q1808 : (Jvm.Cond.selects "OverTheHeadsModel" ({ cls := "OverTheHeadsModel", name := "text", desc := "()I" } : Jvm.MethodName) ({ cls := "OverTheHeadsModel", name := "text", desc := "()I" } : Jvm.MethodName)) ∈ lw_all := lw_g (lw_at lw_m8 39 rfl) rfl
theorem q1809 : (Jvm.Cond.code ({ cls := "OverTheHeadsModel", name := "text", desc := "()I" } : Jvm.MethodName) prog_19_method_34_code (3 : Nat) (Option.some Jvm.ClassFile.FieldType.int)) ∈ lw_all := lw_g (lw_at lw_m8 40 rfl) rfl
theorem q1810 : (Jvm.Cond.methodLink "OverTheHeadsModel" (249 : Nat) ({ cls := "OverTheHeadsModel", name := "next", desc := "()V" } : Jvm.MethodName)) ∈ lw_all := lw_g (lw_at lw_m8 41 rfl) rfl
theorem q1811 : (Jvm.Cond.privateMethod ({ cls := "OverTheHeadsModel", name := "next", desc := "()V" } : Jvm.MethodName)) ∈ lw_tbl := lw_at lw_m8 42 rfl
theorem q1812 : (Jvm.Cond.instanceMethod ({ cls := "OverTheHeadsModel", name := "next", desc := "()V" } : Jvm.MethodName)) ∈ lw_all := lw_g (lw_at lw_m8 43 rfl) rfl
theorem q1813 : (Jvm.Cond.code ({ cls := "OverTheHeadsModel", name := "next", desc := "()V" } : Jvm.MethodName) prog_19_method_25_code (5 : Nat) (Option.none : Option Jvm.ClassFile.FieldType)) ∈ lw_all := lw_g (lw_at lw_m8 44 rfl) rfl
theorem q1814 : (Jvm.Cond.methodLink "OverTheHeadsModel" (223 : Nat) ({ cls := "OverTheHeadsModel", name := "letters", desc := "()J" } : Jvm.MethodName)) ∈ lw_all := lw_g (lw_at lw_m8 45 rfl) rfl
theorem q1815 : (Jvm.Cond.privateMethod ({ cls := "OverTheHeadsModel", name := "letters", desc := "()J" } : Jvm.MethodName)) ∈ lw_tbl := lw_at lw_m8 46 rfl
theorem q1816 : (Jvm.Cond.instanceMethod ({ cls := "OverTheHeadsModel", name := "letters", desc := "()J" } : Jvm.MethodName)) ∈ lw_all := lw_g (lw_at lw_m8 47 rfl) rfl
theorem q1817 : (Jvm.Cond.code ({ cls := "OverTheHeadsModel", name := "letters", desc := "()J" } : Jvm.MethodName) prog_19_method_24_code (4 : Nat) (Option.some Jvm.ClassFile.FieldType.long)) ∈ lw_all := lw_g (lw_at lw_m8 48 rfl) rfl
theorem q1818 : (Jvm.Cond.methodLink "OverTheHeadsModel" (263 : Nat) ({ cls := "OverTheHeadsModel", name := "eRead", desc := "()Z" } : Jvm.MethodName)) ∈ lw_all := lw_g (lw_at lw_m8 49 rfl) rfl
theorem q1819 : (Jvm.Cond.privateMethod ({ cls := "OverTheHeadsModel", name := "eRead", desc := "()Z" } : Jvm.MethodName)) ∈ lw_tbl := lw_at lw_m8 50 rfl
theorem q1820 : (Jvm.Cond.instanceMethod ({ cls := "OverTheHeadsModel", name := "eRead", desc := "()Z" } : Jvm.MethodName)) ∈ lw_all := lw_g (lw_at lw_m8 51 rfl) rfl
theorem q1821 : (Jvm.Cond.code ({ cls := "OverTheHeadsModel", name := "eRead", desc := "()Z" } : Jvm.MethodName) prog_19_method_33_code (4 : Nat) (Option.some Jvm.ClassFile.FieldType.boolean)) ∈ lw_all := lw_g (lw_at lw_m8 52 rfl) rfl
theorem q1822 : (Jvm.Cond.constant "OverTheHeadsModel" (252 : Nat) (100000 : Int32)) ∈ lw_all := lw_g (lw_at lw_m8 53 rfl) rfl
theorem q1823 : (Jvm.Cond.methodLink "OverTheHeadsModel" (239 : Nat) ({ cls := "OverTheHeadsModel", name := "puts", desc := "(I)V" } : Jvm.MethodName)) ∈ lw_all := lw_g (lw_at lw_m8 54 rfl) rfl
theorem q1824 : (Jvm.Cond.privateMethod ({ cls := "OverTheHeadsModel", name := "puts", desc := "(I)V" } : Jvm.MethodName)) ∈ lw_tbl := lw_at lw_m8 55 rfl
theorem q1825 : (Jvm.Cond.instanceMethod ({ cls := "OverTheHeadsModel", name := "puts", desc := "(I)V" } : Jvm.MethodName)) ∈ lw_all := lw_g (lw_at lw_m8 56 rfl) rfl
theorem q1826 : (Jvm.Cond.code ({ cls := "OverTheHeadsModel", name := "puts", desc := "(I)V" } : Jvm.MethodName) prog_19_method_27_code (2 : Nat) (Option.none : Option Jvm.ClassFile.FieldType)) ∈ lw_all := lw_g (lw_at lw_m8 57 rfl) rfl
theorem q1827 : (Jvm.Cond.methodLink "OverTheHeadsModel" (246 : Nat) ({ cls := "OverTheHeadsModel", name := "unwinds", desc := "(I)V" } : Jvm.MethodName)) ∈ lw_all := lw_g (lw_at lw_m8 58 rfl) rfl
theorem q1828 : (Jvm.Cond.privateMethod ({ cls := "OverTheHeadsModel", name := "unwinds", desc := "(I)V" } : Jvm.MethodName)) ∈ lw_tbl := lw_at lw_m8 59 rfl
theorem q1829 : (Jvm.Cond.instanceMethod ({ cls := "OverTheHeadsModel", name := "unwinds", desc := "(I)V" } : Jvm.MethodName)) ∈ lw_all := lw_g (lw_at lw_m8 60 rfl) rfl
theorem q1830 : (Jvm.Cond.code ({ cls := "OverTheHeadsModel", name := "unwinds", desc := "(I)V" } : Jvm.MethodName) prog_19_method_28_code (3 : Nat) (Option.none : Option Jvm.ClassFile.FieldType)) ∈ lw_all := lw_g (lw_at lw_m8 61 rfl) rfl
theorem q1831 : (Jvm.Cond.methodLink "OverTheHeadsModel" (233 : Nat) ({ cls := "OverTheHeadsModel", name := "rank", desc := "(I)I" } : Jvm.MethodName)) ∈ lw_all := lw_g (lw_at lw_m8 62 rfl) rfl
theorem q1832 : (Jvm.Cond.static ({ cls := "OverTheHeadsModel", name := "rank", desc := "(I)I" } : Jvm.MethodName)) ∈ lw_all := lw_g (lw_at lw_m8 63 rfl) rfl
theorem q1833 : (Jvm.Cond.code ({ cls := "OverTheHeadsModel", name := "rank", desc := "(I)I" } : Jvm.MethodName) prog_19_method_26_code (1 : Nat) (Option.some Jvm.ClassFile.FieldType.int)) ∈ lw_all := lw_g (lw_at lw_m8 64 rfl) rfl
theorem q1834 : (Jvm.Cond.methodLink "OverTheHeadsModel" (253 : Nat) ({ cls := "OverTheHeadsModel", name := "opensOne", desc := "(I)Z" } : Jvm.MethodName)) ∈ lw_all := lw_g (lw_at lw_m8 65 rfl) rfl
theorem q1835 : (Jvm.Cond.privateMethod ({ cls := "OverTheHeadsModel", name := "opensOne", desc := "(I)Z" } : Jvm.MethodName)) ∈ lw_tbl := lw_at lw_m8 66 rfl
theorem q1836 : (Jvm.Cond.instanceMethod ({ cls := "OverTheHeadsModel", name := "opensOne", desc := "(I)Z" } : Jvm.MethodName)) ∈ lw_all := lw_g (lw_at lw_m8 67 rfl) rfl
theorem q1837 : (Jvm.Cond.code ({ cls := "OverTheHeadsModel", name := "opensOne", desc := "(I)Z" } : Jvm.MethodName) prog_19_method_30_code (2 : Nat) (Option.some Jvm.ClassFile.FieldType.boolean)) ∈ lw_all := lw_g (lw_at lw_m8 68 rfl) rfl
theorem q1838 : (Jvm.Cond.methodLink "OverTheHeadsModel" (243 : Nat) ({ cls := "OverTheHeadsModel", name := "holds", desc := "(I)V" } : Jvm.MethodName)) ∈ lw_all := lw_g (lw_at lw_m8 69 rfl) rfl
theorem q1839 : (Jvm.Cond.privateMethod ({ cls := "OverTheHeadsModel", name := "holds", desc := "(I)V" } : Jvm.MethodName)) ∈ lw_tbl := lw_at lw_m8 70 rfl
theorem q1840 : (Jvm.Cond.instanceMethod ({ cls := "OverTheHeadsModel", name := "holds", desc := "(I)V" } : Jvm.MethodName)) ∈ lw_all := lw_g (lw_at lw_m8 71 rfl) rfl
theorem q1841 : (Jvm.Cond.code ({ cls := "OverTheHeadsModel", name := "holds", desc := "(I)V" } : Jvm.MethodName) prog_19_method_29_code (2 : Nat) (Option.none : Option Jvm.ClassFile.FieldType)) ∈ lw_all := lw_g (lw_at lw_m8 72 rfl) rfl
theorem q1842 : (Jvm.Cond.methodLink "OverTheHeadsModel" (256 : Nat) ({ cls := "OverTheHeadsModel", name := "signOf", desc := "()I" } : Jvm.MethodName)) ∈ lw_all := lw_g (lw_at lw_m8 73 rfl) rfl
theorem q1843 : (Jvm.Cond.privateMethod ({ cls := "OverTheHeadsModel", name := "signOf", desc := "()I" } : Jvm.MethodName)) ∈ lw_tbl := lw_at lw_m8 74 rfl
theorem q1844 : (Jvm.Cond.instanceMethod ({ cls := "OverTheHeadsModel", name := "signOf", desc := "()I" } : Jvm.MethodName)) ∈ lw_all := lw_g (lw_at lw_m8 75 rfl) rfl
theorem q1845 : (Jvm.Cond.code ({ cls := "OverTheHeadsModel", name := "signOf", desc := "()I" } : Jvm.MethodName) prog_19_method_32_code (1 : Nat) (Option.some Jvm.ClassFile.FieldType.int)) ∈ lw_all := lw_g (lw_at lw_m8 76 rfl) rfl
theorem q1846 : (Jvm.Cond.methodLink "OverTheHeadsModel" (260 : Nat) ({ cls := "OverTheHeadsModel", name := "between", desc := "(I)Z" } : Jvm.MethodName)) ∈ lw_all := lw_g (lw_at lw_m8 77 rfl) rfl
theorem q1847 : (Jvm.Cond.privateMethod ({ cls := "OverTheHeadsModel", name := "between", desc := "(I)Z" } : Jvm.MethodName)) ∈ lw_tbl := lw_at lw_m8 78 rfl
theorem q1848 : (Jvm.Cond.instanceMethod ({ cls := "OverTheHeadsModel", name := "between", desc := "(I)Z" } : Jvm.MethodName)) ∈ lw_all := lw_g (lw_at lw_m8 79 rfl) rfl
theorem q1849 : (Jvm.Cond.code ({ cls := "OverTheHeadsModel", name := "between", desc := "(I)Z" } : Jvm.MethodName) prog_19_method_31_code (2 : Nat) (Option.some Jvm.ClassFile.FieldType.boolean)) ∈ lw_all := lw_g (lw_at lw_m8 80 rfl) rfl
theorem q1851 : (Jvm.Cond.instanceMethod ({ cls := "OverTheHeadsModel", name := "force", desc := "(I)I" } : Jvm.MethodName)) ∈ lw_all := lw_g (lw_at lw_m8 82 rfl) rfl
theorem q1852 : (Jvm.Cond.selects "OverTheHeadsModel" ({ cls := "OverTheHeadsModel", name := "force", desc := "(I)I" } : Jvm.MethodName) ({ cls := "OverTheHeadsModel", name := "force", desc := "(I)I" } : Jvm.MethodName)) ∈ lw_all := lw_g (lw_at lw_m8 83 rfl) rfl
theorem q1853 : (Jvm.Cond.code ({ cls := "OverTheHeadsModel", name := "force", desc := "(I)I" } : Jvm.MethodName) prog_19_method_37_code (3 : Nat) (Option.some Jvm.ClassFile.FieldType.int)) ∈ lw_all := lw_g (lw_at lw_m8 84 rfl) rfl
theorem q1855 : (Jvm.Cond.instanceMethod ({ cls := "OverTheHeadsModel", name := "hidden", desc := "(III)I" } : Jvm.MethodName)) ∈ lw_all := lw_g (lw_at lw_m8 86 rfl) rfl
theorem q1856 : (Jvm.Cond.selects "OverTheHeadsModel" ({ cls := "OverTheHeadsModel", name := "hidden", desc := "(III)I" } : Jvm.MethodName) ({ cls := "OverTheHeadsModel", name := "hidden", desc := "(III)I" } : Jvm.MethodName)) ∈ lw_all := lw_g (lw_at lw_m8 87 rfl) rfl
theorem q1857 : (Jvm.Cond.code ({ cls := "OverTheHeadsModel", name := "hidden", desc := "(III)I" } : Jvm.MethodName) prog_19_method_43_code (4 : Nat) (Option.some Jvm.ClassFile.FieldType.int)) ∈ lw_all := lw_g (lw_at lw_m8 88 rfl) rfl
theorem q1858 : (Jvm.Cond.methodLink "OverTheHeadsModel" (285 : Nat) ({ cls := "OverTheHeadsModel", name := "hiderOf", desc := "(III)I" } : Jvm.MethodName)) ∈ lw_all := lw_g (lw_at lw_m8 89 rfl) rfl
theorem q1859 : (Jvm.Cond.privateMethod ({ cls := "OverTheHeadsModel", name := "hiderOf", desc := "(III)I" } : Jvm.MethodName)) ∈ lw_tbl := lw_at lw_m8 90 rfl
theorem q1860 : (Jvm.Cond.instanceMethod ({ cls := "OverTheHeadsModel", name := "hiderOf", desc := "(III)I" } : Jvm.MethodName)) ∈ lw_all := lw_g (lw_at lw_m8 91 rfl) rfl
theorem q1861 : (Jvm.Cond.code ({ cls := "OverTheHeadsModel", name := "hiderOf", desc := "(III)I" } : Jvm.MethodName) prog_19_method_42_code (6 : Nat) (Option.some Jvm.ClassFile.FieldType.int)) ∈ lw_all := lw_g (lw_at lw_m8 92 rfl) rfl
theorem q1862 : (Jvm.Cond.methodLink "OverTheHeadsModel" (275 : Nat) ({ cls := "OverTheHeadsModel", name := "isNear", desc := "(IIIII)Z" } : Jvm.MethodName)) ∈ lw_all := lw_g (lw_at lw_m8 93 rfl) rfl
theorem q1863 : (Jvm.Cond.privateMethod ({ cls := "OverTheHeadsModel", name := "isNear", desc := "(IIIII)Z" } : Jvm.MethodName)) ∈ lw_tbl := lw_at lw_m8 94 rfl
theorem q1864 : (Jvm.Cond.instanceMethod ({ cls := "OverTheHeadsModel", name := "isNear", desc := "(IIIII)Z" } : Jvm.MethodName)) ∈ lw_all := lw_g (lw_at lw_m8 95 rfl) rfl
theorem q1865 : (Jvm.Cond.code ({ cls := "OverTheHeadsModel", name := "isNear", desc := "(IIIII)Z" } : Jvm.MethodName) prog_19_method_40_code (6 : Nat) (Option.some Jvm.ClassFile.FieldType.boolean)) ∈ lw_all := lw_g (lw_at lw_m8 96 rfl) rfl
theorem q1866 : (Jvm.Cond.methodLink "OverTheHeadsModel" (271 : Nat) ({ cls := "OverTheHeadsModel", name := "beside", desc := "(IIIII)I" } : Jvm.MethodName)) ∈ lw_all := lw_g (lw_at lw_m8 97 rfl) rfl
theorem q1867 : (Jvm.Cond.privateMethod ({ cls := "OverTheHeadsModel", name := "beside", desc := "(IIIII)I" } : Jvm.MethodName)) ∈ lw_tbl := lw_at lw_m8 98 rfl
theorem q1868 : (Jvm.Cond.instanceMethod ({ cls := "OverTheHeadsModel", name := "beside", desc := "(IIIII)I" } : Jvm.MethodName)) ∈ lw_all := lw_g (lw_at lw_m8 99 rfl) rfl
theorem q1869 : (Jvm.Cond.code ({ cls := "OverTheHeadsModel", name := "beside", desc := "(IIIII)I" } : Jvm.MethodName) prog_19_method_38_code (8 : Nat) (Option.some Jvm.ClassFile.FieldType.int)) ∈ lw_all := lw_g (lw_at lw_m8 100 rfl) rfl
theorem q1870 : (Jvm.Cond.methodLink "OverTheHeadsModel" (279 : Nat) ({ cls := "OverTheHeadsModel", name := "isAsHigh", desc := "(IIIII)Z" } : Jvm.MethodName)) ∈ lw_all := lw_g (lw_at lw_m8 101 rfl) rfl
theorem q1871 : (Jvm.Cond.privateMethod ({ cls := "OverTheHeadsModel", name := "isAsHigh", desc := "(IIIII)Z" } : Jvm.MethodName)) ∈ lw_tbl := lw_at lw_m8 102 rfl
theorem q1872 : (Jvm.Cond.instanceMethod ({ cls := "OverTheHeadsModel", name := "isAsHigh", desc := "(IIIII)Z" } : Jvm.MethodName)) ∈ lw_all := lw_g (lw_at lw_m8 103 rfl) rfl
theorem q1873 : (Jvm.Cond.code ({ cls := "OverTheHeadsModel", name := "isAsHigh", desc := "(IIIII)Z" } : Jvm.MethodName) prog_19_method_39_code (7 : Nat) (Option.some Jvm.ClassFile.FieldType.boolean)) ∈ lw_all := lw_g (lw_at lw_m8 104 rfl) rfl
theorem q1874 : (Jvm.Cond.methodLink "OverTheHeadsModel" (282 : Nat) ({ cls := "OverTheHeadsModel", name := "postBefore", desc := "(III)I" } : Jvm.MethodName)) ∈ lw_all := lw_g (lw_at lw_m8 105 rfl) rfl
theorem q1875 : (Jvm.Cond.privateMethod ({ cls := "OverTheHeadsModel", name := "postBefore", desc := "(III)I" } : Jvm.MethodName)) ∈ lw_tbl := lw_at lw_m8 106 rfl
theorem q1876 : (Jvm.Cond.instanceMethod ({ cls := "OverTheHeadsModel", name := "postBefore", desc := "(III)I" } : Jvm.MethodName)) ∈ lw_all := lw_g (lw_at lw_m8 107 rfl) rfl
theorem q1877 : (Jvm.Cond.code ({ cls := "OverTheHeadsModel", name := "postBefore", desc := "(III)I" } : Jvm.MethodName) prog_19_method_41_code (5 : Nat) (Option.some Jvm.ClassFile.FieldType.int)) ∈ lw_all := lw_g (lw_at lw_m8 108 rfl) rfl
theorem q1879 : (Jvm.Cond.instanceMethod ({ cls := "OverTheHeadsModel", name := "sees", desc := "(II)I" } : Jvm.MethodName)) ∈ lw_all := lw_g (lw_at lw_m8 110 rfl) rfl
theorem q1880 : (Jvm.Cond.selects "OverTheHeadsModel" ({ cls := "OverTheHeadsModel", name := "sees", desc := "(II)I" } : Jvm.MethodName) ({ cls := "OverTheHeadsModel", name := "sees", desc := "(II)I" } : Jvm.MethodName)) ∈ lw_all := lw_g (lw_at lw_m8 111 rfl) rfl
theorem q1881 : (Jvm.Cond.code ({ cls := "OverTheHeadsModel", name := "sees", desc := "(II)I" } : Jvm.MethodName) prog_19_method_45_code (3 : Nat) (Option.some Jvm.ClassFile.FieldType.int)) ∈ lw_all := lw_g (lw_at lw_m8 112 rfl) rfl
theorem q1882 : (Jvm.Cond.methodLink "OverTheHeadsModel" (288 : Nat) ({ cls := "OverTheHeadsModel", name := "seesOf", desc := "(II)I" } : Jvm.MethodName)) ∈ lw_all := lw_g (lw_at lw_m8 113 rfl) rfl
theorem q1883 : (Jvm.Cond.privateMethod ({ cls := "OverTheHeadsModel", name := "seesOf", desc := "(II)I" } : Jvm.MethodName)) ∈ lw_tbl := lw_at lw_m8 114 rfl
theorem q1884 : (Jvm.Cond.instanceMethod ({ cls := "OverTheHeadsModel", name := "seesOf", desc := "(II)I" } : Jvm.MethodName)) ∈ lw_all := lw_g (lw_at lw_m8 115 rfl) rfl
theorem q1885 : (Jvm.Cond.code ({ cls := "OverTheHeadsModel", name := "seesOf", desc := "(II)I" } : Jvm.MethodName) prog_19_method_44_code (5 : Nat) (Option.some Jvm.ClassFile.FieldType.int)) ∈ lw_all := lw_g (lw_at lw_m8 116 rfl) rfl
theorem q1887 : (Jvm.Cond.instanceMethod ({ cls := "OverTheHeadsModel", name := "worth", desc := "(II)I" } : Jvm.MethodName)) ∈ lw_all := lw_g (lw_at lw_m8 118 rfl) rfl
theorem q1888 : (Jvm.Cond.selects "OverTheHeadsModel" ({ cls := "OverTheHeadsModel", name := "worth", desc := "(II)I" } : Jvm.MethodName) ({ cls := "OverTheHeadsModel", name := "worth", desc := "(II)I" } : Jvm.MethodName)) ∈ lw_all := lw_g (lw_at lw_m8 119 rfl) rfl
theorem q1889 : (Jvm.Cond.code ({ cls := "OverTheHeadsModel", name := "worth", desc := "(II)I" } : Jvm.MethodName) prog_19_method_49_code (3 : Nat) (Option.some Jvm.ClassFile.FieldType.int)) ∈ lw_all := lw_g (lw_at lw_m8 120 rfl) rfl
theorem q1890 : (Jvm.Cond.methodLink "OverTheHeadsModel" (301 : Nat) ({ cls := "OverTheHeadsModel", name := "worthOf", desc := "(II)I" } : Jvm.MethodName)) ∈ lw_all := lw_g (lw_at lw_m8 121 rfl) rfl
theorem q1891 : (Jvm.Cond.privateMethod ({ cls := "OverTheHeadsModel", name := "worthOf", desc := "(II)I" } : Jvm.MethodName)) ∈ lw_tbl := lw_at lw_m8 122 rfl
theorem q1892 : (Jvm.Cond.instanceMethod ({ cls := "OverTheHeadsModel", name := "worthOf", desc := "(II)I" } : Jvm.MethodName)) ∈ lw_all := lw_g (lw_at lw_m8 123 rfl) rfl
theorem q1893 : (Jvm.Cond.code ({ cls := "OverTheHeadsModel", name := "worthOf", desc := "(II)I" } : Jvm.MethodName) prog_19_method_48_code (5 : Nat) (Option.some Jvm.ClassFile.FieldType.int)) ∈ lw_all := lw_g (lw_at lw_m8 124 rfl) rfl
theorem q1894 : (Jvm.Cond.methodLink "OverTheHeadsModel" (298 : Nat) ({ cls := "OverTheHeadsModel", name := "likeOf", desc := "(III)I" } : Jvm.MethodName)) ∈ lw_all := lw_g (lw_at lw_m8 125 rfl) rfl
theorem q1895 : (Jvm.Cond.privateMethod ({ cls := "OverTheHeadsModel", name := "likeOf", desc := "(III)I" } : Jvm.MethodName)) ∈ lw_tbl := lw_at lw_m8 126 rfl
theorem q1896 : (Jvm.Cond.instanceMethod ({ cls := "OverTheHeadsModel", name := "likeOf", desc := "(III)I" } : Jvm.MethodName)) ∈ lw_all := lw_g (lw_at lw_m8 127 rfl) rfl
theorem q1897 : (Jvm.Cond.code ({ cls := "OverTheHeadsModel", name := "likeOf", desc := "(III)I" } : Jvm.MethodName) prog_19_method_47_code (4 : Nat) (Option.some Jvm.ClassFile.FieldType.int)) ∈ lw_all := lw_g (lw_at lw_m8 128 rfl) rfl
theorem q1898 : (Jvm.Cond.methodLink "OverTheHeadsModel" (291 : Nat) ({ cls := "OverTheHeadsModel", name := "names", desc := "(IIIIII)V" } : Jvm.MethodName)) ∈ lw_all := lw_g (lw_at lw_m8 129 rfl) rfl
theorem q1899 : (Jvm.Cond.privateMethod ({ cls := "OverTheHeadsModel", name := "names", desc := "(IIIIII)V" } : Jvm.MethodName)) ∈ lw_tbl := lw_at lw_m8 130 rfl
theorem q1900 : (Jvm.Cond.instanceMethod ({ cls := "OverTheHeadsModel", name := "names", desc := "(IIIIII)V" } : Jvm.MethodName)) ∈ lw_all := lw_g (lw_at lw_m8 131 rfl) rfl
theorem q1901 : (Jvm.Cond.code ({ cls := "OverTheHeadsModel", name := "names", desc := "(IIIIII)V" } : Jvm.MethodName) prog_19_method_46_code (7 : Nat) (Option.none : Option Jvm.ClassFile.FieldType)) ∈ lw_all := lw_g (lw_at lw_m8 132 rfl) rfl
theorem q1902 : (Jvm.Cond.methodLink "OverTheHeadsModel" (295 : Nat) ({ cls := "OverTheHeadsModel", name := "says", desc := "(II)I" } : Jvm.MethodName)) ∈ lw_all := lw_g (lw_at lw_m8 133 rfl) rfl
theorem q1903 : (Jvm.Cond.privateMethod ({ cls := "OverTheHeadsModel", name := "says", desc := "(II)I" } : Jvm.MethodName)) ∈ lw_tbl := lw_at lw_m8 134 rfl
theorem q1904 : (Jvm.Cond.instanceMethod ({ cls := "OverTheHeadsModel", name := "says", desc := "(II)I" } : Jvm.MethodName)) ∈ lw_all := lw_g (lw_at lw_m8 135 rfl) rfl
theorem q1905 : (Jvm.Cond.code ({ cls := "OverTheHeadsModel", name := "says", desc := "(II)I" } : Jvm.MethodName) prog_19_method_36_code (6 : Nat) (Option.some Jvm.ClassFile.FieldType.int)) ∈ lw_all := lw_g (lw_at lw_m8 136 rfl) rfl
theorem q1906 : (Jvm.Cond.methodLink "OverTheHeadsModel" (267 : Nat) ({ cls := "OverTheHeadsModel", name := "two", desc := "(III)I" } : Jvm.MethodName)) ∈ lw_all := lw_g (lw_at lw_m8 137 rfl) rfl
theorem q1907 : (Jvm.Cond.static ({ cls := "OverTheHeadsModel", name := "two", desc := "(III)I" } : Jvm.MethodName)) ∈ lw_all := lw_g (lw_at lw_m8 138 rfl) rfl
theorem q1908 : (Jvm.Cond.code ({ cls := "OverTheHeadsModel", name := "two", desc := "(III)I" } : Jvm.MethodName) prog_19_method_35_code (3 : Nat) (Option.some Jvm.ClassFile.FieldType.int)) ∈ lw_all := lw_g (lw_at lw_m8 139 rfl) rfl
theorem q1910 : (Jvm.Cond.instanceMethod ({ cls := "OverTheHeadsModel", name := "price", desc := "(II)I" } : Jvm.MethodName)) ∈ lw_all := lw_g (lw_at lw_m8 141 rfl) rfl
theorem q1911 : (Jvm.Cond.selects "OverTheHeadsModel" ({ cls := "OverTheHeadsModel", name := "price", desc := "(II)I" } : Jvm.MethodName) ({ cls := "OverTheHeadsModel", name := "price", desc := "(II)I" } : Jvm.MethodName)) ∈ lw_all := lw_g (lw_at lw_m8 142 rfl) rfl
theorem q1912 : (Jvm.Cond.code ({ cls := "OverTheHeadsModel", name := "price", desc := "(II)I" } : Jvm.MethodName) prog_19_method_51_code (3 : Nat) (Option.some Jvm.ClassFile.FieldType.int)) ∈ lw_all := lw_g (lw_at lw_m8 143 rfl) rfl
theorem q1913 : (Jvm.Cond.methodLink "OverTheHeadsModel" (304 : Nat) ({ cls := "OverTheHeadsModel", name := "priceOf", desc := "(II)I" } : Jvm.MethodName)) ∈ lw_all := lw_g (lw_at lw_m8 144 rfl) rfl
theorem q1914 : (Jvm.Cond.privateMethod ({ cls := "OverTheHeadsModel", name := "priceOf", desc := "(II)I" } : Jvm.MethodName)) ∈ lw_tbl := lw_at lw_m8 145 rfl
theorem q1915 : (Jvm.Cond.instanceMethod ({ cls := "OverTheHeadsModel", name := "priceOf", desc := "(II)I" } : Jvm.MethodName)) ∈ lw_all := lw_g (lw_at lw_m8 146 rfl) rfl
theorem q1916 : (Jvm.Cond.code ({ cls := "OverTheHeadsModel", name := "priceOf", desc := "(II)I" } : Jvm.MethodName) prog_19_method_50_code (4 : Nat) (Option.some Jvm.ClassFile.FieldType.int)) ∈ lw_all := lw_g (lw_at lw_m8 147 rfl) rfl
theorem q1918 : (Jvm.Cond.instanceMethod ({ cls := "OverTheHeadsModel", name := "all", desc := "(I)I" } : Jvm.MethodName)) ∈ lw_all := lw_g (lw_at lw_m8 149 rfl) rfl
theorem q1919 : (Jvm.Cond.selects "OverTheHeadsModel" ({ cls := "OverTheHeadsModel", name := "all", desc := "(I)I" } : Jvm.MethodName) ({ cls := "OverTheHeadsModel", name := "all", desc := "(I)I" } : Jvm.MethodName)) ∈ lw_all := lw_g (lw_at lw_m8 150 rfl) rfl
theorem q1920 : (Jvm.Cond.code ({ cls := "OverTheHeadsModel", name := "all", desc := "(I)I" } : Jvm.MethodName) prog_19_method_53_code (6 : Nat) (Option.some Jvm.ClassFile.FieldType.int)) ∈ lw_all := lw_g (lw_at lw_m8 151 rfl) rfl
theorem q1922 : (Jvm.Cond.instanceMethod ({ cls := "OverTheHeadsModel", name := "cost", desc := "()I" } : Jvm.MethodName)) ∈ lw_all := lw_g (lw_at lw_m8 153 rfl) rfl
theorem q1923 : (Jvm.Cond.selects "OverTheHeadsModel" ({ cls := "OverTheHeadsModel", name := "cost", desc := "()I" } : Jvm.MethodName) ({ cls := "OverTheHeadsModel", name := "cost", desc := "()I" } : Jvm.MethodName)) ∈ lw_all := lw_g (lw_at lw_m8 154 rfl) rfl
theorem q1924 : (Jvm.Cond.code ({ cls := "OverTheHeadsModel", name := "cost", desc := "()I" } : Jvm.MethodName) prog_19_method_55_code (3 : Nat) (Option.some Jvm.ClassFile.FieldType.int)) ∈ lw_all := lw_g (lw_at lw_m8 155 rfl) rfl
theorem q1925 : (Jvm.Cond.methodLink "OverTheHeadsModel" (307 : Nat) ({ cls := "OverTheHeadsModel", name := "stepOf", desc := "(I)I" } : Jvm.MethodName)) ∈ lw_all := lw_g (lw_at lw_m8 156 rfl) rfl
theorem q1926 : (Jvm.Cond.privateMethod ({ cls := "OverTheHeadsModel", name := "stepOf", desc := "(I)I" } : Jvm.MethodName)) ∈ lw_tbl := lw_at lw_m8 157 rfl
theorem q1927 : (Jvm.Cond.instanceMethod ({ cls := "OverTheHeadsModel", name := "stepOf", desc := "(I)I" } : Jvm.MethodName)) ∈ lw_all := lw_g (lw_at lw_m8 158 rfl) rfl
theorem q1928 : (Jvm.Cond.code ({ cls := "OverTheHeadsModel", name := "stepOf", desc := "(I)I" } : Jvm.MethodName) prog_19_method_54_code (2 : Nat) (Option.some Jvm.ClassFile.FieldType.int)) ∈ lw_all := lw_g (lw_at lw_m8 159 rfl) rfl
theorem q1930 : (Jvm.Cond.instanceMethod ({ cls := "OverTheHeadsModel", name := "lawful", desc := "(I)I" } : Jvm.MethodName)) ∈ lw_all := lw_g (lw_at lw_m8 161 rfl) rfl
theorem q1931 : (Jvm.Cond.selects "OverTheHeadsModel" ({ cls := "OverTheHeadsModel", name := "lawful", desc := "(I)I" } : Jvm.MethodName) ({ cls := "OverTheHeadsModel", name := "lawful", desc := "(I)I" } : Jvm.MethodName)) ∈ lw_all := lw_g (lw_at lw_m8 162 rfl) rfl
theorem q1932 : (Jvm.Cond.code ({ cls := "OverTheHeadsModel", name := "lawful", desc := "(I)I" } : Jvm.MethodName) prog_19_method_56_code (3 : Nat) (Option.some Jvm.ClassFile.FieldType.int)) ∈ lw_all := lw_g (lw_at lw_m8 163 rfl) rfl
theorem q1934 : (Jvm.Cond.instanceMethod ({ cls := "OverTheHeadsModel", name := "judge", desc := "(I)I" } : Jvm.MethodName)) ∈ lw_all := lw_g (lw_at lw_m8 165 rfl) rfl
theorem q1935 : (Jvm.Cond.selects "OverTheHeadsModel" ({ cls := "OverTheHeadsModel", name := "judge", desc := "(I)I" } : Jvm.MethodName) ({ cls := "OverTheHeadsModel", name := "judge", desc := "(I)I" } : Jvm.MethodName)) ∈ lw_all := lw_g (lw_at lw_m8 166 rfl) rfl
theorem q1936 : (Jvm.Cond.code ({ cls := "OverTheHeadsModel", name := "judge", desc := "(I)I" } : Jvm.MethodName) prog_19_method_60_code (5 : Nat) (Option.some Jvm.ClassFile.FieldType.int)) ∈ lw_all := lw_g (lw_at lw_m8 167 rfl) rfl
theorem q1937 : (Jvm.Cond.methodLink "OverTheHeadsModel" (310 : Nat) ({ cls := "OverTheHeadsModel", name := "keepsRises", desc := "()V" } : Jvm.MethodName)) ∈ lw_all := lw_g (lw_at lw_m8 168 rfl) rfl
theorem q1938 : (Jvm.Cond.privateMethod ({ cls := "OverTheHeadsModel", name := "keepsRises", desc := "()V" } : Jvm.MethodName)) ∈ lw_tbl := lw_at lw_m8 169 rfl
theorem q1939 : (Jvm.Cond.instanceMethod ({ cls := "OverTheHeadsModel", name := "keepsRises", desc := "()V" } : Jvm.MethodName)) ∈ lw_all := lw_g (lw_at lw_m8 170 rfl) rfl
theorem q1940 : (Jvm.Cond.code ({ cls := "OverTheHeadsModel", name := "keepsRises", desc := "()V" } : Jvm.MethodName) prog_19_method_58_code (2 : Nat) (Option.none : Option Jvm.ClassFile.FieldType)) ∈ lw_all := lw_g (lw_at lw_m8 171 rfl) rfl
theorem q1941 : (Jvm.Cond.methodLink "OverTheHeadsModel" (313 : Nat) ({ cls := "OverTheHeadsModel", name := "allSee", desc := "(I)Z" } : Jvm.MethodName)) ∈ lw_all := lw_g (lw_at lw_m8 172 rfl) rfl
theorem q1942 : (Jvm.Cond.privateMethod ({ cls := "OverTheHeadsModel", name := "allSee", desc := "(I)Z" } : Jvm.MethodName)) ∈ lw_tbl := lw_at lw_m8 173 rfl
theorem q1943 : (Jvm.Cond.instanceMethod ({ cls := "OverTheHeadsModel", name := "allSee", desc := "(I)Z" } : Jvm.MethodName)) ∈ lw_all := lw_g (lw_at lw_m8 174 rfl) rfl
theorem q1944 : (Jvm.Cond.code ({ cls := "OverTheHeadsModel", name := "allSee", desc := "(I)Z" } : Jvm.MethodName) prog_19_method_57_code (3 : Nat) (Option.some Jvm.ClassFile.FieldType.boolean)) ∈ lw_all := lw_g (lw_at lw_m8 175 rfl) rfl
theorem q1945 : (Jvm.Cond.methodLink "OverTheHeadsModel" (316 : Nat) ({ cls := "OverTheHeadsModel", name := "laysRises", desc := "()V" } : Jvm.MethodName)) ∈ lw_all := lw_g (lw_at lw_m8 176 rfl) rfl
theorem q1946 : (Jvm.Cond.privateMethod ({ cls := "OverTheHeadsModel", name := "laysRises", desc := "()V" } : Jvm.MethodName)) ∈ lw_tbl := lw_at lw_m8 177 rfl
theorem q1947 : (Jvm.Cond.instanceMethod ({ cls := "OverTheHeadsModel", name := "laysRises", desc := "()V" } : Jvm.MethodName)) ∈ lw_all := lw_g (lw_at lw_m8 178 rfl) rfl
theorem q1948 : (Jvm.Cond.code ({ cls := "OverTheHeadsModel", name := "laysRises", desc := "()V" } : Jvm.MethodName) prog_19_method_59_code (2 : Nat) (Option.none : Option Jvm.ClassFile.FieldType)) ∈ lw_all := lw_g (lw_at lw_m8 179 rfl) rfl
theorem q1950 : (Jvm.Cond.instanceMethod ({ cls := "OverTheHeadsModel", name := "chance", desc := "(IIII)J" } : Jvm.MethodName)) ∈ lw_all := lw_g (lw_at lw_m8 181 rfl) rfl
theorem q1951 : (Jvm.Cond.selects "OverTheHeadsModel" ({ cls := "OverTheHeadsModel", name := "chance", desc := "(IIII)J" } : Jvm.MethodName) ({ cls := "OverTheHeadsModel", name := "chance", desc := "(IIII)J" } : Jvm.MethodName)) ∈ lw_all := lw_g (lw_at lw_m8 182 rfl) rfl
theorem q1952 : (Jvm.Cond.code ({ cls := "OverTheHeadsModel", name := "chance", desc := "(IIII)J" } : Jvm.MethodName) prog_19_method_65_code (5 : Nat) (Option.some Jvm.ClassFile.FieldType.long)) ∈ lw_all := lw_g (lw_at lw_m8 183 rfl) rfl
theorem q1953 : (Jvm.Cond.methodLink "OverTheHeadsModel" (326 : Nat) ({ cls := "OverTheHeadsModel", name := "allCounts", desc := "()I" } : Jvm.MethodName)) ∈ lw_all := lw_g (lw_at lw_m8 184 rfl) rfl
theorem q1954 : (Jvm.Cond.privateMethod ({ cls := "OverTheHeadsModel", name := "allCounts", desc := "()I" } : Jvm.MethodName)) ∈ lw_tbl := lw_at lw_m8 185 rfl
theorem q1955 : (Jvm.Cond.instanceMethod ({ cls := "OverTheHeadsModel", name := "allCounts", desc := "()I" } : Jvm.MethodName)) ∈ lw_all := lw_g (lw_at lw_m8 186 rfl) rfl
theorem q1956 : (Jvm.Cond.code ({ cls := "OverTheHeadsModel", name := "allCounts", desc := "()I" } : Jvm.MethodName) prog_19_method_62_code (1 : Nat) (Option.some Jvm.ClassFile.FieldType.int)) ∈ lw_all := lw_g (lw_at lw_m8 187 rfl) rfl
theorem q1957 : (Jvm.Cond.constantLong "OverTheHeadsModel" (329 : Nat) (-4611686018427387904 : Int64)) ∈ lw_all := lw_g (lw_at lw_m8 188 rfl) rfl
theorem q1958 : (Jvm.Cond.methodLink "OverTheHeadsModel" (331 : Nat) ({ cls := "OverTheHeadsModel", name := "cases", desc := "(III)V" } : Jvm.MethodName)) ∈ lw_all := lw_g (lw_at lw_m8 189 rfl) rfl
theorem q1959 : (Jvm.Cond.privateMethod ({ cls := "OverTheHeadsModel", name := "cases", desc := "(III)V" } : Jvm.MethodName)) ∈ lw_tbl := lw_at lw_m8 190 rfl
theorem q1960 : (Jvm.Cond.instanceMethod ({ cls := "OverTheHeadsModel", name := "cases", desc := "(III)V" } : Jvm.MethodName)) ∈ lw_all := lw_g (lw_at lw_m8 191 rfl) rfl
theorem q1961 : (Jvm.Cond.code ({ cls := "OverTheHeadsModel", name := "cases", desc := "(III)V" } : Jvm.MethodName) prog_19_method_63_code (8 : Nat) (Option.none : Option Jvm.ClassFile.FieldType)) ∈ lw_all := lw_g (lw_at lw_m8 192 rfl) rfl
theorem q1962 : (Jvm.Cond.methodLink "OverTheHeadsModel" (335 : Nat) ({ cls := "OverTheHeadsModel", name := "power", desc := "(JI)J" } : Jvm.MethodName)) ∈ lw_all := lw_g (lw_at lw_m8 193 rfl) rfl
theorem q1963 : (Jvm.Cond.static ({ cls := "OverTheHeadsModel", name := "power", desc := "(JI)J" } : Jvm.MethodName)) ∈ lw_all := lw_g (lw_at lw_m8 194 rfl) rfl
theorem q1964 : (Jvm.Cond.code ({ cls := "OverTheHeadsModel", name := "power", desc := "(JI)J" } : Jvm.MethodName) prog_19_method_64_code (6 : Nat) (Option.some Jvm.ClassFile.FieldType.long)) ∈ lw_all := lw_g (lw_at lw_m8 195 rfl) rfl
theorem q1965 : (Jvm.Cond.methodLink "OverTheHeadsModel" (339 : Nat) ({ cls := "OverTheHeadsModel", name := "lowest", desc := "(JJI)J" } : Jvm.MethodName)) ∈ lw_all := lw_g (lw_at lw_m8 196 rfl) rfl
theorem q1966 : (Jvm.Cond.static ({ cls := "OverTheHeadsModel", name := "lowest", desc := "(JJI)J" } : Jvm.MethodName)) ∈ lw_all := lw_g (lw_at lw_m8 197 rfl) rfl
theorem q1967 : (Jvm.Cond.code ({ cls := "OverTheHeadsModel", name := "lowest", desc := "(JJI)J" } : Jvm.MethodName) prog_19_method_61_code (11 : Nat) (Option.some Jvm.ClassFile.FieldType.long)) ∈ lw_all := lw_g (lw_at lw_m8 198 rfl) rfl
theorem q1969 : (Jvm.Cond.instanceMethod ({ cls := "OverTheHeadsModel", name := "mean", desc := "(III)J" } : Jvm.MethodName)) ∈ lw_all := lw_g (lw_at lw_m8 200 rfl) rfl
theorem q1970 : (Jvm.Cond.selects "OverTheHeadsModel" ({ cls := "OverTheHeadsModel", name := "mean", desc := "(III)J" } : Jvm.MethodName) ({ cls := "OverTheHeadsModel", name := "mean", desc := "(III)J" } : Jvm.MethodName)) ∈ lw_all := lw_g (lw_at lw_m8 201 rfl) rfl
theorem q1971 : (Jvm.Cond.code ({ cls := "OverTheHeadsModel", name := "mean", desc := "(III)J" } : Jvm.MethodName) prog_19_method_66_code (8 : Nat) (Option.some Jvm.ClassFile.FieldType.long)) ∈ lw_all := lw_g (lw_at lw_m8 202 rfl) rfl
theorem q1973 : (Jvm.Cond.instanceMethod ({ cls := "OverTheHeadsModel", name := "tall", desc := "(I)I" } : Jvm.MethodName)) ∈ lw_all := lw_g (lw_at lw_m8 204 rfl) rfl
theorem q1974 : (Jvm.Cond.selects "OverTheHeadsModel" ({ cls := "OverTheHeadsModel", name := "tall", desc := "(I)I" } : Jvm.MethodName) ({ cls := "OverTheHeadsModel", name := "tall", desc := "(I)I" } : Jvm.MethodName)) ∈ lw_all := lw_g (lw_at lw_m8 205 rfl) rfl
theorem q1975 : (Jvm.Cond.code ({ cls := "OverTheHeadsModel", name := "tall", desc := "(I)I" } : Jvm.MethodName) prog_19_method_69_code (3 : Nat) (Option.some Jvm.ClassFile.FieldType.int)) ∈ lw_all := lw_g (lw_at lw_m8 206 rfl) rfl
theorem q1976 : (Jvm.Cond.methodLink "OverTheHeadsModel" (343 : Nat) ({ cls := "OverTheHeadsModel", name := "keepsSorts", desc := "()V" } : Jvm.MethodName)) ∈ lw_all := lw_g (lw_at lw_m8 207 rfl) rfl
theorem q1977 : (Jvm.Cond.privateMethod ({ cls := "OverTheHeadsModel", name := "keepsSorts", desc := "()V" } : Jvm.MethodName)) ∈ lw_tbl := lw_at lw_m8 208 rfl
theorem q1978 : (Jvm.Cond.instanceMethod ({ cls := "OverTheHeadsModel", name := "keepsSorts", desc := "()V" } : Jvm.MethodName)) ∈ lw_all := lw_g (lw_at lw_m8 209 rfl) rfl
theorem q1979 : (Jvm.Cond.code ({ cls := "OverTheHeadsModel", name := "keepsSorts", desc := "()V" } : Jvm.MethodName) prog_19_method_67_code (2 : Nat) (Option.none : Option Jvm.ClassFile.FieldType)) ∈ lw_all := lw_g (lw_at lw_m8 210 rfl) rfl
theorem q1980 : (Jvm.Cond.methodLink "OverTheHeadsModel" (346 : Nat) ({ cls := "OverTheHeadsModel", name := "allWorth", desc := "()I" } : Jvm.MethodName)) ∈ lw_all := lw_g (lw_at lw_m8 211 rfl) rfl
theorem q1981 : (Jvm.Cond.privateMethod ({ cls := "OverTheHeadsModel", name := "allWorth", desc := "()I" } : Jvm.MethodName)) ∈ lw_tbl := lw_at lw_m8 212 rfl
theorem q1982 : (Jvm.Cond.instanceMethod ({ cls := "OverTheHeadsModel", name := "allWorth", desc := "()I" } : Jvm.MethodName)) ∈ lw_all := lw_g (lw_at lw_m8 213 rfl) rfl
theorem q1983 : (Jvm.Cond.code ({ cls := "OverTheHeadsModel", name := "allWorth", desc := "()I" } : Jvm.MethodName) prog_19_method_52_code (4 : Nat) (Option.some Jvm.ClassFile.FieldType.int)) ∈ lw_all := lw_g (lw_at lw_m8 214 rfl) rfl
theorem q1984 : (Jvm.Cond.methodLink "OverTheHeadsModel" (349 : Nat) ({ cls := "OverTheHeadsModel", name := "laysSorts", desc := "()V" } : Jvm.MethodName)) ∈ lw_all := lw_g (lw_at lw_m8 215 rfl) rfl
theorem q1985 : (Jvm.Cond.privateMethod ({ cls := "OverTheHeadsModel", name := "laysSorts", desc := "()V" } : Jvm.MethodName)) ∈ lw_tbl := lw_at lw_m8 216 rfl
theorem q1986 : (Jvm.Cond.instanceMethod ({ cls := "OverTheHeadsModel", name := "laysSorts", desc := "()V" } : Jvm.MethodName)) ∈ lw_all := lw_g (lw_at lw_m8 217 rfl) rfl
theorem q1987 : (Jvm.Cond.code ({ cls := "OverTheHeadsModel", name := "laysSorts", desc := "()V" } : Jvm.MethodName) prog_19_method_68_code (2 : Nat) (Option.none : Option Jvm.ClassFile.FieldType)) ∈ lw_all := lw_g (lw_at lw_m8 218 rfl) rfl
theorem q1989 : (Jvm.Cond.instanceMethod ({ cls := "OverTheHeadsModel", name := "needs", desc := "(I)I" } : Jvm.MethodName)) ∈ lw_all := lw_g (lw_at lw_m8 220 rfl) rfl
theorem q1990 : (Jvm.Cond.selects "OverTheHeadsModel" ({ cls := "OverTheHeadsModel", name := "needs", desc := "(I)I" } : Jvm.MethodName) ({ cls := "OverTheHeadsModel", name := "needs", desc := "(I)I" } : Jvm.MethodName)) ∈ lw_all := lw_g (lw_at lw_m8 221 rfl) rfl
theorem q1991 : (Jvm.Cond.code ({ cls := "OverTheHeadsModel", name := "needs", desc := "(I)I" } : Jvm.MethodName) prog_19_method_71_code (3 : Nat) (Option.some Jvm.ClassFile.FieldType.int)) ∈ lw_all := lw_g (lw_at lw_m8 222 rfl) rfl
theorem q1992 : (Jvm.Cond.methodLink "OverTheHeadsModel" (352 : Nat) ({ cls := "OverTheHeadsModel", name := "raises", desc := "(II)I" } : Jvm.MethodName)) ∈ lw_all := lw_g (lw_at lw_m8 223 rfl) rfl
theorem q1993 : (Jvm.Cond.privateMethod ({ cls := "OverTheHeadsModel", name := "raises", desc := "(II)I" } : Jvm.MethodName)) ∈ lw_tbl := lw_at lw_m8 224 rfl
theorem q1994 : (Jvm.Cond.instanceMethod ({ cls := "OverTheHeadsModel", name := "raises", desc := "(II)I" } : Jvm.MethodName)) ∈ lw_all := lw_g (lw_at lw_m8 225 rfl) rfl
theorem q1995 : (Jvm.Cond.code ({ cls := "OverTheHeadsModel", name := "raises", desc := "(II)I" } : Jvm.MethodName) prog_19_method_70_code (4 : Nat) (Option.some Jvm.ClassFile.FieldType.int)) ∈ lw_all := lw_g (lw_at lw_m8 226 rfl) rfl
theorem q1997 : (Jvm.Cond.instanceMethod ({ cls := "OverTheHeadsModel", name := "proof", desc := "(I)I" } : Jvm.MethodName)) ∈ lw_all := lw_g (lw_at lw_m8 228 rfl) rfl
theorem q1998 : (Jvm.Cond.selects "OverTheHeadsModel" ({ cls := "OverTheHeadsModel", name := "proof", desc := "(I)I" } : Jvm.MethodName) ({ cls := "OverTheHeadsModel", name := "proof", desc := "(I)I" } : Jvm.MethodName)) ∈ lw_all := lw_g (lw_at lw_m8 229 rfl) rfl
theorem q1999 : (Jvm.Cond.code ({ cls := "OverTheHeadsModel", name := "proof", desc := "(I)I" } : Jvm.MethodName) prog_19_method_72_code (4 : Nat) (Option.some Jvm.ClassFile.FieldType.int)) ∈ lw_all := lw_g (lw_at lw_m8 230 rfl) rfl
theorem q2001 : (Jvm.Cond.instanceMethod ({ cls := "OverTheHeadsModel", name := "shifts", desc := "(I)I" } : Jvm.MethodName)) ∈ lw_all := lw_g (lw_at lw_m8 232 rfl) rfl
theorem q2002 : (Jvm.Cond.selects "OverTheHeadsModel" ({ cls := "OverTheHeadsModel", name := "shifts", desc := "(I)I" } : Jvm.MethodName) ({ cls := "OverTheHeadsModel", name := "shifts", desc := "(I)I" } : Jvm.MethodName)) ∈ lw_all := lw_g (lw_at lw_m8 233 rfl) rfl
theorem q2003 : (Jvm.Cond.code ({ cls := "OverTheHeadsModel", name := "shifts", desc := "(I)I" } : Jvm.MethodName) prog_19_method_73_code (6 : Nat) (Option.some Jvm.ClassFile.FieldType.int)) ∈ lw_all := lw_g (lw_at lw_m8 234 rfl) rfl
theorem q2005 : (Jvm.Cond.instanceMethod ({ cls := "OverTheHeadsModel", name := "coin", desc := "(II)I" } : Jvm.MethodName)) ∈ lw_all := lw_g (lw_at lw_m8 236 rfl) rfl
theorem q2006 : (Jvm.Cond.selects "OverTheHeadsModel" ({ cls := "OverTheHeadsModel", name := "coin", desc := "(II)I" } : Jvm.MethodName) ({ cls := "OverTheHeadsModel", name := "coin", desc := "(II)I" } : Jvm.MethodName)) ∈ lw_all := lw_g (lw_at lw_m8 237 rfl) rfl
theorem q2007 : (Jvm.Cond.code ({ cls := "OverTheHeadsModel", name := "coin", desc := "(II)I" } : Jvm.MethodName) prog_19_method_74_code (12 : Nat) (Option.some Jvm.ClassFile.FieldType.int)) ∈ lw_all := lw_g (lw_at lw_m8 238 rfl) rfl
theorem q2008 : (Jvm.Cond.constant "OverTheHeadsModel" (355 : Nat) (99999 : Int32)) ∈ lw_all := lw_g (lw_at lw_m8 239 rfl) rfl
theorem q2009 : (Jvm.Cond.methodLink "OverTheHeadsModel" (356 : Nat) ({ cls := "OverTheHeadsModel", name := "cost", desc := "()I" } : Jvm.MethodName)) ∈ lw_all := lw_g (lw_at lw_m9 0 rfl) rfl
theorem q2011 : (Jvm.Cond.instanceMethod ({ cls := "OverTheHeadsModel", name := "stage", desc := "()I" } : Jvm.MethodName)) ∈ lw_all := lw_g (lw_at lw_m9 2 rfl) rfl
theorem q2012 : (Jvm.Cond.selects "OverTheHeadsModel" ({ cls := "OverTheHeadsModel", name := "stage", desc := "()I" } : Jvm.MethodName) ({ cls := "OverTheHeadsModel", name := "stage", desc := "()I" } : Jvm.MethodName)) ∈ lw_all := lw_g (lw_at lw_m9 3 rfl) rfl
theorem q2013 : (Jvm.Cond.code ({ cls := "OverTheHeadsModel", name := "stage", desc := "()I" } : Jvm.MethodName) prog_19_method_75_code (5 : Nat) (Option.some Jvm.ClassFile.FieldType.int)) ∈ lw_all := lw_g (lw_at lw_m9 4 rfl) rfl
theorem q2015 : (Jvm.Cond.instanceMethod ({ cls := "OverTheHeadsModel", name := "swap", desc := "(IIII)I" } : Jvm.MethodName)) ∈ lw_all := lw_g (lw_at lw_m9 6 rfl) rfl
theorem q2016 : (Jvm.Cond.selects "OverTheHeadsModel" ({ cls := "OverTheHeadsModel", name := "swap", desc := "(IIII)I" } : Jvm.MethodName) ({ cls := "OverTheHeadsModel", name := "swap", desc := "(IIII)I" } : Jvm.MethodName)) ∈ lw_all := lw_g (lw_at lw_m9 7 rfl) rfl
theorem q2017 : (Jvm.Cond.code ({ cls := "OverTheHeadsModel", name := "swap", desc := "(IIII)I" } : Jvm.MethodName) prog_19_method_78_code (5 : Nat) (Option.some Jvm.ClassFile.FieldType.int)) ∈ lw_all := lw_g (lw_at lw_m9 8 rfl) rfl
theorem q2018 : (Jvm.Cond.methodLink "OverTheHeadsModel" (363 : Nat) ({ cls := "OverTheHeadsModel", name := "gainBy", desc := "(II)I" } : Jvm.MethodName)) ∈ lw_all := lw_g (lw_at lw_m9 9 rfl) rfl
theorem q2019 : (Jvm.Cond.privateMethod ({ cls := "OverTheHeadsModel", name := "gainBy", desc := "(II)I" } : Jvm.MethodName)) ∈ lw_tbl := lw_at lw_m9 10 rfl
theorem q2020 : (Jvm.Cond.instanceMethod ({ cls := "OverTheHeadsModel", name := "gainBy", desc := "(II)I" } : Jvm.MethodName)) ∈ lw_all := lw_g (lw_at lw_m9 11 rfl) rfl
theorem q2021 : (Jvm.Cond.code ({ cls := "OverTheHeadsModel", name := "gainBy", desc := "(II)I" } : Jvm.MethodName) prog_19_method_77_code (5 : Nat) (Option.some Jvm.ClassFile.FieldType.int)) ∈ lw_all := lw_g (lw_at lw_m9 12 rfl) rfl
theorem q2022 : (Jvm.Cond.methodLink "OverTheHeadsModel" (359 : Nat) ({ cls := "OverTheHeadsModel", name := "changes", desc := "(II)V" } : Jvm.MethodName)) ∈ lw_all := lw_g (lw_at lw_m9 13 rfl) rfl
theorem q2023 : (Jvm.Cond.privateMethod ({ cls := "OverTheHeadsModel", name := "changes", desc := "(II)V" } : Jvm.MethodName)) ∈ lw_tbl := lw_at lw_m9 14 rfl
theorem q2024 : (Jvm.Cond.instanceMethod ({ cls := "OverTheHeadsModel", name := "changes", desc := "(II)V" } : Jvm.MethodName)) ∈ lw_all := lw_g (lw_at lw_m9 15 rfl) rfl
theorem q2025 : (Jvm.Cond.code ({ cls := "OverTheHeadsModel", name := "changes", desc := "(II)V" } : Jvm.MethodName) prog_19_method_76_code (4 : Nat) (Option.none : Option Jvm.ClassFile.FieldType)) ∈ lw_all := lw_g (lw_at lw_m9 16 rfl) rfl
theorem q2026 : (Jvm.Cond.constant "OverTheHeadsModel" (366 : Nat) (-1000000 : Int32)) ∈ lw_all := lw_g (lw_at lw_m9 17 rfl) rfl
theorem q2028 : (Jvm.Cond.instanceMethod ({ cls := "OverTheHeadsModel", name := "people", desc := "(II)I" } : Jvm.MethodName)) ∈ lw_all := lw_g (lw_at lw_m9 19 rfl) rfl
theorem q2029 : (Jvm.Cond.selects "OverTheHeadsModel" ({ cls := "OverTheHeadsModel", name := "people", desc := "(II)I" } : Jvm.MethodName) ({ cls := "OverTheHeadsModel", name := "people", desc := "(II)I" } : Jvm.MethodName)) ∈ lw_all := lw_g (lw_at lw_m9 20 rfl) rfl
theorem q2030 : (Jvm.Cond.code ({ cls := "OverTheHeadsModel", name := "people", desc := "(II)I" } : Jvm.MethodName) prog_19_method_80_code (3 : Nat) (Option.some Jvm.ClassFile.FieldType.int)) ∈ lw_all := lw_g (lw_at lw_m9 21 rfl) rfl
theorem q2031 : (Jvm.Cond.methodLink "OverTheHeadsModel" (373 : Nat) ({ cls := "OverTheHeadsModel", name := "finds", desc := "(I)V" } : Jvm.MethodName)) ∈ lw_all := lw_g (lw_at lw_m9 22 rfl) rfl
theorem q2032 : (Jvm.Cond.privateMethod ({ cls := "OverTheHeadsModel", name := "finds", desc := "(I)V" } : Jvm.MethodName)) ∈ lw_tbl := lw_at lw_m9 23 rfl
theorem q2033 : (Jvm.Cond.instanceMethod ({ cls := "OverTheHeadsModel", name := "finds", desc := "(I)V" } : Jvm.MethodName)) ∈ lw_all := lw_g (lw_at lw_m9 24 rfl) rfl
theorem q2034 : (Jvm.Cond.code ({ cls := "OverTheHeadsModel", name := "finds", desc := "(I)V" } : Jvm.MethodName) prog_19_method_79_code (5 : Nat) (Option.none : Option Jvm.ClassFile.FieldType)) ∈ lw_all := lw_g (lw_at lw_m9 25 rfl) rfl
theorem q2036 : (Jvm.Cond.instanceMethod ({ cls := "OverTheHeadsModel", name := "settle", desc := "(II)I" } : Jvm.MethodName)) ∈ lw_all := lw_g (lw_at lw_m9 27 rfl) rfl
theorem q2037 : (Jvm.Cond.selects "OverTheHeadsModel" ({ cls := "OverTheHeadsModel", name := "settle", desc := "(II)I" } : Jvm.MethodName) ({ cls := "OverTheHeadsModel", name := "settle", desc := "(II)I" } : Jvm.MethodName)) ∈ lw_all := lw_g (lw_at lw_m9 28 rfl) rfl
theorem q2038 : (Jvm.Cond.code ({ cls := "OverTheHeadsModel", name := "settle", desc := "(II)I" } : Jvm.MethodName) prog_19_method_81_code (4 : Nat) (Option.some Jvm.ClassFile.FieldType.int)) ∈ lw_all := lw_g (lw_at lw_m9 29 rfl) rfl
theorem q2040 : (Jvm.Cond.instanceMethod ({ cls := "OverTheHeadsModel", name := "hat", desc := "(III)I" } : Jvm.MethodName)) ∈ lw_all := lw_g (lw_at lw_m9 31 rfl) rfl
theorem q2041 : (Jvm.Cond.selects "OverTheHeadsModel" ({ cls := "OverTheHeadsModel", name := "hat", desc := "(III)I" } : Jvm.MethodName) ({ cls := "OverTheHeadsModel", name := "hat", desc := "(III)I" } : Jvm.MethodName)) ∈ lw_all := lw_g (lw_at lw_m9 32 rfl) rfl
theorem q2042 : (Jvm.Cond.code ({ cls := "OverTheHeadsModel", name := "hat", desc := "(III)I" } : Jvm.MethodName) prog_19_method_82_code (6 : Nat) (Option.some Jvm.ClassFile.FieldType.int)) ∈ lw_all := lw_g (lw_at lw_m9 33 rfl) rfl
theorem q2044 : (Jvm.Cond.instanceMethod ({ cls := "OverTheHeadsModel", name := "least", desc := "(I)I" } : Jvm.MethodName)) ∈ lw_all := lw_g (lw_at lw_m9 35 rfl) rfl
theorem q2045 : (Jvm.Cond.selects "OverTheHeadsModel" ({ cls := "OverTheHeadsModel", name := "least", desc := "(I)I" } : Jvm.MethodName) ({ cls := "OverTheHeadsModel", name := "least", desc := "(I)I" } : Jvm.MethodName)) ∈ lw_all := lw_g (lw_at lw_m9 36 rfl) rfl
theorem q2046 : (Jvm.Cond.code ({ cls := "OverTheHeadsModel", name := "least", desc := "(I)I" } : Jvm.MethodName) prog_19_method_83_code (7 : Nat) (Option.some Jvm.ClassFile.FieldType.int)) ∈ lw_all := lw_g (lw_at lw_m9 37 rfl) rfl
theorem q2048 : (Jvm.Cond.instanceMethod ({ cls := "OverTheHeadsModel", name := "sell", desc := "(I)I" } : Jvm.MethodName)) ∈ lw_all := lw_g (lw_at lw_m9 39 rfl) rfl
theorem q2049 : (Jvm.Cond.selects "OverTheHeadsModel" ({ cls := "OverTheHeadsModel", name := "sell", desc := "(I)I" } : Jvm.MethodName) ({ cls := "OverTheHeadsModel", name := "sell", desc := "(I)I" } : Jvm.MethodName)) ∈ lw_all := lw_g (lw_at lw_m9 40 rfl) rfl
theorem q2050 : (Jvm.Cond.code ({ cls := "OverTheHeadsModel", name := "sell", desc := "(I)I" } : Jvm.MethodName) prog_19_method_84_code (6 : Nat) (Option.some Jvm.ClassFile.FieldType.int)) ∈ lw_all := lw_g (lw_at lw_m9 41 rfl) rfl
theorem q2052 : (Jvm.Cond.instanceMethod ({ cls := "OverTheHeadsModel", name := "flat", desc := "()I" } : Jvm.MethodName)) ∈ lw_all := lw_g (lw_at lw_m9 43 rfl) rfl
theorem q2053 : (Jvm.Cond.selects "OverTheHeadsModel" ({ cls := "OverTheHeadsModel", name := "flat", desc := "()I" } : Jvm.MethodName) ({ cls := "OverTheHeadsModel", name := "flat", desc := "()I" } : Jvm.MethodName)) ∈ lw_all := lw_g (lw_at lw_m9 44 rfl) rfl
theorem q2054 : (Jvm.Cond.code ({ cls := "OverTheHeadsModel", name := "flat", desc := "()I" } : Jvm.MethodName) prog_19_method_85_code (3 : Nat) (Option.some Jvm.ClassFile.FieldType.int)) ∈ lw_all := lw_g (lw_at lw_m9 45 rfl) rfl
theorem q2056 : (Jvm.Cond.instanceMethod ({ cls := "OverTheHeadsModel", name := "thursday", desc := "(I)I" } : Jvm.MethodName)) ∈ lw_all := lw_g (lw_at lw_m9 47 rfl) rfl
theorem q2057 : (Jvm.Cond.selects "OverTheHeadsModel" ({ cls := "OverTheHeadsModel", name := "thursday", desc := "(I)I" } : Jvm.MethodName) ({ cls := "OverTheHeadsModel", name := "thursday", desc := "(I)I" } : Jvm.MethodName)) ∈ lw_all := lw_g (lw_at lw_m9 48 rfl) rfl
theorem q2058 : (Jvm.Cond.code ({ cls := "OverTheHeadsModel", name := "thursday", desc := "(I)I" } : Jvm.MethodName) prog_19_method_86_code (4 : Nat) (Option.some Jvm.ClassFile.FieldType.int)) ∈ lw_all := lw_g (lw_at lw_m9 49 rfl) rfl
theorem q2060 : (Jvm.Cond.instanceMethod ({ cls := "OverTheHeadsModel", name := "image", desc := "()I" } : Jvm.MethodName)) ∈ lw_all := lw_g (lw_at lw_m9 51 rfl) rfl
theorem q2061 : (Jvm.Cond.selects "OverTheHeadsModel" ({ cls := "OverTheHeadsModel", name := "image", desc := "()I" } : Jvm.MethodName) ({ cls := "OverTheHeadsModel", name := "image", desc := "()I" } : Jvm.MethodName)) ∈ lw_all := lw_g (lw_at lw_m9 52 rfl) rfl
theorem q2062 : (Jvm.Cond.code ({ cls := "OverTheHeadsModel", name := "image", desc := "()I" } : Jvm.MethodName) prog_19_method_87_code (2 : Nat) (Option.some Jvm.ClassFile.FieldType.int)) ∈ lw_all := lw_g (lw_at lw_m9 53 rfl) rfl
theorem q2064 : (Jvm.Cond.instanceMethod ({ cls := "OverTheHeadsModel", name := "back", desc := "()I" } : Jvm.MethodName)) ∈ lw_all := lw_g (lw_at lw_m9 55 rfl) rfl
theorem q2065 : (Jvm.Cond.selects "OverTheHeadsModel" ({ cls := "OverTheHeadsModel", name := "back", desc := "()I" } : Jvm.MethodName) ({ cls := "OverTheHeadsModel", name := "back", desc := "()I" } : Jvm.MethodName)) ∈ lw_all := lw_g (lw_at lw_m9 56 rfl) rfl
theorem q2066 : (Jvm.Cond.code ({ cls := "OverTheHeadsModel", name := "back", desc := "()I" } : Jvm.MethodName) prog_19_method_88_code (3 : Nat) (Option.some Jvm.ClassFile.FieldType.int)) ∈ lw_all := lw_g (lw_at lw_m9 57 rfl) rfl
theorem q2068 : (Jvm.Cond.instanceMethod ({ cls := "OverTheHeadsModel", name := "sheet", desc := "(III)I" } : Jvm.MethodName)) ∈ lw_all := lw_g (lw_at lw_m9 59 rfl) rfl
theorem q2069 : (Jvm.Cond.selects "OverTheHeadsModel" ({ cls := "OverTheHeadsModel", name := "sheet", desc := "(III)I" } : Jvm.MethodName) ({ cls := "OverTheHeadsModel", name := "sheet", desc := "(III)I" } : Jvm.MethodName)) ∈ lw_all := lw_g (lw_at lw_m9 60 rfl) rfl
theorem q2070 : (Jvm.Cond.code ({ cls := "OverTheHeadsModel", name := "sheet", desc := "(III)I" } : Jvm.MethodName) prog_19_method_89_code (5 : Nat) (Option.some Jvm.ClassFile.FieldType.int)) ∈ lw_all := lw_g (lw_at lw_m9 61 rfl) rfl
theorem q2072 : (Jvm.Cond.instanceMethod ({ cls := "OverTheHeadsModel", name := "cell", desc := "(III)I" } : Jvm.MethodName)) ∈ lw_all := lw_g (lw_at lw_m9 63 rfl) rfl
theorem q2073 : (Jvm.Cond.selects "OverTheHeadsModel" ({ cls := "OverTheHeadsModel", name := "cell", desc := "(III)I" } : Jvm.MethodName) ({ cls := "OverTheHeadsModel", name := "cell", desc := "(III)I" } : Jvm.MethodName)) ∈ lw_all := lw_g (lw_at lw_m9 64 rfl) rfl
theorem q2074 : (Jvm.Cond.code ({ cls := "OverTheHeadsModel", name := "cell", desc := "(III)I" } : Jvm.MethodName) prog_19_method_90_code (4 : Nat) (Option.some Jvm.ClassFile.FieldType.int)) ∈ lw_all := lw_g (lw_at lw_m9 65 rfl) rfl
theorem q2076 : (Jvm.Cond.instanceMethod ({ cls := "OverTheHeadsModel", name := "copy", desc := "(IIIII)I" } : Jvm.MethodName)) ∈ lw_all := lw_g (lw_at lw_m9 67 rfl) rfl
theorem q2077 : (Jvm.Cond.selects "OverTheHeadsModel" ({ cls := "OverTheHeadsModel", name := "copy", desc := "(IIIII)I" } : Jvm.MethodName) ({ cls := "OverTheHeadsModel", name := "copy", desc := "(IIIII)I" } : Jvm.MethodName)) ∈ lw_all := lw_g (lw_at lw_m9 68 rfl) rfl
theorem q2078 : (Jvm.Cond.code ({ cls := "OverTheHeadsModel", name := "copy", desc := "(IIIII)I" } : Jvm.MethodName) prog_19_method_91_code (10 : Nat) (Option.some Jvm.ClassFile.FieldType.int)) ∈ lw_all := lw_g (lw_at lw_m9 69 rfl) rfl
theorem q2080 : (Jvm.Cond.instanceMethod ({ cls := "OverTheHeadsModel", name := "sitters", desc := "(IIII)I" } : Jvm.MethodName)) ∈ lw_all := lw_g (lw_at lw_m9 71 rfl) rfl
theorem q2081 : (Jvm.Cond.selects "OverTheHeadsModel" ({ cls := "OverTheHeadsModel", name := "sitters", desc := "(IIII)I" } : Jvm.MethodName) ({ cls := "OverTheHeadsModel", name := "sitters", desc := "(IIII)I" } : Jvm.MethodName)) ∈ lw_all := lw_g (lw_at lw_m9 72 rfl) rfl
theorem q2082 : (Jvm.Cond.code ({ cls := "OverTheHeadsModel", name := "sitters", desc := "(IIII)I" } : Jvm.MethodName) prog_19_method_92_code (7 : Nat) (Option.some Jvm.ClassFile.FieldType.int)) ∈ lw_all := lw_g (lw_at lw_m9 73 rfl) rfl
theorem q2083 : (Jvm.Cond.methodLink "OverTheHeadsModel" (389 : Nat) ({ cls := "OverTheHeadsModel", name := "sit", desc := "(III)I" } : Jvm.MethodName)) ∈ lw_all := lw_g (lw_at lw_m9 74 rfl) rfl
theorem q2085 : (Jvm.Cond.instanceMethod ({ cls := "OverTheHeadsModel", name := "taken", desc := "(II)I" } : Jvm.MethodName)) ∈ lw_all := lw_g (lw_at lw_m9 76 rfl) rfl
theorem q2086 : (Jvm.Cond.selects "OverTheHeadsModel" ({ cls := "OverTheHeadsModel", name := "taken", desc := "(II)I" } : Jvm.MethodName) ({ cls := "OverTheHeadsModel", name := "taken", desc := "(II)I" } : Jvm.MethodName)) ∈ lw_all := lw_g (lw_at lw_m9 77 rfl) rfl
theorem q2087 : (Jvm.Cond.code ({ cls := "OverTheHeadsModel", name := "taken", desc := "(II)I" } : Jvm.MethodName) prog_19_method_94_code (3 : Nat) (Option.some Jvm.ClassFile.FieldType.int)) ∈ lw_all := lw_g (lw_at lw_m9 78 rfl) rfl
theorem q2088 : (Jvm.Cond.methodLink "OverTheHeadsModel" (392 : Nat) ({ cls := "OverTheHeadsModel", name := "isUnder", desc := "(II)Z" } : Jvm.MethodName)) ∈ lw_all := lw_g (lw_at lw_m9 79 rfl) rfl
theorem q2089 : (Jvm.Cond.static ({ cls := "OverTheHeadsModel", name := "isUnder", desc := "(II)Z" } : Jvm.MethodName)) ∈ lw_all := lw_g (lw_at lw_m9 80 rfl) rfl
theorem q2090 : (Jvm.Cond.code ({ cls := "OverTheHeadsModel", name := "isUnder", desc := "(II)Z" } : Jvm.MethodName) prog_19_method_93_code (2 : Nat) (Option.some Jvm.ClassFile.FieldType.boolean)) ∈ lw_all := lw_g (lw_at lw_m9 81 rfl) rfl
theorem q2121 : (Jvm.Cond.castable "OverTheHeadsModel" "java/lang/Object") ∈ lw_tbl := lw_at lw_m9 112 rfl
theorem in_X7 : ∀ w ∈ wsX70, w ∈ lw_all := lw_in wsX70 [1606, 1608, 1610, 1612, 1614, 1616, 1618, 1620, 1622, 1624, 1626, 1628, 1630, 1632, 1634, 1636, 1638, 1640, 1642, 1644, 1646, 1648, 1650, 1652, 1654, 1656, 1658, 1660, 1662, 1664, 1666, 1668, 1670, 1672, 1674, 1676, 1678, 1680, 1682, 1684, 1686, 1688, 1690, 1692, 1694, 1696, 1698, 1700, 1702, 1704, 1706, 1708, 1710, 1712, 1714, 1716, 1718, 1720, 1722] (by decide +kernel) (by decide +kernel)
