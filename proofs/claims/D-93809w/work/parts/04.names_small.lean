/-! OverTheHeads$Sheet -/
set_option maxRecDepth 100000
def RX1 : String := "OverTheHeads$Sheet"
def TX1 : u_T := fun k => match k with
  | 0 => ("OverTheHeads$Sheet", "sort", "I", false)
  | 1 => ("OverTheHeads$Sheet", "size", "I", false)
  | _ => ("OverTheHeads$Sheet", "cells", "[I", true)
def tyX1 : Nat → FieldType := fun k => match k with
  | 0 => .int
  | 1 => .int
  | _ => .array .int
abbrev wsX10 : List Cond := u_ws RX1 TX1 3
theorem nmX1 : ∀ a, a < 3 → ∀ b, b < 3 → a ≠ b → (TX1 a).2.1 ≠ (TX1 b).2.1 := by decide +kernel
theorem tyX1_ok : ∀ k, k < 3 → parseFieldDescriptor (TX1 k).2.2.1 = some (tyX1 k) := by decide +kernel
abbrev cX1_init : ByteArray := prog_13_method_1_code
def yX1_init : MethodName := ⟨RX1, "<init>", "()V"⟩
def dkwX1_init_0 : List UInt8 := [42, 183, 0, 3, 42, 2, 181, 0, 9, 42, 3, 181, 0, 15, 42, 16, 60, 188, 10, 181, 0, 18, 177]
abbrev dktX1_init_0 : List UInt8 := dkwX1_init_0 ++ []
theorem dksX1_init_0 : cX1_init.data.toList.drop 0 = dktX1_init_0 := by decide +kernel
theorem dX1_init_0 : decode cX1_init 0 = .ok (.aload_n 0, 1) := dk_42 (dk_at dksX1_init_0 0 rfl rfl)
theorem dX1_init_1 : decode cX1_init 1 = .ok (.invokespecial 3, 3) := dk_183 0 3 (dk_at dksX1_init_0 1 rfl rfl)
theorem dX1_init_4 : decode cX1_init 4 = .ok (.aload_n 0, 1) := dk_42 (dk_at dksX1_init_0 4 rfl rfl)
theorem dX1_init_5 : decode cX1_init 5 = .ok (.iconst (-1), 1) := dk_2 (dk_at dksX1_init_0 5 rfl rfl)
theorem dX1_init_6 : decode cX1_init 6 = .ok (.putfield 9, 3) := dk_181 0 9 (dk_at dksX1_init_0 6 rfl rfl)
theorem dX1_init_9 : decode cX1_init 9 = .ok (.aload_n 0, 1) := dk_42 (dk_at dksX1_init_0 9 rfl rfl)
theorem dX1_init_10 : decode cX1_init 10 = .ok (.iconst 0, 1) := dk_3 (dk_at dksX1_init_0 10 rfl rfl)
theorem dX1_init_11 : decode cX1_init 11 = .ok (.putfield 15, 3) := dk_181 0 15 (dk_at dksX1_init_0 11 rfl rfl)
theorem dX1_init_14 : decode cX1_init 14 = .ok (.aload_n 0, 1) := dk_42 (dk_at dksX1_init_0 14 rfl rfl)
theorem dX1_init_15 : decode cX1_init 15 = .ok (.bipush 60, 2) := dk_16 60 (dk_at dksX1_init_0 15 rfl rfl)
theorem dX1_init_17 : decode cX1_init 17 = .ok (.newarray .int, 2) := dk_188_10 (dk_at dksX1_init_0 17 rfl rfl)
theorem dX1_init_19 : decode cX1_init 19 = .ok (.putfield 18, 3) := dk_181 0 18 (dk_at dksX1_init_0 19 rfl rfl)
theorem dX1_init_22 : decode cX1_init 22 = .ok (.return_, 1) := dk_177 (dk_at dksX1_init_0 22 rfl rfl)
abbrev cX1_put : ByteArray := prog_13_method_2_code
def yX1_put : MethodName := ⟨RX1, "put", "(II)V"⟩
def dkwX1_put_1 : List UInt8 := [160, 0, 8, 28, 147, 167, 0, 4, 28, 79, 177]
abbrev dktX1_put_1 : List UInt8 := dkwX1_put_1 ++ []
def dkwX1_put_0 : List UInt8 := [42, 180, 0, 18, 27, 42, 180, 0, 9, 154, 0, 8, 28, 145, 167, 0, 17, 42, 180, 0, 9, 4]
abbrev dktX1_put_0 : List UInt8 := dkwX1_put_0 ++ dktX1_put_1
theorem dksX1_put_0 : cX1_put.data.toList.drop 0 = dktX1_put_0 := by decide +kernel
theorem dksX1_put_1 : cX1_put.data.toList.drop 22 = dktX1_put_1 := dk_seg dksX1_put_0 22 rfl rfl
theorem dX1_put_0 : decode cX1_put 0 = .ok (.aload_n 0, 1) := dk_42 (dk_at dksX1_put_0 0 rfl rfl)
theorem dX1_put_1 : decode cX1_put 1 = .ok (.getfield 18, 3) := dk_180 0 18 (dk_at dksX1_put_0 1 rfl rfl)
theorem dX1_put_4 : decode cX1_put 4 = .ok (.iload_n 1, 1) := dk_27 (dk_at dksX1_put_0 4 rfl rfl)
theorem dX1_put_5 : decode cX1_put 5 = .ok (.aload_n 0, 1) := dk_42 (dk_at dksX1_put_0 5 rfl rfl)
theorem dX1_put_6 : decode cX1_put 6 = .ok (.getfield 9, 3) := dk_180 0 9 (dk_at dksX1_put_0 6 rfl rfl)
theorem dX1_put_9 : decode cX1_put 9 = .ok (.ifCond .ne 8, 3) := dk_154 0 8 (dk_at dksX1_put_0 9 rfl rfl)
theorem dX1_put_12 : decode cX1_put 12 = .ok (.iload_n 2, 1) := dk_28 (dk_at dksX1_put_0 12 rfl rfl)
theorem dX1_put_13 : decode cX1_put 13 = .ok (.i2b, 1) := dk_145 (dk_at dksX1_put_0 13 rfl rfl)
theorem dX1_put_14 : decode cX1_put 14 = .ok (.goto 17, 3) := dk_167 0 17 (dk_at dksX1_put_0 14 rfl rfl)
theorem dX1_put_17 : decode cX1_put 17 = .ok (.aload_n 0, 1) := dk_42 (dk_at dksX1_put_0 17 rfl rfl)
theorem dX1_put_18 : decode cX1_put 18 = .ok (.getfield 9, 3) := dk_180 0 9 (dk_at dksX1_put_0 18 rfl rfl)
theorem dX1_put_21 : decode cX1_put 21 = .ok (.iconst 1, 1) := dk_4 (dk_at dksX1_put_0 21 rfl rfl)
theorem dX1_put_22 : decode cX1_put 22 = .ok (.if_icmp .ne 8, 3) := dk_160 0 8 (dk_at dksX1_put_1 0 rfl rfl)
theorem dX1_put_25 : decode cX1_put 25 = .ok (.iload_n 2, 1) := dk_28 (dk_at dksX1_put_1 3 rfl rfl)
theorem dX1_put_26 : decode cX1_put 26 = .ok (.i2s, 1) := dk_147 (dk_at dksX1_put_1 4 rfl rfl)
theorem dX1_put_27 : decode cX1_put 27 = .ok (.goto 4, 3) := dk_167 0 4 (dk_at dksX1_put_1 5 rfl rfl)
theorem dX1_put_30 : decode cX1_put 30 = .ok (.iload_n 2, 1) := dk_28 (dk_at dksX1_put_1 8 rfl rfl)
theorem dX1_put_31 : decode cX1_put 31 = .ok (.iastore, 1) := dk_79 (dk_at dksX1_put_1 9 rfl rfl)
theorem dX1_put_32 : decode cX1_put 32 = .ok (.return_, 1) := dk_177 (dk_at dksX1_put_1 10 rfl rfl)
theorem q94 : (Jvm.Cond.initialized "OverTheHeads$Sheet") ∈ lw_all := lw_g (lw_at lw_m1 5 rfl) rfl
theorem q166 : (Jvm.Cond.instantiable "OverTheHeads$Sheet" (3 : Nat)) ∈ lw_all := lw_g (lw_at lw_m1 77 rfl) rfl
theorem q168 : (Jvm.Cond.instanceMethod ({ cls := "OverTheHeads$Sheet", name := "<init>", desc := "()V" } : Jvm.MethodName)) ∈ lw_all := lw_g (lw_at lw_m1 79 rfl) rfl
theorem q169 : (Jvm.Cond.code ({ cls := "OverTheHeads$Sheet", name := "<init>", desc := "()V" } : Jvm.MethodName) prog_13_method_1_code (1 : Nat) (Option.none : Option Jvm.ClassFile.FieldType)) ∈ lw_all := lw_g (lw_at lw_m1 80 rfl) rfl
theorem q170 : (Jvm.Cond.methodLink "OverTheHeads$Sheet" (3 : Nat) ({ cls := "java/lang/Object", name := "<init>", desc := "()V" } : Jvm.MethodName)) ∈ lw_all := lw_g (lw_at lw_m1 81 rfl) rfl
theorem q171 : (Jvm.Cond.fieldLink "OverTheHeads$Sheet" (9 : Nat) "OverTheHeads$Sheet" "sort" "I") ∈ lw_all := lw_g (lw_at lw_m1 82 rfl) rfl
theorem q173 : (Jvm.Cond.fieldLink "OverTheHeads$Sheet" (15 : Nat) "OverTheHeads$Sheet" "size" "I") ∈ lw_all := lw_g (lw_at lw_m1 84 rfl) rfl
theorem q175 : (Jvm.Cond.fieldLink "OverTheHeads$Sheet" (18 : Nat) "OverTheHeads$Sheet" "cells" "[I") ∈ lw_all := lw_g (lw_at lw_m1 86 rfl) rfl
theorem q177 : (Jvm.Cond.lays "OverTheHeads$Sheet" "OverTheHeads$Sheet" "sort" "I") ∈ lw_all := lw_g (lw_at lw_m1 88 rfl) rfl
theorem q178 : (Jvm.Cond.soleField "OverTheHeads$Sheet" "sort") ∈ lw_all := lw_g (lw_at lw_m1 89 rfl) rfl
theorem q179 : (Jvm.Cond.lays "OverTheHeads$Sheet" "OverTheHeads$Sheet" "size" "I") ∈ lw_all := lw_g (lw_at lw_m1 90 rfl) rfl
theorem q180 : (Jvm.Cond.soleField "OverTheHeads$Sheet" "size") ∈ lw_all := lw_g (lw_at lw_m1 91 rfl) rfl
theorem q181 : (Jvm.Cond.laysFinal "OverTheHeads$Sheet" "OverTheHeads$Sheet" "cells" "[I") ∈ lw_all := lw_g (lw_at lw_m1 92 rfl) rfl
theorem q182 : (Jvm.Cond.soleField "OverTheHeads$Sheet" "cells") ∈ lw_all := lw_g (lw_at lw_m1 93 rfl) rfl
theorem q183 : (Jvm.Cond.superclass "OverTheHeads$Sheet" "java/lang/Object") ∈ lw_all := lw_g (lw_at lw_m1 94 rfl) rfl
theorem q969 : (Jvm.Cond.selects "OverTheHeads$Sheet" ({ cls := "java/lang/Object", name := "getClass", desc := "()Ljava/lang/Class;" } : Jvm.MethodName) ({ cls := "java/lang/Object", name := "getClass", desc := "()Ljava/lang/Class;" } : Jvm.MethodName)) ∈ lw_all := lw_g (lw_at lw_m4 160 rfl) rfl
theorem q1471 : (Jvm.Cond.instanceMethod ({ cls := "OverTheHeads$Sheet", name := "put", desc := "(II)V" } : Jvm.MethodName)) ∈ lw_all := lw_g (lw_at lw_m6 182 rfl) rfl
theorem q1472 : (Jvm.Cond.selects "OverTheHeads$Sheet" ({ cls := "OverTheHeads$Sheet", name := "put", desc := "(II)V" } : Jvm.MethodName) ({ cls := "OverTheHeads$Sheet", name := "put", desc := "(II)V" } : Jvm.MethodName)) ∈ lw_all := lw_g (lw_at lw_m6 183 rfl) rfl
theorem q1473 : (Jvm.Cond.code ({ cls := "OverTheHeads$Sheet", name := "put", desc := "(II)V" } : Jvm.MethodName) prog_13_method_2_code (3 : Nat) (Option.none : Option Jvm.ClassFile.FieldType)) ∈ lw_all := lw_g (lw_at lw_m6 184 rfl) rfl
theorem q2110 : (Jvm.Cond.castable "OverTheHeads$Sheet" "java/lang/Object") ∈ lw_tbl := lw_at lw_m9 101 rfl
theorem in_X1 : ∀ w ∈ wsX10, w ∈ lw_all := lw_in wsX10 [177, 179, 181] (by decide +kernel) (by decide +kernel)
/-! OverTheHeads$Raised -/
set_option maxRecDepth 100000
def RX10 : String := "OverTheHeads$Raised"
def TX10 : u_T := fun k => match k with
  | 0 => ("OverTheHeads$Row", "number", "I", true)
  | 1 => ("OverTheHeads$Row", "seats", "I", true)
  | 2 => ("OverTheHeads$Row", "more", "I", true)
  | 3 => ("OverTheHeads$Row", "sits", "[B", true)
  | 4 => ("OverTheHeads$Row", "this$0", "LOverTheHeads;", true)
  | _ => ("OverTheHeads$Raised", "this$0", "LOverTheHeads;", true)
def tyX10 : Nat → FieldType := fun k => match k with
  | 0 => .int
  | 1 => .int
  | 2 => .int
  | 3 => .array .byte
  | 4 => .object "OverTheHeads"
  | _ => .object "OverTheHeads"
abbrev wsX100 : List Cond := u_ws RX10 TX10 6
-- two fields of one name: no nmX10
theorem tyX10_ok : ∀ k, k < 6 → parseFieldDescriptor (TX10 k).2.2.1 = some (tyX10 k) := by decide +kernel
abbrev cX10_init : ByteArray := prog_10_method_1_code
def yX10_init : MethodName := ⟨RX10, "<init>", "(LOverTheHeads;III)V"⟩
def dkwX10_init_0 : List UInt8 := [42, 43, 181, 0, 1, 42, 43, 28, 29, 21, 4, 183, 0, 7, 177]
abbrev dktX10_init_0 : List UInt8 := dkwX10_init_0 ++ []
theorem dksX10_init_0 : cX10_init.data.toList.drop 0 = dktX10_init_0 := by decide +kernel
theorem dX10_init_0 : decode cX10_init 0 = .ok (.aload_n 0, 1) := dk_42 (dk_at dksX10_init_0 0 rfl rfl)
theorem dX10_init_1 : decode cX10_init 1 = .ok (.aload_n 1, 1) := dk_43 (dk_at dksX10_init_0 1 rfl rfl)
theorem dX10_init_2 : decode cX10_init 2 = .ok (.putfield 1, 3) := dk_181 0 1 (dk_at dksX10_init_0 2 rfl rfl)
theorem dX10_init_5 : decode cX10_init 5 = .ok (.aload_n 0, 1) := dk_42 (dk_at dksX10_init_0 5 rfl rfl)
theorem dX10_init_6 : decode cX10_init 6 = .ok (.aload_n 1, 1) := dk_43 (dk_at dksX10_init_0 6 rfl rfl)
theorem dX10_init_7 : decode cX10_init 7 = .ok (.iload_n 2, 1) := dk_28 (dk_at dksX10_init_0 7 rfl rfl)
theorem dX10_init_8 : decode cX10_init 8 = .ok (.iload_n 3, 1) := dk_29 (dk_at dksX10_init_0 8 rfl rfl)
theorem dX10_init_9 : decode cX10_init 9 = .ok (.iload 4, 2) := dk_21 4 (dk_at dksX10_init_0 9 rfl rfl)
theorem dX10_init_11 : decode cX10_init 11 = .ok (.invokespecial 7, 3) := dk_183 0 7 (dk_at dksX10_init_0 11 rfl rfl)
theorem dX10_init_14 : decode cX10_init 14 = .ok (.return_, 1) := dk_177 (dk_at dksX10_init_0 14 rfl rfl)
abbrev cX10_kind : ByteArray := prog_10_method_2_code
def yX10_kind : MethodName := ⟨RX10, "kind", "()I"⟩
theorem dX10_kind_0 : decode cX10_kind 0 = .ok (.iconst 2, 1) := by decide +kernel
theorem dX10_kind_1 : decode cX10_kind 1 = .ok (.ireturn, 1) := by decide +kernel
abbrev cX10_floor : ByteArray := prog_10_method_3_code
def yX10_floor : MethodName := ⟨RX10, "floor", "()I"⟩
def dkwX10_floor_0 : List UInt8 := [42, 183, 0, 13, 42, 180, 0, 17, 96, 172]
abbrev dktX10_floor_0 : List UInt8 := dkwX10_floor_0 ++ []
theorem dksX10_floor_0 : cX10_floor.data.toList.drop 0 = dktX10_floor_0 := by decide +kernel
theorem dX10_floor_0 : decode cX10_floor 0 = .ok (.aload_n 0, 1) := dk_42 (dk_at dksX10_floor_0 0 rfl rfl)
theorem dX10_floor_1 : decode cX10_floor 1 = .ok (.invokespecial 13, 3) := dk_183 0 13 (dk_at dksX10_floor_0 1 rfl rfl)
theorem dX10_floor_4 : decode cX10_floor 4 = .ok (.aload_n 0, 1) := dk_42 (dk_at dksX10_floor_0 4 rfl rfl)
theorem dX10_floor_5 : decode cX10_floor 5 = .ok (.getfield 17, 3) := dk_180 0 17 (dk_at dksX10_floor_0 5 rfl rfl)
theorem dX10_floor_8 : decode cX10_floor 8 = .ok (.iadd, 1) := dk_96 (dk_at dksX10_floor_0 8 rfl rfl)
theorem dX10_floor_9 : decode cX10_floor 9 = .ok (.ireturn, 1) := dk_172 (dk_at dksX10_floor_0 9 rfl rfl)
theorem q117 : (Jvm.Cond.initialized "OverTheHeads$Raised") ∈ lw_all := lw_g (lw_at lw_m1 28 rfl) rfl
theorem q836 : (Jvm.Cond.fieldLink "OverTheHeads$Raised" (17 : Nat) "OverTheHeads$Raised" "more" "I") ∈ lw_all := lw_g (lw_at lw_m4 27 rfl) rfl
theorem q837 : (Jvm.Cond.sameField "OverTheHeads$Raised" "OverTheHeads$Row" "more" "I") ∈ lw_all := lw_g (lw_at lw_m4 28 rfl) rfl
theorem q874 : (Jvm.Cond.instantiable "OverTheHeads$Raised" (6 : Nat)) ∈ lw_all := lw_g (lw_at lw_m4 65 rfl) rfl
theorem q876 : (Jvm.Cond.instanceMethod ({ cls := "OverTheHeads$Raised", name := "<init>", desc := "(LOverTheHeads;III)V" } : Jvm.MethodName)) ∈ lw_all := lw_g (lw_at lw_m4 67 rfl) rfl
theorem q877 : (Jvm.Cond.code ({ cls := "OverTheHeads$Raised", name := "<init>", desc := "(LOverTheHeads;III)V" } : Jvm.MethodName) prog_10_method_1_code (5 : Nat) (Option.none : Option Jvm.ClassFile.FieldType)) ∈ lw_all := lw_g (lw_at lw_m4 68 rfl) rfl
theorem q878 : (Jvm.Cond.methodLink "OverTheHeads$Raised" (7 : Nat) ({ cls := "OverTheHeads$Row", name := "<init>", desc := "(LOverTheHeads;III)V" } : Jvm.MethodName)) ∈ lw_all := lw_g (lw_at lw_m4 69 rfl) rfl
theorem q879 : (Jvm.Cond.fieldLink "OverTheHeads$Raised" (1 : Nat) "OverTheHeads$Raised" "this$0" "LOverTheHeads;") ∈ lw_all := lw_g (lw_at lw_m4 70 rfl) rfl
theorem q880 : (Jvm.Cond.laysFinal "OverTheHeads$Raised" "OverTheHeads$Raised" "this$0" "LOverTheHeads;") ∈ lw_all := lw_g (lw_at lw_m4 71 rfl) rfl
theorem q881 : (Jvm.Cond.soleField "OverTheHeads$Raised" "this$0") ∈ lw_all := lw_g (lw_at lw_m4 72 rfl) rfl
theorem q882 : (Jvm.Cond.laysFinal "OverTheHeads$Raised" "OverTheHeads$Row" "number" "I") ∈ lw_all := lw_g (lw_at lw_m4 73 rfl) rfl
theorem q883 : (Jvm.Cond.laysFinal "OverTheHeads$Raised" "OverTheHeads$Row" "seats" "I") ∈ lw_all := lw_g (lw_at lw_m4 74 rfl) rfl
theorem q884 : (Jvm.Cond.laysFinal "OverTheHeads$Raised" "OverTheHeads$Row" "more" "I") ∈ lw_all := lw_g (lw_at lw_m4 75 rfl) rfl
theorem q885 : (Jvm.Cond.laysFinal "OverTheHeads$Raised" "OverTheHeads$Row" "sits" "[B") ∈ lw_all := lw_g (lw_at lw_m4 76 rfl) rfl
theorem q886 : (Jvm.Cond.laysFinal "OverTheHeads$Raised" "OverTheHeads$Row" "this$0" "LOverTheHeads;") ∈ lw_all := lw_g (lw_at lw_m4 77 rfl) rfl
theorem q887 : (Jvm.Cond.superclass "OverTheHeads$Raised" "OverTheHeads$Row") ∈ lw_all := lw_g (lw_at lw_m4 78 rfl) rfl
theorem q966 : (Jvm.Cond.selects "OverTheHeads$Raised" ({ cls := "java/lang/Object", name := "getClass", desc := "()Ljava/lang/Class;" } : Jvm.MethodName) ({ cls := "java/lang/Object", name := "getClass", desc := "()Ljava/lang/Class;" } : Jvm.MethodName)) ∈ lw_all := lw_g (lw_at lw_m4 157 rfl) rfl
theorem q1027 : (Jvm.Cond.instanceMethod ({ cls := "OverTheHeads$Raised", name := "kind", desc := "()I" } : Jvm.MethodName)) ∈ lw_all := lw_g (lw_at lw_m4 218 rfl) rfl
theorem q1028 : (Jvm.Cond.code ({ cls := "OverTheHeads$Raised", name := "kind", desc := "()I" } : Jvm.MethodName) prog_10_method_2_code (1 : Nat) (Option.some Jvm.ClassFile.FieldType.int)) ∈ lw_all := lw_g (lw_at lw_m4 219 rfl) rfl
theorem q1039 : (Jvm.Cond.selects "OverTheHeads$Raised" ({ cls := "OverTheHeads$Row", name := "kind", desc := "()I" } : Jvm.MethodName) ({ cls := "OverTheHeads$Raised", name := "kind", desc := "()I" } : Jvm.MethodName)) ∈ lw_all := lw_g (lw_at lw_m4 230 rfl) rfl
theorem q1055 : (Jvm.Cond.selects "OverTheHeads$Raised" ({ cls := "OverTheHeads$Row", name := "place", desc := "(I)I" } : Jvm.MethodName) ({ cls := "OverTheHeads$Row", name := "place", desc := "(I)I" } : Jvm.MethodName)) ∈ lw_all := lw_g (lw_at lw_m5 6 rfl) rfl
theorem q1066 : (Jvm.Cond.instanceMethod ({ cls := "OverTheHeads$Raised", name := "floor", desc := "()I" } : Jvm.MethodName)) ∈ lw_all := lw_g (lw_at lw_m5 17 rfl) rfl
theorem q1067 : (Jvm.Cond.code ({ cls := "OverTheHeads$Raised", name := "floor", desc := "()I" } : Jvm.MethodName) prog_10_method_3_code (1 : Nat) (Option.some Jvm.ClassFile.FieldType.int)) ∈ lw_all := lw_g (lw_at lw_m5 18 rfl) rfl
theorem q1068 : (Jvm.Cond.methodLink "OverTheHeads$Raised" (13 : Nat) ({ cls := "OverTheHeads$Row", name := "floor", desc := "()I" } : Jvm.MethodName)) ∈ lw_all := lw_g (lw_at lw_m5 19 rfl) rfl
theorem q1071 : (Jvm.Cond.selects "OverTheHeads$Raised" ({ cls := "OverTheHeads$Row", name := "floor", desc := "()I" } : Jvm.MethodName) ({ cls := "OverTheHeads$Raised", name := "floor", desc := "()I" } : Jvm.MethodName)) ∈ lw_all := lw_g (lw_at lw_m5 22 rfl) rfl
theorem q1086 : (Jvm.Cond.selects "OverTheHeads$Raised" ({ cls := "OverTheHeads$Row", name := "far", desc := "()I" } : Jvm.MethodName) ({ cls := "OverTheHeads$Row", name := "far", desc := "()I" } : Jvm.MethodName)) ∈ lw_all := lw_g (lw_at lw_m5 37 rfl) rfl
theorem q1096 : (Jvm.Cond.selects "OverTheHeads$Raised" ({ cls := "OverTheHeads$Row", name := "eyes", desc := "(I)I" } : Jvm.MethodName) ({ cls := "OverTheHeads$Row", name := "eyes", desc := "(I)I" } : Jvm.MethodName)) ∈ lw_all := lw_g (lw_at lw_m5 47 rfl) rfl
theorem q1110 : (Jvm.Cond.selects "OverTheHeads$Raised" ({ cls := "OverTheHeads$Row", name := "low", desc := "()I" } : Jvm.MethodName) ({ cls := "OverTheHeads$Row", name := "low", desc := "()I" } : Jvm.MethodName)) ∈ lw_all := lw_g (lw_at lw_m5 61 rfl) rfl
theorem q1121 : (Jvm.Cond.selects "OverTheHeads$Raised" ({ cls := "OverTheHeads$Row", name := "heads", desc := "(I)I" } : Jvm.MethodName) ({ cls := "OverTheHeads$Row", name := "heads", desc := "(I)I" } : Jvm.MethodName)) ∈ lw_all := lw_g (lw_at lw_m5 72 rfl) rfl
theorem q1133 : (Jvm.Cond.selects "OverTheHeads$Raised" ({ cls := "OverTheHeads$Row", name := "isAmong", desc := "()Z" } : Jvm.MethodName) ({ cls := "OverTheHeads$Row", name := "isAmong", desc := "()Z" } : Jvm.MethodName)) ∈ lw_all := lw_g (lw_at lw_m5 84 rfl) rfl
theorem q2099 : (Jvm.Cond.sameMethod "OverTheHeads$Raised" "OverTheHeads$Raised" "kind" "()I") ∈ lw_all := lw_g (lw_at lw_m9 90 rfl) rfl
theorem q2102 : (Jvm.Cond.sameMethod "OverTheHeads$Raised" "OverTheHeads$Raised" "floor" "()I") ∈ lw_all := lw_g (lw_at lw_m9 93 rfl) rfl
theorem q2106 : (Jvm.Cond.castable "OverTheHeads$Raised" "OverTheHeads$Row") ∈ lw_tbl := lw_at lw_m9 97 rfl
theorem q2124 : (Jvm.Cond.castable "OverTheHeads$Raised" "java/lang/Object") ∈ lw_tbl := lw_at lw_m9 115 rfl
theorem in_X10 : ∀ w ∈ wsX100, w ∈ lw_all := lw_in wsX100 [882, 883, 884, 885, 886, 880] (by decide +kernel) (by decide +kernel)
/-! OverTheHeads$Inner -/
set_option maxRecDepth 100000
def RX11 : String := "OverTheHeads$Inner"
def TX11 : u_T := fun k => match k with
  | 0 => ("OverTheHeads$Row", "number", "I", true)
  | 1 => ("OverTheHeads$Row", "seats", "I", true)
  | 2 => ("OverTheHeads$Row", "more", "I", true)
  | 3 => ("OverTheHeads$Row", "sits", "[B", true)
  | 4 => ("OverTheHeads$Row", "this$0", "LOverTheHeads;", true)
  | 5 => ("OverTheHeads$Shifted", "this$0", "LOverTheHeads;", true)
  | _ => ("OverTheHeads$Inner", "this$0", "LOverTheHeads;", true)
def tyX11 : Nat → FieldType := fun k => match k with
  | 0 => .int
  | 1 => .int
  | 2 => .int
  | 3 => .array .byte
  | 4 => .object "OverTheHeads"
  | 5 => .object "OverTheHeads"
  | _ => .object "OverTheHeads"
abbrev wsX110 : List Cond := u_ws RX11 TX11 7
-- two fields of one name: no nmX11
theorem tyX11_ok : ∀ k, k < 7 → parseFieldDescriptor (TX11 k).2.2.1 = some (tyX11 k) := by decide +kernel
abbrev cX11_init : ByteArray := prog_4_method_1_code
def yX11_init : MethodName := ⟨RX11, "<init>", "(LOverTheHeads;III)V"⟩
def dkwX11_init_0 : List UInt8 := [42, 43, 181, 0, 1, 42, 43, 28, 29, 21, 4, 183, 0, 7, 177]
abbrev dktX11_init_0 : List UInt8 := dkwX11_init_0 ++ []
theorem dksX11_init_0 : cX11_init.data.toList.drop 0 = dktX11_init_0 := by decide +kernel
theorem dX11_init_0 : decode cX11_init 0 = .ok (.aload_n 0, 1) := dk_42 (dk_at dksX11_init_0 0 rfl rfl)
theorem dX11_init_1 : decode cX11_init 1 = .ok (.aload_n 1, 1) := dk_43 (dk_at dksX11_init_0 1 rfl rfl)
theorem dX11_init_2 : decode cX11_init 2 = .ok (.putfield 1, 3) := dk_181 0 1 (dk_at dksX11_init_0 2 rfl rfl)
theorem dX11_init_5 : decode cX11_init 5 = .ok (.aload_n 0, 1) := dk_42 (dk_at dksX11_init_0 5 rfl rfl)
theorem dX11_init_6 : decode cX11_init 6 = .ok (.aload_n 1, 1) := dk_43 (dk_at dksX11_init_0 6 rfl rfl)
theorem dX11_init_7 : decode cX11_init 7 = .ok (.iload_n 2, 1) := dk_28 (dk_at dksX11_init_0 7 rfl rfl)
theorem dX11_init_8 : decode cX11_init 8 = .ok (.iload_n 3, 1) := dk_29 (dk_at dksX11_init_0 8 rfl rfl)
theorem dX11_init_9 : decode cX11_init 9 = .ok (.iload 4, 2) := dk_21 4 (dk_at dksX11_init_0 9 rfl rfl)
theorem dX11_init_11 : decode cX11_init 11 = .ok (.invokespecial 7, 3) := dk_183 0 7 (dk_at dksX11_init_0 11 rfl rfl)
theorem dX11_init_14 : decode cX11_init 14 = .ok (.return_, 1) := dk_177 (dk_at dksX11_init_0 14 rfl rfl)
abbrev cX11_kind : ByteArray := prog_4_method_2_code
def yX11_kind : MethodName := ⟨RX11, "kind", "()I"⟩
def dkwX11_kind_0 : List UInt8 := [42, 183, 0, 13, 5, 96, 172]
abbrev dktX11_kind_0 : List UInt8 := dkwX11_kind_0 ++ []
theorem dksX11_kind_0 : cX11_kind.data.toList.drop 0 = dktX11_kind_0 := by decide +kernel
theorem dX11_kind_0 : decode cX11_kind 0 = .ok (.aload_n 0, 1) := dk_42 (dk_at dksX11_kind_0 0 rfl rfl)
theorem dX11_kind_1 : decode cX11_kind 1 = .ok (.invokespecial 13, 3) := dk_183 0 13 (dk_at dksX11_kind_0 1 rfl rfl)
theorem dX11_kind_4 : decode cX11_kind 4 = .ok (.iconst 2, 1) := dk_5 (dk_at dksX11_kind_0 4 rfl rfl)
theorem dX11_kind_5 : decode cX11_kind 5 = .ok (.iadd, 1) := dk_96 (dk_at dksX11_kind_0 5 rfl rfl)
theorem dX11_kind_6 : decode cX11_kind 6 = .ok (.ireturn, 1) := dk_172 (dk_at dksX11_kind_0 6 rfl rfl)
abbrev cX11_place : ByteArray := prog_4_method_3_code
def yX11_place : MethodName := ⟨RX11, "place", "(I)I"⟩
def dkwX11_place_0 : List UInt8 := [42, 27, 183, 0, 17, 42, 180, 0, 21, 16, 10, 112, 96, 172]
abbrev dktX11_place_0 : List UInt8 := dkwX11_place_0 ++ []
theorem dksX11_place_0 : cX11_place.data.toList.drop 0 = dktX11_place_0 := by decide +kernel
theorem dX11_place_0 : decode cX11_place 0 = .ok (.aload_n 0, 1) := dk_42 (dk_at dksX11_place_0 0 rfl rfl)
theorem dX11_place_1 : decode cX11_place 1 = .ok (.iload_n 1, 1) := dk_27 (dk_at dksX11_place_0 1 rfl rfl)
theorem dX11_place_2 : decode cX11_place 2 = .ok (.invokespecial 17, 3) := dk_183 0 17 (dk_at dksX11_place_0 2 rfl rfl)
theorem dX11_place_5 : decode cX11_place 5 = .ok (.aload_n 0, 1) := dk_42 (dk_at dksX11_place_0 5 rfl rfl)
theorem dX11_place_6 : decode cX11_place 6 = .ok (.getfield 21, 3) := dk_180 0 21 (dk_at dksX11_place_0 6 rfl rfl)
theorem dX11_place_9 : decode cX11_place 9 = .ok (.bipush 10, 2) := dk_16 10 (dk_at dksX11_place_0 9 rfl rfl)
theorem dX11_place_11 : decode cX11_place 11 = .ok (.irem, 1) := dk_112 (dk_at dksX11_place_0 11 rfl rfl)
theorem dX11_place_12 : decode cX11_place 12 = .ok (.iadd, 1) := dk_96 (dk_at dksX11_place_0 12 rfl rfl)
theorem dX11_place_13 : decode cX11_place 13 = .ok (.ireturn, 1) := dk_172 (dk_at dksX11_place_0 13 rfl rfl)
abbrev cX11_far : ByteArray := prog_4_method_4_code
def yX11_far : MethodName := ⟨RX11, "far", "()I"⟩
def dkwX11_far_0 : List UInt8 := [42, 183, 0, 25, 6, 100, 172]
abbrev dktX11_far_0 : List UInt8 := dkwX11_far_0 ++ []
theorem dksX11_far_0 : cX11_far.data.toList.drop 0 = dktX11_far_0 := by decide +kernel
theorem dX11_far_0 : decode cX11_far 0 = .ok (.aload_n 0, 1) := dk_42 (dk_at dksX11_far_0 0 rfl rfl)
theorem dX11_far_1 : decode cX11_far 1 = .ok (.invokespecial 25, 3) := dk_183 0 25 (dk_at dksX11_far_0 1 rfl rfl)
theorem dX11_far_4 : decode cX11_far 4 = .ok (.iconst 3, 1) := dk_6 (dk_at dksX11_far_0 4 rfl rfl)
theorem dX11_far_5 : decode cX11_far 5 = .ok (.isub, 1) := dk_100 (dk_at dksX11_far_0 5 rfl rfl)
theorem dX11_far_6 : decode cX11_far 6 = .ok (.ireturn, 1) := dk_172 (dk_at dksX11_far_0 6 rfl rfl)
theorem q118 : (Jvm.Cond.initialized "OverTheHeads$Inner") ∈ lw_all := lw_g (lw_at lw_m1 29 rfl) rfl
theorem q840 : (Jvm.Cond.fieldLink "OverTheHeads$Inner" (21 : Nat) "OverTheHeads$Inner" "more" "I") ∈ lw_all := lw_g (lw_at lw_m4 31 rfl) rfl
theorem q841 : (Jvm.Cond.sameField "OverTheHeads$Inner" "OverTheHeads$Row" "more" "I") ∈ lw_all := lw_g (lw_at lw_m4 32 rfl) rfl
theorem q889 : (Jvm.Cond.instantiable "OverTheHeads$Inner" (7 : Nat)) ∈ lw_all := lw_g (lw_at lw_m4 80 rfl) rfl
theorem q891 : (Jvm.Cond.instanceMethod ({ cls := "OverTheHeads$Inner", name := "<init>", desc := "(LOverTheHeads;III)V" } : Jvm.MethodName)) ∈ lw_all := lw_g (lw_at lw_m4 82 rfl) rfl
theorem q892 : (Jvm.Cond.code ({ cls := "OverTheHeads$Inner", name := "<init>", desc := "(LOverTheHeads;III)V" } : Jvm.MethodName) prog_4_method_1_code (5 : Nat) (Option.none : Option Jvm.ClassFile.FieldType)) ∈ lw_all := lw_g (lw_at lw_m4 83 rfl) rfl
theorem q893 : (Jvm.Cond.methodLink "OverTheHeads$Inner" (7 : Nat) ({ cls := "OverTheHeads$Shifted", name := "<init>", desc := "(LOverTheHeads;III)V" } : Jvm.MethodName)) ∈ lw_all := lw_g (lw_at lw_m4 84 rfl) rfl
theorem q894 : (Jvm.Cond.fieldLink "OverTheHeads$Inner" (1 : Nat) "OverTheHeads$Inner" "this$0" "LOverTheHeads;") ∈ lw_all := lw_g (lw_at lw_m4 85 rfl) rfl
theorem q895 : (Jvm.Cond.laysFinal "OverTheHeads$Inner" "OverTheHeads$Inner" "this$0" "LOverTheHeads;") ∈ lw_all := lw_g (lw_at lw_m4 86 rfl) rfl
theorem q896 : (Jvm.Cond.soleField "OverTheHeads$Inner" "this$0") ∈ lw_all := lw_g (lw_at lw_m4 87 rfl) rfl
theorem q897 : (Jvm.Cond.laysFinal "OverTheHeads$Inner" "OverTheHeads$Shifted" "this$0" "LOverTheHeads;") ∈ lw_all := lw_g (lw_at lw_m4 88 rfl) rfl
theorem q898 : (Jvm.Cond.laysFinal "OverTheHeads$Inner" "OverTheHeads$Row" "number" "I") ∈ lw_all := lw_g (lw_at lw_m4 89 rfl) rfl
theorem q899 : (Jvm.Cond.laysFinal "OverTheHeads$Inner" "OverTheHeads$Row" "seats" "I") ∈ lw_all := lw_g (lw_at lw_m4 90 rfl) rfl
theorem q900 : (Jvm.Cond.laysFinal "OverTheHeads$Inner" "OverTheHeads$Row" "more" "I") ∈ lw_all := lw_g (lw_at lw_m4 91 rfl) rfl
theorem q901 : (Jvm.Cond.laysFinal "OverTheHeads$Inner" "OverTheHeads$Row" "sits" "[B") ∈ lw_all := lw_g (lw_at lw_m4 92 rfl) rfl
theorem q902 : (Jvm.Cond.laysFinal "OverTheHeads$Inner" "OverTheHeads$Row" "this$0" "LOverTheHeads;") ∈ lw_all := lw_g (lw_at lw_m4 93 rfl) rfl
theorem q903 : (Jvm.Cond.superclass "OverTheHeads$Inner" "OverTheHeads$Shifted") ∈ lw_all := lw_g (lw_at lw_m4 94 rfl) rfl
theorem q961 : (Jvm.Cond.selects "OverTheHeads$Inner" ({ cls := "java/lang/Object", name := "getClass", desc := "()Ljava/lang/Class;" } : Jvm.MethodName) ({ cls := "java/lang/Object", name := "getClass", desc := "()Ljava/lang/Class;" } : Jvm.MethodName)) ∈ lw_all := lw_g (lw_at lw_m4 152 rfl) rfl
theorem q1029 : (Jvm.Cond.selects "OverTheHeads$Inner" ({ cls := "OverTheHeads$Row", name := "kind", desc := "()I" } : Jvm.MethodName) ({ cls := "OverTheHeads$Inner", name := "kind", desc := "()I" } : Jvm.MethodName)) ∈ lw_all := lw_g (lw_at lw_m4 220 rfl) rfl
theorem q1030 : (Jvm.Cond.instanceMethod ({ cls := "OverTheHeads$Inner", name := "kind", desc := "()I" } : Jvm.MethodName)) ∈ lw_all := lw_g (lw_at lw_m4 221 rfl) rfl
theorem q1031 : (Jvm.Cond.code ({ cls := "OverTheHeads$Inner", name := "kind", desc := "()I" } : Jvm.MethodName) prog_4_method_2_code (1 : Nat) (Option.some Jvm.ClassFile.FieldType.int)) ∈ lw_all := lw_g (lw_at lw_m4 222 rfl) rfl
theorem q1032 : (Jvm.Cond.methodLink "OverTheHeads$Inner" (13 : Nat) ({ cls := "OverTheHeads$Shifted", name := "kind", desc := "()I" } : Jvm.MethodName)) ∈ lw_all := lw_g (lw_at lw_m4 223 rfl) rfl
theorem q1047 : (Jvm.Cond.selects "OverTheHeads$Inner" ({ cls := "OverTheHeads$Row", name := "place", desc := "(I)I" } : Jvm.MethodName) ({ cls := "OverTheHeads$Inner", name := "place", desc := "(I)I" } : Jvm.MethodName)) ∈ lw_all := lw_g (lw_at lw_m4 238 rfl) rfl
theorem q1048 : (Jvm.Cond.instanceMethod ({ cls := "OverTheHeads$Inner", name := "place", desc := "(I)I" } : Jvm.MethodName)) ∈ lw_all := lw_g (lw_at lw_m4 239 rfl) rfl
theorem q1049 : (Jvm.Cond.code ({ cls := "OverTheHeads$Inner", name := "place", desc := "(I)I" } : Jvm.MethodName) prog_4_method_3_code (2 : Nat) (Option.some Jvm.ClassFile.FieldType.int)) ∈ lw_all := lw_g (lw_at lw_m5 0 rfl) rfl
theorem q1050 : (Jvm.Cond.methodLink "OverTheHeads$Inner" (17 : Nat) ({ cls := "OverTheHeads$Shifted", name := "place", desc := "(I)I" } : Jvm.MethodName)) ∈ lw_all := lw_g (lw_at lw_m5 1 rfl) rfl
theorem q1069 : (Jvm.Cond.selects "OverTheHeads$Inner" ({ cls := "OverTheHeads$Row", name := "floor", desc := "()I" } : Jvm.MethodName) ({ cls := "OverTheHeads$Row", name := "floor", desc := "()I" } : Jvm.MethodName)) ∈ lw_all := lw_g (lw_at lw_m5 20 rfl) rfl
theorem q1079 : (Jvm.Cond.selects "OverTheHeads$Inner" ({ cls := "OverTheHeads$Row", name := "far", desc := "()I" } : Jvm.MethodName) ({ cls := "OverTheHeads$Inner", name := "far", desc := "()I" } : Jvm.MethodName)) ∈ lw_all := lw_g (lw_at lw_m5 30 rfl) rfl
theorem q1080 : (Jvm.Cond.instanceMethod ({ cls := "OverTheHeads$Inner", name := "far", desc := "()I" } : Jvm.MethodName)) ∈ lw_all := lw_g (lw_at lw_m5 31 rfl) rfl
theorem q1081 : (Jvm.Cond.code ({ cls := "OverTheHeads$Inner", name := "far", desc := "()I" } : Jvm.MethodName) prog_4_method_4_code (1 : Nat) (Option.some Jvm.ClassFile.FieldType.int)) ∈ lw_all := lw_g (lw_at lw_m5 32 rfl) rfl
theorem q1082 : (Jvm.Cond.methodLink "OverTheHeads$Inner" (25 : Nat) ({ cls := "OverTheHeads$Shifted", name := "far", desc := "()I" } : Jvm.MethodName)) ∈ lw_all := lw_g (lw_at lw_m5 33 rfl) rfl
theorem q1094 : (Jvm.Cond.selects "OverTheHeads$Inner" ({ cls := "OverTheHeads$Row", name := "eyes", desc := "(I)I" } : Jvm.MethodName) ({ cls := "OverTheHeads$Row", name := "eyes", desc := "(I)I" } : Jvm.MethodName)) ∈ lw_all := lw_g (lw_at lw_m5 45 rfl) rfl
theorem q1105 : (Jvm.Cond.selects "OverTheHeads$Inner" ({ cls := "OverTheHeads$Row", name := "low", desc := "()I" } : Jvm.MethodName) ({ cls := "OverTheHeads$Row", name := "low", desc := "()I" } : Jvm.MethodName)) ∈ lw_all := lw_g (lw_at lw_m5 56 rfl) rfl
theorem q1119 : (Jvm.Cond.selects "OverTheHeads$Inner" ({ cls := "OverTheHeads$Row", name := "heads", desc := "(I)I" } : Jvm.MethodName) ({ cls := "OverTheHeads$Row", name := "heads", desc := "(I)I" } : Jvm.MethodName)) ∈ lw_all := lw_g (lw_at lw_m5 70 rfl) rfl
theorem q1131 : (Jvm.Cond.selects "OverTheHeads$Inner" ({ cls := "OverTheHeads$Row", name := "isAmong", desc := "()Z" } : Jvm.MethodName) ({ cls := "OverTheHeads$Row", name := "isAmong", desc := "()Z" } : Jvm.MethodName)) ∈ lw_all := lw_g (lw_at lw_m5 82 rfl) rfl
theorem q2104 : (Jvm.Cond.castable "OverTheHeads$Inner" "OverTheHeads$Row") ∈ lw_tbl := lw_at lw_m9 95 rfl
theorem q2108 : (Jvm.Cond.castable "OverTheHeads$Inner" "OverTheHeads$Shifted") ∈ lw_tbl := lw_at lw_m9 99 rfl
theorem q2125 : (Jvm.Cond.castable "OverTheHeads$Inner" "java/lang/Object") ∈ lw_tbl := lw_at lw_m9 116 rfl
theorem in_X11 : ∀ w ∈ wsX110, w ∈ lw_all := lw_in wsX110 [898, 899, 900, 901, 902, 897, 895] (by decide +kernel) (by decide +kernel)
/-! OverTheHeads$Balcony -/
set_option maxRecDepth 100000
def RX12 : String := "OverTheHeads$Balcony"
def TX12 : u_T := fun k => match k with
  | 0 => ("OverTheHeads$Row", "number", "I", true)
  | 1 => ("OverTheHeads$Row", "seats", "I", true)
  | 2 => ("OverTheHeads$Row", "more", "I", true)
  | 3 => ("OverTheHeads$Row", "sits", "[B", true)
  | 4 => ("OverTheHeads$Row", "this$0", "LOverTheHeads;", true)
  | 5 => ("OverTheHeads$Raised", "this$0", "LOverTheHeads;", true)
  | _ => ("OverTheHeads$Balcony", "this$0", "LOverTheHeads;", true)
def tyX12 : Nat → FieldType := fun k => match k with
  | 0 => .int
  | 1 => .int
  | 2 => .int
  | 3 => .array .byte
  | 4 => .object "OverTheHeads"
  | 5 => .object "OverTheHeads"
  | _ => .object "OverTheHeads"
abbrev wsX120 : List Cond := u_ws RX12 TX12 7
-- two fields of one name: no nmX12
theorem tyX12_ok : ∀ k, k < 7 → parseFieldDescriptor (TX12 k).2.2.1 = some (tyX12 k) := by decide +kernel
abbrev cX12_init : ByteArray := prog_2_method_1_code
def yX12_init : MethodName := ⟨RX12, "<init>", "(LOverTheHeads;III)V"⟩
def dkwX12_init_0 : List UInt8 := [42, 43, 181, 0, 1, 42, 43, 28, 29, 21, 4, 183, 0, 7, 177]
abbrev dktX12_init_0 : List UInt8 := dkwX12_init_0 ++ []
theorem dksX12_init_0 : cX12_init.data.toList.drop 0 = dktX12_init_0 := by decide +kernel
theorem dX12_init_0 : decode cX12_init 0 = .ok (.aload_n 0, 1) := dk_42 (dk_at dksX12_init_0 0 rfl rfl)
theorem dX12_init_1 : decode cX12_init 1 = .ok (.aload_n 1, 1) := dk_43 (dk_at dksX12_init_0 1 rfl rfl)
theorem dX12_init_2 : decode cX12_init 2 = .ok (.putfield 1, 3) := dk_181 0 1 (dk_at dksX12_init_0 2 rfl rfl)
theorem dX12_init_5 : decode cX12_init 5 = .ok (.aload_n 0, 1) := dk_42 (dk_at dksX12_init_0 5 rfl rfl)
theorem dX12_init_6 : decode cX12_init 6 = .ok (.aload_n 1, 1) := dk_43 (dk_at dksX12_init_0 6 rfl rfl)
theorem dX12_init_7 : decode cX12_init 7 = .ok (.iload_n 2, 1) := dk_28 (dk_at dksX12_init_0 7 rfl rfl)
theorem dX12_init_8 : decode cX12_init 8 = .ok (.iload_n 3, 1) := dk_29 (dk_at dksX12_init_0 8 rfl rfl)
theorem dX12_init_9 : decode cX12_init 9 = .ok (.iload 4, 2) := dk_21 4 (dk_at dksX12_init_0 9 rfl rfl)
theorem dX12_init_11 : decode cX12_init 11 = .ok (.invokespecial 7, 3) := dk_183 0 7 (dk_at dksX12_init_0 11 rfl rfl)
theorem dX12_init_14 : decode cX12_init 14 = .ok (.return_, 1) := dk_177 (dk_at dksX12_init_0 14 rfl rfl)
abbrev cX12_kind : ByteArray := prog_2_method_2_code
def yX12_kind : MethodName := ⟨RX12, "kind", "()I"⟩
def dkwX12_kind_0 : List UInt8 := [42, 183, 0, 13, 5, 96, 172]
abbrev dktX12_kind_0 : List UInt8 := dkwX12_kind_0 ++ []
theorem dksX12_kind_0 : cX12_kind.data.toList.drop 0 = dktX12_kind_0 := by decide +kernel
theorem dX12_kind_0 : decode cX12_kind 0 = .ok (.aload_n 0, 1) := dk_42 (dk_at dksX12_kind_0 0 rfl rfl)
theorem dX12_kind_1 : decode cX12_kind 1 = .ok (.invokespecial 13, 3) := dk_183 0 13 (dk_at dksX12_kind_0 1 rfl rfl)
theorem dX12_kind_4 : decode cX12_kind 4 = .ok (.iconst 2, 1) := dk_5 (dk_at dksX12_kind_0 4 rfl rfl)
theorem dX12_kind_5 : decode cX12_kind 5 = .ok (.iadd, 1) := dk_96 (dk_at dksX12_kind_0 5 rfl rfl)
theorem dX12_kind_6 : decode cX12_kind 6 = .ok (.ireturn, 1) := dk_172 (dk_at dksX12_kind_0 6 rfl rfl)
abbrev cX12_floor : ByteArray := prog_2_method_3_code
def yX12_floor : MethodName := ⟨RX12, "floor", "()I"⟩
def dkwX12_floor_0 : List UInt8 := [42, 183, 0, 17, 5, 42, 180, 0, 20, 104, 96, 172]
abbrev dktX12_floor_0 : List UInt8 := dkwX12_floor_0 ++ []
theorem dksX12_floor_0 : cX12_floor.data.toList.drop 0 = dktX12_floor_0 := by decide +kernel
theorem dX12_floor_0 : decode cX12_floor 0 = .ok (.aload_n 0, 1) := dk_42 (dk_at dksX12_floor_0 0 rfl rfl)
theorem dX12_floor_1 : decode cX12_floor 1 = .ok (.invokespecial 17, 3) := dk_183 0 17 (dk_at dksX12_floor_0 1 rfl rfl)
theorem dX12_floor_4 : decode cX12_floor 4 = .ok (.iconst 2, 1) := dk_5 (dk_at dksX12_floor_0 4 rfl rfl)
theorem dX12_floor_5 : decode cX12_floor 5 = .ok (.aload_n 0, 1) := dk_42 (dk_at dksX12_floor_0 5 rfl rfl)
theorem dX12_floor_6 : decode cX12_floor 6 = .ok (.getfield 20, 3) := dk_180 0 20 (dk_at dksX12_floor_0 6 rfl rfl)
theorem dX12_floor_9 : decode cX12_floor 9 = .ok (.imul, 1) := dk_104 (dk_at dksX12_floor_0 9 rfl rfl)
theorem dX12_floor_10 : decode cX12_floor 10 = .ok (.iadd, 1) := dk_96 (dk_at dksX12_floor_0 10 rfl rfl)
theorem dX12_floor_11 : decode cX12_floor 11 = .ok (.ireturn, 1) := dk_172 (dk_at dksX12_floor_0 11 rfl rfl)
abbrev cX12_isAmong : ByteArray := prog_2_method_4_code
def yX12_isAmong : MethodName := ⟨RX12, "isAmong", "()Z"⟩
theorem dX12_isAmong_0 : decode cX12_isAmong 0 = .ok (.iconst 0, 1) := by decide +kernel
theorem dX12_isAmong_1 : decode cX12_isAmong 1 = .ok (.ireturn, 1) := by decide +kernel
theorem q119 : (Jvm.Cond.initialized "OverTheHeads$Balcony") ∈ lw_all := lw_g (lw_at lw_m1 30 rfl) rfl
theorem q842 : (Jvm.Cond.fieldLink "OverTheHeads$Balcony" (20 : Nat) "OverTheHeads$Balcony" "more" "I") ∈ lw_all := lw_g (lw_at lw_m4 33 rfl) rfl
theorem q843 : (Jvm.Cond.sameField "OverTheHeads$Balcony" "OverTheHeads$Row" "more" "I") ∈ lw_all := lw_g (lw_at lw_m4 34 rfl) rfl
theorem q905 : (Jvm.Cond.instantiable "OverTheHeads$Balcony" (7 : Nat)) ∈ lw_all := lw_g (lw_at lw_m4 96 rfl) rfl
theorem q907 : (Jvm.Cond.instanceMethod ({ cls := "OverTheHeads$Balcony", name := "<init>", desc := "(LOverTheHeads;III)V" } : Jvm.MethodName)) ∈ lw_all := lw_g (lw_at lw_m4 98 rfl) rfl
theorem q908 : (Jvm.Cond.code ({ cls := "OverTheHeads$Balcony", name := "<init>", desc := "(LOverTheHeads;III)V" } : Jvm.MethodName) prog_2_method_1_code (5 : Nat) (Option.none : Option Jvm.ClassFile.FieldType)) ∈ lw_all := lw_g (lw_at lw_m4 99 rfl) rfl
theorem q909 : (Jvm.Cond.methodLink "OverTheHeads$Balcony" (7 : Nat) ({ cls := "OverTheHeads$Raised", name := "<init>", desc := "(LOverTheHeads;III)V" } : Jvm.MethodName)) ∈ lw_all := lw_g (lw_at lw_m4 100 rfl) rfl
theorem q910 : (Jvm.Cond.fieldLink "OverTheHeads$Balcony" (1 : Nat) "OverTheHeads$Balcony" "this$0" "LOverTheHeads;") ∈ lw_all := lw_g (lw_at lw_m4 101 rfl) rfl
theorem q911 : (Jvm.Cond.laysFinal "OverTheHeads$Balcony" "OverTheHeads$Balcony" "this$0" "LOverTheHeads;") ∈ lw_all := lw_g (lw_at lw_m4 102 rfl) rfl
theorem q912 : (Jvm.Cond.soleField "OverTheHeads$Balcony" "this$0") ∈ lw_all := lw_g (lw_at lw_m4 103 rfl) rfl
theorem q913 : (Jvm.Cond.laysFinal "OverTheHeads$Balcony" "OverTheHeads$Raised" "this$0" "LOverTheHeads;") ∈ lw_all := lw_g (lw_at lw_m4 104 rfl) rfl
theorem q914 : (Jvm.Cond.laysFinal "OverTheHeads$Balcony" "OverTheHeads$Row" "number" "I") ∈ lw_all := lw_g (lw_at lw_m4 105 rfl) rfl
theorem q915 : (Jvm.Cond.laysFinal "OverTheHeads$Balcony" "OverTheHeads$Row" "seats" "I") ∈ lw_all := lw_g (lw_at lw_m4 106 rfl) rfl
theorem q916 : (Jvm.Cond.laysFinal "OverTheHeads$Balcony" "OverTheHeads$Row" "more" "I") ∈ lw_all := lw_g (lw_at lw_m4 107 rfl) rfl
theorem q917 : (Jvm.Cond.laysFinal "OverTheHeads$Balcony" "OverTheHeads$Row" "sits" "[B") ∈ lw_all := lw_g (lw_at lw_m4 108 rfl) rfl
theorem q918 : (Jvm.Cond.laysFinal "OverTheHeads$Balcony" "OverTheHeads$Row" "this$0" "LOverTheHeads;") ∈ lw_all := lw_g (lw_at lw_m4 109 rfl) rfl
theorem q919 : (Jvm.Cond.superclass "OverTheHeads$Balcony" "OverTheHeads$Raised") ∈ lw_all := lw_g (lw_at lw_m4 110 rfl) rfl
theorem q959 : (Jvm.Cond.selects "OverTheHeads$Balcony" ({ cls := "java/lang/Object", name := "getClass", desc := "()Ljava/lang/Class;" } : Jvm.MethodName) ({ cls := "java/lang/Object", name := "getClass", desc := "()Ljava/lang/Class;" } : Jvm.MethodName)) ∈ lw_all := lw_g (lw_at lw_m4 150 rfl) rfl
theorem q1023 : (Jvm.Cond.selects "OverTheHeads$Balcony" ({ cls := "OverTheHeads$Row", name := "kind", desc := "()I" } : Jvm.MethodName) ({ cls := "OverTheHeads$Balcony", name := "kind", desc := "()I" } : Jvm.MethodName)) ∈ lw_all := lw_g (lw_at lw_m4 214 rfl) rfl
theorem q1024 : (Jvm.Cond.instanceMethod ({ cls := "OverTheHeads$Balcony", name := "kind", desc := "()I" } : Jvm.MethodName)) ∈ lw_all := lw_g (lw_at lw_m4 215 rfl) rfl
theorem q1025 : (Jvm.Cond.code ({ cls := "OverTheHeads$Balcony", name := "kind", desc := "()I" } : Jvm.MethodName) prog_2_method_2_code (1 : Nat) (Option.some Jvm.ClassFile.FieldType.int)) ∈ lw_all := lw_g (lw_at lw_m4 216 rfl) rfl
theorem q1026 : (Jvm.Cond.methodLink "OverTheHeads$Balcony" (13 : Nat) ({ cls := "OverTheHeads$Raised", name := "kind", desc := "()I" } : Jvm.MethodName)) ∈ lw_all := lw_g (lw_at lw_m4 217 rfl) rfl
theorem q1046 : (Jvm.Cond.selects "OverTheHeads$Balcony" ({ cls := "OverTheHeads$Row", name := "place", desc := "(I)I" } : Jvm.MethodName) ({ cls := "OverTheHeads$Row", name := "place", desc := "(I)I" } : Jvm.MethodName)) ∈ lw_all := lw_g (lw_at lw_m4 237 rfl) rfl
theorem q1062 : (Jvm.Cond.selects "OverTheHeads$Balcony" ({ cls := "OverTheHeads$Row", name := "floor", desc := "()I" } : Jvm.MethodName) ({ cls := "OverTheHeads$Balcony", name := "floor", desc := "()I" } : Jvm.MethodName)) ∈ lw_all := lw_g (lw_at lw_m5 13 rfl) rfl
theorem q1063 : (Jvm.Cond.instanceMethod ({ cls := "OverTheHeads$Balcony", name := "floor", desc := "()I" } : Jvm.MethodName)) ∈ lw_all := lw_g (lw_at lw_m5 14 rfl) rfl
theorem q1064 : (Jvm.Cond.code ({ cls := "OverTheHeads$Balcony", name := "floor", desc := "()I" } : Jvm.MethodName) prog_2_method_3_code (1 : Nat) (Option.some Jvm.ClassFile.FieldType.int)) ∈ lw_all := lw_g (lw_at lw_m5 15 rfl) rfl
theorem q1065 : (Jvm.Cond.methodLink "OverTheHeads$Balcony" (17 : Nat) ({ cls := "OverTheHeads$Raised", name := "floor", desc := "()I" } : Jvm.MethodName)) ∈ lw_all := lw_g (lw_at lw_m5 16 rfl) rfl
theorem q1078 : (Jvm.Cond.selects "OverTheHeads$Balcony" ({ cls := "OverTheHeads$Row", name := "far", desc := "()I" } : Jvm.MethodName) ({ cls := "OverTheHeads$Row", name := "far", desc := "()I" } : Jvm.MethodName)) ∈ lw_all := lw_g (lw_at lw_m5 29 rfl) rfl
theorem q1093 : (Jvm.Cond.selects "OverTheHeads$Balcony" ({ cls := "OverTheHeads$Row", name := "eyes", desc := "(I)I" } : Jvm.MethodName) ({ cls := "OverTheHeads$Row", name := "eyes", desc := "(I)I" } : Jvm.MethodName)) ∈ lw_all := lw_g (lw_at lw_m5 44 rfl) rfl
theorem q1104 : (Jvm.Cond.selects "OverTheHeads$Balcony" ({ cls := "OverTheHeads$Row", name := "low", desc := "()I" } : Jvm.MethodName) ({ cls := "OverTheHeads$Row", name := "low", desc := "()I" } : Jvm.MethodName)) ∈ lw_all := lw_g (lw_at lw_m5 55 rfl) rfl
theorem q1118 : (Jvm.Cond.selects "OverTheHeads$Balcony" ({ cls := "OverTheHeads$Row", name := "heads", desc := "(I)I" } : Jvm.MethodName) ({ cls := "OverTheHeads$Row", name := "heads", desc := "(I)I" } : Jvm.MethodName)) ∈ lw_all := lw_g (lw_at lw_m5 69 rfl) rfl
theorem q1128 : (Jvm.Cond.selects "OverTheHeads$Balcony" ({ cls := "OverTheHeads$Row", name := "isAmong", desc := "()Z" } : Jvm.MethodName) ({ cls := "OverTheHeads$Balcony", name := "isAmong", desc := "()Z" } : Jvm.MethodName)) ∈ lw_all := lw_g (lw_at lw_m5 79 rfl) rfl
theorem q1129 : (Jvm.Cond.instanceMethod ({ cls := "OverTheHeads$Balcony", name := "isAmong", desc := "()Z" } : Jvm.MethodName)) ∈ lw_all := lw_g (lw_at lw_m5 80 rfl) rfl
theorem q1130 : (Jvm.Cond.code ({ cls := "OverTheHeads$Balcony", name := "isAmong", desc := "()Z" } : Jvm.MethodName) prog_2_method_4_code (1 : Nat) (Option.some Jvm.ClassFile.FieldType.boolean)) ∈ lw_all := lw_g (lw_at lw_m5 81 rfl) rfl
theorem q2103 : (Jvm.Cond.castable "OverTheHeads$Balcony" "OverTheHeads$Row") ∈ lw_tbl := lw_at lw_m9 94 rfl
theorem q2109 : (Jvm.Cond.castable "OverTheHeads$Balcony" "OverTheHeads$Raised") ∈ lw_tbl := lw_at lw_m9 100 rfl
theorem q2126 : (Jvm.Cond.castable "OverTheHeads$Balcony" "java/lang/Object") ∈ lw_tbl := lw_at lw_m9 117 rfl
theorem in_X12 : ∀ w ∈ wsX120, w ∈ lw_all := lw_in wsX120 [914, 915, 916, 917, 918, 913, 911] (by decide +kernel) (by decide +kernel)
/-! OverTheHeads$Low -/
set_option maxRecDepth 100000
def RX13 : String := "OverTheHeads$Low"
def TX13 : u_T := fun k => match k with
  | 0 => ("OverTheHeads$Row", "number", "I", true)
  | 1 => ("OverTheHeads$Row", "seats", "I", true)
  | 2 => ("OverTheHeads$Row", "more", "I", true)
  | 3 => ("OverTheHeads$Row", "sits", "[B", true)
  | 4 => ("OverTheHeads$Row", "this$0", "LOverTheHeads;", true)
  | _ => ("OverTheHeads$Low", "this$0", "LOverTheHeads;", true)
def tyX13 : Nat → FieldType := fun k => match k with
  | 0 => .int
  | 1 => .int
  | 2 => .int
  | 3 => .array .byte
  | 4 => .object "OverTheHeads"
  | _ => .object "OverTheHeads"
abbrev wsX130 : List Cond := u_ws RX13 TX13 6
-- two fields of one name: no nmX13
theorem tyX13_ok : ∀ k, k < 6 → parseFieldDescriptor (TX13 k).2.2.1 = some (tyX13 k) := by decide +kernel
abbrev cX13_init : ByteArray := prog_6_method_1_code
def yX13_init : MethodName := ⟨RX13, "<init>", "(LOverTheHeads;III)V"⟩
def dkwX13_init_0 : List UInt8 := [42, 43, 181, 0, 1, 42, 43, 28, 29, 21, 4, 183, 0, 7, 177]
abbrev dktX13_init_0 : List UInt8 := dkwX13_init_0 ++ []
theorem dksX13_init_0 : cX13_init.data.toList.drop 0 = dktX13_init_0 := by decide +kernel
theorem dX13_init_0 : decode cX13_init 0 = .ok (.aload_n 0, 1) := dk_42 (dk_at dksX13_init_0 0 rfl rfl)
theorem dX13_init_1 : decode cX13_init 1 = .ok (.aload_n 1, 1) := dk_43 (dk_at dksX13_init_0 1 rfl rfl)
theorem dX13_init_2 : decode cX13_init 2 = .ok (.putfield 1, 3) := dk_181 0 1 (dk_at dksX13_init_0 2 rfl rfl)
theorem dX13_init_5 : decode cX13_init 5 = .ok (.aload_n 0, 1) := dk_42 (dk_at dksX13_init_0 5 rfl rfl)
theorem dX13_init_6 : decode cX13_init 6 = .ok (.aload_n 1, 1) := dk_43 (dk_at dksX13_init_0 6 rfl rfl)
theorem dX13_init_7 : decode cX13_init 7 = .ok (.iload_n 2, 1) := dk_28 (dk_at dksX13_init_0 7 rfl rfl)
theorem dX13_init_8 : decode cX13_init 8 = .ok (.iload_n 3, 1) := dk_29 (dk_at dksX13_init_0 8 rfl rfl)
theorem dX13_init_9 : decode cX13_init 9 = .ok (.iload 4, 2) := dk_21 4 (dk_at dksX13_init_0 9 rfl rfl)
theorem dX13_init_11 : decode cX13_init 11 = .ok (.invokespecial 7, 3) := dk_183 0 7 (dk_at dksX13_init_0 11 rfl rfl)
theorem dX13_init_14 : decode cX13_init 14 = .ok (.return_, 1) := dk_177 (dk_at dksX13_init_0 14 rfl rfl)
abbrev cX13_kind : ByteArray := prog_6_method_2_code
def yX13_kind : MethodName := ⟨RX13, "kind", "()I"⟩
def dkwX13_kind_0 : List UInt8 := [42, 183, 0, 13, 8, 96, 172]
abbrev dktX13_kind_0 : List UInt8 := dkwX13_kind_0 ++ []
theorem dksX13_kind_0 : cX13_kind.data.toList.drop 0 = dktX13_kind_0 := by decide +kernel
theorem dX13_kind_0 : decode cX13_kind 0 = .ok (.aload_n 0, 1) := dk_42 (dk_at dksX13_kind_0 0 rfl rfl)
theorem dX13_kind_1 : decode cX13_kind 1 = .ok (.invokespecial 13, 3) := dk_183 0 13 (dk_at dksX13_kind_0 1 rfl rfl)
theorem dX13_kind_4 : decode cX13_kind 4 = .ok (.iconst 5, 1) := dk_8 (dk_at dksX13_kind_0 4 rfl rfl)
theorem dX13_kind_5 : decode cX13_kind 5 = .ok (.iadd, 1) := dk_96 (dk_at dksX13_kind_0 5 rfl rfl)
theorem dX13_kind_6 : decode cX13_kind 6 = .ok (.ireturn, 1) := dk_172 (dk_at dksX13_kind_0 6 rfl rfl)
abbrev cX13_low : ByteArray := prog_6_method_3_code
def yX13_low : MethodName := ⟨RX13, "low", "()I"⟩
def dkwX13_low_0 : List UInt8 := [42, 183, 0, 17, 42, 180, 0, 20, 96, 172]
abbrev dktX13_low_0 : List UInt8 := dkwX13_low_0 ++ []
theorem dksX13_low_0 : cX13_low.data.toList.drop 0 = dktX13_low_0 := by decide +kernel
theorem dX13_low_0 : decode cX13_low 0 = .ok (.aload_n 0, 1) := dk_42 (dk_at dksX13_low_0 0 rfl rfl)
theorem dX13_low_1 : decode cX13_low 1 = .ok (.invokespecial 17, 3) := dk_183 0 17 (dk_at dksX13_low_0 1 rfl rfl)
theorem dX13_low_4 : decode cX13_low 4 = .ok (.aload_n 0, 1) := dk_42 (dk_at dksX13_low_0 4 rfl rfl)
theorem dX13_low_5 : decode cX13_low 5 = .ok (.getfield 20, 3) := dk_180 0 20 (dk_at dksX13_low_0 5 rfl rfl)
theorem dX13_low_8 : decode cX13_low 8 = .ok (.iadd, 1) := dk_96 (dk_at dksX13_low_0 8 rfl rfl)
theorem dX13_low_9 : decode cX13_low 9 = .ok (.ireturn, 1) := dk_172 (dk_at dksX13_low_0 9 rfl rfl)
theorem q120 : (Jvm.Cond.initialized "OverTheHeads$Low") ∈ lw_all := lw_g (lw_at lw_m1 31 rfl) rfl
theorem q838 : (Jvm.Cond.fieldLink "OverTheHeads$Low" (20 : Nat) "OverTheHeads$Low" "more" "I") ∈ lw_all := lw_g (lw_at lw_m4 29 rfl) rfl
theorem q839 : (Jvm.Cond.sameField "OverTheHeads$Low" "OverTheHeads$Row" "more" "I") ∈ lw_all := lw_g (lw_at lw_m4 30 rfl) rfl
theorem q921 : (Jvm.Cond.instantiable "OverTheHeads$Low" (6 : Nat)) ∈ lw_all := lw_g (lw_at lw_m4 112 rfl) rfl
theorem q923 : (Jvm.Cond.instanceMethod ({ cls := "OverTheHeads$Low", name := "<init>", desc := "(LOverTheHeads;III)V" } : Jvm.MethodName)) ∈ lw_all := lw_g (lw_at lw_m4 114 rfl) rfl
theorem q924 : (Jvm.Cond.code ({ cls := "OverTheHeads$Low", name := "<init>", desc := "(LOverTheHeads;III)V" } : Jvm.MethodName) prog_6_method_1_code (5 : Nat) (Option.none : Option Jvm.ClassFile.FieldType)) ∈ lw_all := lw_g (lw_at lw_m4 115 rfl) rfl
theorem q925 : (Jvm.Cond.methodLink "OverTheHeads$Low" (7 : Nat) ({ cls := "OverTheHeads$Row", name := "<init>", desc := "(LOverTheHeads;III)V" } : Jvm.MethodName)) ∈ lw_all := lw_g (lw_at lw_m4 116 rfl) rfl
theorem q926 : (Jvm.Cond.fieldLink "OverTheHeads$Low" (1 : Nat) "OverTheHeads$Low" "this$0" "LOverTheHeads;") ∈ lw_all := lw_g (lw_at lw_m4 117 rfl) rfl
theorem q927 : (Jvm.Cond.laysFinal "OverTheHeads$Low" "OverTheHeads$Low" "this$0" "LOverTheHeads;") ∈ lw_all := lw_g (lw_at lw_m4 118 rfl) rfl
theorem q928 : (Jvm.Cond.soleField "OverTheHeads$Low" "this$0") ∈ lw_all := lw_g (lw_at lw_m4 119 rfl) rfl
theorem q929 : (Jvm.Cond.laysFinal "OverTheHeads$Low" "OverTheHeads$Row" "number" "I") ∈ lw_all := lw_g (lw_at lw_m4 120 rfl) rfl
theorem q930 : (Jvm.Cond.laysFinal "OverTheHeads$Low" "OverTheHeads$Row" "seats" "I") ∈ lw_all := lw_g (lw_at lw_m4 121 rfl) rfl
theorem q931 : (Jvm.Cond.laysFinal "OverTheHeads$Low" "OverTheHeads$Row" "more" "I") ∈ lw_all := lw_g (lw_at lw_m4 122 rfl) rfl
theorem q932 : (Jvm.Cond.laysFinal "OverTheHeads$Low" "OverTheHeads$Row" "sits" "[B") ∈ lw_all := lw_g (lw_at lw_m4 123 rfl) rfl
theorem q933 : (Jvm.Cond.laysFinal "OverTheHeads$Low" "OverTheHeads$Row" "this$0" "LOverTheHeads;") ∈ lw_all := lw_g (lw_at lw_m4 124 rfl) rfl
theorem q934 : (Jvm.Cond.superclass "OverTheHeads$Low" "OverTheHeads$Row") ∈ lw_all := lw_g (lw_at lw_m4 125 rfl) rfl
theorem q963 : (Jvm.Cond.selects "OverTheHeads$Low" ({ cls := "java/lang/Object", name := "getClass", desc := "()Ljava/lang/Class;" } : Jvm.MethodName) ({ cls := "java/lang/Object", name := "getClass", desc := "()Ljava/lang/Class;" } : Jvm.MethodName)) ∈ lw_all := lw_g (lw_at lw_m4 154 rfl) rfl
theorem q1035 : (Jvm.Cond.selects "OverTheHeads$Low" ({ cls := "OverTheHeads$Row", name := "kind", desc := "()I" } : Jvm.MethodName) ({ cls := "OverTheHeads$Low", name := "kind", desc := "()I" } : Jvm.MethodName)) ∈ lw_all := lw_g (lw_at lw_m4 226 rfl) rfl
theorem q1036 : (Jvm.Cond.instanceMethod ({ cls := "OverTheHeads$Low", name := "kind", desc := "()I" } : Jvm.MethodName)) ∈ lw_all := lw_g (lw_at lw_m4 227 rfl) rfl
theorem q1037 : (Jvm.Cond.code ({ cls := "OverTheHeads$Low", name := "kind", desc := "()I" } : Jvm.MethodName) prog_6_method_2_code (1 : Nat) (Option.some Jvm.ClassFile.FieldType.int)) ∈ lw_all := lw_g (lw_at lw_m4 228 rfl) rfl
theorem q1038 : (Jvm.Cond.methodLink "OverTheHeads$Low" (13 : Nat) ({ cls := "OverTheHeads$Row", name := "kind", desc := "()I" } : Jvm.MethodName)) ∈ lw_all := lw_g (lw_at lw_m4 229 rfl) rfl
theorem q1054 : (Jvm.Cond.selects "OverTheHeads$Low" ({ cls := "OverTheHeads$Row", name := "place", desc := "(I)I" } : Jvm.MethodName) ({ cls := "OverTheHeads$Row", name := "place", desc := "(I)I" } : Jvm.MethodName)) ∈ lw_all := lw_g (lw_at lw_m5 5 rfl) rfl
theorem q1070 : (Jvm.Cond.selects "OverTheHeads$Low" ({ cls := "OverTheHeads$Row", name := "floor", desc := "()I" } : Jvm.MethodName) ({ cls := "OverTheHeads$Row", name := "floor", desc := "()I" } : Jvm.MethodName)) ∈ lw_all := lw_g (lw_at lw_m5 21 rfl) rfl
theorem q1085 : (Jvm.Cond.selects "OverTheHeads$Low" ({ cls := "OverTheHeads$Row", name := "far", desc := "()I" } : Jvm.MethodName) ({ cls := "OverTheHeads$Row", name := "far", desc := "()I" } : Jvm.MethodName)) ∈ lw_all := lw_g (lw_at lw_m5 36 rfl) rfl
theorem q1095 : (Jvm.Cond.selects "OverTheHeads$Low" ({ cls := "OverTheHeads$Row", name := "eyes", desc := "(I)I" } : Jvm.MethodName) ({ cls := "OverTheHeads$Row", name := "eyes", desc := "(I)I" } : Jvm.MethodName)) ∈ lw_all := lw_g (lw_at lw_m5 46 rfl) rfl
theorem q1106 : (Jvm.Cond.selects "OverTheHeads$Low" ({ cls := "OverTheHeads$Row", name := "low", desc := "()I" } : Jvm.MethodName) ({ cls := "OverTheHeads$Low", name := "low", desc := "()I" } : Jvm.MethodName)) ∈ lw_all := lw_g (lw_at lw_m5 57 rfl) rfl
theorem q1107 : (Jvm.Cond.instanceMethod ({ cls := "OverTheHeads$Low", name := "low", desc := "()I" } : Jvm.MethodName)) ∈ lw_all := lw_g (lw_at lw_m5 58 rfl) rfl
theorem q1108 : (Jvm.Cond.code ({ cls := "OverTheHeads$Low", name := "low", desc := "()I" } : Jvm.MethodName) prog_6_method_3_code (1 : Nat) (Option.some Jvm.ClassFile.FieldType.int)) ∈ lw_all := lw_g (lw_at lw_m5 59 rfl) rfl
theorem q1109 : (Jvm.Cond.methodLink "OverTheHeads$Low" (17 : Nat) ({ cls := "OverTheHeads$Row", name := "low", desc := "()I" } : Jvm.MethodName)) ∈ lw_all := lw_g (lw_at lw_m5 60 rfl) rfl
theorem q1120 : (Jvm.Cond.selects "OverTheHeads$Low" ({ cls := "OverTheHeads$Row", name := "heads", desc := "(I)I" } : Jvm.MethodName) ({ cls := "OverTheHeads$Row", name := "heads", desc := "(I)I" } : Jvm.MethodName)) ∈ lw_all := lw_g (lw_at lw_m5 71 rfl) rfl
theorem q1132 : (Jvm.Cond.selects "OverTheHeads$Low" ({ cls := "OverTheHeads$Row", name := "isAmong", desc := "()Z" } : Jvm.MethodName) ({ cls := "OverTheHeads$Row", name := "isAmong", desc := "()Z" } : Jvm.MethodName)) ∈ lw_all := lw_g (lw_at lw_m5 83 rfl) rfl
theorem q2105 : (Jvm.Cond.castable "OverTheHeads$Low" "OverTheHeads$Row") ∈ lw_tbl := lw_at lw_m9 96 rfl
theorem q2127 : (Jvm.Cond.castable "OverTheHeads$Low" "java/lang/Object") ∈ lw_tbl := lw_at lw_m9 118 rfl
theorem in_X13 : ∀ w ∈ wsX130, w ∈ lw_all := lw_in wsX130 [929, 930, 931, 932, 933, 927] (by decide +kernel) (by decide +kernel)
/-! OverTheHeads$Odd -/
set_option maxRecDepth 100000
def RX14 : String := "OverTheHeads$Odd"
def TX14 : u_T := fun k => match k with
  | 0 => ("java/lang/Throwable", "cause", "Ljava/lang/Throwable;", false)
  | 1 => ("java/lang/Throwable", "stackTrace", "[Ljava/lang/StackTraceElement;", false)
  | 2 => ("java/lang/Throwable", "suppressedExceptions", "Ljava/util/List;", false)
  | 3 => ("java/lang/Throwable", "detailMessage", "Ljava/lang/String;", false)
  | 4 => ("java/lang/Throwable", "backtrace", "Ljava/lang/Object;", false)
  | 5 => ("java/lang/Throwable", "depth", "I", false)
  | _ => ("OverTheHeads$Odd", "code", "I", true)
def tyX14 : Nat → FieldType := fun k => match k with
  | 0 => .object "java/lang/Throwable"
  | 1 => .array (.object "java/lang/StackTraceElement")
  | 2 => .object "java/util/List"
  | 3 => .object "java/lang/String"
  | 4 => .object "java/lang/Object"
  | 5 => .int
  | _ => .int
abbrev wsX140 : List Cond := u_ws RX14 TX14 7
theorem nmX14 : ∀ a, a < 7 → ∀ b, b < 7 → a ≠ b → (TX14 a).2.1 ≠ (TX14 b).2.1 := by decide +kernel
theorem tyX14_ok : ∀ k, k < 7 → parseFieldDescriptor (TX14 k).2.2.1 = some (tyX14 k) := by decide +kernel
abbrev cX14_init : ByteArray := prog_8_method_1_code
def yX14_init : MethodName := ⟨RX14, "<init>", "(I)V"⟩
def dkwX14_init_0 : List UInt8 := [42, 1, 1, 3, 3, 183, 0, 1, 42, 27, 181, 0, 7, 177]
abbrev dktX14_init_0 : List UInt8 := dkwX14_init_0 ++ []
theorem dksX14_init_0 : cX14_init.data.toList.drop 0 = dktX14_init_0 := by decide +kernel
theorem dX14_init_0 : decode cX14_init 0 = .ok (.aload_n 0, 1) := dk_42 (dk_at dksX14_init_0 0 rfl rfl)
theorem dX14_init_1 : decode cX14_init 1 = .ok (.aconst_null, 1) := dk_1 (dk_at dksX14_init_0 1 rfl rfl)
theorem dX14_init_2 : decode cX14_init 2 = .ok (.aconst_null, 1) := dk_1 (dk_at dksX14_init_0 2 rfl rfl)
theorem dX14_init_3 : decode cX14_init 3 = .ok (.iconst 0, 1) := dk_3 (dk_at dksX14_init_0 3 rfl rfl)
theorem dX14_init_4 : decode cX14_init 4 = .ok (.iconst 0, 1) := dk_3 (dk_at dksX14_init_0 4 rfl rfl)
theorem dX14_init_5 : decode cX14_init 5 = .ok (.invokespecial 1, 3) := dk_183 0 1 (dk_at dksX14_init_0 5 rfl rfl)
theorem dX14_init_8 : decode cX14_init 8 = .ok (.aload_n 0, 1) := dk_42 (dk_at dksX14_init_0 8 rfl rfl)
theorem dX14_init_9 : decode cX14_init 9 = .ok (.iload_n 1, 1) := dk_27 (dk_at dksX14_init_0 9 rfl rfl)
theorem dX14_init_10 : decode cX14_init 10 = .ok (.putfield 7, 3) := dk_181 0 7 (dk_at dksX14_init_0 10 rfl rfl)
theorem dX14_init_13 : decode cX14_init 13 = .ok (.return_, 1) := dk_177 (dk_at dksX14_init_0 13 rfl rfl)
theorem q122 : (Jvm.Cond.initialized "OverTheHeads$Odd") ∈ lw_all := lw_g (lw_at lw_m1 33 rfl) rfl
theorem q490 : (Jvm.Cond.selects "OverTheHeads$Odd" ({ cls := "java/lang/Throwable", name := "fillInStackTrace", desc := "()Ljava/lang/Throwable;" } : Jvm.MethodName) ({ cls := "java/lang/Throwable", name := "fillInStackTrace", desc := "()Ljava/lang/Throwable;" } : Jvm.MethodName)) ∈ lw_all := lw_g (lw_at lw_m2 161 rfl) rfl
theorem q964 : (Jvm.Cond.selects "OverTheHeads$Odd" ({ cls := "java/lang/Object", name := "getClass", desc := "()Ljava/lang/Class;" } : Jvm.MethodName) ({ cls := "java/lang/Object", name := "getClass", desc := "()Ljava/lang/Class;" } : Jvm.MethodName)) ∈ lw_all := lw_g (lw_at lw_m4 155 rfl) rfl
theorem q1449 : (Jvm.Cond.instantiable "OverTheHeads$Odd" (7 : Nat)) ∈ lw_all := lw_g (lw_at lw_m6 160 rfl) rfl
theorem q1450 : (Jvm.Cond.castable "OverTheHeads$Odd" "OverTheHeads$Odd") ∈ lw_tbl := lw_at lw_m6 161 rfl
theorem q1451 : (Jvm.Cond.selects "OverTheHeads$Odd" ({ cls := "java/lang/Throwable", name := "fillInStackTrace", desc := "(I)Ljava/lang/Throwable;" } : Jvm.MethodName) ({ cls := "java/lang/Throwable", name := "fillInStackTrace", desc := "(I)Ljava/lang/Throwable;" } : Jvm.MethodName)) ∈ lw_all := lw_g (lw_at lw_m6 162 rfl) rfl
theorem q1452 : (Jvm.Cond.lays "OverTheHeads$Odd" "java/lang/Throwable" "cause" "Ljava/lang/Throwable;") ∈ lw_all := lw_g (lw_at lw_m6 163 rfl) rfl
theorem q1453 : (Jvm.Cond.lays "OverTheHeads$Odd" "java/lang/Throwable" "stackTrace" "[Ljava/lang/StackTraceElement;") ∈ lw_all := lw_g (lw_at lw_m6 164 rfl) rfl
theorem q1454 : (Jvm.Cond.lays "OverTheHeads$Odd" "java/lang/Throwable" "suppressedExceptions" "Ljava/util/List;") ∈ lw_all := lw_g (lw_at lw_m6 165 rfl) rfl
theorem q1455 : (Jvm.Cond.lays "OverTheHeads$Odd" "java/lang/Throwable" "detailMessage" "Ljava/lang/String;") ∈ lw_all := lw_g (lw_at lw_m6 166 rfl) rfl
theorem q1456 : (Jvm.Cond.lays "OverTheHeads$Odd" "java/lang/Throwable" "backtrace" "Ljava/lang/Object;") ∈ lw_all := lw_g (lw_at lw_m6 167 rfl) rfl
theorem q1458 : (Jvm.Cond.instanceMethod ({ cls := "OverTheHeads$Odd", name := "<init>", desc := "(I)V" } : Jvm.MethodName)) ∈ lw_all := lw_g (lw_at lw_m6 169 rfl) rfl
theorem q1459 : (Jvm.Cond.code ({ cls := "OverTheHeads$Odd", name := "<init>", desc := "(I)V" } : Jvm.MethodName) prog_8_method_1_code (2 : Nat) (Option.none : Option Jvm.ClassFile.FieldType)) ∈ lw_all := lw_g (lw_at lw_m6 170 rfl) rfl
theorem q1460 : (Jvm.Cond.methodLink "OverTheHeads$Odd" (1 : Nat) ({ cls := "java/lang/RuntimeException", name := "<init>", desc := "(Ljava/lang/String;Ljava/lang/Throwable;ZZ)V" } : Jvm.MethodName)) ∈ lw_all := lw_g (lw_at lw_m6 171 rfl) rfl
theorem q1461 : (Jvm.Cond.fieldLink "OverTheHeads$Odd" (7 : Nat) "OverTheHeads$Odd" "code" "I") ∈ lw_all := lw_g (lw_at lw_m6 172 rfl) rfl
theorem q1463 : (Jvm.Cond.laysFinal "OverTheHeads$Odd" "OverTheHeads$Odd" "code" "I") ∈ lw_all := lw_g (lw_at lw_m6 174 rfl) rfl
theorem q1464 : (Jvm.Cond.soleField "OverTheHeads$Odd" "code") ∈ lw_all := lw_g (lw_at lw_m6 175 rfl) rfl
theorem q1465 : (Jvm.Cond.lays "OverTheHeads$Odd" "java/lang/Throwable" "depth" "I") ∈ lw_all := lw_g (lw_at lw_m6 176 rfl) rfl
theorem q1466 : (Jvm.Cond.superclass "OverTheHeads$Odd" "java/lang/RuntimeException") ∈ lw_all := lw_g (lw_at lw_m6 177 rfl) rfl
theorem q2128 : (Jvm.Cond.castable "OverTheHeads$Odd" "java/lang/Object") ∈ lw_tbl := lw_at lw_m9 119 rfl
theorem in_X14 : ∀ w ∈ wsX140, w ∈ lw_all := lw_in wsX140 [1452, 1453, 1454, 1455, 1456, 1465, 1463] (by decide +kernel) (by decide +kernel)
/-! OverTheHeads$Slot -/
set_option maxRecDepth 100000
def RX15 : String := "OverTheHeads$Slot"
def TX15 : u_T := fun k => match k with
  | _ => ("OverTheHeads$Slot", "thing", "Ljava/lang/Object;", true)
def tyX15 : Nat → FieldType := fun k => match k with
  | _ => .object "java/lang/Object"
abbrev wsX150 : List Cond := u_ws RX15 TX15 1
theorem nmX15 : ∀ a, a < 1 → ∀ b, b < 1 → a ≠ b → (TX15 a).2.1 ≠ (TX15 b).2.1 := by decide +kernel
theorem tyX15_ok : ∀ k, k < 1 → parseFieldDescriptor (TX15 k).2.2.1 = some (tyX15 k) := by decide +kernel
abbrev cX15_init : ByteArray := prog_16_method_1_code
def yX15_init : MethodName := ⟨RX15, "<init>", "(Ljava/lang/Object;)V"⟩
def dkwX15_init_0 : List UInt8 := [42, 183, 0, 1, 42, 43, 181, 0, 7, 177]
abbrev dktX15_init_0 : List UInt8 := dkwX15_init_0 ++ []
theorem dksX15_init_0 : cX15_init.data.toList.drop 0 = dktX15_init_0 := by decide +kernel
theorem dX15_init_0 : decode cX15_init 0 = .ok (.aload_n 0, 1) := dk_42 (dk_at dksX15_init_0 0 rfl rfl)
theorem dX15_init_1 : decode cX15_init 1 = .ok (.invokespecial 1, 3) := dk_183 0 1 (dk_at dksX15_init_0 1 rfl rfl)
theorem dX15_init_4 : decode cX15_init 4 = .ok (.aload_n 0, 1) := dk_42 (dk_at dksX15_init_0 4 rfl rfl)
theorem dX15_init_5 : decode cX15_init 5 = .ok (.aload_n 1, 1) := dk_43 (dk_at dksX15_init_0 5 rfl rfl)
theorem dX15_init_6 : decode cX15_init 6 = .ok (.putfield 7, 3) := dk_181 0 7 (dk_at dksX15_init_0 6 rfl rfl)
theorem dX15_init_9 : decode cX15_init 9 = .ok (.return_, 1) := dk_177 (dk_at dksX15_init_0 9 rfl rfl)
abbrev cX15_high : ByteArray := prog_16_method_3_code
def yX15_high : MethodName := ⟨RX15, "high", "()I"⟩
def dkwX15_high_1 : List UInt8 := [89, 16, 243, 183, 0, 17, 191]
abbrev dktX15_high_1 : List UInt8 := dkwX15_high_1 ++ []
def dkwX15_high_0 : List UInt8 := [42, 180, 0, 7, 193, 0, 20, 153, 0, 14, 42, 180, 0, 7, 192, 0, 20, 182, 0, 22, 172, 187, 0, 15]
abbrev dktX15_high_0 : List UInt8 := dkwX15_high_0 ++ dktX15_high_1
theorem dksX15_high_0 : cX15_high.data.toList.drop 0 = dktX15_high_0 := by decide +kernel
theorem dksX15_high_1 : cX15_high.data.toList.drop 24 = dktX15_high_1 := dk_seg dksX15_high_0 24 rfl rfl
theorem dX15_high_0 : decode cX15_high 0 = .ok (.aload_n 0, 1) := dk_42 (dk_at dksX15_high_0 0 rfl rfl)
theorem dX15_high_1 : decode cX15_high 1 = .ok (.getfield 7, 3) := dk_180 0 7 (dk_at dksX15_high_0 1 rfl rfl)
theorem dX15_high_4 : decode cX15_high 4 = .ok (.instanceof 20, 3) := dk_193 0 20 (dk_at dksX15_high_0 4 rfl rfl)
theorem dX15_high_7 : decode cX15_high 7 = .ok (.ifCond .eq 14, 3) := dk_153 0 14 (dk_at dksX15_high_0 7 rfl rfl)
theorem dX15_high_10 : decode cX15_high 10 = .ok (.aload_n 0, 1) := dk_42 (dk_at dksX15_high_0 10 rfl rfl)
theorem dX15_high_11 : decode cX15_high 11 = .ok (.getfield 7, 3) := dk_180 0 7 (dk_at dksX15_high_0 11 rfl rfl)
theorem dX15_high_14 : decode cX15_high 14 = .ok (.checkcast 20, 3) := dk_192 0 20 (dk_at dksX15_high_0 14 rfl rfl)
theorem dX15_high_17 : decode cX15_high 17 = .ok (.invokevirtual 22, 3) := dk_182 0 22 (dk_at dksX15_high_0 17 rfl rfl)
theorem dX15_high_20 : decode cX15_high 20 = .ok (.ireturn, 1) := dk_172 (dk_at dksX15_high_0 20 rfl rfl)
theorem dX15_high_21 : decode cX15_high 21 = .ok (.new 15, 3) := dk_187 0 15 (dk_at dksX15_high_0 21 rfl rfl)
theorem dX15_high_24 : decode cX15_high 24 = .ok (.dup, 1) := dk_89 (dk_at dksX15_high_1 0 rfl rfl)
theorem dX15_high_25 : decode cX15_high 25 = .ok (.bipush (-13), 2) := dk_16 243 (dk_at dksX15_high_1 1 rfl rfl)
theorem dX15_high_27 : decode cX15_high 27 = .ok (.invokespecial 17, 3) := dk_183 0 17 (dk_at dksX15_high_1 3 rfl rfl)
theorem dX15_high_30 : decode cX15_high 30 = .ok (.athrow, 1) := dk_191 (dk_at dksX15_high_1 6 rfl rfl)
abbrev cX15_row : ByteArray := prog_16_method_2_code
def yX15_row : MethodName := ⟨RX15, "row", "()LOverTheHeads$Row;"⟩
def dkwX15_row_1 : List UInt8 := [183, 0, 17, 191]
abbrev dktX15_row_1 : List UInt8 := dkwX15_row_1 ++ []
def dkwX15_row_0 : List UInt8 := [42, 180, 0, 7, 193, 0, 13, 153, 0, 11, 42, 180, 0, 7, 192, 0, 13, 176, 187, 0, 15, 89, 16, 243]
abbrev dktX15_row_0 : List UInt8 := dkwX15_row_0 ++ dktX15_row_1
theorem dksX15_row_0 : cX15_row.data.toList.drop 0 = dktX15_row_0 := by decide +kernel
theorem dksX15_row_1 : cX15_row.data.toList.drop 24 = dktX15_row_1 := dk_seg dksX15_row_0 24 rfl rfl
theorem dX15_row_0 : decode cX15_row 0 = .ok (.aload_n 0, 1) := dk_42 (dk_at dksX15_row_0 0 rfl rfl)
theorem dX15_row_1 : decode cX15_row 1 = .ok (.getfield 7, 3) := dk_180 0 7 (dk_at dksX15_row_0 1 rfl rfl)
theorem dX15_row_4 : decode cX15_row 4 = .ok (.instanceof 13, 3) := dk_193 0 13 (dk_at dksX15_row_0 4 rfl rfl)
theorem dX15_row_7 : decode cX15_row 7 = .ok (.ifCond .eq 11, 3) := dk_153 0 11 (dk_at dksX15_row_0 7 rfl rfl)
theorem dX15_row_10 : decode cX15_row 10 = .ok (.aload_n 0, 1) := dk_42 (dk_at dksX15_row_0 10 rfl rfl)
theorem dX15_row_11 : decode cX15_row 11 = .ok (.getfield 7, 3) := dk_180 0 7 (dk_at dksX15_row_0 11 rfl rfl)
theorem dX15_row_14 : decode cX15_row 14 = .ok (.checkcast 13, 3) := dk_192 0 13 (dk_at dksX15_row_0 14 rfl rfl)
theorem dX15_row_17 : decode cX15_row 17 = .ok (.areturn, 1) := dk_176 (dk_at dksX15_row_0 17 rfl rfl)
theorem dX15_row_18 : decode cX15_row 18 = .ok (.new 15, 3) := dk_187 0 15 (dk_at dksX15_row_0 18 rfl rfl)
theorem dX15_row_21 : decode cX15_row 21 = .ok (.dup, 1) := dk_89 (dk_at dksX15_row_0 21 rfl rfl)
theorem dX15_row_22 : decode cX15_row 22 = .ok (.bipush (-13), 2) := dk_16 243 (dk_at dksX15_row_0 22 rfl rfl)
theorem dX15_row_24 : decode cX15_row 24 = .ok (.invokespecial 17, 3) := dk_183 0 17 (dk_at dksX15_row_1 0 rfl rfl)
theorem dX15_row_27 : decode cX15_row 27 = .ok (.athrow, 1) := dk_191 (dk_at dksX15_row_1 3 rfl rfl)
theorem q123 : (Jvm.Cond.initialized "OverTheHeads$Slot") ∈ lw_all := lw_g (lw_at lw_m1 34 rfl) rfl
theorem q971 : (Jvm.Cond.selects "OverTheHeads$Slot" ({ cls := "java/lang/Object", name := "getClass", desc := "()Ljava/lang/Class;" } : Jvm.MethodName) ({ cls := "java/lang/Object", name := "getClass", desc := "()Ljava/lang/Class;" } : Jvm.MethodName)) ∈ lw_all := lw_g (lw_at lw_m4 162 rfl) rfl
theorem q1490 : (Jvm.Cond.instantiable "OverTheHeads$Slot" (1 : Nat)) ∈ lw_all := lw_g (lw_at lw_m6 201 rfl) rfl
theorem q1497 : (Jvm.Cond.instanceMethod ({ cls := "OverTheHeads$Slot", name := "<init>", desc := "(Ljava/lang/Object;)V" } : Jvm.MethodName)) ∈ lw_all := lw_g (lw_at lw_m6 208 rfl) rfl
theorem q1498 : (Jvm.Cond.code ({ cls := "OverTheHeads$Slot", name := "<init>", desc := "(Ljava/lang/Object;)V" } : Jvm.MethodName) prog_16_method_1_code (2 : Nat) (Option.none : Option Jvm.ClassFile.FieldType)) ∈ lw_all := lw_g (lw_at lw_m6 209 rfl) rfl
theorem q1499 : (Jvm.Cond.methodLink "OverTheHeads$Slot" (1 : Nat) ({ cls := "java/lang/Object", name := "<init>", desc := "()V" } : Jvm.MethodName)) ∈ lw_all := lw_g (lw_at lw_m6 210 rfl) rfl
theorem q1500 : (Jvm.Cond.fieldLink "OverTheHeads$Slot" (7 : Nat) "OverTheHeads$Slot" "thing" "Ljava/lang/Object;") ∈ lw_all := lw_g (lw_at lw_m6 211 rfl) rfl
theorem q1501 : (Jvm.Cond.laysFinal "OverTheHeads$Slot" "OverTheHeads$Slot" "thing" "Ljava/lang/Object;") ∈ lw_all := lw_g (lw_at lw_m6 212 rfl) rfl
theorem q1502 : (Jvm.Cond.soleField "OverTheHeads$Slot" "thing") ∈ lw_all := lw_g (lw_at lw_m6 213 rfl) rfl
theorem q1503 : (Jvm.Cond.superclass "OverTheHeads$Slot" "java/lang/Object") ∈ lw_all := lw_g (lw_at lw_m6 214 rfl) rfl
theorem q1505 : (Jvm.Cond.instanceMethod ({ cls := "OverTheHeads$Slot", name := "high", desc := "()I" } : Jvm.MethodName)) ∈ lw_all := lw_g (lw_at lw_m6 216 rfl) rfl
theorem q1506 : (Jvm.Cond.selects "OverTheHeads$Slot" ({ cls := "OverTheHeads$Slot", name := "high", desc := "()I" } : Jvm.MethodName) ({ cls := "OverTheHeads$Slot", name := "high", desc := "()I" } : Jvm.MethodName)) ∈ lw_all := lw_g (lw_at lw_m6 217 rfl) rfl
theorem q1507 : (Jvm.Cond.code ({ cls := "OverTheHeads$Slot", name := "high", desc := "()I" } : Jvm.MethodName) prog_16_method_3_code (1 : Nat) (Option.some Jvm.ClassFile.FieldType.int)) ∈ lw_all := lw_g (lw_at lw_m6 218 rfl) rfl
theorem q1508 : (Jvm.Cond.classLink "OverTheHeads$Slot" (20 : Nat) "java/lang/Byte") ∈ lw_all := lw_g (lw_at lw_m6 219 rfl) rfl
theorem q1509 : (Jvm.Cond.methodLink "OverTheHeads$Slot" (22 : Nat) ({ cls := "java/lang/Byte", name := "byteValue", desc := "()B" } : Jvm.MethodName)) ∈ lw_all := lw_g (lw_at lw_m6 220 rfl) rfl
theorem q1513 : (Jvm.Cond.classLink "OverTheHeads$Slot" (15 : Nat) "OverTheHeads$Odd") ∈ lw_all := lw_g (lw_at lw_m6 224 rfl) rfl
theorem q1514 : (Jvm.Cond.methodLink "OverTheHeads$Slot" (17 : Nat) ({ cls := "OverTheHeads$Odd", name := "<init>", desc := "(I)V" } : Jvm.MethodName)) ∈ lw_all := lw_g (lw_at lw_m6 225 rfl) rfl
theorem q1516 : (Jvm.Cond.instanceMethod ({ cls := "OverTheHeads$Slot", name := "row", desc := "()LOverTheHeads$Row;" } : Jvm.MethodName)) ∈ lw_all := lw_g (lw_at lw_m6 227 rfl) rfl
theorem q1517 : (Jvm.Cond.selects "OverTheHeads$Slot" ({ cls := "OverTheHeads$Slot", name := "row", desc := "()LOverTheHeads$Row;" } : Jvm.MethodName) ({ cls := "OverTheHeads$Slot", name := "row", desc := "()LOverTheHeads$Row;" } : Jvm.MethodName)) ∈ lw_all := lw_g (lw_at lw_m6 228 rfl) rfl
theorem q1518 : (Jvm.Cond.code ({ cls := "OverTheHeads$Slot", name := "row", desc := "()LOverTheHeads$Row;" } : Jvm.MethodName) prog_16_method_2_code (1 : Nat) (Option.some (Jvm.ClassFile.FieldType.object "OverTheHeads$Row"))) ∈ lw_all := lw_g (lw_at lw_m6 229 rfl) rfl
theorem q1519 : (Jvm.Cond.classLink "OverTheHeads$Slot" (13 : Nat) "OverTheHeads$Row") ∈ lw_all := lw_g (lw_at lw_m6 230 rfl) rfl
theorem q2129 : (Jvm.Cond.castable "OverTheHeads$Slot" "java/lang/Object") ∈ lw_tbl := lw_at lw_m9 120 rfl
theorem in_X15 : ∀ w ∈ wsX150, w ∈ lw_all := lw_in wsX150 [1501] (by decide +kernel) (by decide +kernel)
/-! OverTheHeads$Reader -/
set_option maxRecDepth 100000
def RX2 : String := "OverTheHeads$Reader"
def TX2 : u_T := fun k => match k with
  | 0 => ("OverTheHeads$Reader", "text", "[B", true)
  | 1 => ("OverTheHeads$Reader", "size", "I", true)
  | 2 => ("OverTheHeads$Reader", "at", "I", false)
  | 3 => ("OverTheHeads$Reader", "from", "I", false)
  | 4 => ("OverTheHeads$Reader", "open", "I", false)
  | 5 => ("OverTheHeads$Reader", "word", "Ljava/lang/String;", false)
  | 6 => ("OverTheHeads$Reader", "number", "I", false)
  | _ => ("OverTheHeads$Reader", "sign", "I", false)
def tyX2 : Nat → FieldType := fun k => match k with
  | 0 => .array .byte
  | 1 => .int
  | 2 => .int
  | 3 => .int
  | 4 => .int
  | 5 => .object "java/lang/String"
  | 6 => .int
  | _ => .int
abbrev wsX20 : List Cond := u_ws RX2 TX2 8
theorem nmX2 : ∀ a, a < 8 → ∀ b, b < 8 → a ≠ b → (TX2 a).2.1 ≠ (TX2 b).2.1 := by decide +kernel
theorem tyX2_ok : ∀ k, k < 8 → parseFieldDescriptor (TX2 k).2.2.1 = some (tyX2 k) := by decide +kernel
abbrev cX2_init : ByteArray := prog_11_method_1_code
def yX2_init : MethodName := ⟨RX2, "<init>", "([BI)V"⟩
def dkwX2_init_1 : List UInt8 := [42, 28, 181, 0, 25, 177]
abbrev dktX2_init_1 : List UInt8 := dkwX2_init_1 ++ []
def dkwX2_init_0 : List UInt8 := [42, 183, 0, 3, 42, 3, 181, 0, 9, 42, 3, 181, 0, 15, 42, 3, 181, 0, 18, 42, 43, 181, 0, 21]
abbrev dktX2_init_0 : List UInt8 := dkwX2_init_0 ++ dktX2_init_1
theorem dksX2_init_0 : cX2_init.data.toList.drop 0 = dktX2_init_0 := by decide +kernel
theorem dksX2_init_1 : cX2_init.data.toList.drop 24 = dktX2_init_1 := dk_seg dksX2_init_0 24 rfl rfl
theorem dX2_init_0 : decode cX2_init 0 = .ok (.aload_n 0, 1) := dk_42 (dk_at dksX2_init_0 0 rfl rfl)
theorem dX2_init_1 : decode cX2_init 1 = .ok (.invokespecial 3, 3) := dk_183 0 3 (dk_at dksX2_init_0 1 rfl rfl)
theorem dX2_init_4 : decode cX2_init 4 = .ok (.aload_n 0, 1) := dk_42 (dk_at dksX2_init_0 4 rfl rfl)
theorem dX2_init_5 : decode cX2_init 5 = .ok (.iconst 0, 1) := dk_3 (dk_at dksX2_init_0 5 rfl rfl)
theorem dX2_init_6 : decode cX2_init 6 = .ok (.putfield 9, 3) := dk_181 0 9 (dk_at dksX2_init_0 6 rfl rfl)
theorem dX2_init_9 : decode cX2_init 9 = .ok (.aload_n 0, 1) := dk_42 (dk_at dksX2_init_0 9 rfl rfl)
theorem dX2_init_10 : decode cX2_init 10 = .ok (.iconst 0, 1) := dk_3 (dk_at dksX2_init_0 10 rfl rfl)
theorem dX2_init_11 : decode cX2_init 11 = .ok (.putfield 15, 3) := dk_181 0 15 (dk_at dksX2_init_0 11 rfl rfl)
theorem dX2_init_14 : decode cX2_init 14 = .ok (.aload_n 0, 1) := dk_42 (dk_at dksX2_init_0 14 rfl rfl)
theorem dX2_init_15 : decode cX2_init 15 = .ok (.iconst 0, 1) := dk_3 (dk_at dksX2_init_0 15 rfl rfl)
theorem dX2_init_16 : decode cX2_init 16 = .ok (.putfield 18, 3) := dk_181 0 18 (dk_at dksX2_init_0 16 rfl rfl)
theorem dX2_init_19 : decode cX2_init 19 = .ok (.aload_n 0, 1) := dk_42 (dk_at dksX2_init_0 19 rfl rfl)
theorem dX2_init_20 : decode cX2_init 20 = .ok (.aload_n 1, 1) := dk_43 (dk_at dksX2_init_0 20 rfl rfl)
theorem dX2_init_21 : decode cX2_init 21 = .ok (.putfield 21, 3) := dk_181 0 21 (dk_at dksX2_init_0 21 rfl rfl)
theorem dX2_init_24 : decode cX2_init 24 = .ok (.aload_n 0, 1) := dk_42 (dk_at dksX2_init_1 0 rfl rfl)
theorem dX2_init_25 : decode cX2_init 25 = .ok (.iload_n 2, 1) := dk_28 (dk_at dksX2_init_1 1 rfl rfl)
theorem dX2_init_26 : decode cX2_init 26 = .ok (.putfield 25, 3) := dk_181 0 25 (dk_at dksX2_init_1 2 rfl rfl)
theorem dX2_init_29 : decode cX2_init 29 = .ok (.return_, 1) := dk_177 (dk_at dksX2_init_1 5 rfl rfl)
abbrev cX2_parts : ByteArray := prog_11_method_14_code
def yX2_parts : MethodName := ⟨RX2, "parts", "()[LOverTheHeads$Node;"⟩
def dkwX2_parts_4 : List UInt8 := [42, 180, 0, 41, 2, 160, 0, 11, 42, 180, 0, 44, 2, 159, 0, 8, 42, 182, 0, 73, 191, 43, 176]
abbrev dktX2_parts_4 : List UInt8 := dkwX2_parts_4 ++ []
def dkwX2_parts_3 : List UInt8 := [132, 2, 1, 167, 255, 199, 42, 180, 0, 9, 42, 180, 0, 25, 161, 0, 26, 42, 180, 0, 37, 199, 0, 19]
abbrev dktX2_parts_3 : List UInt8 := dkwX2_parts_3 ++ dktX2_parts_4
def dkwX2_parts_2 : List UInt8 := [182, 0, 104, 83, 42, 180, 0, 44, 16, 59, 159, 0, 8, 42, 182, 0, 73, 191, 42, 182, 0, 89]
abbrev dktX2_parts_2 : List UInt8 := dkwX2_parts_2 ++ dktX2_parts_3
def dkwX2_parts_1 : List UInt8 := [178, 0, 146, 28, 50, 182, 0, 116, 154, 0, 8, 42, 182, 0, 73, 191, 42, 182, 0, 89, 43, 28, 42]
abbrev dktX2_parts_1 : List UInt8 := dkwX2_parts_1 ++ dktX2_parts_2
def dkwX2_parts_0 : List UInt8 := [178, 0, 146, 190, 189, 0, 149, 76, 42, 182, 0, 89, 3, 61, 28, 178, 0, 146, 190, 162, 0, 55, 42]
abbrev dktX2_parts_0 : List UInt8 := dkwX2_parts_0 ++ dktX2_parts_1
theorem dksX2_parts_0 : cX2_parts.data.toList.drop 0 = dktX2_parts_0 := by decide +kernel
theorem dksX2_parts_1 : cX2_parts.data.toList.drop 23 = dktX2_parts_1 := dk_seg dksX2_parts_0 23 rfl rfl
theorem dksX2_parts_2 : cX2_parts.data.toList.drop 46 = dktX2_parts_2 := dk_seg dksX2_parts_1 23 rfl rfl
theorem dksX2_parts_3 : cX2_parts.data.toList.drop 68 = dktX2_parts_3 := dk_seg dksX2_parts_2 22 rfl rfl
theorem dksX2_parts_4 : cX2_parts.data.toList.drop 92 = dktX2_parts_4 := dk_seg dksX2_parts_3 24 rfl rfl
theorem dX2_parts_0 : decode cX2_parts 0 = .ok (.getstatic 146, 3) := dk_178 0 146 (dk_at dksX2_parts_0 0 rfl rfl)
theorem dX2_parts_3 : decode cX2_parts 3 = .ok (.arraylength, 1) := dk_190 (dk_at dksX2_parts_0 3 rfl rfl)
theorem dX2_parts_4 : decode cX2_parts 4 = .ok (.anewarray 149, 3) := dk_189 0 149 (dk_at dksX2_parts_0 4 rfl rfl)
theorem dX2_parts_7 : decode cX2_parts 7 = .ok (.astore_n 1, 1) := dk_76 (dk_at dksX2_parts_0 7 rfl rfl)
theorem dX2_parts_8 : decode cX2_parts 8 = .ok (.aload_n 0, 1) := dk_42 (dk_at dksX2_parts_0 8 rfl rfl)
theorem dX2_parts_9 : decode cX2_parts 9 = .ok (.invokevirtual 89, 3) := dk_182 0 89 (dk_at dksX2_parts_0 9 rfl rfl)
theorem dX2_parts_12 : decode cX2_parts 12 = .ok (.iconst 0, 1) := dk_3 (dk_at dksX2_parts_0 12 rfl rfl)
theorem dX2_parts_13 : decode cX2_parts 13 = .ok (.istore_n 2, 1) := dk_61 (dk_at dksX2_parts_0 13 rfl rfl)
theorem dX2_parts_14 : decode cX2_parts 14 = .ok (.iload_n 2, 1) := dk_28 (dk_at dksX2_parts_0 14 rfl rfl)
theorem dX2_parts_15 : decode cX2_parts 15 = .ok (.getstatic 146, 3) := dk_178 0 146 (dk_at dksX2_parts_0 15 rfl rfl)
theorem dX2_parts_18 : decode cX2_parts 18 = .ok (.arraylength, 1) := dk_190 (dk_at dksX2_parts_0 18 rfl rfl)
theorem dX2_parts_19 : decode cX2_parts 19 = .ok (.if_icmp .ge 55, 3) := dk_162 0 55 (dk_at dksX2_parts_0 19 rfl rfl)
theorem dX2_parts_22 : decode cX2_parts 22 = .ok (.aload_n 0, 1) := dk_42 (dk_at dksX2_parts_0 22 rfl rfl)
theorem dX2_parts_23 : decode cX2_parts 23 = .ok (.getstatic 146, 3) := dk_178 0 146 (dk_at dksX2_parts_1 0 rfl rfl)
theorem dX2_parts_26 : decode cX2_parts 26 = .ok (.iload_n 2, 1) := dk_28 (dk_at dksX2_parts_1 3 rfl rfl)
theorem dX2_parts_27 : decode cX2_parts 27 = .ok (.aaload, 1) := dk_50 (dk_at dksX2_parts_1 4 rfl rfl)
theorem dX2_parts_28 : decode cX2_parts 28 = .ok (.invokevirtual 116, 3) := dk_182 0 116 (dk_at dksX2_parts_1 5 rfl rfl)
theorem dX2_parts_31 : decode cX2_parts 31 = .ok (.ifCond .ne 8, 3) := dk_154 0 8 (dk_at dksX2_parts_1 8 rfl rfl)
theorem dX2_parts_34 : decode cX2_parts 34 = .ok (.aload_n 0, 1) := dk_42 (dk_at dksX2_parts_1 11 rfl rfl)
theorem dX2_parts_35 : decode cX2_parts 35 = .ok (.invokevirtual 73, 3) := dk_182 0 73 (dk_at dksX2_parts_1 12 rfl rfl)
theorem dX2_parts_38 : decode cX2_parts 38 = .ok (.athrow, 1) := dk_191 (dk_at dksX2_parts_1 15 rfl rfl)
theorem dX2_parts_39 : decode cX2_parts 39 = .ok (.aload_n 0, 1) := dk_42 (dk_at dksX2_parts_1 16 rfl rfl)
theorem dX2_parts_40 : decode cX2_parts 40 = .ok (.invokevirtual 89, 3) := dk_182 0 89 (dk_at dksX2_parts_1 17 rfl rfl)
theorem dX2_parts_43 : decode cX2_parts 43 = .ok (.aload_n 1, 1) := dk_43 (dk_at dksX2_parts_1 20 rfl rfl)
theorem dX2_parts_44 : decode cX2_parts 44 = .ok (.iload_n 2, 1) := dk_28 (dk_at dksX2_parts_1 21 rfl rfl)
theorem dX2_parts_45 : decode cX2_parts 45 = .ok (.aload_n 0, 1) := dk_42 (dk_at dksX2_parts_1 22 rfl rfl)
theorem dX2_parts_46 : decode cX2_parts 46 = .ok (.invokevirtual 104, 3) := dk_182 0 104 (dk_at dksX2_parts_2 0 rfl rfl)
theorem dX2_parts_49 : decode cX2_parts 49 = .ok (.aastore, 1) := dk_83 (dk_at dksX2_parts_2 3 rfl rfl)
theorem dX2_parts_50 : decode cX2_parts 50 = .ok (.aload_n 0, 1) := dk_42 (dk_at dksX2_parts_2 4 rfl rfl)
theorem dX2_parts_51 : decode cX2_parts 51 = .ok (.getfield 44, 3) := dk_180 0 44 (dk_at dksX2_parts_2 5 rfl rfl)
theorem dX2_parts_54 : decode cX2_parts 54 = .ok (.bipush 59, 2) := dk_16 59 (dk_at dksX2_parts_2 8 rfl rfl)
theorem dX2_parts_56 : decode cX2_parts 56 = .ok (.if_icmp .eq 8, 3) := dk_159 0 8 (dk_at dksX2_parts_2 10 rfl rfl)
theorem dX2_parts_59 : decode cX2_parts 59 = .ok (.aload_n 0, 1) := dk_42 (dk_at dksX2_parts_2 13 rfl rfl)
theorem dX2_parts_60 : decode cX2_parts 60 = .ok (.invokevirtual 73, 3) := dk_182 0 73 (dk_at dksX2_parts_2 14 rfl rfl)
theorem dX2_parts_63 : decode cX2_parts 63 = .ok (.athrow, 1) := dk_191 (dk_at dksX2_parts_2 17 rfl rfl)
theorem dX2_parts_64 : decode cX2_parts 64 = .ok (.aload_n 0, 1) := dk_42 (dk_at dksX2_parts_2 18 rfl rfl)
theorem dX2_parts_65 : decode cX2_parts 65 = .ok (.invokevirtual 89, 3) := dk_182 0 89 (dk_at dksX2_parts_2 19 rfl rfl)
theorem dX2_parts_68 : decode cX2_parts 68 = .ok (.iinc 2 1, 3) := dk_132 2 1 (dk_at dksX2_parts_3 0 rfl rfl)
theorem dX2_parts_71 : decode cX2_parts 71 = .ok (.goto (-57), 3) := dk_167 255 199 (dk_at dksX2_parts_3 3 rfl rfl)
theorem dX2_parts_74 : decode cX2_parts 74 = .ok (.aload_n 0, 1) := dk_42 (dk_at dksX2_parts_3 6 rfl rfl)
theorem dX2_parts_75 : decode cX2_parts 75 = .ok (.getfield 9, 3) := dk_180 0 9 (dk_at dksX2_parts_3 7 rfl rfl)
theorem dX2_parts_78 : decode cX2_parts 78 = .ok (.aload_n 0, 1) := dk_42 (dk_at dksX2_parts_3 10 rfl rfl)
theorem dX2_parts_79 : decode cX2_parts 79 = .ok (.getfield 25, 3) := dk_180 0 25 (dk_at dksX2_parts_3 11 rfl rfl)
theorem dX2_parts_82 : decode cX2_parts 82 = .ok (.if_icmp .lt 26, 3) := dk_161 0 26 (dk_at dksX2_parts_3 14 rfl rfl)
theorem dX2_parts_85 : decode cX2_parts 85 = .ok (.aload_n 0, 1) := dk_42 (dk_at dksX2_parts_3 17 rfl rfl)
theorem dX2_parts_86 : decode cX2_parts 86 = .ok (.getfield 37, 3) := dk_180 0 37 (dk_at dksX2_parts_3 18 rfl rfl)
theorem dX2_parts_89 : decode cX2_parts 89 = .ok (.ifnonnull 19, 3) := dk_199 0 19 (dk_at dksX2_parts_3 21 rfl rfl)
theorem dX2_parts_92 : decode cX2_parts 92 = .ok (.aload_n 0, 1) := dk_42 (dk_at dksX2_parts_4 0 rfl rfl)
theorem dX2_parts_93 : decode cX2_parts 93 = .ok (.getfield 41, 3) := dk_180 0 41 (dk_at dksX2_parts_4 1 rfl rfl)
theorem dX2_parts_96 : decode cX2_parts 96 = .ok (.iconst (-1), 1) := dk_2 (dk_at dksX2_parts_4 4 rfl rfl)
theorem dX2_parts_97 : decode cX2_parts 97 = .ok (.if_icmp .ne 11, 3) := dk_160 0 11 (dk_at dksX2_parts_4 5 rfl rfl)
theorem dX2_parts_100 : decode cX2_parts 100 = .ok (.aload_n 0, 1) := dk_42 (dk_at dksX2_parts_4 8 rfl rfl)
theorem dX2_parts_101 : decode cX2_parts 101 = .ok (.getfield 44, 3) := dk_180 0 44 (dk_at dksX2_parts_4 9 rfl rfl)
theorem dX2_parts_104 : decode cX2_parts 104 = .ok (.iconst (-1), 1) := dk_2 (dk_at dksX2_parts_4 12 rfl rfl)
theorem dX2_parts_105 : decode cX2_parts 105 = .ok (.if_icmp .eq 8, 3) := dk_159 0 8 (dk_at dksX2_parts_4 13 rfl rfl)
theorem dX2_parts_108 : decode cX2_parts 108 = .ok (.aload_n 0, 1) := dk_42 (dk_at dksX2_parts_4 16 rfl rfl)
theorem dX2_parts_109 : decode cX2_parts 109 = .ok (.invokevirtual 73, 3) := dk_182 0 73 (dk_at dksX2_parts_4 17 rfl rfl)
theorem dX2_parts_112 : decode cX2_parts 112 = .ok (.athrow, 1) := dk_191 (dk_at dksX2_parts_4 20 rfl rfl)
theorem dX2_parts_113 : decode cX2_parts 113 = .ok (.aload_n 1, 1) := dk_43 (dk_at dksX2_parts_4 21 rfl rfl)
theorem dX2_parts_114 : decode cX2_parts 114 = .ok (.areturn, 1) := dk_176 (dk_at dksX2_parts_4 22 rfl rfl)
abbrev cX2_next : ByteArray := prog_11_method_4_code
def yX2_next : MethodName := ⟨RX2, "next", "()V"⟩
def dkwX2_next_12 : List UInt8 := [180, 0, 9, 4, 96, 181, 0, 9, 177]
abbrev dktX2_next_12 : List UInt8 := dkwX2_next_12 ++ []
def dkwX2_next_11 : List UInt8 := [181, 0, 44, 18, 77, 42, 180, 0, 44, 182, 0, 79, 156, 0, 8, 42, 182, 0, 73, 191, 42, 89]
abbrev dktX2_next_11 : List UInt8 := dkwX2_next_11 ++ dktX2_next_12
def dkwX2_next_10 : List UInt8 := [182, 0, 73, 191, 167, 0, 49, 42, 180, 0, 9, 42, 180, 0, 25, 162, 0, 38, 42, 42, 182, 0, 33]
abbrev dktX2_next_10 : List UInt8 := dkwX2_next_10 ++ dktX2_next_11
def dkwX2_next_9 : List UInt8 := [132, 1, 1, 42, 89, 180, 0, 9, 4, 96, 181, 0, 9, 167, 255, 202, 27, 7, 164, 0, 8, 42]
abbrev dktX2_next_9 : List UInt8 := dkwX2_next_9 ++ dktX2_next_10
def dkwX2_next_8 : List UInt8 := [162, 0, 22, 42, 16, 10, 42, 180, 0, 41, 104, 42, 182, 0, 33, 96, 16, 48, 100, 181, 0, 41]
abbrev dktX2_next_8 : List UInt8 := dkwX2_next_8 ++ dktX2_next_9
def dkwX2_next_7 : List UInt8 := [181, 0, 41, 42, 182, 0, 33, 133, 20, 0, 69, 20, 0, 71, 184, 0, 51, 153, 0, 43, 27, 7]
abbrev dktX2_next_7 : List UInt8 := dkwX2_next_7 ++ dktX2_next_8
def dkwX2_next_6 : List UInt8 := [167, 0, 143, 42, 182, 0, 33, 133, 20, 0, 69, 20, 0, 71, 184, 0, 51, 153, 0, 80, 3, 60, 42, 3]
abbrev dktX2_next_6 : List UInt8 := dkwX2_next_6 ++ dktX2_next_7
def dkwX2_next_5 : List UInt8 := [87, 42, 89, 180, 0, 9, 4, 96, 181, 0, 9, 167, 255, 210, 42, 43, 182, 0, 65, 181, 0, 37]
abbrev dktX2_next_5 : List UInt8 := dkwX2_next_5 ++ dktX2_next_6
def dkwX2_next_4 : List UInt8 := [184, 0, 51, 153, 0, 35, 43, 182, 0, 58, 16, 9, 162, 0, 13, 43, 42, 182, 0, 33, 146, 182, 0, 61]
abbrev dktX2_next_4 : List UInt8 := dkwX2_next_4 ++ dktX2_next_5
def dkwX2_next_3 : List UInt8 := [153, 0, 71, 187, 0, 55, 89, 183, 0, 57, 76, 42, 182, 0, 33, 133, 20, 0, 47, 20, 0, 49]
abbrev dktX2_next_3 : List UInt8 := dkwX2_next_3 ++ dktX2_next_4
def dkwX2_next_2 : List UInt8 := [181, 0, 41, 42, 2, 181, 0, 44, 42, 182, 0, 33, 133, 20, 0, 47, 20, 0, 49, 184, 0, 51]
abbrev dktX2_next_2 : List UInt8 := dkwX2_next_2 ++ dktX2_next_3
def dkwX2_next_1 : List UInt8 := [96, 181, 0, 9, 167, 255, 228, 42, 42, 180, 0, 9, 181, 0, 15, 42, 1, 181, 0, 37, 42, 2]
abbrev dktX2_next_1 : List UInt8 := dkwX2_next_1 ++ dktX2_next_2
def dkwX2_next_0 : List UInt8 := [42, 182, 0, 33, 16, 32, 159, 0, 12, 42, 182, 0, 33, 16, 10, 160, 0, 16, 42, 89, 180, 0, 9, 4]
abbrev dktX2_next_0 : List UInt8 := dkwX2_next_0 ++ dktX2_next_1
theorem dksX2_next_0 : cX2_next.data.toList.drop 0 = dktX2_next_0 := by decide +kernel
theorem dksX2_next_1 : cX2_next.data.toList.drop 24 = dktX2_next_1 := dk_seg dksX2_next_0 24 rfl rfl
theorem dksX2_next_2 : cX2_next.data.toList.drop 46 = dktX2_next_2 := dk_seg dksX2_next_1 22 rfl rfl
theorem dksX2_next_3 : cX2_next.data.toList.drop 68 = dktX2_next_3 := dk_seg dksX2_next_2 22 rfl rfl
theorem dksX2_next_4 : cX2_next.data.toList.drop 90 = dktX2_next_4 := dk_seg dksX2_next_3 22 rfl rfl
theorem dksX2_next_5 : cX2_next.data.toList.drop 114 = dktX2_next_5 := dk_seg dksX2_next_4 24 rfl rfl
theorem dksX2_next_6 : cX2_next.data.toList.drop 136 = dktX2_next_6 := dk_seg dksX2_next_5 22 rfl rfl
theorem dksX2_next_7 : cX2_next.data.toList.drop 160 = dktX2_next_7 := dk_seg dksX2_next_6 24 rfl rfl
theorem dksX2_next_8 : cX2_next.data.toList.drop 182 = dktX2_next_8 := dk_seg dksX2_next_7 22 rfl rfl
theorem dksX2_next_9 : cX2_next.data.toList.drop 204 = dktX2_next_9 := dk_seg dksX2_next_8 22 rfl rfl
theorem dksX2_next_10 : cX2_next.data.toList.drop 226 = dktX2_next_10 := dk_seg dksX2_next_9 22 rfl rfl
theorem dksX2_next_11 : cX2_next.data.toList.drop 249 = dktX2_next_11 := dk_seg dksX2_next_10 23 rfl rfl
theorem dksX2_next_12 : cX2_next.data.toList.drop 271 = dktX2_next_12 := dk_seg dksX2_next_11 22 rfl rfl
theorem dX2_next_0 : decode cX2_next 0 = .ok (.aload_n 0, 1) := dk_42 (dk_at dksX2_next_0 0 rfl rfl)
theorem dX2_next_1 : decode cX2_next 1 = .ok (.invokevirtual 33, 3) := dk_182 0 33 (dk_at dksX2_next_0 1 rfl rfl)
theorem dX2_next_4 : decode cX2_next 4 = .ok (.bipush 32, 2) := dk_16 32 (dk_at dksX2_next_0 4 rfl rfl)
theorem dX2_next_6 : decode cX2_next 6 = .ok (.if_icmp .eq 12, 3) := dk_159 0 12 (dk_at dksX2_next_0 6 rfl rfl)
theorem dX2_next_9 : decode cX2_next 9 = .ok (.aload_n 0, 1) := dk_42 (dk_at dksX2_next_0 9 rfl rfl)
theorem dX2_next_10 : decode cX2_next 10 = .ok (.invokevirtual 33, 3) := dk_182 0 33 (dk_at dksX2_next_0 10 rfl rfl)
theorem dX2_next_13 : decode cX2_next 13 = .ok (.bipush 10, 2) := dk_16 10 (dk_at dksX2_next_0 13 rfl rfl)
theorem dX2_next_15 : decode cX2_next 15 = .ok (.if_icmp .ne 16, 3) := dk_160 0 16 (dk_at dksX2_next_0 15 rfl rfl)
theorem dX2_next_18 : decode cX2_next 18 = .ok (.aload_n 0, 1) := dk_42 (dk_at dksX2_next_0 18 rfl rfl)
theorem dX2_next_19 : decode cX2_next 19 = .ok (.dup, 1) := dk_89 (dk_at dksX2_next_0 19 rfl rfl)
theorem dX2_next_20 : decode cX2_next 20 = .ok (.getfield 9, 3) := dk_180 0 9 (dk_at dksX2_next_0 20 rfl rfl)
theorem dX2_next_23 : decode cX2_next 23 = .ok (.iconst 1, 1) := dk_4 (dk_at dksX2_next_0 23 rfl rfl)
theorem dX2_next_24 : decode cX2_next 24 = .ok (.iadd, 1) := dk_96 (dk_at dksX2_next_1 0 rfl rfl)
theorem dX2_next_25 : decode cX2_next 25 = .ok (.putfield 9, 3) := dk_181 0 9 (dk_at dksX2_next_1 1 rfl rfl)
theorem dX2_next_28 : decode cX2_next 28 = .ok (.goto (-28), 3) := dk_167 255 228 (dk_at dksX2_next_1 4 rfl rfl)
theorem dX2_next_31 : decode cX2_next 31 = .ok (.aload_n 0, 1) := dk_42 (dk_at dksX2_next_1 7 rfl rfl)
theorem dX2_next_32 : decode cX2_next 32 = .ok (.aload_n 0, 1) := dk_42 (dk_at dksX2_next_1 8 rfl rfl)
theorem dX2_next_33 : decode cX2_next 33 = .ok (.getfield 9, 3) := dk_180 0 9 (dk_at dksX2_next_1 9 rfl rfl)
theorem dX2_next_36 : decode cX2_next 36 = .ok (.putfield 15, 3) := dk_181 0 15 (dk_at dksX2_next_1 12 rfl rfl)
theorem dX2_next_39 : decode cX2_next 39 = .ok (.aload_n 0, 1) := dk_42 (dk_at dksX2_next_1 15 rfl rfl)
theorem dX2_next_40 : decode cX2_next 40 = .ok (.aconst_null, 1) := dk_1 (dk_at dksX2_next_1 16 rfl rfl)
theorem dX2_next_41 : decode cX2_next 41 = .ok (.putfield 37, 3) := dk_181 0 37 (dk_at dksX2_next_1 17 rfl rfl)
theorem dX2_next_44 : decode cX2_next 44 = .ok (.aload_n 0, 1) := dk_42 (dk_at dksX2_next_1 20 rfl rfl)
theorem dX2_next_45 : decode cX2_next 45 = .ok (.iconst (-1), 1) := dk_2 (dk_at dksX2_next_1 21 rfl rfl)
theorem dX2_next_46 : decode cX2_next 46 = .ok (.putfield 41, 3) := dk_181 0 41 (dk_at dksX2_next_2 0 rfl rfl)
theorem dX2_next_49 : decode cX2_next 49 = .ok (.aload_n 0, 1) := dk_42 (dk_at dksX2_next_2 3 rfl rfl)
theorem dX2_next_50 : decode cX2_next 50 = .ok (.iconst (-1), 1) := dk_2 (dk_at dksX2_next_2 4 rfl rfl)
theorem dX2_next_51 : decode cX2_next 51 = .ok (.putfield 44, 3) := dk_181 0 44 (dk_at dksX2_next_2 5 rfl rfl)
theorem dX2_next_54 : decode cX2_next 54 = .ok (.aload_n 0, 1) := dk_42 (dk_at dksX2_next_2 8 rfl rfl)
theorem dX2_next_55 : decode cX2_next 55 = .ok (.invokevirtual 33, 3) := dk_182 0 33 (dk_at dksX2_next_2 9 rfl rfl)
theorem dX2_next_58 : decode cX2_next 58 = .ok (.i2l, 1) := dk_133 (dk_at dksX2_next_2 12 rfl rfl)
theorem dX2_next_59 : decode cX2_next 59 = .ok (.ldc2_w 47, 3) := dk_20 0 47 (dk_at dksX2_next_2 13 rfl rfl)
theorem dX2_next_62 : decode cX2_next 62 = .ok (.ldc2_w 49, 3) := dk_20 0 49 (dk_at dksX2_next_2 16 rfl rfl)
theorem dX2_next_65 : decode cX2_next 65 = .ok (.invokestatic 51, 3) := dk_184 0 51 (dk_at dksX2_next_2 19 rfl rfl)
theorem dX2_next_68 : decode cX2_next 68 = .ok (.ifCond .eq 71, 3) := dk_153 0 71 (dk_at dksX2_next_3 0 rfl rfl)
theorem dX2_next_71 : decode cX2_next 71 = .ok (.new 55, 3) := dk_187 0 55 (dk_at dksX2_next_3 3 rfl rfl)
theorem dX2_next_74 : decode cX2_next 74 = .ok (.dup, 1) := dk_89 (dk_at dksX2_next_3 6 rfl rfl)
theorem dX2_next_75 : decode cX2_next 75 = .ok (.invokespecial 57, 3) := dk_183 0 57 (dk_at dksX2_next_3 7 rfl rfl)
theorem dX2_next_78 : decode cX2_next 78 = .ok (.astore_n 1, 1) := dk_76 (dk_at dksX2_next_3 10 rfl rfl)
theorem dX2_next_79 : decode cX2_next 79 = .ok (.aload_n 0, 1) := dk_42 (dk_at dksX2_next_3 11 rfl rfl)
theorem dX2_next_80 : decode cX2_next 80 = .ok (.invokevirtual 33, 3) := dk_182 0 33 (dk_at dksX2_next_3 12 rfl rfl)
theorem dX2_next_83 : decode cX2_next 83 = .ok (.i2l, 1) := dk_133 (dk_at dksX2_next_3 15 rfl rfl)
theorem dX2_next_84 : decode cX2_next 84 = .ok (.ldc2_w 47, 3) := dk_20 0 47 (dk_at dksX2_next_3 16 rfl rfl)
theorem dX2_next_87 : decode cX2_next 87 = .ok (.ldc2_w 49, 3) := dk_20 0 49 (dk_at dksX2_next_3 19 rfl rfl)
theorem dX2_next_90 : decode cX2_next 90 = .ok (.invokestatic 51, 3) := dk_184 0 51 (dk_at dksX2_next_4 0 rfl rfl)
theorem dX2_next_93 : decode cX2_next 93 = .ok (.ifCond .eq 35, 3) := dk_153 0 35 (dk_at dksX2_next_4 3 rfl rfl)
theorem dX2_next_96 : decode cX2_next 96 = .ok (.aload_n 1, 1) := dk_43 (dk_at dksX2_next_4 6 rfl rfl)
theorem dX2_next_97 : decode cX2_next 97 = .ok (.invokevirtual 58, 3) := dk_182 0 58 (dk_at dksX2_next_4 7 rfl rfl)
theorem dX2_next_100 : decode cX2_next 100 = .ok (.bipush 9, 2) := dk_16 9 (dk_at dksX2_next_4 10 rfl rfl)
theorem dX2_next_102 : decode cX2_next 102 = .ok (.if_icmp .ge 13, 3) := dk_162 0 13 (dk_at dksX2_next_4 12 rfl rfl)
theorem dX2_next_105 : decode cX2_next 105 = .ok (.aload_n 1, 1) := dk_43 (dk_at dksX2_next_4 15 rfl rfl)
theorem dX2_next_106 : decode cX2_next 106 = .ok (.aload_n 0, 1) := dk_42 (dk_at dksX2_next_4 16 rfl rfl)
theorem dX2_next_107 : decode cX2_next 107 = .ok (.invokevirtual 33, 3) := dk_182 0 33 (dk_at dksX2_next_4 17 rfl rfl)
theorem dX2_next_110 : decode cX2_next 110 = .ok (.i2c, 1) := dk_146 (dk_at dksX2_next_4 20 rfl rfl)
theorem dX2_next_111 : decode cX2_next 111 = .ok (.invokevirtual 61, 3) := dk_182 0 61 (dk_at dksX2_next_4 21 rfl rfl)
theorem dX2_next_114 : decode cX2_next 114 = .ok (.pop, 1) := dk_87 (dk_at dksX2_next_5 0 rfl rfl)
theorem dX2_next_115 : decode cX2_next 115 = .ok (.aload_n 0, 1) := dk_42 (dk_at dksX2_next_5 1 rfl rfl)
theorem dX2_next_116 : decode cX2_next 116 = .ok (.dup, 1) := dk_89 (dk_at dksX2_next_5 2 rfl rfl)
theorem dX2_next_117 : decode cX2_next 117 = .ok (.getfield 9, 3) := dk_180 0 9 (dk_at dksX2_next_5 3 rfl rfl)
theorem dX2_next_120 : decode cX2_next 120 = .ok (.iconst 1, 1) := dk_4 (dk_at dksX2_next_5 6 rfl rfl)
theorem dX2_next_121 : decode cX2_next 121 = .ok (.iadd, 1) := dk_96 (dk_at dksX2_next_5 7 rfl rfl)
theorem dX2_next_122 : decode cX2_next 122 = .ok (.putfield 9, 3) := dk_181 0 9 (dk_at dksX2_next_5 8 rfl rfl)
theorem dX2_next_125 : decode cX2_next 125 = .ok (.goto (-46), 3) := dk_167 255 210 (dk_at dksX2_next_5 11 rfl rfl)
theorem dX2_next_128 : decode cX2_next 128 = .ok (.aload_n 0, 1) := dk_42 (dk_at dksX2_next_5 14 rfl rfl)
theorem dX2_next_129 : decode cX2_next 129 = .ok (.aload_n 1, 1) := dk_43 (dk_at dksX2_next_5 15 rfl rfl)
theorem dX2_next_130 : decode cX2_next 130 = .ok (.invokevirtual 65, 3) := dk_182 0 65 (dk_at dksX2_next_5 16 rfl rfl)
theorem dX2_next_133 : decode cX2_next 133 = .ok (.putfield 37, 3) := dk_181 0 37 (dk_at dksX2_next_5 19 rfl rfl)
theorem dX2_next_136 : decode cX2_next 136 = .ok (.goto 143, 3) := dk_167 0 143 (dk_at dksX2_next_6 0 rfl rfl)
theorem dX2_next_139 : decode cX2_next 139 = .ok (.aload_n 0, 1) := dk_42 (dk_at dksX2_next_6 3 rfl rfl)
theorem dX2_next_140 : decode cX2_next 140 = .ok (.invokevirtual 33, 3) := dk_182 0 33 (dk_at dksX2_next_6 4 rfl rfl)
theorem dX2_next_143 : decode cX2_next 143 = .ok (.i2l, 1) := dk_133 (dk_at dksX2_next_6 7 rfl rfl)
theorem dX2_next_144 : decode cX2_next 144 = .ok (.ldc2_w 69, 3) := dk_20 0 69 (dk_at dksX2_next_6 8 rfl rfl)
theorem dX2_next_147 : decode cX2_next 147 = .ok (.ldc2_w 71, 3) := dk_20 0 71 (dk_at dksX2_next_6 11 rfl rfl)
theorem dX2_next_150 : decode cX2_next 150 = .ok (.invokestatic 51, 3) := dk_184 0 51 (dk_at dksX2_next_6 14 rfl rfl)
theorem dX2_next_153 : decode cX2_next 153 = .ok (.ifCond .eq 80, 3) := dk_153 0 80 (dk_at dksX2_next_6 17 rfl rfl)
theorem dX2_next_156 : decode cX2_next 156 = .ok (.iconst 0, 1) := dk_3 (dk_at dksX2_next_6 20 rfl rfl)
theorem dX2_next_157 : decode cX2_next 157 = .ok (.istore_n 1, 1) := dk_60 (dk_at dksX2_next_6 21 rfl rfl)
theorem dX2_next_158 : decode cX2_next 158 = .ok (.aload_n 0, 1) := dk_42 (dk_at dksX2_next_6 22 rfl rfl)
theorem dX2_next_159 : decode cX2_next 159 = .ok (.iconst 0, 1) := dk_3 (dk_at dksX2_next_6 23 rfl rfl)
theorem dX2_next_160 : decode cX2_next 160 = .ok (.putfield 41, 3) := dk_181 0 41 (dk_at dksX2_next_7 0 rfl rfl)
theorem dX2_next_163 : decode cX2_next 163 = .ok (.aload_n 0, 1) := dk_42 (dk_at dksX2_next_7 3 rfl rfl)
theorem dX2_next_164 : decode cX2_next 164 = .ok (.invokevirtual 33, 3) := dk_182 0 33 (dk_at dksX2_next_7 4 rfl rfl)
theorem dX2_next_167 : decode cX2_next 167 = .ok (.i2l, 1) := dk_133 (dk_at dksX2_next_7 7 rfl rfl)
theorem dX2_next_168 : decode cX2_next 168 = .ok (.ldc2_w 69, 3) := dk_20 0 69 (dk_at dksX2_next_7 8 rfl rfl)
theorem dX2_next_171 : decode cX2_next 171 = .ok (.ldc2_w 71, 3) := dk_20 0 71 (dk_at dksX2_next_7 11 rfl rfl)
theorem dX2_next_174 : decode cX2_next 174 = .ok (.invokestatic 51, 3) := dk_184 0 51 (dk_at dksX2_next_7 14 rfl rfl)
theorem dX2_next_177 : decode cX2_next 177 = .ok (.ifCond .eq 43, 3) := dk_153 0 43 (dk_at dksX2_next_7 17 rfl rfl)
theorem dX2_next_180 : decode cX2_next 180 = .ok (.iload_n 1, 1) := dk_27 (dk_at dksX2_next_7 20 rfl rfl)
theorem dX2_next_181 : decode cX2_next 181 = .ok (.iconst 4, 1) := dk_7 (dk_at dksX2_next_7 21 rfl rfl)
theorem dX2_next_182 : decode cX2_next 182 = .ok (.if_icmp .ge 22, 3) := dk_162 0 22 (dk_at dksX2_next_8 0 rfl rfl)
theorem dX2_next_185 : decode cX2_next 185 = .ok (.aload_n 0, 1) := dk_42 (dk_at dksX2_next_8 3 rfl rfl)
theorem dX2_next_186 : decode cX2_next 186 = .ok (.bipush 10, 2) := dk_16 10 (dk_at dksX2_next_8 4 rfl rfl)
theorem dX2_next_188 : decode cX2_next 188 = .ok (.aload_n 0, 1) := dk_42 (dk_at dksX2_next_8 6 rfl rfl)
theorem dX2_next_189 : decode cX2_next 189 = .ok (.getfield 41, 3) := dk_180 0 41 (dk_at dksX2_next_8 7 rfl rfl)
theorem dX2_next_192 : decode cX2_next 192 = .ok (.imul, 1) := dk_104 (dk_at dksX2_next_8 10 rfl rfl)
theorem dX2_next_193 : decode cX2_next 193 = .ok (.aload_n 0, 1) := dk_42 (dk_at dksX2_next_8 11 rfl rfl)
theorem dX2_next_194 : decode cX2_next 194 = .ok (.invokevirtual 33, 3) := dk_182 0 33 (dk_at dksX2_next_8 12 rfl rfl)
theorem dX2_next_197 : decode cX2_next 197 = .ok (.iadd, 1) := dk_96 (dk_at dksX2_next_8 15 rfl rfl)
theorem dX2_next_198 : decode cX2_next 198 = .ok (.bipush 48, 2) := dk_16 48 (dk_at dksX2_next_8 16 rfl rfl)
theorem dX2_next_200 : decode cX2_next 200 = .ok (.isub, 1) := dk_100 (dk_at dksX2_next_8 18 rfl rfl)
theorem dX2_next_201 : decode cX2_next 201 = .ok (.putfield 41, 3) := dk_181 0 41 (dk_at dksX2_next_8 19 rfl rfl)
theorem dX2_next_204 : decode cX2_next 204 = .ok (.iinc 1 1, 3) := dk_132 1 1 (dk_at dksX2_next_9 0 rfl rfl)
theorem dX2_next_207 : decode cX2_next 207 = .ok (.aload_n 0, 1) := dk_42 (dk_at dksX2_next_9 3 rfl rfl)
theorem dX2_next_208 : decode cX2_next 208 = .ok (.dup, 1) := dk_89 (dk_at dksX2_next_9 4 rfl rfl)
theorem dX2_next_209 : decode cX2_next 209 = .ok (.getfield 9, 3) := dk_180 0 9 (dk_at dksX2_next_9 5 rfl rfl)
theorem dX2_next_212 : decode cX2_next 212 = .ok (.iconst 1, 1) := dk_4 (dk_at dksX2_next_9 8 rfl rfl)
theorem dX2_next_213 : decode cX2_next 213 = .ok (.iadd, 1) := dk_96 (dk_at dksX2_next_9 9 rfl rfl)
theorem dX2_next_214 : decode cX2_next 214 = .ok (.putfield 9, 3) := dk_181 0 9 (dk_at dksX2_next_9 10 rfl rfl)
theorem dX2_next_217 : decode cX2_next 217 = .ok (.goto (-54), 3) := dk_167 255 202 (dk_at dksX2_next_9 13 rfl rfl)
theorem dX2_next_220 : decode cX2_next 220 = .ok (.iload_n 1, 1) := dk_27 (dk_at dksX2_next_9 16 rfl rfl)
theorem dX2_next_221 : decode cX2_next 221 = .ok (.iconst 4, 1) := dk_7 (dk_at dksX2_next_9 17 rfl rfl)
theorem dX2_next_222 : decode cX2_next 222 = .ok (.if_icmp .le 8, 3) := dk_164 0 8 (dk_at dksX2_next_9 18 rfl rfl)
theorem dX2_next_225 : decode cX2_next 225 = .ok (.aload_n 0, 1) := dk_42 (dk_at dksX2_next_9 21 rfl rfl)
theorem dX2_next_226 : decode cX2_next 226 = .ok (.invokevirtual 73, 3) := dk_182 0 73 (dk_at dksX2_next_10 0 rfl rfl)
theorem dX2_next_229 : decode cX2_next 229 = .ok (.athrow, 1) := dk_191 (dk_at dksX2_next_10 3 rfl rfl)
theorem dX2_next_230 : decode cX2_next 230 = .ok (.goto 49, 3) := dk_167 0 49 (dk_at dksX2_next_10 4 rfl rfl)
theorem dX2_next_233 : decode cX2_next 233 = .ok (.aload_n 0, 1) := dk_42 (dk_at dksX2_next_10 7 rfl rfl)
theorem dX2_next_234 : decode cX2_next 234 = .ok (.getfield 9, 3) := dk_180 0 9 (dk_at dksX2_next_10 8 rfl rfl)
theorem dX2_next_237 : decode cX2_next 237 = .ok (.aload_n 0, 1) := dk_42 (dk_at dksX2_next_10 11 rfl rfl)
theorem dX2_next_238 : decode cX2_next 238 = .ok (.getfield 25, 3) := dk_180 0 25 (dk_at dksX2_next_10 12 rfl rfl)
theorem dX2_next_241 : decode cX2_next 241 = .ok (.if_icmp .ge 38, 3) := dk_162 0 38 (dk_at dksX2_next_10 15 rfl rfl)
theorem dX2_next_244 : decode cX2_next 244 = .ok (.aload_n 0, 1) := dk_42 (dk_at dksX2_next_10 18 rfl rfl)
theorem dX2_next_245 : decode cX2_next 245 = .ok (.aload_n 0, 1) := dk_42 (dk_at dksX2_next_10 19 rfl rfl)
theorem dX2_next_246 : decode cX2_next 246 = .ok (.invokevirtual 33, 3) := dk_182 0 33 (dk_at dksX2_next_10 20 rfl rfl)
theorem dX2_next_249 : decode cX2_next 249 = .ok (.putfield 44, 3) := dk_181 0 44 (dk_at dksX2_next_11 0 rfl rfl)
theorem dX2_next_252 : decode cX2_next 252 = .ok (.ldc 77, 2) := dk_18 77 (dk_at dksX2_next_11 3 rfl rfl)
theorem dX2_next_254 : decode cX2_next 254 = .ok (.aload_n 0, 1) := dk_42 (dk_at dksX2_next_11 5 rfl rfl)
theorem dX2_next_255 : decode cX2_next 255 = .ok (.getfield 44, 3) := dk_180 0 44 (dk_at dksX2_next_11 6 rfl rfl)
theorem dX2_next_258 : decode cX2_next 258 = .ok (.invokevirtual 79, 3) := dk_182 0 79 (dk_at dksX2_next_11 9 rfl rfl)
theorem dX2_next_261 : decode cX2_next 261 = .ok (.ifCond .ge 8, 3) := dk_156 0 8 (dk_at dksX2_next_11 12 rfl rfl)
theorem dX2_next_264 : decode cX2_next 264 = .ok (.aload_n 0, 1) := dk_42 (dk_at dksX2_next_11 15 rfl rfl)
theorem dX2_next_265 : decode cX2_next 265 = .ok (.invokevirtual 73, 3) := dk_182 0 73 (dk_at dksX2_next_11 16 rfl rfl)
theorem dX2_next_268 : decode cX2_next 268 = .ok (.athrow, 1) := dk_191 (dk_at dksX2_next_11 19 rfl rfl)
theorem dX2_next_269 : decode cX2_next 269 = .ok (.aload_n 0, 1) := dk_42 (dk_at dksX2_next_11 20 rfl rfl)
theorem dX2_next_270 : decode cX2_next 270 = .ok (.dup, 1) := dk_89 (dk_at dksX2_next_11 21 rfl rfl)
theorem dX2_next_271 : decode cX2_next 271 = .ok (.getfield 9, 3) := dk_180 0 9 (dk_at dksX2_next_12 0 rfl rfl)
theorem dX2_next_274 : decode cX2_next 274 = .ok (.iconst 1, 1) := dk_4 (dk_at dksX2_next_12 3 rfl rfl)
theorem dX2_next_275 : decode cX2_next 275 = .ok (.iadd, 1) := dk_96 (dk_at dksX2_next_12 4 rfl rfl)
theorem dX2_next_276 : decode cX2_next 276 = .ok (.putfield 9, 3) := dk_181 0 9 (dk_at dksX2_next_12 5 rfl rfl)
theorem dX2_next_279 : decode cX2_next 279 = .ok (.return_, 1) := dk_177 (dk_at dksX2_next_12 8 rfl rfl)
abbrev cX2_here : ByteArray := prog_11_method_3_code
def yX2_here : MethodName := ⟨RX2, "here", "()I"⟩
def dkwX2_here_1 : List UInt8 := [167, 0, 4, 2, 172]
abbrev dktX2_here_1 : List UInt8 := dkwX2_here_1 ++ []
def dkwX2_here_0 : List UInt8 := [42, 180, 0, 9, 42, 180, 0, 25, 162, 0, 19, 42, 180, 0, 21, 42, 180, 0, 9, 51, 17, 0, 255, 126]
abbrev dktX2_here_0 : List UInt8 := dkwX2_here_0 ++ dktX2_here_1
theorem dksX2_here_0 : cX2_here.data.toList.drop 0 = dktX2_here_0 := by decide +kernel
theorem dksX2_here_1 : cX2_here.data.toList.drop 24 = dktX2_here_1 := dk_seg dksX2_here_0 24 rfl rfl
theorem dX2_here_0 : decode cX2_here 0 = .ok (.aload_n 0, 1) := dk_42 (dk_at dksX2_here_0 0 rfl rfl)
theorem dX2_here_1 : decode cX2_here 1 = .ok (.getfield 9, 3) := dk_180 0 9 (dk_at dksX2_here_0 1 rfl rfl)
theorem dX2_here_4 : decode cX2_here 4 = .ok (.aload_n 0, 1) := dk_42 (dk_at dksX2_here_0 4 rfl rfl)
theorem dX2_here_5 : decode cX2_here 5 = .ok (.getfield 25, 3) := dk_180 0 25 (dk_at dksX2_here_0 5 rfl rfl)
theorem dX2_here_8 : decode cX2_here 8 = .ok (.if_icmp .ge 19, 3) := dk_162 0 19 (dk_at dksX2_here_0 8 rfl rfl)
theorem dX2_here_11 : decode cX2_here 11 = .ok (.aload_n 0, 1) := dk_42 (dk_at dksX2_here_0 11 rfl rfl)
theorem dX2_here_12 : decode cX2_here 12 = .ok (.getfield 21, 3) := dk_180 0 21 (dk_at dksX2_here_0 12 rfl rfl)
theorem dX2_here_15 : decode cX2_here 15 = .ok (.aload_n 0, 1) := dk_42 (dk_at dksX2_here_0 15 rfl rfl)
theorem dX2_here_16 : decode cX2_here 16 = .ok (.getfield 9, 3) := dk_180 0 9 (dk_at dksX2_here_0 16 rfl rfl)
theorem dX2_here_19 : decode cX2_here 19 = .ok (.baload, 1) := dk_51 (dk_at dksX2_here_0 19 rfl rfl)
theorem dX2_here_20 : decode cX2_here 20 = .ok (.sipush 255, 3) := dk_17 0 255 (dk_at dksX2_here_0 20 rfl rfl)
theorem dX2_here_23 : decode cX2_here 23 = .ok (.iand, 1) := dk_126 (dk_at dksX2_here_0 23 rfl rfl)
theorem dX2_here_24 : decode cX2_here 24 = .ok (.goto 4, 3) := dk_167 0 4 (dk_at dksX2_here_1 0 rfl rfl)
theorem dX2_here_27 : decode cX2_here 27 = .ok (.iconst (-1), 1) := dk_2 (dk_at dksX2_here_1 3 rfl rfl)
theorem dX2_here_28 : decode cX2_here 28 = .ok (.ireturn, 1) := dk_172 (dk_at dksX2_here_1 4 rfl rfl)
abbrev cX2_fault : ByteArray := prog_11_method_2_code
def yX2_fault : MethodName := ⟨RX2, "fault", "()LOverTheHeads$Fault;"⟩
def dkwX2_fault_0 : List UInt8 := [187, 0, 28, 89, 42, 180, 0, 15, 183, 0, 30, 176]
abbrev dktX2_fault_0 : List UInt8 := dkwX2_fault_0 ++ []
theorem dksX2_fault_0 : cX2_fault.data.toList.drop 0 = dktX2_fault_0 := by decide +kernel
theorem dX2_fault_0 : decode cX2_fault 0 = .ok (.new 28, 3) := dk_187 0 28 (dk_at dksX2_fault_0 0 rfl rfl)
theorem dX2_fault_3 : decode cX2_fault 3 = .ok (.dup, 1) := dk_89 (dk_at dksX2_fault_0 3 rfl rfl)
theorem dX2_fault_4 : decode cX2_fault 4 = .ok (.aload_n 0, 1) := dk_42 (dk_at dksX2_fault_0 4 rfl rfl)
theorem dX2_fault_5 : decode cX2_fault 5 = .ok (.getfield 15, 3) := dk_180 0 15 (dk_at dksX2_fault_0 5 rfl rfl)
theorem dX2_fault_8 : decode cX2_fault 8 = .ok (.invokespecial 30, 3) := dk_183 0 30 (dk_at dksX2_fault_0 8 rfl rfl)
theorem dX2_fault_11 : decode cX2_fault 11 = .ok (.areturn, 1) := dk_176 (dk_at dksX2_fault_0 11 rfl rfl)
abbrev cX2_is : ByteArray := prog_11_method_5_code
def yX2_is : MethodName := ⟨RX2, "is", "(Ljava/lang/String;)Z"⟩
def dkwX2_is_0 : List UInt8 := [43, 42, 180, 0, 37, 182, 0, 85, 172]
abbrev dktX2_is_0 : List UInt8 := dkwX2_is_0 ++ []
theorem dksX2_is_0 : cX2_is.data.toList.drop 0 = dktX2_is_0 := by decide +kernel
theorem dX2_is_0 : decode cX2_is 0 = .ok (.aload_n 1, 1) := dk_43 (dk_at dksX2_is_0 0 rfl rfl)
theorem dX2_is_1 : decode cX2_is 1 = .ok (.aload_n 0, 1) := dk_42 (dk_at dksX2_is_0 1 rfl rfl)
theorem dX2_is_2 : decode cX2_is 2 = .ok (.getfield 37, 3) := dk_180 0 37 (dk_at dksX2_is_0 2 rfl rfl)
theorem dX2_is_5 : decode cX2_is 5 = .ok (.invokevirtual 85, 3) := dk_182 0 85 (dk_at dksX2_is_0 5 rfl rfl)
theorem dX2_is_8 : decode cX2_is 8 = .ok (.ireturn, 1) := dk_172 (dk_at dksX2_is_0 8 rfl rfl)
abbrev cX2_either : ByteArray := prog_11_method_13_code
def yX2_either : MethodName := ⟨RX2, "either", "()LOverTheHeads$Node;"⟩
def dkwX2_either_1 : List UInt8 := [43, 42, 182, 0, 141, 183, 0, 126, 76, 167, 255, 228, 43, 176]
abbrev dktX2_either_1 : List UInt8 := dkwX2_either_1 ++ []
def dkwX2_either_0 : List UInt8 := [42, 182, 0, 141, 76, 42, 18, 144, 182, 0, 116, 153, 0, 25, 42, 182, 0, 89, 187, 0, 124, 89, 16, 124]
abbrev dktX2_either_0 : List UInt8 := dkwX2_either_0 ++ dktX2_either_1
theorem dksX2_either_0 : cX2_either.data.toList.drop 0 = dktX2_either_0 := by decide +kernel
theorem dksX2_either_1 : cX2_either.data.toList.drop 24 = dktX2_either_1 := dk_seg dksX2_either_0 24 rfl rfl
theorem dX2_either_0 : decode cX2_either 0 = .ok (.aload_n 0, 1) := dk_42 (dk_at dksX2_either_0 0 rfl rfl)
theorem dX2_either_1 : decode cX2_either 1 = .ok (.invokevirtual 141, 3) := dk_182 0 141 (dk_at dksX2_either_0 1 rfl rfl)
theorem dX2_either_4 : decode cX2_either 4 = .ok (.astore_n 1, 1) := dk_76 (dk_at dksX2_either_0 4 rfl rfl)
theorem dX2_either_5 : decode cX2_either 5 = .ok (.aload_n 0, 1) := dk_42 (dk_at dksX2_either_0 5 rfl rfl)
theorem dX2_either_6 : decode cX2_either 6 = .ok (.ldc 144, 2) := dk_18 144 (dk_at dksX2_either_0 6 rfl rfl)
theorem dX2_either_8 : decode cX2_either 8 = .ok (.invokevirtual 116, 3) := dk_182 0 116 (dk_at dksX2_either_0 8 rfl rfl)
theorem dX2_either_11 : decode cX2_either 11 = .ok (.ifCond .eq 25, 3) := dk_153 0 25 (dk_at dksX2_either_0 11 rfl rfl)
theorem dX2_either_14 : decode cX2_either 14 = .ok (.aload_n 0, 1) := dk_42 (dk_at dksX2_either_0 14 rfl rfl)
theorem dX2_either_15 : decode cX2_either 15 = .ok (.invokevirtual 89, 3) := dk_182 0 89 (dk_at dksX2_either_0 15 rfl rfl)
theorem dX2_either_18 : decode cX2_either 18 = .ok (.new 124, 3) := dk_187 0 124 (dk_at dksX2_either_0 18 rfl rfl)
theorem dX2_either_21 : decode cX2_either 21 = .ok (.dup, 1) := dk_89 (dk_at dksX2_either_0 21 rfl rfl)
theorem dX2_either_22 : decode cX2_either 22 = .ok (.bipush 124, 2) := dk_16 124 (dk_at dksX2_either_0 22 rfl rfl)
theorem dX2_either_24 : decode cX2_either 24 = .ok (.aload_n 1, 1) := dk_43 (dk_at dksX2_either_1 0 rfl rfl)
theorem dX2_either_25 : decode cX2_either 25 = .ok (.aload_n 0, 1) := dk_42 (dk_at dksX2_either_1 1 rfl rfl)
theorem dX2_either_26 : decode cX2_either 26 = .ok (.invokevirtual 141, 3) := dk_182 0 141 (dk_at dksX2_either_1 2 rfl rfl)
theorem dX2_either_29 : decode cX2_either 29 = .ok (.invokespecial 126, 3) := dk_183 0 126 (dk_at dksX2_either_1 5 rfl rfl)
theorem dX2_either_32 : decode cX2_either 32 = .ok (.astore_n 1, 1) := dk_76 (dk_at dksX2_either_1 8 rfl rfl)
theorem dX2_either_33 : decode cX2_either 33 = .ok (.goto (-28), 3) := dk_167 255 228 (dk_at dksX2_either_1 9 rfl rfl)
theorem dX2_either_36 : decode cX2_either 36 = .ok (.aload_n 1, 1) := dk_43 (dk_at dksX2_either_1 12 rfl rfl)
theorem dX2_either_37 : decode cX2_either 37 = .ok (.areturn, 1) := dk_176 (dk_at dksX2_either_1 13 rfl rfl)
abbrev cX2_both : ByteArray := prog_11_method_12_code
def yX2_both : MethodName := ⟨RX2, "both", "()LOverTheHeads$Node;"⟩
def dkwX2_both_1 : List UInt8 := [43, 42, 182, 0, 134, 183, 0, 126, 76, 167, 255, 228, 43, 176]
abbrev dktX2_both_1 : List UInt8 := dkwX2_both_1 ++ []
def dkwX2_both_0 : List UInt8 := [42, 182, 0, 134, 76, 42, 18, 139, 182, 0, 116, 153, 0, 25, 42, 182, 0, 89, 187, 0, 124, 89, 16, 38]
abbrev dktX2_both_0 : List UInt8 := dkwX2_both_0 ++ dktX2_both_1
theorem dksX2_both_0 : cX2_both.data.toList.drop 0 = dktX2_both_0 := by decide +kernel
theorem dksX2_both_1 : cX2_both.data.toList.drop 24 = dktX2_both_1 := dk_seg dksX2_both_0 24 rfl rfl
theorem dX2_both_0 : decode cX2_both 0 = .ok (.aload_n 0, 1) := dk_42 (dk_at dksX2_both_0 0 rfl rfl)
theorem dX2_both_1 : decode cX2_both 1 = .ok (.invokevirtual 134, 3) := dk_182 0 134 (dk_at dksX2_both_0 1 rfl rfl)
theorem dX2_both_4 : decode cX2_both 4 = .ok (.astore_n 1, 1) := dk_76 (dk_at dksX2_both_0 4 rfl rfl)
theorem dX2_both_5 : decode cX2_both 5 = .ok (.aload_n 0, 1) := dk_42 (dk_at dksX2_both_0 5 rfl rfl)
theorem dX2_both_6 : decode cX2_both 6 = .ok (.ldc 139, 2) := dk_18 139 (dk_at dksX2_both_0 6 rfl rfl)
theorem dX2_both_8 : decode cX2_both 8 = .ok (.invokevirtual 116, 3) := dk_182 0 116 (dk_at dksX2_both_0 8 rfl rfl)
theorem dX2_both_11 : decode cX2_both 11 = .ok (.ifCond .eq 25, 3) := dk_153 0 25 (dk_at dksX2_both_0 11 rfl rfl)
theorem dX2_both_14 : decode cX2_both 14 = .ok (.aload_n 0, 1) := dk_42 (dk_at dksX2_both_0 14 rfl rfl)
theorem dX2_both_15 : decode cX2_both 15 = .ok (.invokevirtual 89, 3) := dk_182 0 89 (dk_at dksX2_both_0 15 rfl rfl)
theorem dX2_both_18 : decode cX2_both 18 = .ok (.new 124, 3) := dk_187 0 124 (dk_at dksX2_both_0 18 rfl rfl)
theorem dX2_both_21 : decode cX2_both 21 = .ok (.dup, 1) := dk_89 (dk_at dksX2_both_0 21 rfl rfl)
theorem dX2_both_22 : decode cX2_both 22 = .ok (.bipush 38, 2) := dk_16 38 (dk_at dksX2_both_0 22 rfl rfl)
theorem dX2_both_24 : decode cX2_both 24 = .ok (.aload_n 1, 1) := dk_43 (dk_at dksX2_both_1 0 rfl rfl)
theorem dX2_both_25 : decode cX2_both 25 = .ok (.aload_n 0, 1) := dk_42 (dk_at dksX2_both_1 1 rfl rfl)
theorem dX2_both_26 : decode cX2_both 26 = .ok (.invokevirtual 134, 3) := dk_182 0 134 (dk_at dksX2_both_1 2 rfl rfl)
theorem dX2_both_29 : decode cX2_both 29 = .ok (.invokespecial 126, 3) := dk_183 0 126 (dk_at dksX2_both_1 5 rfl rfl)
theorem dX2_both_32 : decode cX2_both 32 = .ok (.astore_n 1, 1) := dk_76 (dk_at dksX2_both_1 8 rfl rfl)
theorem dX2_both_33 : decode cX2_both 33 = .ok (.goto (-28), 3) := dk_167 255 228 (dk_at dksX2_both_1 9 rfl rfl)
theorem dX2_both_36 : decode cX2_both 36 = .ok (.aload_n 1, 1) := dk_43 (dk_at dksX2_both_1 12 rfl rfl)
theorem dX2_both_37 : decode cX2_both 37 = .ok (.areturn, 1) := dk_176 (dk_at dksX2_both_1 13 rfl rfl)
abbrev cX2_not : ByteArray := prog_11_method_11_code
def yX2_not : MethodName := ⟨RX2, "not", "()LOverTheHeads$Node;"⟩
def dkwX2_not_3 : List UInt8 := [182, 0, 89, 187, 0, 124, 89, 28, 43, 42, 182, 0, 136, 183, 0, 126, 176]
abbrev dktX2_not_3 : List UInt8 := dkwX2_not_3 ++ []
def dkwX2_not_2 : List UInt8 := [16, 60, 159, 0, 14, 42, 180, 0, 44, 16, 61, 159, 0, 5, 43, 176, 42, 180, 0, 44, 61, 42]
abbrev dktX2_not_2 : List UInt8 := dkwX2_not_2 ++ dktX2_not_3
def dkwX2_not_1 : List UInt8 := [100, 181, 0, 18, 187, 0, 99, 89, 4, 43, 183, 0, 101, 176, 42, 182, 0, 136, 76, 42, 180, 0, 44]
abbrev dktX2_not_1 : List UInt8 := dkwX2_not_1 ++ dktX2_not_2
def dkwX2_not_0 : List UInt8 := [42, 18, 132, 182, 0, 116, 153, 0, 32, 42, 182, 0, 92, 42, 182, 0, 134, 76, 42, 89, 180, 0, 18, 4]
abbrev dktX2_not_0 : List UInt8 := dkwX2_not_0 ++ dktX2_not_1
theorem dksX2_not_0 : cX2_not.data.toList.drop 0 = dktX2_not_0 := by decide +kernel
theorem dksX2_not_1 : cX2_not.data.toList.drop 24 = dktX2_not_1 := dk_seg dksX2_not_0 24 rfl rfl
theorem dksX2_not_2 : cX2_not.data.toList.drop 47 = dktX2_not_2 := dk_seg dksX2_not_1 23 rfl rfl
theorem dksX2_not_3 : cX2_not.data.toList.drop 69 = dktX2_not_3 := dk_seg dksX2_not_2 22 rfl rfl
theorem dX2_not_0 : decode cX2_not 0 = .ok (.aload_n 0, 1) := dk_42 (dk_at dksX2_not_0 0 rfl rfl)
theorem dX2_not_1 : decode cX2_not 1 = .ok (.ldc 132, 2) := dk_18 132 (dk_at dksX2_not_0 1 rfl rfl)
theorem dX2_not_3 : decode cX2_not 3 = .ok (.invokevirtual 116, 3) := dk_182 0 116 (dk_at dksX2_not_0 3 rfl rfl)
theorem dX2_not_6 : decode cX2_not 6 = .ok (.ifCond .eq 32, 3) := dk_153 0 32 (dk_at dksX2_not_0 6 rfl rfl)
theorem dX2_not_9 : decode cX2_not 9 = .ok (.aload_n 0, 1) := dk_42 (dk_at dksX2_not_0 9 rfl rfl)
theorem dX2_not_10 : decode cX2_not 10 = .ok (.invokevirtual 92, 3) := dk_182 0 92 (dk_at dksX2_not_0 10 rfl rfl)
theorem dX2_not_13 : decode cX2_not 13 = .ok (.aload_n 0, 1) := dk_42 (dk_at dksX2_not_0 13 rfl rfl)
theorem dX2_not_14 : decode cX2_not 14 = .ok (.invokevirtual 134, 3) := dk_182 0 134 (dk_at dksX2_not_0 14 rfl rfl)
theorem dX2_not_17 : decode cX2_not 17 = .ok (.astore_n 1, 1) := dk_76 (dk_at dksX2_not_0 17 rfl rfl)
theorem dX2_not_18 : decode cX2_not 18 = .ok (.aload_n 0, 1) := dk_42 (dk_at dksX2_not_0 18 rfl rfl)
theorem dX2_not_19 : decode cX2_not 19 = .ok (.dup, 1) := dk_89 (dk_at dksX2_not_0 19 rfl rfl)
theorem dX2_not_20 : decode cX2_not 20 = .ok (.getfield 18, 3) := dk_180 0 18 (dk_at dksX2_not_0 20 rfl rfl)
theorem dX2_not_23 : decode cX2_not 23 = .ok (.iconst 1, 1) := dk_4 (dk_at dksX2_not_0 23 rfl rfl)
theorem dX2_not_24 : decode cX2_not 24 = .ok (.isub, 1) := dk_100 (dk_at dksX2_not_1 0 rfl rfl)
theorem dX2_not_25 : decode cX2_not 25 = .ok (.putfield 18, 3) := dk_181 0 18 (dk_at dksX2_not_1 1 rfl rfl)
theorem dX2_not_28 : decode cX2_not 28 = .ok (.new 99, 3) := dk_187 0 99 (dk_at dksX2_not_1 4 rfl rfl)
theorem dX2_not_31 : decode cX2_not 31 = .ok (.dup, 1) := dk_89 (dk_at dksX2_not_1 7 rfl rfl)
theorem dX2_not_32 : decode cX2_not 32 = .ok (.iconst 1, 1) := dk_4 (dk_at dksX2_not_1 8 rfl rfl)
theorem dX2_not_33 : decode cX2_not 33 = .ok (.aload_n 1, 1) := dk_43 (dk_at dksX2_not_1 9 rfl rfl)
theorem dX2_not_34 : decode cX2_not 34 = .ok (.invokespecial 101, 3) := dk_183 0 101 (dk_at dksX2_not_1 10 rfl rfl)
theorem dX2_not_37 : decode cX2_not 37 = .ok (.areturn, 1) := dk_176 (dk_at dksX2_not_1 13 rfl rfl)
theorem dX2_not_38 : decode cX2_not 38 = .ok (.aload_n 0, 1) := dk_42 (dk_at dksX2_not_1 14 rfl rfl)
theorem dX2_not_39 : decode cX2_not 39 = .ok (.invokevirtual 136, 3) := dk_182 0 136 (dk_at dksX2_not_1 15 rfl rfl)
theorem dX2_not_42 : decode cX2_not 42 = .ok (.astore_n 1, 1) := dk_76 (dk_at dksX2_not_1 18 rfl rfl)
theorem dX2_not_43 : decode cX2_not 43 = .ok (.aload_n 0, 1) := dk_42 (dk_at dksX2_not_1 19 rfl rfl)
theorem dX2_not_44 : decode cX2_not 44 = .ok (.getfield 44, 3) := dk_180 0 44 (dk_at dksX2_not_1 20 rfl rfl)
theorem dX2_not_47 : decode cX2_not 47 = .ok (.bipush 60, 2) := dk_16 60 (dk_at dksX2_not_2 0 rfl rfl)
theorem dX2_not_49 : decode cX2_not 49 = .ok (.if_icmp .eq 14, 3) := dk_159 0 14 (dk_at dksX2_not_2 2 rfl rfl)
theorem dX2_not_52 : decode cX2_not 52 = .ok (.aload_n 0, 1) := dk_42 (dk_at dksX2_not_2 5 rfl rfl)
theorem dX2_not_53 : decode cX2_not 53 = .ok (.getfield 44, 3) := dk_180 0 44 (dk_at dksX2_not_2 6 rfl rfl)
theorem dX2_not_56 : decode cX2_not 56 = .ok (.bipush 61, 2) := dk_16 61 (dk_at dksX2_not_2 9 rfl rfl)
theorem dX2_not_58 : decode cX2_not 58 = .ok (.if_icmp .eq 5, 3) := dk_159 0 5 (dk_at dksX2_not_2 11 rfl rfl)
theorem dX2_not_61 : decode cX2_not 61 = .ok (.aload_n 1, 1) := dk_43 (dk_at dksX2_not_2 14 rfl rfl)
theorem dX2_not_62 : decode cX2_not 62 = .ok (.areturn, 1) := dk_176 (dk_at dksX2_not_2 15 rfl rfl)
theorem dX2_not_63 : decode cX2_not 63 = .ok (.aload_n 0, 1) := dk_42 (dk_at dksX2_not_2 16 rfl rfl)
theorem dX2_not_64 : decode cX2_not 64 = .ok (.getfield 44, 3) := dk_180 0 44 (dk_at dksX2_not_2 17 rfl rfl)
theorem dX2_not_67 : decode cX2_not 67 = .ok (.istore_n 2, 1) := dk_61 (dk_at dksX2_not_2 20 rfl rfl)
theorem dX2_not_68 : decode cX2_not 68 = .ok (.aload_n 0, 1) := dk_42 (dk_at dksX2_not_2 21 rfl rfl)
theorem dX2_not_69 : decode cX2_not 69 = .ok (.invokevirtual 89, 3) := dk_182 0 89 (dk_at dksX2_not_3 0 rfl rfl)
theorem dX2_not_72 : decode cX2_not 72 = .ok (.new 124, 3) := dk_187 0 124 (dk_at dksX2_not_3 3 rfl rfl)
theorem dX2_not_75 : decode cX2_not 75 = .ok (.dup, 1) := dk_89 (dk_at dksX2_not_3 6 rfl rfl)
theorem dX2_not_76 : decode cX2_not 76 = .ok (.iload_n 2, 1) := dk_28 (dk_at dksX2_not_3 7 rfl rfl)
theorem dX2_not_77 : decode cX2_not 77 = .ok (.aload_n 1, 1) := dk_43 (dk_at dksX2_not_3 8 rfl rfl)
theorem dX2_not_78 : decode cX2_not 78 = .ok (.aload_n 0, 1) := dk_42 (dk_at dksX2_not_3 9 rfl rfl)
theorem dX2_not_79 : decode cX2_not 79 = .ok (.invokevirtual 136, 3) := dk_182 0 136 (dk_at dksX2_not_3 10 rfl rfl)
theorem dX2_not_82 : decode cX2_not 82 = .ok (.invokespecial 126, 3) := dk_183 0 126 (dk_at dksX2_not_3 13 rfl rfl)
theorem dX2_not_85 : decode cX2_not 85 = .ok (.areturn, 1) := dk_176 (dk_at dksX2_not_3 16 rfl rfl)
abbrev cX2_opens : ByteArray := prog_11_method_7_code
def yX2_opens : MethodName := ⟨RX2, "opens", "()V"⟩
def dkwX2_opens_1 : List UInt8 := [182, 0, 89, 177]
abbrev dktX2_opens_1 : List UInt8 := dkwX2_opens_1 ++ []
def dkwX2_opens_0 : List UInt8 := [42, 180, 0, 18, 8, 160, 0, 8, 42, 182, 0, 73, 191, 42, 89, 180, 0, 18, 4, 96, 181, 0, 18, 42]
abbrev dktX2_opens_0 : List UInt8 := dkwX2_opens_0 ++ dktX2_opens_1
theorem dksX2_opens_0 : cX2_opens.data.toList.drop 0 = dktX2_opens_0 := by decide +kernel
theorem dksX2_opens_1 : cX2_opens.data.toList.drop 24 = dktX2_opens_1 := dk_seg dksX2_opens_0 24 rfl rfl
theorem dX2_opens_0 : decode cX2_opens 0 = .ok (.aload_n 0, 1) := dk_42 (dk_at dksX2_opens_0 0 rfl rfl)
theorem dX2_opens_1 : decode cX2_opens 1 = .ok (.getfield 18, 3) := dk_180 0 18 (dk_at dksX2_opens_0 1 rfl rfl)
theorem dX2_opens_4 : decode cX2_opens 4 = .ok (.iconst 5, 1) := dk_8 (dk_at dksX2_opens_0 4 rfl rfl)
theorem dX2_opens_5 : decode cX2_opens 5 = .ok (.if_icmp .ne 8, 3) := dk_160 0 8 (dk_at dksX2_opens_0 5 rfl rfl)
theorem dX2_opens_8 : decode cX2_opens 8 = .ok (.aload_n 0, 1) := dk_42 (dk_at dksX2_opens_0 8 rfl rfl)
theorem dX2_opens_9 : decode cX2_opens 9 = .ok (.invokevirtual 73, 3) := dk_182 0 73 (dk_at dksX2_opens_0 9 rfl rfl)
theorem dX2_opens_12 : decode cX2_opens 12 = .ok (.athrow, 1) := dk_191 (dk_at dksX2_opens_0 12 rfl rfl)
theorem dX2_opens_13 : decode cX2_opens 13 = .ok (.aload_n 0, 1) := dk_42 (dk_at dksX2_opens_0 13 rfl rfl)
theorem dX2_opens_14 : decode cX2_opens 14 = .ok (.dup, 1) := dk_89 (dk_at dksX2_opens_0 14 rfl rfl)
theorem dX2_opens_15 : decode cX2_opens 15 = .ok (.getfield 18, 3) := dk_180 0 18 (dk_at dksX2_opens_0 15 rfl rfl)
theorem dX2_opens_18 : decode cX2_opens 18 = .ok (.iconst 1, 1) := dk_4 (dk_at dksX2_opens_0 18 rfl rfl)
theorem dX2_opens_19 : decode cX2_opens 19 = .ok (.iadd, 1) := dk_96 (dk_at dksX2_opens_0 19 rfl rfl)
theorem dX2_opens_20 : decode cX2_opens 20 = .ok (.putfield 18, 3) := dk_181 0 18 (dk_at dksX2_opens_0 20 rfl rfl)
theorem dX2_opens_23 : decode cX2_opens 23 = .ok (.aload_n 0, 1) := dk_42 (dk_at dksX2_opens_0 23 rfl rfl)
theorem dX2_opens_24 : decode cX2_opens 24 = .ok (.invokevirtual 89, 3) := dk_182 0 89 (dk_at dksX2_opens_1 0 rfl rfl)
theorem dX2_opens_27 : decode cX2_opens 27 = .ok (.return_, 1) := dk_177 (dk_at dksX2_opens_1 3 rfl rfl)
abbrev cX2_sum : ByteArray := prog_11_method_10_code
def yX2_sum : MethodName := ⟨RX2, "sum", "()LOverTheHeads$Node;"⟩
def dkwX2_sum_2 : List UInt8 := [167, 255, 215, 43, 176]
abbrev dktX2_sum_2 : List UInt8 := dkwX2_sum_2 ++ []
def dkwX2_sum_1 : List UInt8 := [180, 0, 44, 61, 42, 182, 0, 89, 187, 0, 124, 89, 28, 43, 42, 182, 0, 129, 183, 0, 126, 76]
abbrev dktX2_sum_1 : List UInt8 := dkwX2_sum_1 ++ dktX2_sum_2
def dkwX2_sum_0 : List UInt8 := [42, 182, 0, 129, 76, 42, 180, 0, 44, 16, 43, 159, 0, 12, 42, 180, 0, 44, 16, 45, 160, 0, 29, 42]
abbrev dktX2_sum_0 : List UInt8 := dkwX2_sum_0 ++ dktX2_sum_1
theorem dksX2_sum_0 : cX2_sum.data.toList.drop 0 = dktX2_sum_0 := by decide +kernel
theorem dksX2_sum_1 : cX2_sum.data.toList.drop 24 = dktX2_sum_1 := dk_seg dksX2_sum_0 24 rfl rfl
theorem dksX2_sum_2 : cX2_sum.data.toList.drop 46 = dktX2_sum_2 := dk_seg dksX2_sum_1 22 rfl rfl
theorem dX2_sum_0 : decode cX2_sum 0 = .ok (.aload_n 0, 1) := dk_42 (dk_at dksX2_sum_0 0 rfl rfl)
theorem dX2_sum_1 : decode cX2_sum 1 = .ok (.invokevirtual 129, 3) := dk_182 0 129 (dk_at dksX2_sum_0 1 rfl rfl)
theorem dX2_sum_4 : decode cX2_sum 4 = .ok (.astore_n 1, 1) := dk_76 (dk_at dksX2_sum_0 4 rfl rfl)
theorem dX2_sum_5 : decode cX2_sum 5 = .ok (.aload_n 0, 1) := dk_42 (dk_at dksX2_sum_0 5 rfl rfl)
theorem dX2_sum_6 : decode cX2_sum 6 = .ok (.getfield 44, 3) := dk_180 0 44 (dk_at dksX2_sum_0 6 rfl rfl)
theorem dX2_sum_9 : decode cX2_sum 9 = .ok (.bipush 43, 2) := dk_16 43 (dk_at dksX2_sum_0 9 rfl rfl)
theorem dX2_sum_11 : decode cX2_sum 11 = .ok (.if_icmp .eq 12, 3) := dk_159 0 12 (dk_at dksX2_sum_0 11 rfl rfl)
theorem dX2_sum_14 : decode cX2_sum 14 = .ok (.aload_n 0, 1) := dk_42 (dk_at dksX2_sum_0 14 rfl rfl)
theorem dX2_sum_15 : decode cX2_sum 15 = .ok (.getfield 44, 3) := dk_180 0 44 (dk_at dksX2_sum_0 15 rfl rfl)
theorem dX2_sum_18 : decode cX2_sum 18 = .ok (.bipush 45, 2) := dk_16 45 (dk_at dksX2_sum_0 18 rfl rfl)
theorem dX2_sum_20 : decode cX2_sum 20 = .ok (.if_icmp .ne 29, 3) := dk_160 0 29 (dk_at dksX2_sum_0 20 rfl rfl)
theorem dX2_sum_23 : decode cX2_sum 23 = .ok (.aload_n 0, 1) := dk_42 (dk_at dksX2_sum_0 23 rfl rfl)
theorem dX2_sum_24 : decode cX2_sum 24 = .ok (.getfield 44, 3) := dk_180 0 44 (dk_at dksX2_sum_1 0 rfl rfl)
theorem dX2_sum_27 : decode cX2_sum 27 = .ok (.istore_n 2, 1) := dk_61 (dk_at dksX2_sum_1 3 rfl rfl)
theorem dX2_sum_28 : decode cX2_sum 28 = .ok (.aload_n 0, 1) := dk_42 (dk_at dksX2_sum_1 4 rfl rfl)
theorem dX2_sum_29 : decode cX2_sum 29 = .ok (.invokevirtual 89, 3) := dk_182 0 89 (dk_at dksX2_sum_1 5 rfl rfl)
theorem dX2_sum_32 : decode cX2_sum 32 = .ok (.new 124, 3) := dk_187 0 124 (dk_at dksX2_sum_1 8 rfl rfl)
theorem dX2_sum_35 : decode cX2_sum 35 = .ok (.dup, 1) := dk_89 (dk_at dksX2_sum_1 11 rfl rfl)
theorem dX2_sum_36 : decode cX2_sum 36 = .ok (.iload_n 2, 1) := dk_28 (dk_at dksX2_sum_1 12 rfl rfl)
theorem dX2_sum_37 : decode cX2_sum 37 = .ok (.aload_n 1, 1) := dk_43 (dk_at dksX2_sum_1 13 rfl rfl)
theorem dX2_sum_38 : decode cX2_sum 38 = .ok (.aload_n 0, 1) := dk_42 (dk_at dksX2_sum_1 14 rfl rfl)
theorem dX2_sum_39 : decode cX2_sum 39 = .ok (.invokevirtual 129, 3) := dk_182 0 129 (dk_at dksX2_sum_1 15 rfl rfl)
theorem dX2_sum_42 : decode cX2_sum 42 = .ok (.invokespecial 126, 3) := dk_183 0 126 (dk_at dksX2_sum_1 18 rfl rfl)
theorem dX2_sum_45 : decode cX2_sum 45 = .ok (.astore_n 1, 1) := dk_76 (dk_at dksX2_sum_1 21 rfl rfl)
theorem dX2_sum_46 : decode cX2_sum 46 = .ok (.goto (-41), 3) := dk_167 255 215 (dk_at dksX2_sum_2 0 rfl rfl)
theorem dX2_sum_49 : decode cX2_sum 49 = .ok (.aload_n 1, 1) := dk_43 (dk_at dksX2_sum_2 3 rfl rfl)
theorem dX2_sum_50 : decode cX2_sum 50 = .ok (.areturn, 1) := dk_176 (dk_at dksX2_sum_2 4 rfl rfl)
abbrev cX2_term : ByteArray := prog_11_method_9_code
def yX2_term : MethodName := ⟨RX2, "term", "()LOverTheHeads$Node;"⟩
def dkwX2_term_1 : List UInt8 := [182, 0, 95, 183, 0, 126, 76, 167, 255, 232, 43, 176]
abbrev dktX2_term_1 : List UInt8 := dkwX2_term_1 ++ []
def dkwX2_term_0 : List UInt8 := [42, 182, 0, 95, 76, 42, 16, 42, 182, 0, 120, 153, 0, 21, 187, 0, 124, 89, 16, 42, 43, 42]
abbrev dktX2_term_0 : List UInt8 := dkwX2_term_0 ++ dktX2_term_1
theorem dksX2_term_0 : cX2_term.data.toList.drop 0 = dktX2_term_0 := by decide +kernel
theorem dksX2_term_1 : cX2_term.data.toList.drop 22 = dktX2_term_1 := dk_seg dksX2_term_0 22 rfl rfl
theorem dX2_term_0 : decode cX2_term 0 = .ok (.aload_n 0, 1) := dk_42 (dk_at dksX2_term_0 0 rfl rfl)
theorem dX2_term_1 : decode cX2_term 1 = .ok (.invokevirtual 95, 3) := dk_182 0 95 (dk_at dksX2_term_0 1 rfl rfl)
theorem dX2_term_4 : decode cX2_term 4 = .ok (.astore_n 1, 1) := dk_76 (dk_at dksX2_term_0 4 rfl rfl)
theorem dX2_term_5 : decode cX2_term 5 = .ok (.aload_n 0, 1) := dk_42 (dk_at dksX2_term_0 5 rfl rfl)
theorem dX2_term_6 : decode cX2_term 6 = .ok (.bipush 42, 2) := dk_16 42 (dk_at dksX2_term_0 6 rfl rfl)
theorem dX2_term_8 : decode cX2_term 8 = .ok (.invokevirtual 120, 3) := dk_182 0 120 (dk_at dksX2_term_0 8 rfl rfl)
theorem dX2_term_11 : decode cX2_term 11 = .ok (.ifCond .eq 21, 3) := dk_153 0 21 (dk_at dksX2_term_0 11 rfl rfl)
theorem dX2_term_14 : decode cX2_term 14 = .ok (.new 124, 3) := dk_187 0 124 (dk_at dksX2_term_0 14 rfl rfl)
theorem dX2_term_17 : decode cX2_term 17 = .ok (.dup, 1) := dk_89 (dk_at dksX2_term_0 17 rfl rfl)
theorem dX2_term_18 : decode cX2_term 18 = .ok (.bipush 42, 2) := dk_16 42 (dk_at dksX2_term_0 18 rfl rfl)
theorem dX2_term_20 : decode cX2_term 20 = .ok (.aload_n 1, 1) := dk_43 (dk_at dksX2_term_0 20 rfl rfl)
theorem dX2_term_21 : decode cX2_term 21 = .ok (.aload_n 0, 1) := dk_42 (dk_at dksX2_term_0 21 rfl rfl)
theorem dX2_term_22 : decode cX2_term 22 = .ok (.invokevirtual 95, 3) := dk_182 0 95 (dk_at dksX2_term_1 0 rfl rfl)
theorem dX2_term_25 : decode cX2_term 25 = .ok (.invokespecial 126, 3) := dk_183 0 126 (dk_at dksX2_term_1 3 rfl rfl)
theorem dX2_term_28 : decode cX2_term 28 = .ok (.astore_n 1, 1) := dk_76 (dk_at dksX2_term_1 6 rfl rfl)
theorem dX2_term_29 : decode cX2_term 29 = .ok (.goto (-24), 3) := dk_167 255 232 (dk_at dksX2_term_1 7 rfl rfl)
theorem dX2_term_32 : decode cX2_term 32 = .ok (.aload_n 1, 1) := dk_43 (dk_at dksX2_term_1 10 rfl rfl)
theorem dX2_term_33 : decode cX2_term 33 = .ok (.areturn, 1) := dk_176 (dk_at dksX2_term_1 11 rfl rfl)
abbrev cX2_one : ByteArray := prog_11_method_8_code
def yX2_one : MethodName := ⟨RX2, "one", "()LOverTheHeads$Node;"⟩
def dkwX2_one_6 : List UInt8 := [187, 0, 107, 89, 3, 27, 183, 0, 109, 176, 132, 1, 1, 167, 255, 216, 42, 182, 0, 73, 191]
abbrev dktX2_one_6 : List UInt8 := dkwX2_one_6 ++ []
def dkwX2_one_5 : List UInt8 := [190, 162, 0, 38, 42, 178, 0, 112, 27, 50, 182, 0, 116, 154, 0, 6, 167, 0, 17, 42, 182, 0, 89]
abbrev dktX2_one_5 : List UInt8 := dkwX2_one_5 ++ dktX2_one_6
def dkwX2_one_4 : List UInt8 := [180, 0, 41, 60, 42, 182, 0, 89, 187, 0, 107, 89, 27, 2, 183, 0, 109, 176, 3, 60, 27, 178, 0, 112]
abbrev dktX2_one_4 : List UInt8 := dkwX2_one_4 ++ dktX2_one_5
def dkwX2_one_3 : List UInt8 := [180, 0, 18, 4, 100, 181, 0, 18, 42, 182, 0, 89, 43, 176, 42, 180, 0, 41, 2, 159, 0, 22, 42]
abbrev dktX2_one_3 : List UInt8 := dkwX2_one_3 ++ dktX2_one_4
def dkwX2_one_2 : List UInt8 := [182, 0, 92, 42, 182, 0, 104, 76, 42, 180, 0, 44, 16, 41, 159, 0, 8, 42, 182, 0, 73, 191, 42, 89]
abbrev dktX2_one_2 : List UInt8 := dkwX2_one_2 ++ dktX2_one_3
def dkwX2_one_1 : List UInt8 := [100, 181, 0, 18, 187, 0, 99, 89, 3, 43, 183, 0, 101, 176, 42, 180, 0, 44, 16, 40, 160, 0, 42, 42]
abbrev dktX2_one_1 : List UInt8 := dkwX2_one_1 ++ dktX2_one_2
def dkwX2_one_0 : List UInt8 := [42, 180, 0, 44, 16, 45, 160, 0, 32, 42, 182, 0, 92, 42, 182, 0, 95, 76, 42, 89, 180, 0, 18, 4]
abbrev dktX2_one_0 : List UInt8 := dkwX2_one_0 ++ dktX2_one_1
theorem dksX2_one_0 : cX2_one.data.toList.drop 0 = dktX2_one_0 := by decide +kernel
theorem dksX2_one_1 : cX2_one.data.toList.drop 24 = dktX2_one_1 := dk_seg dksX2_one_0 24 rfl rfl
theorem dksX2_one_2 : cX2_one.data.toList.drop 48 = dktX2_one_2 := dk_seg dksX2_one_1 24 rfl rfl
theorem dksX2_one_3 : cX2_one.data.toList.drop 72 = dktX2_one_3 := dk_seg dksX2_one_2 24 rfl rfl
theorem dksX2_one_4 : cX2_one.data.toList.drop 95 = dktX2_one_4 := dk_seg dksX2_one_3 23 rfl rfl
theorem dksX2_one_5 : cX2_one.data.toList.drop 119 = dktX2_one_5 := dk_seg dksX2_one_4 24 rfl rfl
theorem dksX2_one_6 : cX2_one.data.toList.drop 142 = dktX2_one_6 := dk_seg dksX2_one_5 23 rfl rfl
theorem dX2_one_0 : decode cX2_one 0 = .ok (.aload_n 0, 1) := dk_42 (dk_at dksX2_one_0 0 rfl rfl)
theorem dX2_one_1 : decode cX2_one 1 = .ok (.getfield 44, 3) := dk_180 0 44 (dk_at dksX2_one_0 1 rfl rfl)
theorem dX2_one_4 : decode cX2_one 4 = .ok (.bipush 45, 2) := dk_16 45 (dk_at dksX2_one_0 4 rfl rfl)
theorem dX2_one_6 : decode cX2_one 6 = .ok (.if_icmp .ne 32, 3) := dk_160 0 32 (dk_at dksX2_one_0 6 rfl rfl)
theorem dX2_one_9 : decode cX2_one 9 = .ok (.aload_n 0, 1) := dk_42 (dk_at dksX2_one_0 9 rfl rfl)
theorem dX2_one_10 : decode cX2_one 10 = .ok (.invokevirtual 92, 3) := dk_182 0 92 (dk_at dksX2_one_0 10 rfl rfl)
theorem dX2_one_13 : decode cX2_one 13 = .ok (.aload_n 0, 1) := dk_42 (dk_at dksX2_one_0 13 rfl rfl)
theorem dX2_one_14 : decode cX2_one 14 = .ok (.invokevirtual 95, 3) := dk_182 0 95 (dk_at dksX2_one_0 14 rfl rfl)
theorem dX2_one_17 : decode cX2_one 17 = .ok (.astore_n 1, 1) := dk_76 (dk_at dksX2_one_0 17 rfl rfl)
theorem dX2_one_18 : decode cX2_one 18 = .ok (.aload_n 0, 1) := dk_42 (dk_at dksX2_one_0 18 rfl rfl)
theorem dX2_one_19 : decode cX2_one 19 = .ok (.dup, 1) := dk_89 (dk_at dksX2_one_0 19 rfl rfl)
theorem dX2_one_20 : decode cX2_one 20 = .ok (.getfield 18, 3) := dk_180 0 18 (dk_at dksX2_one_0 20 rfl rfl)
theorem dX2_one_23 : decode cX2_one 23 = .ok (.iconst 1, 1) := dk_4 (dk_at dksX2_one_0 23 rfl rfl)
theorem dX2_one_24 : decode cX2_one 24 = .ok (.isub, 1) := dk_100 (dk_at dksX2_one_1 0 rfl rfl)
theorem dX2_one_25 : decode cX2_one 25 = .ok (.putfield 18, 3) := dk_181 0 18 (dk_at dksX2_one_1 1 rfl rfl)
theorem dX2_one_28 : decode cX2_one 28 = .ok (.new 99, 3) := dk_187 0 99 (dk_at dksX2_one_1 4 rfl rfl)
theorem dX2_one_31 : decode cX2_one 31 = .ok (.dup, 1) := dk_89 (dk_at dksX2_one_1 7 rfl rfl)
theorem dX2_one_32 : decode cX2_one 32 = .ok (.iconst 0, 1) := dk_3 (dk_at dksX2_one_1 8 rfl rfl)
theorem dX2_one_33 : decode cX2_one 33 = .ok (.aload_n 1, 1) := dk_43 (dk_at dksX2_one_1 9 rfl rfl)
theorem dX2_one_34 : decode cX2_one 34 = .ok (.invokespecial 101, 3) := dk_183 0 101 (dk_at dksX2_one_1 10 rfl rfl)
theorem dX2_one_37 : decode cX2_one 37 = .ok (.areturn, 1) := dk_176 (dk_at dksX2_one_1 13 rfl rfl)
theorem dX2_one_38 : decode cX2_one 38 = .ok (.aload_n 0, 1) := dk_42 (dk_at dksX2_one_1 14 rfl rfl)
theorem dX2_one_39 : decode cX2_one 39 = .ok (.getfield 44, 3) := dk_180 0 44 (dk_at dksX2_one_1 15 rfl rfl)
theorem dX2_one_42 : decode cX2_one 42 = .ok (.bipush 40, 2) := dk_16 40 (dk_at dksX2_one_1 18 rfl rfl)
theorem dX2_one_44 : decode cX2_one 44 = .ok (.if_icmp .ne 42, 3) := dk_160 0 42 (dk_at dksX2_one_1 20 rfl rfl)
theorem dX2_one_47 : decode cX2_one 47 = .ok (.aload_n 0, 1) := dk_42 (dk_at dksX2_one_1 23 rfl rfl)
theorem dX2_one_48 : decode cX2_one 48 = .ok (.invokevirtual 92, 3) := dk_182 0 92 (dk_at dksX2_one_2 0 rfl rfl)
theorem dX2_one_51 : decode cX2_one 51 = .ok (.aload_n 0, 1) := dk_42 (dk_at dksX2_one_2 3 rfl rfl)
theorem dX2_one_52 : decode cX2_one 52 = .ok (.invokevirtual 104, 3) := dk_182 0 104 (dk_at dksX2_one_2 4 rfl rfl)
theorem dX2_one_55 : decode cX2_one 55 = .ok (.astore_n 1, 1) := dk_76 (dk_at dksX2_one_2 7 rfl rfl)
theorem dX2_one_56 : decode cX2_one 56 = .ok (.aload_n 0, 1) := dk_42 (dk_at dksX2_one_2 8 rfl rfl)
theorem dX2_one_57 : decode cX2_one 57 = .ok (.getfield 44, 3) := dk_180 0 44 (dk_at dksX2_one_2 9 rfl rfl)
theorem dX2_one_60 : decode cX2_one 60 = .ok (.bipush 41, 2) := dk_16 41 (dk_at dksX2_one_2 12 rfl rfl)
theorem dX2_one_62 : decode cX2_one 62 = .ok (.if_icmp .eq 8, 3) := dk_159 0 8 (dk_at dksX2_one_2 14 rfl rfl)
theorem dX2_one_65 : decode cX2_one 65 = .ok (.aload_n 0, 1) := dk_42 (dk_at dksX2_one_2 17 rfl rfl)
theorem dX2_one_66 : decode cX2_one 66 = .ok (.invokevirtual 73, 3) := dk_182 0 73 (dk_at dksX2_one_2 18 rfl rfl)
theorem dX2_one_69 : decode cX2_one 69 = .ok (.athrow, 1) := dk_191 (dk_at dksX2_one_2 21 rfl rfl)
theorem dX2_one_70 : decode cX2_one 70 = .ok (.aload_n 0, 1) := dk_42 (dk_at dksX2_one_2 22 rfl rfl)
theorem dX2_one_71 : decode cX2_one 71 = .ok (.dup, 1) := dk_89 (dk_at dksX2_one_2 23 rfl rfl)
theorem dX2_one_72 : decode cX2_one 72 = .ok (.getfield 18, 3) := dk_180 0 18 (dk_at dksX2_one_3 0 rfl rfl)
theorem dX2_one_75 : decode cX2_one 75 = .ok (.iconst 1, 1) := dk_4 (dk_at dksX2_one_3 3 rfl rfl)
theorem dX2_one_76 : decode cX2_one 76 = .ok (.isub, 1) := dk_100 (dk_at dksX2_one_3 4 rfl rfl)
theorem dX2_one_77 : decode cX2_one 77 = .ok (.putfield 18, 3) := dk_181 0 18 (dk_at dksX2_one_3 5 rfl rfl)
theorem dX2_one_80 : decode cX2_one 80 = .ok (.aload_n 0, 1) := dk_42 (dk_at dksX2_one_3 8 rfl rfl)
theorem dX2_one_81 : decode cX2_one 81 = .ok (.invokevirtual 89, 3) := dk_182 0 89 (dk_at dksX2_one_3 9 rfl rfl)
theorem dX2_one_84 : decode cX2_one 84 = .ok (.aload_n 1, 1) := dk_43 (dk_at dksX2_one_3 12 rfl rfl)
theorem dX2_one_85 : decode cX2_one 85 = .ok (.areturn, 1) := dk_176 (dk_at dksX2_one_3 13 rfl rfl)
theorem dX2_one_86 : decode cX2_one 86 = .ok (.aload_n 0, 1) := dk_42 (dk_at dksX2_one_3 14 rfl rfl)
theorem dX2_one_87 : decode cX2_one 87 = .ok (.getfield 41, 3) := dk_180 0 41 (dk_at dksX2_one_3 15 rfl rfl)
theorem dX2_one_90 : decode cX2_one 90 = .ok (.iconst (-1), 1) := dk_2 (dk_at dksX2_one_3 18 rfl rfl)
theorem dX2_one_91 : decode cX2_one 91 = .ok (.if_icmp .eq 22, 3) := dk_159 0 22 (dk_at dksX2_one_3 19 rfl rfl)
theorem dX2_one_94 : decode cX2_one 94 = .ok (.aload_n 0, 1) := dk_42 (dk_at dksX2_one_3 22 rfl rfl)
theorem dX2_one_95 : decode cX2_one 95 = .ok (.getfield 41, 3) := dk_180 0 41 (dk_at dksX2_one_4 0 rfl rfl)
theorem dX2_one_98 : decode cX2_one 98 = .ok (.istore_n 1, 1) := dk_60 (dk_at dksX2_one_4 3 rfl rfl)
theorem dX2_one_99 : decode cX2_one 99 = .ok (.aload_n 0, 1) := dk_42 (dk_at dksX2_one_4 4 rfl rfl)
theorem dX2_one_100 : decode cX2_one 100 = .ok (.invokevirtual 89, 3) := dk_182 0 89 (dk_at dksX2_one_4 5 rfl rfl)
theorem dX2_one_103 : decode cX2_one 103 = .ok (.new 107, 3) := dk_187 0 107 (dk_at dksX2_one_4 8 rfl rfl)
theorem dX2_one_106 : decode cX2_one 106 = .ok (.dup, 1) := dk_89 (dk_at dksX2_one_4 11 rfl rfl)
theorem dX2_one_107 : decode cX2_one 107 = .ok (.iload_n 1, 1) := dk_27 (dk_at dksX2_one_4 12 rfl rfl)
theorem dX2_one_108 : decode cX2_one 108 = .ok (.iconst (-1), 1) := dk_2 (dk_at dksX2_one_4 13 rfl rfl)
theorem dX2_one_109 : decode cX2_one 109 = .ok (.invokespecial 109, 3) := dk_183 0 109 (dk_at dksX2_one_4 14 rfl rfl)
theorem dX2_one_112 : decode cX2_one 112 = .ok (.areturn, 1) := dk_176 (dk_at dksX2_one_4 17 rfl rfl)
theorem dX2_one_113 : decode cX2_one 113 = .ok (.iconst 0, 1) := dk_3 (dk_at dksX2_one_4 18 rfl rfl)
theorem dX2_one_114 : decode cX2_one 114 = .ok (.istore_n 1, 1) := dk_60 (dk_at dksX2_one_4 19 rfl rfl)
theorem dX2_one_115 : decode cX2_one 115 = .ok (.iload_n 1, 1) := dk_27 (dk_at dksX2_one_4 20 rfl rfl)
theorem dX2_one_116 : decode cX2_one 116 = .ok (.getstatic 112, 3) := dk_178 0 112 (dk_at dksX2_one_4 21 rfl rfl)
theorem dX2_one_119 : decode cX2_one 119 = .ok (.arraylength, 1) := dk_190 (dk_at dksX2_one_5 0 rfl rfl)
theorem dX2_one_120 : decode cX2_one 120 = .ok (.if_icmp .ge 38, 3) := dk_162 0 38 (dk_at dksX2_one_5 1 rfl rfl)
theorem dX2_one_123 : decode cX2_one 123 = .ok (.aload_n 0, 1) := dk_42 (dk_at dksX2_one_5 4 rfl rfl)
theorem dX2_one_124 : decode cX2_one 124 = .ok (.getstatic 112, 3) := dk_178 0 112 (dk_at dksX2_one_5 5 rfl rfl)
theorem dX2_one_127 : decode cX2_one 127 = .ok (.iload_n 1, 1) := dk_27 (dk_at dksX2_one_5 8 rfl rfl)
theorem dX2_one_128 : decode cX2_one 128 = .ok (.aaload, 1) := dk_50 (dk_at dksX2_one_5 9 rfl rfl)
theorem dX2_one_129 : decode cX2_one 129 = .ok (.invokevirtual 116, 3) := dk_182 0 116 (dk_at dksX2_one_5 10 rfl rfl)
theorem dX2_one_132 : decode cX2_one 132 = .ok (.ifCond .ne 6, 3) := dk_154 0 6 (dk_at dksX2_one_5 13 rfl rfl)
theorem dX2_one_135 : decode cX2_one 135 = .ok (.goto 17, 3) := dk_167 0 17 (dk_at dksX2_one_5 16 rfl rfl)
theorem dX2_one_138 : decode cX2_one 138 = .ok (.aload_n 0, 1) := dk_42 (dk_at dksX2_one_5 19 rfl rfl)
theorem dX2_one_139 : decode cX2_one 139 = .ok (.invokevirtual 89, 3) := dk_182 0 89 (dk_at dksX2_one_5 20 rfl rfl)
theorem dX2_one_142 : decode cX2_one 142 = .ok (.new 107, 3) := dk_187 0 107 (dk_at dksX2_one_6 0 rfl rfl)
theorem dX2_one_145 : decode cX2_one 145 = .ok (.dup, 1) := dk_89 (dk_at dksX2_one_6 3 rfl rfl)
theorem dX2_one_146 : decode cX2_one 146 = .ok (.iconst 0, 1) := dk_3 (dk_at dksX2_one_6 4 rfl rfl)
theorem dX2_one_147 : decode cX2_one 147 = .ok (.iload_n 1, 1) := dk_27 (dk_at dksX2_one_6 5 rfl rfl)
theorem dX2_one_148 : decode cX2_one 148 = .ok (.invokespecial 109, 3) := dk_183 0 109 (dk_at dksX2_one_6 6 rfl rfl)
theorem dX2_one_151 : decode cX2_one 151 = .ok (.areturn, 1) := dk_176 (dk_at dksX2_one_6 9 rfl rfl)
theorem dX2_one_152 : decode cX2_one 152 = .ok (.iinc 1 1, 3) := dk_132 1 1 (dk_at dksX2_one_6 10 rfl rfl)
theorem dX2_one_155 : decode cX2_one 155 = .ok (.goto (-40), 3) := dk_167 255 216 (dk_at dksX2_one_6 13 rfl rfl)
theorem dX2_one_158 : decode cX2_one 158 = .ok (.aload_n 0, 1) := dk_42 (dk_at dksX2_one_6 16 rfl rfl)
theorem dX2_one_159 : decode cX2_one 159 = .ok (.invokevirtual 73, 3) := dk_182 0 73 (dk_at dksX2_one_6 17 rfl rfl)
theorem dX2_one_162 : decode cX2_one 162 = .ok (.athrow, 1) := dk_191 (dk_at dksX2_one_6 20 rfl rfl)
abbrev cX2_takes : ByteArray := prog_11_method_6_code
def yX2_takes : MethodName := ⟨RX2, "takes", "(I)Z"⟩
def dkwX2_takes_0 : List UInt8 := [42, 180, 0, 44, 27, 159, 0, 5, 3, 172, 42, 182, 0, 89, 4, 172]
abbrev dktX2_takes_0 : List UInt8 := dkwX2_takes_0 ++ []
theorem dksX2_takes_0 : cX2_takes.data.toList.drop 0 = dktX2_takes_0 := by decide +kernel
theorem dX2_takes_0 : decode cX2_takes 0 = .ok (.aload_n 0, 1) := dk_42 (dk_at dksX2_takes_0 0 rfl rfl)
theorem dX2_takes_1 : decode cX2_takes 1 = .ok (.getfield 44, 3) := dk_180 0 44 (dk_at dksX2_takes_0 1 rfl rfl)
theorem dX2_takes_4 : decode cX2_takes 4 = .ok (.iload_n 1, 1) := dk_27 (dk_at dksX2_takes_0 4 rfl rfl)
theorem dX2_takes_5 : decode cX2_takes 5 = .ok (.if_icmp .eq 5, 3) := dk_159 0 5 (dk_at dksX2_takes_0 5 rfl rfl)
theorem dX2_takes_8 : decode cX2_takes 8 = .ok (.iconst 0, 1) := dk_3 (dk_at dksX2_takes_0 8 rfl rfl)
theorem dX2_takes_9 : decode cX2_takes 9 = .ok (.ireturn, 1) := dk_172 (dk_at dksX2_takes_0 9 rfl rfl)
theorem dX2_takes_10 : decode cX2_takes 10 = .ok (.aload_n 0, 1) := dk_42 (dk_at dksX2_takes_0 10 rfl rfl)
theorem dX2_takes_11 : decode cX2_takes 11 = .ok (.invokevirtual 89, 3) := dk_182 0 89 (dk_at dksX2_takes_0 11 rfl rfl)
theorem dX2_takes_14 : decode cX2_takes 14 = .ok (.iconst 1, 1) := dk_4 (dk_at dksX2_takes_0 14 rfl rfl)
theorem dX2_takes_15 : decode cX2_takes 15 = .ok (.ireturn, 1) := dk_172 (dk_at dksX2_takes_0 15 rfl rfl)
theorem q99 : (Jvm.Cond.initialized "OverTheHeads$Reader") ∈ lw_all := lw_g (lw_at lw_m1 10 rfl) rfl
theorem q238 : (Jvm.Cond.instantiable "OverTheHeads$Reader" (8 : Nat)) ∈ lw_all := lw_g (lw_at lw_m1 149 rfl) rfl
theorem q240 : (Jvm.Cond.instanceMethod ({ cls := "OverTheHeads$Reader", name := "<init>", desc := "([BI)V" } : Jvm.MethodName)) ∈ lw_all := lw_g (lw_at lw_m1 151 rfl) rfl
theorem q241 : (Jvm.Cond.code ({ cls := "OverTheHeads$Reader", name := "<init>", desc := "([BI)V" } : Jvm.MethodName) prog_11_method_1_code (3 : Nat) (Option.none : Option Jvm.ClassFile.FieldType)) ∈ lw_all := lw_g (lw_at lw_m1 152 rfl) rfl
theorem q242 : (Jvm.Cond.methodLink "OverTheHeads$Reader" (3 : Nat) ({ cls := "java/lang/Object", name := "<init>", desc := "()V" } : Jvm.MethodName)) ∈ lw_all := lw_g (lw_at lw_m1 153 rfl) rfl
theorem q243 : (Jvm.Cond.fieldLink "OverTheHeads$Reader" (21 : Nat) "OverTheHeads$Reader" "text" "[B") ∈ lw_all := lw_g (lw_at lw_m1 154 rfl) rfl
theorem q244 : (Jvm.Cond.fieldLink "OverTheHeads$Reader" (25 : Nat) "OverTheHeads$Reader" "size" "I") ∈ lw_all := lw_g (lw_at lw_m1 155 rfl) rfl
theorem q245 : (Jvm.Cond.fieldLink "OverTheHeads$Reader" (9 : Nat) "OverTheHeads$Reader" "at" "I") ∈ lw_all := lw_g (lw_at lw_m1 156 rfl) rfl
theorem q246 : (Jvm.Cond.fieldLink "OverTheHeads$Reader" (15 : Nat) "OverTheHeads$Reader" "from" "I") ∈ lw_all := lw_g (lw_at lw_m1 157 rfl) rfl
theorem q247 : (Jvm.Cond.fieldLink "OverTheHeads$Reader" (18 : Nat) "OverTheHeads$Reader" "open" "I") ∈ lw_all := lw_g (lw_at lw_m1 158 rfl) rfl
theorem q248 : (Jvm.Cond.fieldLink "OverTheHeads$Reader" (37 : Nat) "OverTheHeads$Reader" "word" "Ljava/lang/String;") ∈ lw_all := lw_g (lw_at lw_m1 159 rfl) rfl
theorem q249 : (Jvm.Cond.fieldLink "OverTheHeads$Reader" (41 : Nat) "OverTheHeads$Reader" "number" "I") ∈ lw_all := lw_g (lw_at lw_m1 160 rfl) rfl
theorem q250 : (Jvm.Cond.fieldLink "OverTheHeads$Reader" (44 : Nat) "OverTheHeads$Reader" "sign" "I") ∈ lw_all := lw_g (lw_at lw_m1 161 rfl) rfl
theorem q251 : (Jvm.Cond.laysFinal "OverTheHeads$Reader" "OverTheHeads$Reader" "text" "[B") ∈ lw_all := lw_g (lw_at lw_m1 162 rfl) rfl
theorem q252 : (Jvm.Cond.soleField "OverTheHeads$Reader" "text") ∈ lw_all := lw_g (lw_at lw_m1 163 rfl) rfl
theorem q253 : (Jvm.Cond.laysFinal "OverTheHeads$Reader" "OverTheHeads$Reader" "size" "I") ∈ lw_all := lw_g (lw_at lw_m1 164 rfl) rfl
theorem q254 : (Jvm.Cond.soleField "OverTheHeads$Reader" "size") ∈ lw_all := lw_g (lw_at lw_m1 165 rfl) rfl
theorem q255 : (Jvm.Cond.lays "OverTheHeads$Reader" "OverTheHeads$Reader" "at" "I") ∈ lw_all := lw_g (lw_at lw_m1 166 rfl) rfl
theorem q256 : (Jvm.Cond.soleField "OverTheHeads$Reader" "at") ∈ lw_all := lw_g (lw_at lw_m1 167 rfl) rfl
theorem q257 : (Jvm.Cond.lays "OverTheHeads$Reader" "OverTheHeads$Reader" "from" "I") ∈ lw_all := lw_g (lw_at lw_m1 168 rfl) rfl
theorem q258 : (Jvm.Cond.soleField "OverTheHeads$Reader" "from") ∈ lw_all := lw_g (lw_at lw_m1 169 rfl) rfl
theorem q259 : (Jvm.Cond.lays "OverTheHeads$Reader" "OverTheHeads$Reader" "open" "I") ∈ lw_all := lw_g (lw_at lw_m1 170 rfl) rfl
theorem q260 : (Jvm.Cond.soleField "OverTheHeads$Reader" "open") ∈ lw_all := lw_g (lw_at lw_m1 171 rfl) rfl
theorem q261 : (Jvm.Cond.lays "OverTheHeads$Reader" "OverTheHeads$Reader" "word" "Ljava/lang/String;") ∈ lw_all := lw_g (lw_at lw_m1 172 rfl) rfl
theorem q262 : (Jvm.Cond.soleField "OverTheHeads$Reader" "word") ∈ lw_all := lw_g (lw_at lw_m1 173 rfl) rfl
theorem q263 : (Jvm.Cond.lays "OverTheHeads$Reader" "OverTheHeads$Reader" "number" "I") ∈ lw_all := lw_g (lw_at lw_m1 174 rfl) rfl
theorem q264 : (Jvm.Cond.soleField "OverTheHeads$Reader" "number") ∈ lw_all := lw_g (lw_at lw_m1 175 rfl) rfl
theorem q265 : (Jvm.Cond.lays "OverTheHeads$Reader" "OverTheHeads$Reader" "sign" "I") ∈ lw_all := lw_g (lw_at lw_m1 176 rfl) rfl
theorem q266 : (Jvm.Cond.soleField "OverTheHeads$Reader" "sign") ∈ lw_all := lw_g (lw_at lw_m1 177 rfl) rfl
theorem q267 : (Jvm.Cond.superclass "OverTheHeads$Reader" "java/lang/Object") ∈ lw_all := lw_g (lw_at lw_m1 178 rfl) rfl
theorem q269 : (Jvm.Cond.instanceMethod ({ cls := "OverTheHeads$Reader", name := "parts", desc := "()[LOverTheHeads$Node;" } : Jvm.MethodName)) ∈ lw_all := lw_g (lw_at lw_m1 180 rfl) rfl
theorem q270 : (Jvm.Cond.selects "OverTheHeads$Reader" ({ cls := "OverTheHeads$Reader", name := "parts", desc := "()[LOverTheHeads$Node;" } : Jvm.MethodName) ({ cls := "OverTheHeads$Reader", name := "parts", desc := "()[LOverTheHeads$Node;" } : Jvm.MethodName)) ∈ lw_all := lw_g (lw_at lw_m1 181 rfl) rfl
theorem q271 : (Jvm.Cond.code ({ cls := "OverTheHeads$Reader", name := "parts", desc := "()[LOverTheHeads$Node;" } : Jvm.MethodName) prog_11_method_14_code (3 : Nat) (Option.some (Jvm.ClassFile.FieldType.array (Jvm.ClassFile.FieldType.object "OverTheHeads$Node")))) ∈ lw_all := lw_g (lw_at lw_m1 182 rfl) rfl
theorem q272 : (Jvm.Cond.fieldLinkNest "OverTheHeads$Reader" (146 : Nat) "OverTheHeads" "KEYS" "[Ljava/lang/String;" "OverTheHeads") ∈ lw_tbl := lw_at lw_m1 183 rfl
theorem q274 : (Jvm.Cond.classLink "OverTheHeads$Reader" (149 : Nat) "OverTheHeads$Node") ∈ lw_all := lw_g (lw_at lw_m1 185 rfl) rfl
theorem q276 : (Jvm.Cond.methodLink "OverTheHeads$Reader" (89 : Nat) ({ cls := "OverTheHeads$Reader", name := "next", desc := "()V" } : Jvm.MethodName)) ∈ lw_all := lw_g (lw_at lw_m1 187 rfl) rfl
theorem q277 : (Jvm.Cond.privateMethod ({ cls := "OverTheHeads$Reader", name := "next", desc := "()V" } : Jvm.MethodName)) ∈ lw_tbl := lw_at lw_m1 188 rfl
theorem q278 : (Jvm.Cond.instanceMethod ({ cls := "OverTheHeads$Reader", name := "next", desc := "()V" } : Jvm.MethodName)) ∈ lw_all := lw_g (lw_at lw_m1 189 rfl) rfl
theorem q279 : (Jvm.Cond.code ({ cls := "OverTheHeads$Reader", name := "next", desc := "()V" } : Jvm.MethodName) prog_11_method_4_code (2 : Nat) (Option.none : Option Jvm.ClassFile.FieldType)) ∈ lw_all := lw_g (lw_at lw_m1 190 rfl) rfl
theorem q280 : (Jvm.Cond.methodLink "OverTheHeads$Reader" (33 : Nat) ({ cls := "OverTheHeads$Reader", name := "here", desc := "()I" } : Jvm.MethodName)) ∈ lw_all := lw_g (lw_at lw_m1 191 rfl) rfl
theorem q281 : (Jvm.Cond.privateMethod ({ cls := "OverTheHeads$Reader", name := "here", desc := "()I" } : Jvm.MethodName)) ∈ lw_tbl := lw_at lw_m1 192 rfl
theorem q282 : (Jvm.Cond.instanceMethod ({ cls := "OverTheHeads$Reader", name := "here", desc := "()I" } : Jvm.MethodName)) ∈ lw_all := lw_g (lw_at lw_m1 193 rfl) rfl
theorem q283 : (Jvm.Cond.code ({ cls := "OverTheHeads$Reader", name := "here", desc := "()I" } : Jvm.MethodName) prog_11_method_3_code (1 : Nat) (Option.some Jvm.ClassFile.FieldType.int)) ∈ lw_all := lw_g (lw_at lw_m1 194 rfl) rfl
theorem q284 : (Jvm.Cond.constantLong "OverTheHeads$Reader" (47 : Nat) (97 : Int64)) ∈ lw_all := lw_g (lw_at lw_m1 195 rfl) rfl
theorem q285 : (Jvm.Cond.constantLong "OverTheHeads$Reader" (49 : Nat) (122 : Int64)) ∈ lw_all := lw_g (lw_at lw_m1 196 rfl) rfl
theorem q286 : (Jvm.Cond.methodLinkNest "OverTheHeads$Reader" (51 : Nat) ({ cls := "OverTheHeads", name := "in", desc := "(JJJ)Z" } : Jvm.MethodName) "OverTheHeads") ∈ lw_tbl := lw_at lw_m1 197 rfl
theorem q289 : (Jvm.Cond.classLink "OverTheHeads$Reader" (55 : Nat) "java/lang/StringBuilder") ∈ lw_all := lw_g (lw_at lw_m1 200 rfl) rfl
theorem q291 : (Jvm.Cond.methodLink "OverTheHeads$Reader" (57 : Nat) ({ cls := "java/lang/StringBuilder", name := "<init>", desc := "()V" } : Jvm.MethodName)) ∈ lw_all := lw_g (lw_at lw_m1 202 rfl) rfl
theorem q319 : (Jvm.Cond.methodLink "OverTheHeads$Reader" (58 : Nat) ({ cls := "java/lang/StringBuilder", name := "length", desc := "()I" } : Jvm.MethodName)) ∈ lw_all := lw_g (lw_at lw_m1 230 rfl) rfl
theorem q326 : (Jvm.Cond.methodLink "OverTheHeads$Reader" (61 : Nat) ({ cls := "java/lang/StringBuilder", name := "append", desc := "(C)Ljava/lang/StringBuilder;" } : Jvm.MethodName)) ∈ lw_all := lw_g (lw_at lw_m1 237 rfl) rfl
theorem q401 : (Jvm.Cond.methodLink "OverTheHeads$Reader" (65 : Nat) ({ cls := "java/lang/StringBuilder", name := "toString", desc := "()Ljava/lang/String;" } : Jvm.MethodName)) ∈ lw_all := lw_g (lw_at lw_m2 72 rfl) rfl
theorem q451 : (Jvm.Cond.constantLong "OverTheHeads$Reader" (69 : Nat) (48 : Int64)) ∈ lw_all := lw_g (lw_at lw_m2 122 rfl) rfl
theorem q452 : (Jvm.Cond.constantLong "OverTheHeads$Reader" (71 : Nat) (57 : Int64)) ∈ lw_all := lw_g (lw_at lw_m2 123 rfl) rfl
theorem q453 : (Jvm.Cond.methodLink "OverTheHeads$Reader" (73 : Nat) ({ cls := "OverTheHeads$Reader", name := "fault", desc := "()LOverTheHeads$Fault;" } : Jvm.MethodName)) ∈ lw_all := lw_g (lw_at lw_m2 124 rfl) rfl
theorem q454 : (Jvm.Cond.privateMethod ({ cls := "OverTheHeads$Reader", name := "fault", desc := "()LOverTheHeads$Fault;" } : Jvm.MethodName)) ∈ lw_tbl := lw_at lw_m2 125 rfl
theorem q455 : (Jvm.Cond.instanceMethod ({ cls := "OverTheHeads$Reader", name := "fault", desc := "()LOverTheHeads$Fault;" } : Jvm.MethodName)) ∈ lw_all := lw_g (lw_at lw_m2 126 rfl) rfl
theorem q456 : (Jvm.Cond.code ({ cls := "OverTheHeads$Reader", name := "fault", desc := "()LOverTheHeads$Fault;" } : Jvm.MethodName) prog_11_method_2_code (1 : Nat) (Option.some (Jvm.ClassFile.FieldType.object "OverTheHeads$Fault"))) ∈ lw_all := lw_g (lw_at lw_m2 127 rfl) rfl
theorem q457 : (Jvm.Cond.classLink "OverTheHeads$Reader" (28 : Nat) "OverTheHeads$Fault") ∈ lw_all := lw_g (lw_at lw_m2 128 rfl) rfl
theorem q497 : (Jvm.Cond.methodLink "OverTheHeads$Reader" (30 : Nat) ({ cls := "OverTheHeads$Fault", name := "<init>", desc := "(I)V" } : Jvm.MethodName)) ∈ lw_all := lw_g (lw_at lw_m2 168 rfl) rfl
theorem q526 : (Jvm.Cond.stringRef "OverTheHeads$Reader" (77 : Nat) "();+-*<=") ∈ lw_tbl := lw_at lw_m2 197 rfl
theorem q527 : (Jvm.Cond.methodLink "OverTheHeads$Reader" (79 : Nat) ({ cls := "java/lang/String", name := "indexOf", desc := "(I)I" } : Jvm.MethodName)) ∈ lw_all := lw_g (lw_at lw_m2 198 rfl) rfl
theorem q582 : (Jvm.Cond.methodLink "OverTheHeads$Reader" (116 : Nat) ({ cls := "OverTheHeads$Reader", name := "is", desc := "(Ljava/lang/String;)Z" } : Jvm.MethodName)) ∈ lw_all := lw_g (lw_at lw_m3 13 rfl) rfl
theorem q583 : (Jvm.Cond.privateMethod ({ cls := "OverTheHeads$Reader", name := "is", desc := "(Ljava/lang/String;)Z" } : Jvm.MethodName)) ∈ lw_tbl := lw_at lw_m3 14 rfl
theorem q584 : (Jvm.Cond.instanceMethod ({ cls := "OverTheHeads$Reader", name := "is", desc := "(Ljava/lang/String;)Z" } : Jvm.MethodName)) ∈ lw_all := lw_g (lw_at lw_m3 15 rfl) rfl
theorem q585 : (Jvm.Cond.code ({ cls := "OverTheHeads$Reader", name := "is", desc := "(Ljava/lang/String;)Z" } : Jvm.MethodName) prog_11_method_5_code (2 : Nat) (Option.some Jvm.ClassFile.FieldType.boolean)) ∈ lw_all := lw_g (lw_at lw_m3 16 rfl) rfl
theorem q586 : (Jvm.Cond.methodLink "OverTheHeads$Reader" (85 : Nat) ({ cls := "java/lang/String", name := "equals", desc := "(Ljava/lang/Object;)Z" } : Jvm.MethodName)) ∈ lw_all := lw_g (lw_at lw_m3 17 rfl) rfl
theorem q594 : (Jvm.Cond.methodLink "OverTheHeads$Reader" (104 : Nat) ({ cls := "OverTheHeads$Reader", name := "either", desc := "()LOverTheHeads$Node;" } : Jvm.MethodName)) ∈ lw_all := lw_g (lw_at lw_m3 25 rfl) rfl
theorem q595 : (Jvm.Cond.privateMethod ({ cls := "OverTheHeads$Reader", name := "either", desc := "()LOverTheHeads$Node;" } : Jvm.MethodName)) ∈ lw_tbl := lw_at lw_m3 26 rfl
theorem q596 : (Jvm.Cond.instanceMethod ({ cls := "OverTheHeads$Reader", name := "either", desc := "()LOverTheHeads$Node;" } : Jvm.MethodName)) ∈ lw_all := lw_g (lw_at lw_m3 27 rfl) rfl
theorem q597 : (Jvm.Cond.code ({ cls := "OverTheHeads$Reader", name := "either", desc := "()LOverTheHeads$Node;" } : Jvm.MethodName) prog_11_method_13_code (2 : Nat) (Option.some (Jvm.ClassFile.FieldType.object "OverTheHeads$Node"))) ∈ lw_all := lw_g (lw_at lw_m3 28 rfl) rfl
theorem q598 : (Jvm.Cond.methodLink "OverTheHeads$Reader" (141 : Nat) ({ cls := "OverTheHeads$Reader", name := "both", desc := "()LOverTheHeads$Node;" } : Jvm.MethodName)) ∈ lw_all := lw_g (lw_at lw_m3 29 rfl) rfl
theorem q599 : (Jvm.Cond.privateMethod ({ cls := "OverTheHeads$Reader", name := "both", desc := "()LOverTheHeads$Node;" } : Jvm.MethodName)) ∈ lw_tbl := lw_at lw_m3 30 rfl
theorem q600 : (Jvm.Cond.instanceMethod ({ cls := "OverTheHeads$Reader", name := "both", desc := "()LOverTheHeads$Node;" } : Jvm.MethodName)) ∈ lw_all := lw_g (lw_at lw_m3 31 rfl) rfl
theorem q601 : (Jvm.Cond.code ({ cls := "OverTheHeads$Reader", name := "both", desc := "()LOverTheHeads$Node;" } : Jvm.MethodName) prog_11_method_12_code (2 : Nat) (Option.some (Jvm.ClassFile.FieldType.object "OverTheHeads$Node"))) ∈ lw_all := lw_g (lw_at lw_m3 32 rfl) rfl
theorem q602 : (Jvm.Cond.methodLink "OverTheHeads$Reader" (134 : Nat) ({ cls := "OverTheHeads$Reader", name := "not", desc := "()LOverTheHeads$Node;" } : Jvm.MethodName)) ∈ lw_all := lw_g (lw_at lw_m3 33 rfl) rfl
theorem q603 : (Jvm.Cond.privateMethod ({ cls := "OverTheHeads$Reader", name := "not", desc := "()LOverTheHeads$Node;" } : Jvm.MethodName)) ∈ lw_tbl := lw_at lw_m3 34 rfl
theorem q604 : (Jvm.Cond.instanceMethod ({ cls := "OverTheHeads$Reader", name := "not", desc := "()LOverTheHeads$Node;" } : Jvm.MethodName)) ∈ lw_all := lw_g (lw_at lw_m3 35 rfl) rfl
theorem q605 : (Jvm.Cond.code ({ cls := "OverTheHeads$Reader", name := "not", desc := "()LOverTheHeads$Node;" } : Jvm.MethodName) prog_11_method_11_code (3 : Nat) (Option.some (Jvm.ClassFile.FieldType.object "OverTheHeads$Node"))) ∈ lw_all := lw_g (lw_at lw_m3 36 rfl) rfl
theorem q606 : (Jvm.Cond.stringRef "OverTheHeads$Reader" (132 : Nat) "not") ∈ lw_tbl := lw_at lw_m3 37 rfl
theorem q607 : (Jvm.Cond.methodLink "OverTheHeads$Reader" (92 : Nat) ({ cls := "OverTheHeads$Reader", name := "opens", desc := "()V" } : Jvm.MethodName)) ∈ lw_all := lw_g (lw_at lw_m3 38 rfl) rfl
theorem q608 : (Jvm.Cond.privateMethod ({ cls := "OverTheHeads$Reader", name := "opens", desc := "()V" } : Jvm.MethodName)) ∈ lw_tbl := lw_at lw_m3 39 rfl
theorem q609 : (Jvm.Cond.instanceMethod ({ cls := "OverTheHeads$Reader", name := "opens", desc := "()V" } : Jvm.MethodName)) ∈ lw_all := lw_g (lw_at lw_m3 40 rfl) rfl
theorem q610 : (Jvm.Cond.code ({ cls := "OverTheHeads$Reader", name := "opens", desc := "()V" } : Jvm.MethodName) prog_11_method_7_code (1 : Nat) (Option.none : Option Jvm.ClassFile.FieldType)) ∈ lw_all := lw_g (lw_at lw_m3 41 rfl) rfl
theorem q611 : (Jvm.Cond.classLink "OverTheHeads$Reader" (99 : Nat) "OverTheHeads$One") ∈ lw_all := lw_g (lw_at lw_m3 42 rfl) rfl
theorem q613 : (Jvm.Cond.methodLink "OverTheHeads$Reader" (101 : Nat) ({ cls := "OverTheHeads$One", name := "<init>", desc := "(ZLOverTheHeads$Node;)V" } : Jvm.MethodName)) ∈ lw_all := lw_g (lw_at lw_m3 44 rfl) rfl
theorem q624 : (Jvm.Cond.methodLink "OverTheHeads$Reader" (136 : Nat) ({ cls := "OverTheHeads$Reader", name := "sum", desc := "()LOverTheHeads$Node;" } : Jvm.MethodName)) ∈ lw_all := lw_g (lw_at lw_m3 55 rfl) rfl
theorem q625 : (Jvm.Cond.privateMethod ({ cls := "OverTheHeads$Reader", name := "sum", desc := "()LOverTheHeads$Node;" } : Jvm.MethodName)) ∈ lw_tbl := lw_at lw_m3 56 rfl
theorem q626 : (Jvm.Cond.instanceMethod ({ cls := "OverTheHeads$Reader", name := "sum", desc := "()LOverTheHeads$Node;" } : Jvm.MethodName)) ∈ lw_all := lw_g (lw_at lw_m3 57 rfl) rfl
theorem q627 : (Jvm.Cond.code ({ cls := "OverTheHeads$Reader", name := "sum", desc := "()LOverTheHeads$Node;" } : Jvm.MethodName) prog_11_method_10_code (3 : Nat) (Option.some (Jvm.ClassFile.FieldType.object "OverTheHeads$Node"))) ∈ lw_all := lw_g (lw_at lw_m3 58 rfl) rfl
theorem q628 : (Jvm.Cond.methodLink "OverTheHeads$Reader" (129 : Nat) ({ cls := "OverTheHeads$Reader", name := "term", desc := "()LOverTheHeads$Node;" } : Jvm.MethodName)) ∈ lw_all := lw_g (lw_at lw_m3 59 rfl) rfl
theorem q629 : (Jvm.Cond.privateMethod ({ cls := "OverTheHeads$Reader", name := "term", desc := "()LOverTheHeads$Node;" } : Jvm.MethodName)) ∈ lw_tbl := lw_at lw_m3 60 rfl
theorem q630 : (Jvm.Cond.instanceMethod ({ cls := "OverTheHeads$Reader", name := "term", desc := "()LOverTheHeads$Node;" } : Jvm.MethodName)) ∈ lw_all := lw_g (lw_at lw_m3 61 rfl) rfl
theorem q631 : (Jvm.Cond.code ({ cls := "OverTheHeads$Reader", name := "term", desc := "()LOverTheHeads$Node;" } : Jvm.MethodName) prog_11_method_9_code (2 : Nat) (Option.some (Jvm.ClassFile.FieldType.object "OverTheHeads$Node"))) ∈ lw_all := lw_g (lw_at lw_m3 62 rfl) rfl
theorem q632 : (Jvm.Cond.methodLink "OverTheHeads$Reader" (95 : Nat) ({ cls := "OverTheHeads$Reader", name := "one", desc := "()LOverTheHeads$Node;" } : Jvm.MethodName)) ∈ lw_all := lw_g (lw_at lw_m3 63 rfl) rfl
theorem q633 : (Jvm.Cond.privateMethod ({ cls := "OverTheHeads$Reader", name := "one", desc := "()LOverTheHeads$Node;" } : Jvm.MethodName)) ∈ lw_tbl := lw_at lw_m3 64 rfl
theorem q634 : (Jvm.Cond.instanceMethod ({ cls := "OverTheHeads$Reader", name := "one", desc := "()LOverTheHeads$Node;" } : Jvm.MethodName)) ∈ lw_all := lw_g (lw_at lw_m3 65 rfl) rfl
theorem q635 : (Jvm.Cond.code ({ cls := "OverTheHeads$Reader", name := "one", desc := "()LOverTheHeads$Node;" } : Jvm.MethodName) prog_11_method_8_code (2 : Nat) (Option.some (Jvm.ClassFile.FieldType.object "OverTheHeads$Node"))) ∈ lw_all := lw_g (lw_at lw_m3 66 rfl) rfl
theorem q636 : (Jvm.Cond.classLink "OverTheHeads$Reader" (107 : Nat) "OverTheHeads$Leaf") ∈ lw_all := lw_g (lw_at lw_m3 67 rfl) rfl
theorem q638 : (Jvm.Cond.methodLink "OverTheHeads$Reader" (109 : Nat) ({ cls := "OverTheHeads$Leaf", name := "<init>", desc := "(II)V" } : Jvm.MethodName)) ∈ lw_all := lw_g (lw_at lw_m3 69 rfl) rfl
theorem q649 : (Jvm.Cond.fieldLinkNest "OverTheHeads$Reader" (112 : Nat) "OverTheHeads" "NAMES" "[Ljava/lang/String;" "OverTheHeads") ∈ lw_tbl := lw_at lw_m3 80 rfl
theorem q651 : (Jvm.Cond.methodLink "OverTheHeads$Reader" (120 : Nat) ({ cls := "OverTheHeads$Reader", name := "takes", desc := "(I)Z" } : Jvm.MethodName)) ∈ lw_all := lw_g (lw_at lw_m3 82 rfl) rfl
theorem q652 : (Jvm.Cond.privateMethod ({ cls := "OverTheHeads$Reader", name := "takes", desc := "(I)Z" } : Jvm.MethodName)) ∈ lw_tbl := lw_at lw_m3 83 rfl
theorem q653 : (Jvm.Cond.instanceMethod ({ cls := "OverTheHeads$Reader", name := "takes", desc := "(I)Z" } : Jvm.MethodName)) ∈ lw_all := lw_g (lw_at lw_m3 84 rfl) rfl
theorem q654 : (Jvm.Cond.code ({ cls := "OverTheHeads$Reader", name := "takes", desc := "(I)Z" } : Jvm.MethodName) prog_11_method_6_code (2 : Nat) (Option.some Jvm.ClassFile.FieldType.boolean)) ∈ lw_all := lw_g (lw_at lw_m3 85 rfl) rfl
theorem q655 : (Jvm.Cond.classLink "OverTheHeads$Reader" (124 : Nat) "OverTheHeads$Two") ∈ lw_all := lw_g (lw_at lw_m3 86 rfl) rfl
theorem q657 : (Jvm.Cond.methodLink "OverTheHeads$Reader" (126 : Nat) ({ cls := "OverTheHeads$Two", name := "<init>", desc := "(ILOverTheHeads$Node;LOverTheHeads$Node;)V" } : Jvm.MethodName)) ∈ lw_all := lw_g (lw_at lw_m3 88 rfl) rfl
theorem q671 : (Jvm.Cond.stringRef "OverTheHeads$Reader" (139 : Nat) "and") ∈ lw_tbl := lw_at lw_m3 102 rfl
theorem q672 : (Jvm.Cond.stringRef "OverTheHeads$Reader" (144 : Nat) "or") ∈ lw_tbl := lw_at lw_m3 103 rfl
theorem q967 : (Jvm.Cond.selects "OverTheHeads$Reader" ({ cls := "java/lang/Object", name := "getClass", desc := "()Ljava/lang/Class;" } : Jvm.MethodName) ({ cls := "java/lang/Object", name := "getClass", desc := "()Ljava/lang/Class;" } : Jvm.MethodName)) ∈ lw_all := lw_g (lw_at lw_m4 158 rfl) rfl
theorem q2115 : (Jvm.Cond.castable "OverTheHeads$Reader" "java/lang/Object") ∈ lw_tbl := lw_at lw_m9 106 rfl
theorem in_X2 : ∀ w ∈ wsX20, w ∈ lw_all := lw_in wsX20 [251, 253, 255, 257, 259, 261, 263, 265] (by decide +kernel) (by decide +kernel)
/-! OverTheHeads$Fault -/
set_option maxRecDepth 100000
def RX3 : String := "OverTheHeads$Fault"
def TX3 : u_T := fun k => match k with
  | 0 => ("java/lang/Throwable", "cause", "Ljava/lang/Throwable;", false)
  | 1 => ("java/lang/Throwable", "stackTrace", "[Ljava/lang/StackTraceElement;", false)
  | 2 => ("java/lang/Throwable", "suppressedExceptions", "Ljava/util/List;", false)
  | 3 => ("java/lang/Throwable", "detailMessage", "Ljava/lang/String;", false)
  | 4 => ("java/lang/Throwable", "backtrace", "Ljava/lang/Object;", false)
  | 5 => ("java/lang/Throwable", "depth", "I", false)
  | _ => ("OverTheHeads$Fault", "place", "I", true)
def tyX3 : Nat → FieldType := fun k => match k with
  | 0 => .object "java/lang/Throwable"
  | 1 => .array (.object "java/lang/StackTraceElement")
  | 2 => .object "java/util/List"
  | 3 => .object "java/lang/String"
  | 4 => .object "java/lang/Object"
  | 5 => .int
  | _ => .int
abbrev wsX30 : List Cond := u_ws RX3 TX3 7
theorem nmX3 : ∀ a, a < 7 → ∀ b, b < 7 → a ≠ b → (TX3 a).2.1 ≠ (TX3 b).2.1 := by decide +kernel
theorem tyX3_ok : ∀ k, k < 7 → parseFieldDescriptor (TX3 k).2.2.1 = some (tyX3 k) := by decide +kernel
abbrev cX3_init : ByteArray := prog_3_method_1_code
def yX3_init : MethodName := ⟨RX3, "<init>", "(I)V"⟩
def dkwX3_init_0 : List UInt8 := [42, 1, 1, 3, 3, 183, 0, 1, 42, 27, 181, 0, 7, 177]
abbrev dktX3_init_0 : List UInt8 := dkwX3_init_0 ++ []
theorem dksX3_init_0 : cX3_init.data.toList.drop 0 = dktX3_init_0 := by decide +kernel
theorem dX3_init_0 : decode cX3_init 0 = .ok (.aload_n 0, 1) := dk_42 (dk_at dksX3_init_0 0 rfl rfl)
theorem dX3_init_1 : decode cX3_init 1 = .ok (.aconst_null, 1) := dk_1 (dk_at dksX3_init_0 1 rfl rfl)
theorem dX3_init_2 : decode cX3_init 2 = .ok (.aconst_null, 1) := dk_1 (dk_at dksX3_init_0 2 rfl rfl)
theorem dX3_init_3 : decode cX3_init 3 = .ok (.iconst 0, 1) := dk_3 (dk_at dksX3_init_0 3 rfl rfl)
theorem dX3_init_4 : decode cX3_init 4 = .ok (.iconst 0, 1) := dk_3 (dk_at dksX3_init_0 4 rfl rfl)
theorem dX3_init_5 : decode cX3_init 5 = .ok (.invokespecial 1, 3) := dk_183 0 1 (dk_at dksX3_init_0 5 rfl rfl)
theorem dX3_init_8 : decode cX3_init 8 = .ok (.aload_n 0, 1) := dk_42 (dk_at dksX3_init_0 8 rfl rfl)
theorem dX3_init_9 : decode cX3_init 9 = .ok (.iload_n 1, 1) := dk_27 (dk_at dksX3_init_0 9 rfl rfl)
theorem dX3_init_10 : decode cX3_init 10 = .ok (.putfield 7, 3) := dk_181 0 7 (dk_at dksX3_init_0 10 rfl rfl)
theorem dX3_init_13 : decode cX3_init 13 = .ok (.return_, 1) := dk_177 (dk_at dksX3_init_0 13 rfl rfl)
theorem q109 : (Jvm.Cond.initialized "OverTheHeads$Fault") ∈ lw_all := lw_g (lw_at lw_m1 20 rfl) rfl
theorem q458 : (Jvm.Cond.instantiable "OverTheHeads$Fault" (7 : Nat)) ∈ lw_all := lw_g (lw_at lw_m2 129 rfl) rfl
theorem q459 : (Jvm.Cond.castable "OverTheHeads$Fault" "OverTheHeads$Fault") ∈ lw_tbl := lw_at lw_m2 130 rfl
theorem q466 : (Jvm.Cond.selects "OverTheHeads$Fault" ({ cls := "java/lang/Throwable", name := "fillInStackTrace", desc := "(I)Ljava/lang/Throwable;" } : Jvm.MethodName) ({ cls := "java/lang/Throwable", name := "fillInStackTrace", desc := "(I)Ljava/lang/Throwable;" } : Jvm.MethodName)) ∈ lw_all := lw_g (lw_at lw_m2 137 rfl) rfl
theorem q467 : (Jvm.Cond.selects "OverTheHeads$Fault" ({ cls := "java/lang/Throwable", name := "fillInStackTrace", desc := "()Ljava/lang/Throwable;" } : Jvm.MethodName) ({ cls := "java/lang/Throwable", name := "fillInStackTrace", desc := "()Ljava/lang/Throwable;" } : Jvm.MethodName)) ∈ lw_all := lw_g (lw_at lw_m2 138 rfl) rfl
theorem q468 : (Jvm.Cond.lays "OverTheHeads$Fault" "java/lang/Throwable" "cause" "Ljava/lang/Throwable;") ∈ lw_all := lw_g (lw_at lw_m2 139 rfl) rfl
theorem q470 : (Jvm.Cond.lays "OverTheHeads$Fault" "java/lang/Throwable" "stackTrace" "[Ljava/lang/StackTraceElement;") ∈ lw_all := lw_g (lw_at lw_m2 141 rfl) rfl
theorem q472 : (Jvm.Cond.lays "OverTheHeads$Fault" "java/lang/Throwable" "suppressedExceptions" "Ljava/util/List;") ∈ lw_all := lw_g (lw_at lw_m2 143 rfl) rfl
theorem q474 : (Jvm.Cond.lays "OverTheHeads$Fault" "java/lang/Throwable" "detailMessage" "Ljava/lang/String;") ∈ lw_all := lw_g (lw_at lw_m2 145 rfl) rfl
theorem q476 : (Jvm.Cond.lays "OverTheHeads$Fault" "java/lang/Throwable" "backtrace" "Ljava/lang/Object;") ∈ lw_all := lw_g (lw_at lw_m2 147 rfl) rfl
theorem q498 : (Jvm.Cond.instanceMethod ({ cls := "OverTheHeads$Fault", name := "<init>", desc := "(I)V" } : Jvm.MethodName)) ∈ lw_all := lw_g (lw_at lw_m2 169 rfl) rfl
theorem q499 : (Jvm.Cond.code ({ cls := "OverTheHeads$Fault", name := "<init>", desc := "(I)V" } : Jvm.MethodName) prog_3_method_1_code (2 : Nat) (Option.none : Option Jvm.ClassFile.FieldType)) ∈ lw_all := lw_g (lw_at lw_m2 170 rfl) rfl
theorem q500 : (Jvm.Cond.methodLink "OverTheHeads$Fault" (1 : Nat) ({ cls := "java/lang/RuntimeException", name := "<init>", desc := "(Ljava/lang/String;Ljava/lang/Throwable;ZZ)V" } : Jvm.MethodName)) ∈ lw_all := lw_g (lw_at lw_m2 171 rfl) rfl
theorem q509 : (Jvm.Cond.fieldLink "OverTheHeads$Fault" (7 : Nat) "OverTheHeads$Fault" "place" "I") ∈ lw_all := lw_g (lw_at lw_m2 180 rfl) rfl
theorem q516 : (Jvm.Cond.laysFinal "OverTheHeads$Fault" "OverTheHeads$Fault" "place" "I") ∈ lw_all := lw_g (lw_at lw_m2 187 rfl) rfl
theorem q517 : (Jvm.Cond.soleField "OverTheHeads$Fault" "place") ∈ lw_all := lw_g (lw_at lw_m2 188 rfl) rfl
theorem q522 : (Jvm.Cond.lays "OverTheHeads$Fault" "java/lang/Throwable" "depth" "I") ∈ lw_all := lw_g (lw_at lw_m2 193 rfl) rfl
theorem q525 : (Jvm.Cond.superclass "OverTheHeads$Fault" "java/lang/RuntimeException") ∈ lw_all := lw_g (lw_at lw_m2 196 rfl) rfl
theorem q960 : (Jvm.Cond.selects "OverTheHeads$Fault" ({ cls := "java/lang/Object", name := "getClass", desc := "()Ljava/lang/Class;" } : Jvm.MethodName) ({ cls := "java/lang/Object", name := "getClass", desc := "()Ljava/lang/Class;" } : Jvm.MethodName)) ∈ lw_all := lw_g (lw_at lw_m4 151 rfl) rfl
theorem q2117 : (Jvm.Cond.castable "OverTheHeads$Fault" "java/lang/Object") ∈ lw_tbl := lw_at lw_m9 108 rfl
theorem in_X3 : ∀ w ∈ wsX30, w ∈ lw_all := lw_in wsX30 [468, 470, 472, 474, 476, 522, 516] (by decide +kernel) (by decide +kernel)
/-! OverTheHeads$One -/
set_option maxRecDepth 100000
def RX4 : String := "OverTheHeads$One"
def TX4 : u_T := fun k => match k with
  | 0 => ("OverTheHeads$One", "isNot", "Z", true)
  | _ => ("OverTheHeads$One", "a", "LOverTheHeads$Node;", true)
def tyX4 : Nat → FieldType := fun k => match k with
  | 0 => .boolean
  | _ => .object "OverTheHeads$Node"
abbrev wsX40 : List Cond := u_ws RX4 TX4 2
theorem nmX4 : ∀ a, a < 2 → ∀ b, b < 2 → a ≠ b → (TX4 a).2.1 ≠ (TX4 b).2.1 := by decide +kernel
theorem tyX4_ok : ∀ k, k < 2 → parseFieldDescriptor (TX4 k).2.2.1 = some (tyX4 k) := by decide +kernel
abbrev cX4_init : ByteArray := prog_9_method_1_code
def yX4_init : MethodName := ⟨RX4, "<init>", "(ZLOverTheHeads$Node;)V"⟩
def dkwX4_init_0 : List UInt8 := [42, 183, 0, 1, 42, 27, 181, 0, 7, 42, 44, 181, 0, 13, 177]
abbrev dktX4_init_0 : List UInt8 := dkwX4_init_0 ++ []
theorem dksX4_init_0 : cX4_init.data.toList.drop 0 = dktX4_init_0 := by decide +kernel
theorem dX4_init_0 : decode cX4_init 0 = .ok (.aload_n 0, 1) := dk_42 (dk_at dksX4_init_0 0 rfl rfl)
theorem dX4_init_1 : decode cX4_init 1 = .ok (.invokespecial 1, 3) := dk_183 0 1 (dk_at dksX4_init_0 1 rfl rfl)
theorem dX4_init_4 : decode cX4_init 4 = .ok (.aload_n 0, 1) := dk_42 (dk_at dksX4_init_0 4 rfl rfl)
theorem dX4_init_5 : decode cX4_init 5 = .ok (.iload_n 1, 1) := dk_27 (dk_at dksX4_init_0 5 rfl rfl)
theorem dX4_init_6 : decode cX4_init 6 = .ok (.putfield 7, 3) := dk_181 0 7 (dk_at dksX4_init_0 6 rfl rfl)
theorem dX4_init_9 : decode cX4_init 9 = .ok (.aload_n 0, 1) := dk_42 (dk_at dksX4_init_0 9 rfl rfl)
theorem dX4_init_10 : decode cX4_init 10 = .ok (.aload_n 2, 1) := dk_44 (dk_at dksX4_init_0 10 rfl rfl)
theorem dX4_init_11 : decode cX4_init 11 = .ok (.putfield 13, 3) := dk_181 0 13 (dk_at dksX4_init_0 11 rfl rfl)
theorem dX4_init_14 : decode cX4_init 14 = .ok (.return_, 1) := dk_177 (dk_at dksX4_init_0 14 rfl rfl)
abbrev cX4_worth : ByteArray := prog_9_method_2_code
def yX4_worth : MethodName := ⟨RX4, "worth", "([I)I"⟩
def dkwX4_worth_1 : List UInt8 := [154, 0, 7, 4, 167, 0, 4, 3, 172]
abbrev dktX4_worth_1 : List UInt8 := dkwX4_worth_1 ++ []
def dkwX4_worth_0 : List UInt8 := [42, 180, 0, 13, 43, 185, 0, 17, 2, 0, 61, 42, 180, 0, 7, 154, 0, 8, 28, 116, 167, 0, 12, 28]
abbrev dktX4_worth_0 : List UInt8 := dkwX4_worth_0 ++ dktX4_worth_1
theorem dksX4_worth_0 : cX4_worth.data.toList.drop 0 = dktX4_worth_0 := by decide +kernel
theorem dksX4_worth_1 : cX4_worth.data.toList.drop 24 = dktX4_worth_1 := dk_seg dksX4_worth_0 24 rfl rfl
theorem dX4_worth_0 : decode cX4_worth 0 = .ok (.aload_n 0, 1) := dk_42 (dk_at dksX4_worth_0 0 rfl rfl)
theorem dX4_worth_1 : decode cX4_worth 1 = .ok (.getfield 13, 3) := dk_180 0 13 (dk_at dksX4_worth_0 1 rfl rfl)
theorem dX4_worth_4 : decode cX4_worth 4 = .ok (.aload_n 1, 1) := dk_43 (dk_at dksX4_worth_0 4 rfl rfl)
theorem dX4_worth_5 : decode cX4_worth 5 = .ok (.invokeinterface 17 2, 5) := by decide +kernel
theorem dX4_worth_10 : decode cX4_worth 10 = .ok (.istore_n 2, 1) := dk_61 (dk_at dksX4_worth_0 10 rfl rfl)
theorem dX4_worth_11 : decode cX4_worth 11 = .ok (.aload_n 0, 1) := dk_42 (dk_at dksX4_worth_0 11 rfl rfl)
theorem dX4_worth_12 : decode cX4_worth 12 = .ok (.getfield 7, 3) := dk_180 0 7 (dk_at dksX4_worth_0 12 rfl rfl)
theorem dX4_worth_15 : decode cX4_worth 15 = .ok (.ifCond .ne 8, 3) := dk_154 0 8 (dk_at dksX4_worth_0 15 rfl rfl)
theorem dX4_worth_18 : decode cX4_worth 18 = .ok (.iload_n 2, 1) := dk_28 (dk_at dksX4_worth_0 18 rfl rfl)
theorem dX4_worth_19 : decode cX4_worth 19 = .ok (.ineg, 1) := dk_116 (dk_at dksX4_worth_0 19 rfl rfl)
theorem dX4_worth_20 : decode cX4_worth 20 = .ok (.goto 12, 3) := dk_167 0 12 (dk_at dksX4_worth_0 20 rfl rfl)
theorem dX4_worth_23 : decode cX4_worth 23 = .ok (.iload_n 2, 1) := dk_28 (dk_at dksX4_worth_0 23 rfl rfl)
theorem dX4_worth_24 : decode cX4_worth 24 = .ok (.ifCond .ne 7, 3) := dk_154 0 7 (dk_at dksX4_worth_1 0 rfl rfl)
theorem dX4_worth_27 : decode cX4_worth 27 = .ok (.iconst 1, 1) := dk_4 (dk_at dksX4_worth_1 3 rfl rfl)
theorem dX4_worth_28 : decode cX4_worth 28 = .ok (.goto 4, 3) := dk_167 0 4 (dk_at dksX4_worth_1 4 rfl rfl)
theorem dX4_worth_31 : decode cX4_worth 31 = .ok (.iconst 0, 1) := dk_3 (dk_at dksX4_worth_1 7 rfl rfl)
theorem dX4_worth_32 : decode cX4_worth 32 = .ok (.ireturn, 1) := dk_172 (dk_at dksX4_worth_1 8 rfl rfl)
theorem q111 : (Jvm.Cond.initialized "OverTheHeads$One") ∈ lw_all := lw_g (lw_at lw_m1 22 rfl) rfl
theorem q612 : (Jvm.Cond.instantiable "OverTheHeads$One" (2 : Nat)) ∈ lw_all := lw_g (lw_at lw_m3 43 rfl) rfl
theorem q614 : (Jvm.Cond.instanceMethod ({ cls := "OverTheHeads$One", name := "<init>", desc := "(ZLOverTheHeads$Node;)V" } : Jvm.MethodName)) ∈ lw_all := lw_g (lw_at lw_m3 45 rfl) rfl
theorem q615 : (Jvm.Cond.code ({ cls := "OverTheHeads$One", name := "<init>", desc := "(ZLOverTheHeads$Node;)V" } : Jvm.MethodName) prog_9_method_1_code (3 : Nat) (Option.none : Option Jvm.ClassFile.FieldType)) ∈ lw_all := lw_g (lw_at lw_m3 46 rfl) rfl
theorem q616 : (Jvm.Cond.methodLink "OverTheHeads$One" (1 : Nat) ({ cls := "java/lang/Object", name := "<init>", desc := "()V" } : Jvm.MethodName)) ∈ lw_all := lw_g (lw_at lw_m3 47 rfl) rfl
theorem q617 : (Jvm.Cond.fieldLink "OverTheHeads$One" (7 : Nat) "OverTheHeads$One" "isNot" "Z") ∈ lw_all := lw_g (lw_at lw_m3 48 rfl) rfl
theorem q618 : (Jvm.Cond.fieldLink "OverTheHeads$One" (13 : Nat) "OverTheHeads$One" "a" "LOverTheHeads$Node;") ∈ lw_all := lw_g (lw_at lw_m3 49 rfl) rfl
theorem q619 : (Jvm.Cond.laysFinal "OverTheHeads$One" "OverTheHeads$One" "isNot" "Z") ∈ lw_all := lw_g (lw_at lw_m3 50 rfl) rfl
theorem q620 : (Jvm.Cond.soleField "OverTheHeads$One" "isNot") ∈ lw_all := lw_g (lw_at lw_m3 51 rfl) rfl
theorem q621 : (Jvm.Cond.laysFinal "OverTheHeads$One" "OverTheHeads$One" "a" "LOverTheHeads$Node;") ∈ lw_all := lw_g (lw_at lw_m3 52 rfl) rfl
theorem q622 : (Jvm.Cond.soleField "OverTheHeads$One" "a") ∈ lw_all := lw_g (lw_at lw_m3 53 rfl) rfl
theorem q623 : (Jvm.Cond.superclass "OverTheHeads$One" "java/lang/Object") ∈ lw_all := lw_g (lw_at lw_m3 54 rfl) rfl
theorem q965 : (Jvm.Cond.selects "OverTheHeads$One" ({ cls := "java/lang/Object", name := "getClass", desc := "()Ljava/lang/Class;" } : Jvm.MethodName) ({ cls := "java/lang/Object", name := "getClass", desc := "()Ljava/lang/Class;" } : Jvm.MethodName)) ∈ lw_all := lw_g (lw_at lw_m4 156 rfl) rfl
theorem q1222 : (Jvm.Cond.castable "OverTheHeads$One" "OverTheHeads$Node") ∈ lw_tbl := lw_at lw_m5 173 rfl
theorem q1223 : (Jvm.Cond.selects "OverTheHeads$One" ({ cls := "OverTheHeads$Node", name := "worth", desc := "([I)I" } : Jvm.MethodName) ({ cls := "OverTheHeads$One", name := "worth", desc := "([I)I" } : Jvm.MethodName)) ∈ lw_all := lw_g (lw_at lw_m5 174 rfl) rfl
theorem q1224 : (Jvm.Cond.unhidden "OverTheHeads$One" "worth" "([I)I") ∈ lw_tbl := lw_at lw_m5 175 rfl
theorem q1225 : (Jvm.Cond.instanceMethod ({ cls := "OverTheHeads$One", name := "worth", desc := "([I)I" } : Jvm.MethodName)) ∈ lw_all := lw_g (lw_at lw_m5 176 rfl) rfl
theorem q1226 : (Jvm.Cond.publicMethod ({ cls := "OverTheHeads$One", name := "worth", desc := "([I)I" } : Jvm.MethodName)) ∈ lw_tbl := lw_at lw_m5 177 rfl
theorem q1227 : (Jvm.Cond.code ({ cls := "OverTheHeads$One", name := "worth", desc := "([I)I" } : Jvm.MethodName) prog_9_method_2_code (3 : Nat) (Option.some Jvm.ClassFile.FieldType.int)) ∈ lw_all := lw_g (lw_at lw_m5 178 rfl) rfl
theorem q1228 : (Jvm.Cond.interfaceEntry "OverTheHeads$One" (17 : Nat)) ∈ lw_tbl := lw_at lw_m5 179 rfl
theorem q1229 : (Jvm.Cond.methodLink "OverTheHeads$One" (17 : Nat) ({ cls := "OverTheHeads$Node", name := "worth", desc := "([I)I" } : Jvm.MethodName)) ∈ lw_all := lw_g (lw_at lw_m5 180 rfl) rfl
theorem q2118 : (Jvm.Cond.castable "OverTheHeads$One" "java/lang/Object") ∈ lw_tbl := lw_at lw_m9 109 rfl
theorem in_X4 : ∀ w ∈ wsX40, w ∈ lw_all := lw_in wsX40 [619, 621] (by decide +kernel) (by decide +kernel)
/-! OverTheHeads$Leaf -/
set_option maxRecDepth 100000
def RX5 : String := "OverTheHeads$Leaf"
def TX5 : u_T := fun k => match k with
  | 0 => ("OverTheHeads$Leaf", "number", "I", true)
  | _ => ("OverTheHeads$Leaf", "name", "I", true)
def tyX5 : Nat → FieldType := fun k => match k with
  | 0 => .int
  | _ => .int
abbrev wsX50 : List Cond := u_ws RX5 TX5 2
theorem nmX5 : ∀ a, a < 2 → ∀ b, b < 2 → a ≠ b → (TX5 a).2.1 ≠ (TX5 b).2.1 := by decide +kernel
theorem tyX5_ok : ∀ k, k < 2 → parseFieldDescriptor (TX5 k).2.2.1 = some (tyX5 k) := by decide +kernel
abbrev cX5_init : ByteArray := prog_5_method_1_code
def yX5_init : MethodName := ⟨RX5, "<init>", "(II)V"⟩
def dkwX5_init_0 : List UInt8 := [42, 183, 0, 3, 42, 27, 181, 0, 9, 42, 28, 181, 0, 15, 177]
abbrev dktX5_init_0 : List UInt8 := dkwX5_init_0 ++ []
theorem dksX5_init_0 : cX5_init.data.toList.drop 0 = dktX5_init_0 := by decide +kernel
theorem dX5_init_0 : decode cX5_init 0 = .ok (.aload_n 0, 1) := dk_42 (dk_at dksX5_init_0 0 rfl rfl)
theorem dX5_init_1 : decode cX5_init 1 = .ok (.invokespecial 3, 3) := dk_183 0 3 (dk_at dksX5_init_0 1 rfl rfl)
theorem dX5_init_4 : decode cX5_init 4 = .ok (.aload_n 0, 1) := dk_42 (dk_at dksX5_init_0 4 rfl rfl)
theorem dX5_init_5 : decode cX5_init 5 = .ok (.iload_n 1, 1) := dk_27 (dk_at dksX5_init_0 5 rfl rfl)
theorem dX5_init_6 : decode cX5_init 6 = .ok (.putfield 9, 3) := dk_181 0 9 (dk_at dksX5_init_0 6 rfl rfl)
theorem dX5_init_9 : decode cX5_init 9 = .ok (.aload_n 0, 1) := dk_42 (dk_at dksX5_init_0 9 rfl rfl)
theorem dX5_init_10 : decode cX5_init 10 = .ok (.iload_n 2, 1) := dk_28 (dk_at dksX5_init_0 10 rfl rfl)
theorem dX5_init_11 : decode cX5_init 11 = .ok (.putfield 15, 3) := dk_181 0 15 (dk_at dksX5_init_0 11 rfl rfl)
theorem dX5_init_14 : decode cX5_init 14 = .ok (.return_, 1) := dk_177 (dk_at dksX5_init_0 14 rfl rfl)
abbrev cX5_worth : ByteArray := prog_5_method_2_code
def yX5_worth : MethodName := ⟨RX5, "worth", "([I)I"⟩
def dkwX5_worth_0 : List UInt8 := [42, 180, 0, 15, 2, 160, 0, 10, 42, 180, 0, 9, 167, 0, 9, 43, 42, 180, 0, 15, 46, 172]
abbrev dktX5_worth_0 : List UInt8 := dkwX5_worth_0 ++ []
theorem dksX5_worth_0 : cX5_worth.data.toList.drop 0 = dktX5_worth_0 := by decide +kernel
theorem dX5_worth_0 : decode cX5_worth 0 = .ok (.aload_n 0, 1) := dk_42 (dk_at dksX5_worth_0 0 rfl rfl)
theorem dX5_worth_1 : decode cX5_worth 1 = .ok (.getfield 15, 3) := dk_180 0 15 (dk_at dksX5_worth_0 1 rfl rfl)
theorem dX5_worth_4 : decode cX5_worth 4 = .ok (.iconst (-1), 1) := dk_2 (dk_at dksX5_worth_0 4 rfl rfl)
theorem dX5_worth_5 : decode cX5_worth 5 = .ok (.if_icmp .ne 10, 3) := dk_160 0 10 (dk_at dksX5_worth_0 5 rfl rfl)
theorem dX5_worth_8 : decode cX5_worth 8 = .ok (.aload_n 0, 1) := dk_42 (dk_at dksX5_worth_0 8 rfl rfl)
theorem dX5_worth_9 : decode cX5_worth 9 = .ok (.getfield 9, 3) := dk_180 0 9 (dk_at dksX5_worth_0 9 rfl rfl)
theorem dX5_worth_12 : decode cX5_worth 12 = .ok (.goto 9, 3) := dk_167 0 9 (dk_at dksX5_worth_0 12 rfl rfl)
theorem dX5_worth_15 : decode cX5_worth 15 = .ok (.aload_n 1, 1) := dk_43 (dk_at dksX5_worth_0 15 rfl rfl)
theorem dX5_worth_16 : decode cX5_worth 16 = .ok (.aload_n 0, 1) := dk_42 (dk_at dksX5_worth_0 16 rfl rfl)
theorem dX5_worth_17 : decode cX5_worth 17 = .ok (.getfield 15, 3) := dk_180 0 15 (dk_at dksX5_worth_0 17 rfl rfl)
theorem dX5_worth_20 : decode cX5_worth 20 = .ok (.iaload, 1) := dk_46 (dk_at dksX5_worth_0 20 rfl rfl)
theorem dX5_worth_21 : decode cX5_worth 21 = .ok (.ireturn, 1) := dk_172 (dk_at dksX5_worth_0 21 rfl rfl)
theorem q112 : (Jvm.Cond.initialized "OverTheHeads$Leaf") ∈ lw_all := lw_g (lw_at lw_m1 23 rfl) rfl
theorem q637 : (Jvm.Cond.instantiable "OverTheHeads$Leaf" (2 : Nat)) ∈ lw_all := lw_g (lw_at lw_m3 68 rfl) rfl
theorem q639 : (Jvm.Cond.instanceMethod ({ cls := "OverTheHeads$Leaf", name := "<init>", desc := "(II)V" } : Jvm.MethodName)) ∈ lw_all := lw_g (lw_at lw_m3 70 rfl) rfl
theorem q640 : (Jvm.Cond.code ({ cls := "OverTheHeads$Leaf", name := "<init>", desc := "(II)V" } : Jvm.MethodName) prog_5_method_1_code (3 : Nat) (Option.none : Option Jvm.ClassFile.FieldType)) ∈ lw_all := lw_g (lw_at lw_m3 71 rfl) rfl
theorem q641 : (Jvm.Cond.methodLink "OverTheHeads$Leaf" (3 : Nat) ({ cls := "java/lang/Object", name := "<init>", desc := "()V" } : Jvm.MethodName)) ∈ lw_all := lw_g (lw_at lw_m3 72 rfl) rfl
theorem q642 : (Jvm.Cond.fieldLink "OverTheHeads$Leaf" (9 : Nat) "OverTheHeads$Leaf" "number" "I") ∈ lw_all := lw_g (lw_at lw_m3 73 rfl) rfl
theorem q643 : (Jvm.Cond.fieldLink "OverTheHeads$Leaf" (15 : Nat) "OverTheHeads$Leaf" "name" "I") ∈ lw_all := lw_g (lw_at lw_m3 74 rfl) rfl
theorem q644 : (Jvm.Cond.laysFinal "OverTheHeads$Leaf" "OverTheHeads$Leaf" "number" "I") ∈ lw_all := lw_g (lw_at lw_m3 75 rfl) rfl
theorem q645 : (Jvm.Cond.soleField "OverTheHeads$Leaf" "number") ∈ lw_all := lw_g (lw_at lw_m3 76 rfl) rfl
theorem q646 : (Jvm.Cond.laysFinal "OverTheHeads$Leaf" "OverTheHeads$Leaf" "name" "I") ∈ lw_all := lw_g (lw_at lw_m3 77 rfl) rfl
theorem q647 : (Jvm.Cond.soleField "OverTheHeads$Leaf" "name") ∈ lw_all := lw_g (lw_at lw_m3 78 rfl) rfl
theorem q648 : (Jvm.Cond.superclass "OverTheHeads$Leaf" "java/lang/Object") ∈ lw_all := lw_g (lw_at lw_m3 79 rfl) rfl
theorem q962 : (Jvm.Cond.selects "OverTheHeads$Leaf" ({ cls := "java/lang/Object", name := "getClass", desc := "()Ljava/lang/Class;" } : Jvm.MethodName) ({ cls := "java/lang/Object", name := "getClass", desc := "()Ljava/lang/Class;" } : Jvm.MethodName)) ∈ lw_all := lw_g (lw_at lw_m4 153 rfl) rfl
theorem q1216 : (Jvm.Cond.castable "OverTheHeads$Leaf" "OverTheHeads$Node") ∈ lw_tbl := lw_at lw_m5 167 rfl
theorem q1217 : (Jvm.Cond.selects "OverTheHeads$Leaf" ({ cls := "OverTheHeads$Node", name := "worth", desc := "([I)I" } : Jvm.MethodName) ({ cls := "OverTheHeads$Leaf", name := "worth", desc := "([I)I" } : Jvm.MethodName)) ∈ lw_all := lw_g (lw_at lw_m5 168 rfl) rfl
theorem q1218 : (Jvm.Cond.unhidden "OverTheHeads$Leaf" "worth" "([I)I") ∈ lw_tbl := lw_at lw_m5 169 rfl
theorem q1219 : (Jvm.Cond.instanceMethod ({ cls := "OverTheHeads$Leaf", name := "worth", desc := "([I)I" } : Jvm.MethodName)) ∈ lw_all := lw_g (lw_at lw_m5 170 rfl) rfl
theorem q1220 : (Jvm.Cond.publicMethod ({ cls := "OverTheHeads$Leaf", name := "worth", desc := "([I)I" } : Jvm.MethodName)) ∈ lw_tbl := lw_at lw_m5 171 rfl
theorem q1221 : (Jvm.Cond.code ({ cls := "OverTheHeads$Leaf", name := "worth", desc := "([I)I" } : Jvm.MethodName) prog_5_method_2_code (2 : Nat) (Option.some Jvm.ClassFile.FieldType.int)) ∈ lw_all := lw_g (lw_at lw_m5 172 rfl) rfl
theorem q2119 : (Jvm.Cond.castable "OverTheHeads$Leaf" "java/lang/Object") ∈ lw_tbl := lw_at lw_m9 110 rfl
theorem in_X5 : ∀ w ∈ wsX50, w ∈ lw_all := lw_in wsX50 [644, 646] (by decide +kernel) (by decide +kernel)
/-! OverTheHeads$Two -/
set_option maxRecDepth 100000
def RX6 : String := "OverTheHeads$Two"
def TX6 : u_T := fun k => match k with
  | 0 => ("OverTheHeads$Two", "sign", "I", true)
  | 1 => ("OverTheHeads$Two", "a", "LOverTheHeads$Node;", true)
  | _ => ("OverTheHeads$Two", "b", "LOverTheHeads$Node;", true)
def tyX6 : Nat → FieldType := fun k => match k with
  | 0 => .int
  | 1 => .object "OverTheHeads$Node"
  | _ => .object "OverTheHeads$Node"
abbrev wsX60 : List Cond := u_ws RX6 TX6 3
theorem nmX6 : ∀ a, a < 3 → ∀ b, b < 3 → a ≠ b → (TX6 a).2.1 ≠ (TX6 b).2.1 := by decide +kernel
theorem tyX6_ok : ∀ k, k < 3 → parseFieldDescriptor (TX6 k).2.2.1 = some (tyX6 k) := by decide +kernel
abbrev cX6_init : ByteArray := prog_17_method_1_code
def yX6_init : MethodName := ⟨RX6, "<init>", "(ILOverTheHeads$Node;LOverTheHeads$Node;)V"⟩
def dkwX6_init_0 : List UInt8 := [42, 183, 0, 1, 42, 27, 181, 0, 7, 42, 44, 181, 0, 13, 42, 45, 181, 0, 17, 177]
abbrev dktX6_init_0 : List UInt8 := dkwX6_init_0 ++ []
theorem dksX6_init_0 : cX6_init.data.toList.drop 0 = dktX6_init_0 := by decide +kernel
theorem dX6_init_0 : decode cX6_init 0 = .ok (.aload_n 0, 1) := dk_42 (dk_at dksX6_init_0 0 rfl rfl)
theorem dX6_init_1 : decode cX6_init 1 = .ok (.invokespecial 1, 3) := dk_183 0 1 (dk_at dksX6_init_0 1 rfl rfl)
theorem dX6_init_4 : decode cX6_init 4 = .ok (.aload_n 0, 1) := dk_42 (dk_at dksX6_init_0 4 rfl rfl)
theorem dX6_init_5 : decode cX6_init 5 = .ok (.iload_n 1, 1) := dk_27 (dk_at dksX6_init_0 5 rfl rfl)
theorem dX6_init_6 : decode cX6_init 6 = .ok (.putfield 7, 3) := dk_181 0 7 (dk_at dksX6_init_0 6 rfl rfl)
theorem dX6_init_9 : decode cX6_init 9 = .ok (.aload_n 0, 1) := dk_42 (dk_at dksX6_init_0 9 rfl rfl)
theorem dX6_init_10 : decode cX6_init 10 = .ok (.aload_n 2, 1) := dk_44 (dk_at dksX6_init_0 10 rfl rfl)
theorem dX6_init_11 : decode cX6_init 11 = .ok (.putfield 13, 3) := dk_181 0 13 (dk_at dksX6_init_0 11 rfl rfl)
theorem dX6_init_14 : decode cX6_init 14 = .ok (.aload_n 0, 1) := dk_42 (dk_at dksX6_init_0 14 rfl rfl)
theorem dX6_init_15 : decode cX6_init 15 = .ok (.aload_n 3, 1) := dk_45 (dk_at dksX6_init_0 15 rfl rfl)
theorem dX6_init_16 : decode cX6_init 16 = .ok (.putfield 17, 3) := dk_181 0 17 (dk_at dksX6_init_0 16 rfl rfl)
theorem dX6_init_19 : decode cX6_init 19 = .ok (.return_, 1) := dk_177 (dk_at dksX6_init_0 19 rfl rfl)
abbrev cX6_worth : ByteArray := prog_17_method_2_code
def yX6_worth : MethodName := ⟨RX6, "worth", "([I)I"⟩
def dkwX6_worth_5 : List UInt8 := [28, 154, 0, 7, 29, 153, 0, 7, 4, 167, 0, 4, 3, 172]
abbrev dktX6_worth_5 : List UInt8 := dkwX6_worth_5 ++ []
def dkwX6_worth_4 : List UInt8 := [29, 160, 0, 7, 4, 167, 0, 4, 3, 172, 28, 153, 0, 11, 29, 153, 0, 7, 4, 167, 0, 4, 3, 172]
abbrev dktX6_worth_4 : List UInt8 := dkwX6_worth_4 ++ dktX6_worth_5
def dkwX6_worth_3 : List UInt8 := [28, 29, 96, 172, 28, 29, 100, 172, 28, 29, 104, 172, 28, 29, 162, 0, 7, 4, 167, 0, 4, 3, 172, 28]
abbrev dktX6_worth_3 : List UInt8 := dkwX6_worth_3 ++ dktX6_worth_4
def dkwX6_worth_2 : List UInt8 := [171, 0, 0, 0, 0, 106, 0, 0, 0, 6, 0, 0, 0, 38, 0, 0, 0, 92, 0, 0, 0, 42, 0, 0, 0, 66, 0, 0, 0, 43, 0, 0, 0, 58, 0, 0, 0, 45, 0, 0, 0, 62, 0, 0, 0, 60, 0, 0, 0, 70, 0, 0, 0, 61, 0, 0, 0, 81]
abbrev dktX6_worth_2 : List UInt8 := dkwX6_worth_2 ++ dktX6_worth_3
def dkwX6_worth_1 : List UInt8 := [180, 0, 7]
abbrev dktX6_worth_1 : List UInt8 := dkwX6_worth_1 ++ dktX6_worth_2
def dkwX6_worth_0 : List UInt8 := [42, 180, 0, 13, 43, 185, 0, 20, 2, 0, 61, 42, 180, 0, 17, 43, 185, 0, 20, 2, 0, 62, 42]
abbrev dktX6_worth_0 : List UInt8 := dkwX6_worth_0 ++ dktX6_worth_1
theorem dksX6_worth_0 : cX6_worth.data.toList.drop 0 = dktX6_worth_0 := by decide +kernel
theorem dksX6_worth_1 : cX6_worth.data.toList.drop 23 = dktX6_worth_1 := dk_seg dksX6_worth_0 23 rfl rfl
theorem dksX6_worth_2 : cX6_worth.data.toList.drop 26 = dktX6_worth_2 := dk_seg dksX6_worth_1 3 rfl rfl
theorem dksX6_worth_3 : cX6_worth.data.toList.drop 84 = dktX6_worth_3 := dk_seg dksX6_worth_2 58 rfl rfl
theorem dksX6_worth_4 : cX6_worth.data.toList.drop 108 = dktX6_worth_4 := dk_seg dksX6_worth_3 24 rfl rfl
theorem dksX6_worth_5 : cX6_worth.data.toList.drop 132 = dktX6_worth_5 := dk_seg dksX6_worth_4 24 rfl rfl
theorem dX6_worth_0 : decode cX6_worth 0 = .ok (.aload_n 0, 1) := dk_42 (dk_at dksX6_worth_0 0 rfl rfl)
theorem dX6_worth_1 : decode cX6_worth 1 = .ok (.getfield 13, 3) := dk_180 0 13 (dk_at dksX6_worth_0 1 rfl rfl)
theorem dX6_worth_4 : decode cX6_worth 4 = .ok (.aload_n 1, 1) := dk_43 (dk_at dksX6_worth_0 4 rfl rfl)
theorem dX6_worth_5 : decode cX6_worth 5 = .ok (.invokeinterface 20 2, 5) := by decide +kernel
theorem dX6_worth_10 : decode cX6_worth 10 = .ok (.istore_n 2, 1) := dk_61 (dk_at dksX6_worth_0 10 rfl rfl)
theorem dX6_worth_11 : decode cX6_worth 11 = .ok (.aload_n 0, 1) := dk_42 (dk_at dksX6_worth_0 11 rfl rfl)
theorem dX6_worth_12 : decode cX6_worth 12 = .ok (.getfield 17, 3) := dk_180 0 17 (dk_at dksX6_worth_0 12 rfl rfl)
theorem dX6_worth_15 : decode cX6_worth 15 = .ok (.aload_n 1, 1) := dk_43 (dk_at dksX6_worth_0 15 rfl rfl)
theorem dX6_worth_16 : decode cX6_worth 16 = .ok (.invokeinterface 20 2, 5) := by decide +kernel
theorem dX6_worth_21 : decode cX6_worth 21 = .ok (.istore_n 3, 1) := dk_62 (dk_at dksX6_worth_0 21 rfl rfl)
theorem dX6_worth_22 : decode cX6_worth 22 = .ok (.aload_n 0, 1) := dk_42 (dk_at dksX6_worth_0 22 rfl rfl)
theorem dX6_worth_23 : decode cX6_worth 23 = .ok (.getfield 7, 3) := dk_180 0 7 (dk_at dksX6_worth_1 0 rfl rfl)
theorem dX6_worth_26 : decode cX6_worth 26 = .ok (.lookupswitch 106 #[(38, 92), (42, 66), (43, 58), (45, 62), (60, 70), (61, 81)], 58) := by decide +kernel
theorem dX6_worth_84 : decode cX6_worth 84 = .ok (.iload_n 2, 1) := dk_28 (dk_at dksX6_worth_3 0 rfl rfl)
theorem dX6_worth_85 : decode cX6_worth 85 = .ok (.iload_n 3, 1) := dk_29 (dk_at dksX6_worth_3 1 rfl rfl)
theorem dX6_worth_86 : decode cX6_worth 86 = .ok (.iadd, 1) := dk_96 (dk_at dksX6_worth_3 2 rfl rfl)
theorem dX6_worth_87 : decode cX6_worth 87 = .ok (.ireturn, 1) := dk_172 (dk_at dksX6_worth_3 3 rfl rfl)
theorem dX6_worth_88 : decode cX6_worth 88 = .ok (.iload_n 2, 1) := dk_28 (dk_at dksX6_worth_3 4 rfl rfl)
theorem dX6_worth_89 : decode cX6_worth 89 = .ok (.iload_n 3, 1) := dk_29 (dk_at dksX6_worth_3 5 rfl rfl)
theorem dX6_worth_90 : decode cX6_worth 90 = .ok (.isub, 1) := dk_100 (dk_at dksX6_worth_3 6 rfl rfl)
theorem dX6_worth_91 : decode cX6_worth 91 = .ok (.ireturn, 1) := dk_172 (dk_at dksX6_worth_3 7 rfl rfl)
theorem dX6_worth_92 : decode cX6_worth 92 = .ok (.iload_n 2, 1) := dk_28 (dk_at dksX6_worth_3 8 rfl rfl)
theorem dX6_worth_93 : decode cX6_worth 93 = .ok (.iload_n 3, 1) := dk_29 (dk_at dksX6_worth_3 9 rfl rfl)
theorem dX6_worth_94 : decode cX6_worth 94 = .ok (.imul, 1) := dk_104 (dk_at dksX6_worth_3 10 rfl rfl)
theorem dX6_worth_95 : decode cX6_worth 95 = .ok (.ireturn, 1) := dk_172 (dk_at dksX6_worth_3 11 rfl rfl)
theorem dX6_worth_96 : decode cX6_worth 96 = .ok (.iload_n 2, 1) := dk_28 (dk_at dksX6_worth_3 12 rfl rfl)
theorem dX6_worth_97 : decode cX6_worth 97 = .ok (.iload_n 3, 1) := dk_29 (dk_at dksX6_worth_3 13 rfl rfl)
theorem dX6_worth_98 : decode cX6_worth 98 = .ok (.if_icmp .ge 7, 3) := dk_162 0 7 (dk_at dksX6_worth_3 14 rfl rfl)
theorem dX6_worth_101 : decode cX6_worth 101 = .ok (.iconst 1, 1) := dk_4 (dk_at dksX6_worth_3 17 rfl rfl)
theorem dX6_worth_102 : decode cX6_worth 102 = .ok (.goto 4, 3) := dk_167 0 4 (dk_at dksX6_worth_3 18 rfl rfl)
theorem dX6_worth_105 : decode cX6_worth 105 = .ok (.iconst 0, 1) := dk_3 (dk_at dksX6_worth_3 21 rfl rfl)
theorem dX6_worth_106 : decode cX6_worth 106 = .ok (.ireturn, 1) := dk_172 (dk_at dksX6_worth_3 22 rfl rfl)
theorem dX6_worth_107 : decode cX6_worth 107 = .ok (.iload_n 2, 1) := dk_28 (dk_at dksX6_worth_3 23 rfl rfl)
theorem dX6_worth_108 : decode cX6_worth 108 = .ok (.iload_n 3, 1) := dk_29 (dk_at dksX6_worth_4 0 rfl rfl)
theorem dX6_worth_109 : decode cX6_worth 109 = .ok (.if_icmp .ne 7, 3) := dk_160 0 7 (dk_at dksX6_worth_4 1 rfl rfl)
theorem dX6_worth_112 : decode cX6_worth 112 = .ok (.iconst 1, 1) := dk_4 (dk_at dksX6_worth_4 4 rfl rfl)
theorem dX6_worth_113 : decode cX6_worth 113 = .ok (.goto 4, 3) := dk_167 0 4 (dk_at dksX6_worth_4 5 rfl rfl)
theorem dX6_worth_116 : decode cX6_worth 116 = .ok (.iconst 0, 1) := dk_3 (dk_at dksX6_worth_4 8 rfl rfl)
theorem dX6_worth_117 : decode cX6_worth 117 = .ok (.ireturn, 1) := dk_172 (dk_at dksX6_worth_4 9 rfl rfl)
theorem dX6_worth_118 : decode cX6_worth 118 = .ok (.iload_n 2, 1) := dk_28 (dk_at dksX6_worth_4 10 rfl rfl)
theorem dX6_worth_119 : decode cX6_worth 119 = .ok (.ifCond .eq 11, 3) := dk_153 0 11 (dk_at dksX6_worth_4 11 rfl rfl)
theorem dX6_worth_122 : decode cX6_worth 122 = .ok (.iload_n 3, 1) := dk_29 (dk_at dksX6_worth_4 14 rfl rfl)
theorem dX6_worth_123 : decode cX6_worth 123 = .ok (.ifCond .eq 7, 3) := dk_153 0 7 (dk_at dksX6_worth_4 15 rfl rfl)
theorem dX6_worth_126 : decode cX6_worth 126 = .ok (.iconst 1, 1) := dk_4 (dk_at dksX6_worth_4 18 rfl rfl)
theorem dX6_worth_127 : decode cX6_worth 127 = .ok (.goto 4, 3) := dk_167 0 4 (dk_at dksX6_worth_4 19 rfl rfl)
theorem dX6_worth_130 : decode cX6_worth 130 = .ok (.iconst 0, 1) := dk_3 (dk_at dksX6_worth_4 22 rfl rfl)
theorem dX6_worth_131 : decode cX6_worth 131 = .ok (.ireturn, 1) := dk_172 (dk_at dksX6_worth_4 23 rfl rfl)
theorem dX6_worth_132 : decode cX6_worth 132 = .ok (.iload_n 2, 1) := dk_28 (dk_at dksX6_worth_5 0 rfl rfl)
theorem dX6_worth_133 : decode cX6_worth 133 = .ok (.ifCond .ne 7, 3) := dk_154 0 7 (dk_at dksX6_worth_5 1 rfl rfl)
theorem dX6_worth_136 : decode cX6_worth 136 = .ok (.iload_n 3, 1) := dk_29 (dk_at dksX6_worth_5 4 rfl rfl)
theorem dX6_worth_137 : decode cX6_worth 137 = .ok (.ifCond .eq 7, 3) := dk_153 0 7 (dk_at dksX6_worth_5 5 rfl rfl)
theorem dX6_worth_140 : decode cX6_worth 140 = .ok (.iconst 1, 1) := dk_4 (dk_at dksX6_worth_5 8 rfl rfl)
theorem dX6_worth_141 : decode cX6_worth 141 = .ok (.goto 4, 3) := dk_167 0 4 (dk_at dksX6_worth_5 9 rfl rfl)
theorem dX6_worth_144 : decode cX6_worth 144 = .ok (.iconst 0, 1) := dk_3 (dk_at dksX6_worth_5 12 rfl rfl)
theorem dX6_worth_145 : decode cX6_worth 145 = .ok (.ireturn, 1) := dk_172 (dk_at dksX6_worth_5 13 rfl rfl)
theorem q113 : (Jvm.Cond.initialized "OverTheHeads$Two") ∈ lw_all := lw_g (lw_at lw_m1 24 rfl) rfl
theorem q656 : (Jvm.Cond.instantiable "OverTheHeads$Two" (3 : Nat)) ∈ lw_all := lw_g (lw_at lw_m3 87 rfl) rfl
theorem q658 : (Jvm.Cond.instanceMethod ({ cls := "OverTheHeads$Two", name := "<init>", desc := "(ILOverTheHeads$Node;LOverTheHeads$Node;)V" } : Jvm.MethodName)) ∈ lw_all := lw_g (lw_at lw_m3 89 rfl) rfl
theorem q659 : (Jvm.Cond.code ({ cls := "OverTheHeads$Two", name := "<init>", desc := "(ILOverTheHeads$Node;LOverTheHeads$Node;)V" } : Jvm.MethodName) prog_17_method_1_code (4 : Nat) (Option.none : Option Jvm.ClassFile.FieldType)) ∈ lw_all := lw_g (lw_at lw_m3 90 rfl) rfl
theorem q660 : (Jvm.Cond.methodLink "OverTheHeads$Two" (1 : Nat) ({ cls := "java/lang/Object", name := "<init>", desc := "()V" } : Jvm.MethodName)) ∈ lw_all := lw_g (lw_at lw_m3 91 rfl) rfl
theorem q661 : (Jvm.Cond.fieldLink "OverTheHeads$Two" (7 : Nat) "OverTheHeads$Two" "sign" "I") ∈ lw_all := lw_g (lw_at lw_m3 92 rfl) rfl
theorem q662 : (Jvm.Cond.fieldLink "OverTheHeads$Two" (13 : Nat) "OverTheHeads$Two" "a" "LOverTheHeads$Node;") ∈ lw_all := lw_g (lw_at lw_m3 93 rfl) rfl
theorem q663 : (Jvm.Cond.fieldLink "OverTheHeads$Two" (17 : Nat) "OverTheHeads$Two" "b" "LOverTheHeads$Node;") ∈ lw_all := lw_g (lw_at lw_m3 94 rfl) rfl
theorem q664 : (Jvm.Cond.laysFinal "OverTheHeads$Two" "OverTheHeads$Two" "sign" "I") ∈ lw_all := lw_g (lw_at lw_m3 95 rfl) rfl
theorem q665 : (Jvm.Cond.soleField "OverTheHeads$Two" "sign") ∈ lw_all := lw_g (lw_at lw_m3 96 rfl) rfl
theorem q666 : (Jvm.Cond.laysFinal "OverTheHeads$Two" "OverTheHeads$Two" "a" "LOverTheHeads$Node;") ∈ lw_all := lw_g (lw_at lw_m3 97 rfl) rfl
theorem q667 : (Jvm.Cond.soleField "OverTheHeads$Two" "a") ∈ lw_all := lw_g (lw_at lw_m3 98 rfl) rfl
theorem q668 : (Jvm.Cond.laysFinal "OverTheHeads$Two" "OverTheHeads$Two" "b" "LOverTheHeads$Node;") ∈ lw_all := lw_g (lw_at lw_m3 99 rfl) rfl
theorem q669 : (Jvm.Cond.soleField "OverTheHeads$Two" "b") ∈ lw_all := lw_g (lw_at lw_m3 100 rfl) rfl
theorem q670 : (Jvm.Cond.superclass "OverTheHeads$Two" "java/lang/Object") ∈ lw_all := lw_g (lw_at lw_m3 101 rfl) rfl
theorem q972 : (Jvm.Cond.selects "OverTheHeads$Two" ({ cls := "java/lang/Object", name := "getClass", desc := "()Ljava/lang/Class;" } : Jvm.MethodName) ({ cls := "java/lang/Object", name := "getClass", desc := "()Ljava/lang/Class;" } : Jvm.MethodName)) ∈ lw_all := lw_g (lw_at lw_m4 163 rfl) rfl
theorem q1230 : (Jvm.Cond.castable "OverTheHeads$Two" "OverTheHeads$Node") ∈ lw_tbl := lw_at lw_m5 181 rfl
theorem q1231 : (Jvm.Cond.selects "OverTheHeads$Two" ({ cls := "OverTheHeads$Node", name := "worth", desc := "([I)I" } : Jvm.MethodName) ({ cls := "OverTheHeads$Two", name := "worth", desc := "([I)I" } : Jvm.MethodName)) ∈ lw_all := lw_g (lw_at lw_m5 182 rfl) rfl
theorem q1232 : (Jvm.Cond.unhidden "OverTheHeads$Two" "worth" "([I)I") ∈ lw_tbl := lw_at lw_m5 183 rfl
theorem q1233 : (Jvm.Cond.instanceMethod ({ cls := "OverTheHeads$Two", name := "worth", desc := "([I)I" } : Jvm.MethodName)) ∈ lw_all := lw_g (lw_at lw_m5 184 rfl) rfl
theorem q1234 : (Jvm.Cond.publicMethod ({ cls := "OverTheHeads$Two", name := "worth", desc := "([I)I" } : Jvm.MethodName)) ∈ lw_tbl := lw_at lw_m5 185 rfl
theorem q1235 : (Jvm.Cond.code ({ cls := "OverTheHeads$Two", name := "worth", desc := "([I)I" } : Jvm.MethodName) prog_17_method_2_code (4 : Nat) (Option.some Jvm.ClassFile.FieldType.int)) ∈ lw_all := lw_g (lw_at lw_m5 186 rfl) rfl
theorem q1236 : (Jvm.Cond.interfaceEntry "OverTheHeads$Two" (20 : Nat)) ∈ lw_tbl := lw_at lw_m5 187 rfl
theorem q1237 : (Jvm.Cond.methodLink "OverTheHeads$Two" (20 : Nat) ({ cls := "OverTheHeads$Node", name := "worth", desc := "([I)I" } : Jvm.MethodName)) ∈ lw_all := lw_g (lw_at lw_m5 188 rfl) rfl
theorem q2120 : (Jvm.Cond.castable "OverTheHeads$Two" "java/lang/Object") ∈ lw_tbl := lw_at lw_m9 111 rfl
theorem in_X6 : ∀ w ∈ wsX60, w ∈ lw_all := lw_in wsX60 [664, 666, 668] (by decide +kernel) (by decide +kernel)
/-! OverTheHeads$Row -/
set_option maxRecDepth 100000
def RX8 : String := "OverTheHeads$Row"
def TX8 : u_T := fun k => match k with
  | 0 => ("OverTheHeads$Row", "number", "I", true)
  | 1 => ("OverTheHeads$Row", "seats", "I", true)
  | 2 => ("OverTheHeads$Row", "more", "I", true)
  | 3 => ("OverTheHeads$Row", "sits", "[B", true)
  | _ => ("OverTheHeads$Row", "this$0", "LOverTheHeads;", true)
def tyX8 : Nat → FieldType := fun k => match k with
  | 0 => .int
  | 1 => .int
  | 2 => .int
  | 3 => .array .byte
  | _ => .object "OverTheHeads"
abbrev wsX80 : List Cond := u_ws RX8 TX8 5
theorem nmX8 : ∀ a, a < 5 → ∀ b, b < 5 → a ≠ b → (TX8 a).2.1 ≠ (TX8 b).2.1 := by decide +kernel
theorem tyX8_ok : ∀ k, k < 5 → parseFieldDescriptor (TX8 k).2.2.1 = some (tyX8 k) := by decide +kernel
abbrev cX8_init : ByteArray := prog_12_method_1_code
def yX8_init : MethodName := ⟨RX8, "<init>", "(LOverTheHeads;III)V"⟩
def dkwX8_init_1 : List UInt8 := [181, 0, 23, 42, 21, 4, 181, 0, 26, 177]
abbrev dktX8_init_1 : List UInt8 := dkwX8_init_1 ++ []
def dkwX8_init_0 : List UInt8 := [42, 43, 181, 0, 3, 42, 183, 0, 9, 42, 16, 8, 188, 8, 181, 0, 15, 42, 28, 181, 0, 19, 42, 29]
abbrev dktX8_init_0 : List UInt8 := dkwX8_init_0 ++ dktX8_init_1
theorem dksX8_init_0 : cX8_init.data.toList.drop 0 = dktX8_init_0 := by decide +kernel
theorem dksX8_init_1 : cX8_init.data.toList.drop 24 = dktX8_init_1 := dk_seg dksX8_init_0 24 rfl rfl
theorem dX8_init_0 : decode cX8_init 0 = .ok (.aload_n 0, 1) := dk_42 (dk_at dksX8_init_0 0 rfl rfl)
theorem dX8_init_1 : decode cX8_init 1 = .ok (.aload_n 1, 1) := dk_43 (dk_at dksX8_init_0 1 rfl rfl)
theorem dX8_init_2 : decode cX8_init 2 = .ok (.putfield 3, 3) := dk_181 0 3 (dk_at dksX8_init_0 2 rfl rfl)
theorem dX8_init_5 : decode cX8_init 5 = .ok (.aload_n 0, 1) := dk_42 (dk_at dksX8_init_0 5 rfl rfl)
theorem dX8_init_6 : decode cX8_init 6 = .ok (.invokespecial 9, 3) := dk_183 0 9 (dk_at dksX8_init_0 6 rfl rfl)
theorem dX8_init_9 : decode cX8_init 9 = .ok (.aload_n 0, 1) := dk_42 (dk_at dksX8_init_0 9 rfl rfl)
theorem dX8_init_10 : decode cX8_init 10 = .ok (.bipush 8, 2) := dk_16 8 (dk_at dksX8_init_0 10 rfl rfl)
theorem dX8_init_12 : decode cX8_init 12 = .ok (.newarray .byte, 2) := dk_188_8 (dk_at dksX8_init_0 12 rfl rfl)
theorem dX8_init_14 : decode cX8_init 14 = .ok (.putfield 15, 3) := dk_181 0 15 (dk_at dksX8_init_0 14 rfl rfl)
theorem dX8_init_17 : decode cX8_init 17 = .ok (.aload_n 0, 1) := dk_42 (dk_at dksX8_init_0 17 rfl rfl)
theorem dX8_init_18 : decode cX8_init 18 = .ok (.iload_n 2, 1) := dk_28 (dk_at dksX8_init_0 18 rfl rfl)
theorem dX8_init_19 : decode cX8_init 19 = .ok (.putfield 19, 3) := dk_181 0 19 (dk_at dksX8_init_0 19 rfl rfl)
theorem dX8_init_22 : decode cX8_init 22 = .ok (.aload_n 0, 1) := dk_42 (dk_at dksX8_init_0 22 rfl rfl)
theorem dX8_init_23 : decode cX8_init 23 = .ok (.iload_n 3, 1) := dk_29 (dk_at dksX8_init_0 23 rfl rfl)
theorem dX8_init_24 : decode cX8_init 24 = .ok (.putfield 23, 3) := dk_181 0 23 (dk_at dksX8_init_1 0 rfl rfl)
theorem dX8_init_27 : decode cX8_init 27 = .ok (.aload_n 0, 1) := dk_42 (dk_at dksX8_init_1 3 rfl rfl)
theorem dX8_init_28 : decode cX8_init 28 = .ok (.iload 4, 2) := dk_21 4 (dk_at dksX8_init_1 4 rfl rfl)
theorem dX8_init_30 : decode cX8_init 30 = .ok (.putfield 26, 3) := dk_181 0 26 (dk_at dksX8_init_1 6 rfl rfl)
theorem dX8_init_33 : decode cX8_init 33 = .ok (.return_, 1) := dk_177 (dk_at dksX8_init_1 9 rfl rfl)
abbrev cX8_kind : ByteArray := prog_12_method_2_code
def yX8_kind : MethodName := ⟨RX8, "kind", "()I"⟩
theorem dX8_kind_0 : decode cX8_kind 0 = .ok (.iconst 0, 1) := by decide +kernel
theorem dX8_kind_1 : decode cX8_kind 1 = .ok (.ireturn, 1) := by decide +kernel
abbrev cX8_place : ByteArray := prog_12_method_3_code
def yX8_place : MethodName := ⟨RX8, "place", "(I)I"⟩
def dkwX8_place_0 : List UInt8 := [5, 27, 104, 42, 180, 0, 3, 180, 0, 29, 42, 180, 0, 19, 46, 96, 172]
abbrev dktX8_place_0 : List UInt8 := dkwX8_place_0 ++ []
theorem dksX8_place_0 : cX8_place.data.toList.drop 0 = dktX8_place_0 := by decide +kernel
theorem dX8_place_0 : decode cX8_place 0 = .ok (.iconst 2, 1) := dk_5 (dk_at dksX8_place_0 0 rfl rfl)
theorem dX8_place_1 : decode cX8_place 1 = .ok (.iload_n 1, 1) := dk_27 (dk_at dksX8_place_0 1 rfl rfl)
theorem dX8_place_2 : decode cX8_place 2 = .ok (.imul, 1) := dk_104 (dk_at dksX8_place_0 2 rfl rfl)
theorem dX8_place_3 : decode cX8_place 3 = .ok (.aload_n 0, 1) := dk_42 (dk_at dksX8_place_0 3 rfl rfl)
theorem dX8_place_4 : decode cX8_place 4 = .ok (.getfield 3, 3) := dk_180 0 3 (dk_at dksX8_place_0 4 rfl rfl)
theorem dX8_place_7 : decode cX8_place 7 = .ok (.getfield 29, 3) := dk_180 0 29 (dk_at dksX8_place_0 7 rfl rfl)
theorem dX8_place_10 : decode cX8_place 10 = .ok (.aload_n 0, 1) := dk_42 (dk_at dksX8_place_0 10 rfl rfl)
theorem dX8_place_11 : decode cX8_place 11 = .ok (.getfield 19, 3) := dk_180 0 19 (dk_at dksX8_place_0 11 rfl rfl)
theorem dX8_place_14 : decode cX8_place 14 = .ok (.iaload, 1) := dk_46 (dk_at dksX8_place_0 14 rfl rfl)
theorem dX8_place_15 : decode cX8_place 15 = .ok (.iadd, 1) := dk_96 (dk_at dksX8_place_0 15 rfl rfl)
theorem dX8_place_16 : decode cX8_place 16 = .ok (.ireturn, 1) := dk_172 (dk_at dksX8_place_0 16 rfl rfl)
abbrev cX8_floor : ByteArray := prog_12_method_4_code
def yX8_floor : MethodName := ⟨RX8, "floor", "()I"⟩
def dkwX8_floor_0 : List UInt8 := [42, 180, 0, 3, 180, 0, 33, 42, 180, 0, 19, 46, 172]
abbrev dktX8_floor_0 : List UInt8 := dkwX8_floor_0 ++ []
theorem dksX8_floor_0 : cX8_floor.data.toList.drop 0 = dktX8_floor_0 := by decide +kernel
theorem dX8_floor_0 : decode cX8_floor 0 = .ok (.aload_n 0, 1) := dk_42 (dk_at dksX8_floor_0 0 rfl rfl)
theorem dX8_floor_1 : decode cX8_floor 1 = .ok (.getfield 3, 3) := dk_180 0 3 (dk_at dksX8_floor_0 1 rfl rfl)
theorem dX8_floor_4 : decode cX8_floor 4 = .ok (.getfield 33, 3) := dk_180 0 33 (dk_at dksX8_floor_0 4 rfl rfl)
theorem dX8_floor_7 : decode cX8_floor 7 = .ok (.aload_n 0, 1) := dk_42 (dk_at dksX8_floor_0 7 rfl rfl)
theorem dX8_floor_8 : decode cX8_floor 8 = .ok (.getfield 19, 3) := dk_180 0 19 (dk_at dksX8_floor_0 8 rfl rfl)
theorem dX8_floor_11 : decode cX8_floor 11 = .ok (.iaload, 1) := dk_46 (dk_at dksX8_floor_0 11 rfl rfl)
theorem dX8_floor_12 : decode cX8_floor 12 = .ok (.ireturn, 1) := dk_172 (dk_at dksX8_floor_0 12 rfl rfl)
abbrev cX8_far : ByteArray := prog_12_method_6_code
def yX8_far : MethodName := ⟨RX8, "far", "()I"⟩
def dkwX8_far_0 : List UInt8 := [16, 10, 16, 10, 42, 180, 0, 19, 104, 96, 172]
abbrev dktX8_far_0 : List UInt8 := dkwX8_far_0 ++ []
theorem dksX8_far_0 : cX8_far.data.toList.drop 0 = dktX8_far_0 := by decide +kernel
theorem dX8_far_0 : decode cX8_far 0 = .ok (.bipush 10, 2) := dk_16 10 (dk_at dksX8_far_0 0 rfl rfl)
theorem dX8_far_2 : decode cX8_far 2 = .ok (.bipush 10, 2) := dk_16 10 (dk_at dksX8_far_0 2 rfl rfl)
theorem dX8_far_4 : decode cX8_far 4 = .ok (.aload_n 0, 1) := dk_42 (dk_at dksX8_far_0 4 rfl rfl)
theorem dX8_far_5 : decode cX8_far 5 = .ok (.getfield 19, 3) := dk_180 0 19 (dk_at dksX8_far_0 5 rfl rfl)
theorem dX8_far_8 : decode cX8_far 8 = .ok (.imul, 1) := dk_104 (dk_at dksX8_far_0 8 rfl rfl)
theorem dX8_far_9 : decode cX8_far 9 = .ok (.iadd, 1) := dk_96 (dk_at dksX8_far_0 9 rfl rfl)
theorem dX8_far_10 : decode cX8_far 10 = .ok (.ireturn, 1) := dk_172 (dk_at dksX8_far_0 10 rfl rfl)
abbrev cX8_eyes : ByteArray := prog_12_method_8_code
def yX8_eyes : MethodName := ⟨RX8, "eyes", "(I)I"⟩
def dkwX8_eyes_1 : List UInt8 := [184, 0, 46, 96, 172]
abbrev dktX8_eyes_1 : List UInt8 := dkwX8_eyes_1 ++ []
def dkwX8_eyes_0 : List UInt8 := [42, 182, 0, 36, 3, 42, 180, 0, 3, 180, 0, 40, 42, 180, 0, 15, 27, 51, 46, 42, 182, 0, 43, 100]
abbrev dktX8_eyes_0 : List UInt8 := dkwX8_eyes_0 ++ dktX8_eyes_1
theorem dksX8_eyes_0 : cX8_eyes.data.toList.drop 0 = dktX8_eyes_0 := by decide +kernel
theorem dksX8_eyes_1 : cX8_eyes.data.toList.drop 24 = dktX8_eyes_1 := dk_seg dksX8_eyes_0 24 rfl rfl
theorem dX8_eyes_0 : decode cX8_eyes 0 = .ok (.aload_n 0, 1) := dk_42 (dk_at dksX8_eyes_0 0 rfl rfl)
theorem dX8_eyes_1 : decode cX8_eyes 1 = .ok (.invokevirtual 36, 3) := dk_182 0 36 (dk_at dksX8_eyes_0 1 rfl rfl)
theorem dX8_eyes_4 : decode cX8_eyes 4 = .ok (.iconst 0, 1) := dk_3 (dk_at dksX8_eyes_0 4 rfl rfl)
theorem dX8_eyes_5 : decode cX8_eyes 5 = .ok (.aload_n 0, 1) := dk_42 (dk_at dksX8_eyes_0 5 rfl rfl)
theorem dX8_eyes_6 : decode cX8_eyes 6 = .ok (.getfield 3, 3) := dk_180 0 3 (dk_at dksX8_eyes_0 6 rfl rfl)
theorem dX8_eyes_9 : decode cX8_eyes 9 = .ok (.getfield 40, 3) := dk_180 0 40 (dk_at dksX8_eyes_0 9 rfl rfl)
theorem dX8_eyes_12 : decode cX8_eyes 12 = .ok (.aload_n 0, 1) := dk_42 (dk_at dksX8_eyes_0 12 rfl rfl)
theorem dX8_eyes_13 : decode cX8_eyes 13 = .ok (.getfield 15, 3) := dk_180 0 15 (dk_at dksX8_eyes_0 13 rfl rfl)
theorem dX8_eyes_16 : decode cX8_eyes 16 = .ok (.iload_n 1, 1) := dk_27 (dk_at dksX8_eyes_0 16 rfl rfl)
theorem dX8_eyes_17 : decode cX8_eyes 17 = .ok (.baload, 1) := dk_51 (dk_at dksX8_eyes_0 17 rfl rfl)
theorem dX8_eyes_18 : decode cX8_eyes 18 = .ok (.iaload, 1) := dk_46 (dk_at dksX8_eyes_0 18 rfl rfl)
theorem dX8_eyes_19 : decode cX8_eyes 19 = .ok (.aload_n 0, 1) := dk_42 (dk_at dksX8_eyes_0 19 rfl rfl)
theorem dX8_eyes_20 : decode cX8_eyes 20 = .ok (.invokevirtual 43, 3) := dk_182 0 43 (dk_at dksX8_eyes_0 20 rfl rfl)
theorem dX8_eyes_23 : decode cX8_eyes 23 = .ok (.isub, 1) := dk_100 (dk_at dksX8_eyes_0 23 rfl rfl)
theorem dX8_eyes_24 : decode cX8_eyes 24 = .ok (.invokestatic 46, 3) := dk_184 0 46 (dk_at dksX8_eyes_1 0 rfl rfl)
theorem dX8_eyes_27 : decode cX8_eyes 27 = .ok (.iadd, 1) := dk_96 (dk_at dksX8_eyes_1 3 rfl rfl)
theorem dX8_eyes_28 : decode cX8_eyes 28 = .ok (.ireturn, 1) := dk_172 (dk_at dksX8_eyes_1 4 rfl rfl)
abbrev cX8_low : ByteArray := prog_12_method_7_code
def yX8_low : MethodName := ⟨RX8, "low", "()I"⟩
theorem dX8_low_0 : decode cX8_low 0 = .ok (.iconst 0, 1) := by decide +kernel
theorem dX8_low_1 : decode cX8_low 1 = .ok (.ireturn, 1) := by decide +kernel
abbrev cX8_heads : ByteArray := prog_12_method_9_code
def yX8_heads : MethodName := ⟨RX8, "heads", "(I)I"⟩
def dkwX8_heads_0 : List UInt8 := [42, 182, 0, 36, 3, 42, 180, 0, 3, 180, 0, 52, 27, 46, 42, 182, 0, 43, 100, 184, 0, 46, 96, 172]
abbrev dktX8_heads_0 : List UInt8 := dkwX8_heads_0 ++ []
theorem dksX8_heads_0 : cX8_heads.data.toList.drop 0 = dktX8_heads_0 := by decide +kernel
theorem dX8_heads_0 : decode cX8_heads 0 = .ok (.aload_n 0, 1) := dk_42 (dk_at dksX8_heads_0 0 rfl rfl)
theorem dX8_heads_1 : decode cX8_heads 1 = .ok (.invokevirtual 36, 3) := dk_182 0 36 (dk_at dksX8_heads_0 1 rfl rfl)
theorem dX8_heads_4 : decode cX8_heads 4 = .ok (.iconst 0, 1) := dk_3 (dk_at dksX8_heads_0 4 rfl rfl)
theorem dX8_heads_5 : decode cX8_heads 5 = .ok (.aload_n 0, 1) := dk_42 (dk_at dksX8_heads_0 5 rfl rfl)
theorem dX8_heads_6 : decode cX8_heads 6 = .ok (.getfield 3, 3) := dk_180 0 3 (dk_at dksX8_heads_0 6 rfl rfl)
theorem dX8_heads_9 : decode cX8_heads 9 = .ok (.getfield 52, 3) := dk_180 0 52 (dk_at dksX8_heads_0 9 rfl rfl)
theorem dX8_heads_12 : decode cX8_heads 12 = .ok (.iload_n 1, 1) := dk_27 (dk_at dksX8_heads_0 12 rfl rfl)
theorem dX8_heads_13 : decode cX8_heads 13 = .ok (.iaload, 1) := dk_46 (dk_at dksX8_heads_0 13 rfl rfl)
theorem dX8_heads_14 : decode cX8_heads 14 = .ok (.aload_n 0, 1) := dk_42 (dk_at dksX8_heads_0 14 rfl rfl)
theorem dX8_heads_15 : decode cX8_heads 15 = .ok (.invokevirtual 43, 3) := dk_182 0 43 (dk_at dksX8_heads_0 15 rfl rfl)
theorem dX8_heads_18 : decode cX8_heads 18 = .ok (.isub, 1) := dk_100 (dk_at dksX8_heads_0 18 rfl rfl)
theorem dX8_heads_19 : decode cX8_heads 19 = .ok (.invokestatic 46, 3) := dk_184 0 46 (dk_at dksX8_heads_0 19 rfl rfl)
theorem dX8_heads_22 : decode cX8_heads 22 = .ok (.iadd, 1) := dk_96 (dk_at dksX8_heads_0 22 rfl rfl)
theorem dX8_heads_23 : decode cX8_heads 23 = .ok (.ireturn, 1) := dk_172 (dk_at dksX8_heads_0 23 rfl rfl)
abbrev cX8_isAmong : ByteArray := prog_12_method_5_code
def yX8_isAmong : MethodName := ⟨RX8, "isAmong", "()Z"⟩
theorem dX8_isAmong_0 : decode cX8_isAmong 0 = .ok (.iconst 1, 1) := by decide +kernel
theorem dX8_isAmong_1 : decode cX8_isAmong 1 = .ok (.ireturn, 1) := by decide +kernel
theorem q115 : (Jvm.Cond.initialized "OverTheHeads$Row") ∈ lw_all := lw_g (lw_at lw_m1 26 rfl) rfl
theorem q674 : (Jvm.Cond.fieldLinkNest "OverTheHeads$Row" (40 : Nat) "OverTheHeads" "eye" "[I" "OverTheHeads") ∈ lw_tbl := lw_at lw_m3 105 rfl
theorem q676 : (Jvm.Cond.fieldLinkNest "OverTheHeads$Row" (52 : Nat) "OverTheHeads" "head" "[I" "OverTheHeads") ∈ lw_tbl := lw_at lw_m3 107 rfl
theorem q680 : (Jvm.Cond.fieldLinkNest "OverTheHeads$Row" (33 : Nat) "OverTheHeads" "rise" "[I" "OverTheHeads") ∈ lw_tbl := lw_at lw_m3 111 rfl
theorem q682 : (Jvm.Cond.fieldLinkNest "OverTheHeads$Row" (29 : Nat) "OverTheHeads" "shifted" "[I" "OverTheHeads") ∈ lw_tbl := lw_at lw_m3 113 rfl
theorem q826 : (Jvm.Cond.instantiable "OverTheHeads$Row" (5 : Nat)) ∈ lw_all := lw_g (lw_at lw_m4 17 rfl) rfl
theorem q828 : (Jvm.Cond.instanceMethod ({ cls := "OverTheHeads$Row", name := "<init>", desc := "(LOverTheHeads;III)V" } : Jvm.MethodName)) ∈ lw_all := lw_g (lw_at lw_m4 19 rfl) rfl
theorem q829 : (Jvm.Cond.code ({ cls := "OverTheHeads$Row", name := "<init>", desc := "(LOverTheHeads;III)V" } : Jvm.MethodName) prog_12_method_1_code (5 : Nat) (Option.none : Option Jvm.ClassFile.FieldType)) ∈ lw_all := lw_g (lw_at lw_m4 20 rfl) rfl
theorem q830 : (Jvm.Cond.methodLink "OverTheHeads$Row" (9 : Nat) ({ cls := "java/lang/Object", name := "<init>", desc := "()V" } : Jvm.MethodName)) ∈ lw_all := lw_g (lw_at lw_m4 21 rfl) rfl
theorem q831 : (Jvm.Cond.fieldLink "OverTheHeads$Row" (19 : Nat) "OverTheHeads$Row" "number" "I") ∈ lw_all := lw_g (lw_at lw_m4 22 rfl) rfl
theorem q833 : (Jvm.Cond.fieldLink "OverTheHeads$Row" (23 : Nat) "OverTheHeads$Row" "seats" "I") ∈ lw_all := lw_g (lw_at lw_m4 24 rfl) rfl
theorem q835 : (Jvm.Cond.fieldLink "OverTheHeads$Row" (26 : Nat) "OverTheHeads$Row" "more" "I") ∈ lw_all := lw_g (lw_at lw_m4 26 rfl) rfl
theorem q844 : (Jvm.Cond.fieldLink "OverTheHeads$Row" (15 : Nat) "OverTheHeads$Row" "sits" "[B") ∈ lw_all := lw_g (lw_at lw_m4 35 rfl) rfl
theorem q846 : (Jvm.Cond.fieldLink "OverTheHeads$Row" (3 : Nat) "OverTheHeads$Row" "this$0" "LOverTheHeads;") ∈ lw_all := lw_g (lw_at lw_m4 37 rfl) rfl
theorem q847 : (Jvm.Cond.laysFinal "OverTheHeads$Row" "OverTheHeads$Row" "number" "I") ∈ lw_all := lw_g (lw_at lw_m4 38 rfl) rfl
theorem q848 : (Jvm.Cond.soleField "OverTheHeads$Row" "number") ∈ lw_all := lw_g (lw_at lw_m4 39 rfl) rfl
theorem q849 : (Jvm.Cond.laysFinal "OverTheHeads$Row" "OverTheHeads$Row" "seats" "I") ∈ lw_all := lw_g (lw_at lw_m4 40 rfl) rfl
theorem q850 : (Jvm.Cond.soleField "OverTheHeads$Row" "seats") ∈ lw_all := lw_g (lw_at lw_m4 41 rfl) rfl
theorem q851 : (Jvm.Cond.laysFinal "OverTheHeads$Row" "OverTheHeads$Row" "more" "I") ∈ lw_all := lw_g (lw_at lw_m4 42 rfl) rfl
theorem q852 : (Jvm.Cond.soleField "OverTheHeads$Row" "more") ∈ lw_all := lw_g (lw_at lw_m4 43 rfl) rfl
theorem q853 : (Jvm.Cond.laysFinal "OverTheHeads$Row" "OverTheHeads$Row" "sits" "[B") ∈ lw_all := lw_g (lw_at lw_m4 44 rfl) rfl
theorem q854 : (Jvm.Cond.soleField "OverTheHeads$Row" "sits") ∈ lw_all := lw_g (lw_at lw_m4 45 rfl) rfl
theorem q855 : (Jvm.Cond.laysFinal "OverTheHeads$Row" "OverTheHeads$Row" "this$0" "LOverTheHeads;") ∈ lw_all := lw_g (lw_at lw_m4 46 rfl) rfl
theorem q856 : (Jvm.Cond.soleField "OverTheHeads$Row" "this$0") ∈ lw_all := lw_g (lw_at lw_m4 47 rfl) rfl
theorem q857 : (Jvm.Cond.superclass "OverTheHeads$Row" "java/lang/Object") ∈ lw_all := lw_g (lw_at lw_m4 48 rfl) rfl
theorem q968 : (Jvm.Cond.selects "OverTheHeads$Row" ({ cls := "java/lang/Object", name := "getClass", desc := "()Ljava/lang/Class;" } : Jvm.MethodName) ({ cls := "java/lang/Object", name := "getClass", desc := "()Ljava/lang/Class;" } : Jvm.MethodName)) ∈ lw_all := lw_g (lw_at lw_m4 159 rfl) rfl
theorem q1020 : (Jvm.Cond.instanceMethod ({ cls := "OverTheHeads$Row", name := "kind", desc := "()I" } : Jvm.MethodName)) ∈ lw_all := lw_g (lw_at lw_m4 211 rfl) rfl
theorem q1021 : (Jvm.Cond.selects "OverTheHeads$Row" ({ cls := "OverTheHeads$Row", name := "kind", desc := "()I" } : Jvm.MethodName) ({ cls := "OverTheHeads$Row", name := "kind", desc := "()I" } : Jvm.MethodName)) ∈ lw_all := lw_g (lw_at lw_m4 212 rfl) rfl
theorem q1022 : (Jvm.Cond.sameMethod "OverTheHeads$Row" "OverTheHeads$Row" "kind" "()I") ∈ lw_all := lw_g (lw_at lw_m4 213 rfl) rfl
theorem q1041 : (Jvm.Cond.code ({ cls := "OverTheHeads$Row", name := "kind", desc := "()I" } : Jvm.MethodName) prog_12_method_2_code (1 : Nat) (Option.some Jvm.ClassFile.FieldType.int)) ∈ lw_all := lw_g (lw_at lw_m4 232 rfl) rfl
theorem q1043 : (Jvm.Cond.instanceMethod ({ cls := "OverTheHeads$Row", name := "place", desc := "(I)I" } : Jvm.MethodName)) ∈ lw_all := lw_g (lw_at lw_m4 234 rfl) rfl
theorem q1044 : (Jvm.Cond.selects "OverTheHeads$Row" ({ cls := "OverTheHeads$Row", name := "place", desc := "(I)I" } : Jvm.MethodName) ({ cls := "OverTheHeads$Row", name := "place", desc := "(I)I" } : Jvm.MethodName)) ∈ lw_all := lw_g (lw_at lw_m4 235 rfl) rfl
theorem q1045 : (Jvm.Cond.sameMethod "OverTheHeads$Row" "OverTheHeads$Row" "place" "(I)I") ∈ lw_all := lw_g (lw_at lw_m4 236 rfl) rfl
theorem q1057 : (Jvm.Cond.code ({ cls := "OverTheHeads$Row", name := "place", desc := "(I)I" } : Jvm.MethodName) prog_12_method_3_code (2 : Nat) (Option.some Jvm.ClassFile.FieldType.int)) ∈ lw_all := lw_g (lw_at lw_m5 8 rfl) rfl
theorem q1059 : (Jvm.Cond.instanceMethod ({ cls := "OverTheHeads$Row", name := "floor", desc := "()I" } : Jvm.MethodName)) ∈ lw_all := lw_g (lw_at lw_m5 10 rfl) rfl
theorem q1060 : (Jvm.Cond.selects "OverTheHeads$Row" ({ cls := "OverTheHeads$Row", name := "floor", desc := "()I" } : Jvm.MethodName) ({ cls := "OverTheHeads$Row", name := "floor", desc := "()I" } : Jvm.MethodName)) ∈ lw_all := lw_g (lw_at lw_m5 11 rfl) rfl
theorem q1061 : (Jvm.Cond.sameMethod "OverTheHeads$Row" "OverTheHeads$Row" "floor" "()I") ∈ lw_all := lw_g (lw_at lw_m5 12 rfl) rfl
theorem q1073 : (Jvm.Cond.code ({ cls := "OverTheHeads$Row", name := "floor", desc := "()I" } : Jvm.MethodName) prog_12_method_4_code (1 : Nat) (Option.some Jvm.ClassFile.FieldType.int)) ∈ lw_all := lw_g (lw_at lw_m5 24 rfl) rfl
theorem q1075 : (Jvm.Cond.instanceMethod ({ cls := "OverTheHeads$Row", name := "far", desc := "()I" } : Jvm.MethodName)) ∈ lw_all := lw_g (lw_at lw_m5 26 rfl) rfl
theorem q1076 : (Jvm.Cond.selects "OverTheHeads$Row" ({ cls := "OverTheHeads$Row", name := "far", desc := "()I" } : Jvm.MethodName) ({ cls := "OverTheHeads$Row", name := "far", desc := "()I" } : Jvm.MethodName)) ∈ lw_all := lw_g (lw_at lw_m5 27 rfl) rfl
theorem q1077 : (Jvm.Cond.sameMethod "OverTheHeads$Row" "OverTheHeads$Row" "far" "()I") ∈ lw_all := lw_g (lw_at lw_m5 28 rfl) rfl
theorem q1084 : (Jvm.Cond.declares ({ cls := "OverTheHeads$Row", name := "far", desc := "()I" } : Jvm.MethodName)) ∈ lw_tbl := lw_at lw_m5 35 rfl
theorem q1088 : (Jvm.Cond.code ({ cls := "OverTheHeads$Row", name := "far", desc := "()I" } : Jvm.MethodName) prog_12_method_6_code (1 : Nat) (Option.some Jvm.ClassFile.FieldType.int)) ∈ lw_all := lw_g (lw_at lw_m5 39 rfl) rfl
theorem q1090 : (Jvm.Cond.instanceMethod ({ cls := "OverTheHeads$Row", name := "eyes", desc := "(I)I" } : Jvm.MethodName)) ∈ lw_all := lw_g (lw_at lw_m5 41 rfl) rfl
theorem q1091 : (Jvm.Cond.selects "OverTheHeads$Row" ({ cls := "OverTheHeads$Row", name := "eyes", desc := "(I)I" } : Jvm.MethodName) ({ cls := "OverTheHeads$Row", name := "eyes", desc := "(I)I" } : Jvm.MethodName)) ∈ lw_all := lw_g (lw_at lw_m5 42 rfl) rfl
theorem q1092 : (Jvm.Cond.sameMethod "OverTheHeads$Row" "OverTheHeads$Row" "eyes" "(I)I") ∈ lw_all := lw_g (lw_at lw_m5 43 rfl) rfl
theorem q1098 : (Jvm.Cond.code ({ cls := "OverTheHeads$Row", name := "eyes", desc := "(I)I" } : Jvm.MethodName) prog_12_method_8_code (2 : Nat) (Option.some Jvm.ClassFile.FieldType.int)) ∈ lw_all := lw_g (lw_at lw_m5 49 rfl) rfl
theorem q1099 : (Jvm.Cond.methodLink "OverTheHeads$Row" (36 : Nat) ({ cls := "OverTheHeads$Row", name := "floor", desc := "()I" } : Jvm.MethodName)) ∈ lw_all := lw_g (lw_at lw_m5 50 rfl) rfl
theorem q1100 : (Jvm.Cond.methodLink "OverTheHeads$Row" (43 : Nat) ({ cls := "OverTheHeads$Row", name := "low", desc := "()I" } : Jvm.MethodName)) ∈ lw_all := lw_g (lw_at lw_m5 51 rfl) rfl
theorem q1101 : (Jvm.Cond.instanceMethod ({ cls := "OverTheHeads$Row", name := "low", desc := "()I" } : Jvm.MethodName)) ∈ lw_all := lw_g (lw_at lw_m5 52 rfl) rfl
theorem q1102 : (Jvm.Cond.selects "OverTheHeads$Row" ({ cls := "OverTheHeads$Row", name := "low", desc := "()I" } : Jvm.MethodName) ({ cls := "OverTheHeads$Row", name := "low", desc := "()I" } : Jvm.MethodName)) ∈ lw_all := lw_g (lw_at lw_m5 53 rfl) rfl
theorem q1103 : (Jvm.Cond.sameMethod "OverTheHeads$Row" "OverTheHeads$Row" "low" "()I") ∈ lw_all := lw_g (lw_at lw_m5 54 rfl) rfl
theorem q1112 : (Jvm.Cond.code ({ cls := "OverTheHeads$Row", name := "low", desc := "()I" } : Jvm.MethodName) prog_12_method_7_code (1 : Nat) (Option.some Jvm.ClassFile.FieldType.int)) ∈ lw_all := lw_g (lw_at lw_m5 63 rfl) rfl
theorem q1113 : (Jvm.Cond.methodLink "OverTheHeads$Row" (46 : Nat) ({ cls := "java/lang/Math", name := "max", desc := "(II)I" } : Jvm.MethodName)) ∈ lw_all := lw_g (lw_at lw_m5 64 rfl) rfl
theorem q1115 : (Jvm.Cond.instanceMethod ({ cls := "OverTheHeads$Row", name := "heads", desc := "(I)I" } : Jvm.MethodName)) ∈ lw_all := lw_g (lw_at lw_m5 66 rfl) rfl
theorem q1116 : (Jvm.Cond.selects "OverTheHeads$Row" ({ cls := "OverTheHeads$Row", name := "heads", desc := "(I)I" } : Jvm.MethodName) ({ cls := "OverTheHeads$Row", name := "heads", desc := "(I)I" } : Jvm.MethodName)) ∈ lw_all := lw_g (lw_at lw_m5 67 rfl) rfl
theorem q1117 : (Jvm.Cond.sameMethod "OverTheHeads$Row" "OverTheHeads$Row" "heads" "(I)I") ∈ lw_all := lw_g (lw_at lw_m5 68 rfl) rfl
theorem q1123 : (Jvm.Cond.code ({ cls := "OverTheHeads$Row", name := "heads", desc := "(I)I" } : Jvm.MethodName) prog_12_method_9_code (2 : Nat) (Option.some Jvm.ClassFile.FieldType.int)) ∈ lw_all := lw_g (lw_at lw_m5 74 rfl) rfl
theorem q1125 : (Jvm.Cond.instanceMethod ({ cls := "OverTheHeads$Row", name := "isAmong", desc := "()Z" } : Jvm.MethodName)) ∈ lw_all := lw_g (lw_at lw_m5 76 rfl) rfl
theorem q1126 : (Jvm.Cond.selects "OverTheHeads$Row" ({ cls := "OverTheHeads$Row", name := "isAmong", desc := "()Z" } : Jvm.MethodName) ({ cls := "OverTheHeads$Row", name := "isAmong", desc := "()Z" } : Jvm.MethodName)) ∈ lw_all := lw_g (lw_at lw_m5 77 rfl) rfl
theorem q1127 : (Jvm.Cond.sameMethod "OverTheHeads$Row" "OverTheHeads$Row" "isAmong" "()Z") ∈ lw_all := lw_g (lw_at lw_m5 78 rfl) rfl
theorem q1135 : (Jvm.Cond.code ({ cls := "OverTheHeads$Row", name := "isAmong", desc := "()Z" } : Jvm.MethodName) prog_12_method_5_code (1 : Nat) (Option.some Jvm.ClassFile.FieldType.boolean)) ∈ lw_all := lw_g (lw_at lw_m5 86 rfl) rfl
theorem q2122 : (Jvm.Cond.castable "OverTheHeads$Row" "java/lang/Object") ∈ lw_tbl := lw_at lw_m9 113 rfl
theorem in_X8 : ∀ w ∈ wsX80, w ∈ lw_all := lw_in wsX80 [847, 849, 851, 853, 855] (by decide +kernel) (by decide +kernel)
/-! OverTheHeads$Shifted -/
set_option maxRecDepth 100000
def RX9 : String := "OverTheHeads$Shifted"
def TX9 : u_T := fun k => match k with
  | 0 => ("OverTheHeads$Row", "number", "I", true)
  | 1 => ("OverTheHeads$Row", "seats", "I", true)
  | 2 => ("OverTheHeads$Row", "more", "I", true)
  | 3 => ("OverTheHeads$Row", "sits", "[B", true)
  | 4 => ("OverTheHeads$Row", "this$0", "LOverTheHeads;", true)
  | _ => ("OverTheHeads$Shifted", "this$0", "LOverTheHeads;", true)
def tyX9 : Nat → FieldType := fun k => match k with
  | 0 => .int
  | 1 => .int
  | 2 => .int
  | 3 => .array .byte
  | 4 => .object "OverTheHeads"
  | _ => .object "OverTheHeads"
abbrev wsX90 : List Cond := u_ws RX9 TX9 6
-- two fields of one name: no nmX9
theorem tyX9_ok : ∀ k, k < 6 → parseFieldDescriptor (TX9 k).2.2.1 = some (tyX9 k) := by decide +kernel
abbrev cX9_init : ByteArray := prog_14_method_1_code
def yX9_init : MethodName := ⟨RX9, "<init>", "(LOverTheHeads;III)V"⟩
def dkwX9_init_0 : List UInt8 := [42, 43, 181, 0, 1, 42, 43, 28, 29, 21, 4, 183, 0, 7, 177]
abbrev dktX9_init_0 : List UInt8 := dkwX9_init_0 ++ []
theorem dksX9_init_0 : cX9_init.data.toList.drop 0 = dktX9_init_0 := by decide +kernel
theorem dX9_init_0 : decode cX9_init 0 = .ok (.aload_n 0, 1) := dk_42 (dk_at dksX9_init_0 0 rfl rfl)
theorem dX9_init_1 : decode cX9_init 1 = .ok (.aload_n 1, 1) := dk_43 (dk_at dksX9_init_0 1 rfl rfl)
theorem dX9_init_2 : decode cX9_init 2 = .ok (.putfield 1, 3) := dk_181 0 1 (dk_at dksX9_init_0 2 rfl rfl)
theorem dX9_init_5 : decode cX9_init 5 = .ok (.aload_n 0, 1) := dk_42 (dk_at dksX9_init_0 5 rfl rfl)
theorem dX9_init_6 : decode cX9_init 6 = .ok (.aload_n 1, 1) := dk_43 (dk_at dksX9_init_0 6 rfl rfl)
theorem dX9_init_7 : decode cX9_init 7 = .ok (.iload_n 2, 1) := dk_28 (dk_at dksX9_init_0 7 rfl rfl)
theorem dX9_init_8 : decode cX9_init 8 = .ok (.iload_n 3, 1) := dk_29 (dk_at dksX9_init_0 8 rfl rfl)
theorem dX9_init_9 : decode cX9_init 9 = .ok (.iload 4, 2) := dk_21 4 (dk_at dksX9_init_0 9 rfl rfl)
theorem dX9_init_11 : decode cX9_init 11 = .ok (.invokespecial 7, 3) := dk_183 0 7 (dk_at dksX9_init_0 11 rfl rfl)
theorem dX9_init_14 : decode cX9_init 14 = .ok (.return_, 1) := dk_177 (dk_at dksX9_init_0 14 rfl rfl)
abbrev cX9_kind : ByteArray := prog_14_method_2_code
def yX9_kind : MethodName := ⟨RX9, "kind", "()I"⟩
theorem dX9_kind_0 : decode cX9_kind 0 = .ok (.iconst 1, 1) := by decide +kernel
theorem dX9_kind_1 : decode cX9_kind 1 = .ok (.ireturn, 1) := by decide +kernel
abbrev cX9_place : ByteArray := prog_14_method_3_code
def yX9_place : MethodName := ⟨RX9, "place", "(I)I"⟩
def dkwX9_place_0 : List UInt8 := [42, 27, 183, 0, 13, 4, 96, 172]
abbrev dktX9_place_0 : List UInt8 := dkwX9_place_0 ++ []
theorem dksX9_place_0 : cX9_place.data.toList.drop 0 = dktX9_place_0 := by decide +kernel
theorem dX9_place_0 : decode cX9_place 0 = .ok (.aload_n 0, 1) := dk_42 (dk_at dksX9_place_0 0 rfl rfl)
theorem dX9_place_1 : decode cX9_place 1 = .ok (.iload_n 1, 1) := dk_27 (dk_at dksX9_place_0 1 rfl rfl)
theorem dX9_place_2 : decode cX9_place 2 = .ok (.invokespecial 13, 3) := dk_183 0 13 (dk_at dksX9_place_0 2 rfl rfl)
theorem dX9_place_5 : decode cX9_place 5 = .ok (.iconst 1, 1) := dk_4 (dk_at dksX9_place_0 5 rfl rfl)
theorem dX9_place_6 : decode cX9_place 6 = .ok (.iadd, 1) := dk_96 (dk_at dksX9_place_0 6 rfl rfl)
theorem dX9_place_7 : decode cX9_place 7 = .ok (.ireturn, 1) := dk_172 (dk_at dksX9_place_0 7 rfl rfl)
theorem q116 : (Jvm.Cond.initialized "OverTheHeads$Shifted") ∈ lw_all := lw_g (lw_at lw_m1 27 rfl) rfl
theorem q859 : (Jvm.Cond.instantiable "OverTheHeads$Shifted" (6 : Nat)) ∈ lw_all := lw_g (lw_at lw_m4 50 rfl) rfl
theorem q861 : (Jvm.Cond.instanceMethod ({ cls := "OverTheHeads$Shifted", name := "<init>", desc := "(LOverTheHeads;III)V" } : Jvm.MethodName)) ∈ lw_all := lw_g (lw_at lw_m4 52 rfl) rfl
theorem q862 : (Jvm.Cond.code ({ cls := "OverTheHeads$Shifted", name := "<init>", desc := "(LOverTheHeads;III)V" } : Jvm.MethodName) prog_14_method_1_code (5 : Nat) (Option.none : Option Jvm.ClassFile.FieldType)) ∈ lw_all := lw_g (lw_at lw_m4 53 rfl) rfl
theorem q863 : (Jvm.Cond.methodLink "OverTheHeads$Shifted" (7 : Nat) ({ cls := "OverTheHeads$Row", name := "<init>", desc := "(LOverTheHeads;III)V" } : Jvm.MethodName)) ∈ lw_all := lw_g (lw_at lw_m4 54 rfl) rfl
theorem q864 : (Jvm.Cond.fieldLink "OverTheHeads$Shifted" (1 : Nat) "OverTheHeads$Shifted" "this$0" "LOverTheHeads;") ∈ lw_all := lw_g (lw_at lw_m4 55 rfl) rfl
theorem q865 : (Jvm.Cond.laysFinal "OverTheHeads$Shifted" "OverTheHeads$Shifted" "this$0" "LOverTheHeads;") ∈ lw_all := lw_g (lw_at lw_m4 56 rfl) rfl
theorem q866 : (Jvm.Cond.soleField "OverTheHeads$Shifted" "this$0") ∈ lw_all := lw_g (lw_at lw_m4 57 rfl) rfl
theorem q867 : (Jvm.Cond.laysFinal "OverTheHeads$Shifted" "OverTheHeads$Row" "number" "I") ∈ lw_all := lw_g (lw_at lw_m4 58 rfl) rfl
theorem q868 : (Jvm.Cond.laysFinal "OverTheHeads$Shifted" "OverTheHeads$Row" "seats" "I") ∈ lw_all := lw_g (lw_at lw_m4 59 rfl) rfl
theorem q869 : (Jvm.Cond.laysFinal "OverTheHeads$Shifted" "OverTheHeads$Row" "more" "I") ∈ lw_all := lw_g (lw_at lw_m4 60 rfl) rfl
theorem q870 : (Jvm.Cond.laysFinal "OverTheHeads$Shifted" "OverTheHeads$Row" "sits" "[B") ∈ lw_all := lw_g (lw_at lw_m4 61 rfl) rfl
theorem q871 : (Jvm.Cond.laysFinal "OverTheHeads$Shifted" "OverTheHeads$Row" "this$0" "LOverTheHeads;") ∈ lw_all := lw_g (lw_at lw_m4 62 rfl) rfl
theorem q872 : (Jvm.Cond.superclass "OverTheHeads$Shifted" "OverTheHeads$Row") ∈ lw_all := lw_g (lw_at lw_m4 63 rfl) rfl
theorem q970 : (Jvm.Cond.selects "OverTheHeads$Shifted" ({ cls := "java/lang/Object", name := "getClass", desc := "()Ljava/lang/Class;" } : Jvm.MethodName) ({ cls := "java/lang/Object", name := "getClass", desc := "()Ljava/lang/Class;" } : Jvm.MethodName)) ∈ lw_all := lw_g (lw_at lw_m4 161 rfl) rfl
theorem q1033 : (Jvm.Cond.instanceMethod ({ cls := "OverTheHeads$Shifted", name := "kind", desc := "()I" } : Jvm.MethodName)) ∈ lw_all := lw_g (lw_at lw_m4 224 rfl) rfl
theorem q1034 : (Jvm.Cond.code ({ cls := "OverTheHeads$Shifted", name := "kind", desc := "()I" } : Jvm.MethodName) prog_14_method_2_code (1 : Nat) (Option.some Jvm.ClassFile.FieldType.int)) ∈ lw_all := lw_g (lw_at lw_m4 225 rfl) rfl
theorem q1040 : (Jvm.Cond.selects "OverTheHeads$Shifted" ({ cls := "OverTheHeads$Row", name := "kind", desc := "()I" } : Jvm.MethodName) ({ cls := "OverTheHeads$Shifted", name := "kind", desc := "()I" } : Jvm.MethodName)) ∈ lw_all := lw_g (lw_at lw_m4 231 rfl) rfl
theorem q1051 : (Jvm.Cond.instanceMethod ({ cls := "OverTheHeads$Shifted", name := "place", desc := "(I)I" } : Jvm.MethodName)) ∈ lw_all := lw_g (lw_at lw_m5 2 rfl) rfl
theorem q1052 : (Jvm.Cond.code ({ cls := "OverTheHeads$Shifted", name := "place", desc := "(I)I" } : Jvm.MethodName) prog_14_method_3_code (2 : Nat) (Option.some Jvm.ClassFile.FieldType.int)) ∈ lw_all := lw_g (lw_at lw_m5 3 rfl) rfl
theorem q1053 : (Jvm.Cond.methodLink "OverTheHeads$Shifted" (13 : Nat) ({ cls := "OverTheHeads$Row", name := "place", desc := "(I)I" } : Jvm.MethodName)) ∈ lw_all := lw_g (lw_at lw_m5 4 rfl) rfl
theorem q1056 : (Jvm.Cond.selects "OverTheHeads$Shifted" ({ cls := "OverTheHeads$Row", name := "place", desc := "(I)I" } : Jvm.MethodName) ({ cls := "OverTheHeads$Shifted", name := "place", desc := "(I)I" } : Jvm.MethodName)) ∈ lw_all := lw_g (lw_at lw_m5 7 rfl) rfl
theorem q1072 : (Jvm.Cond.selects "OverTheHeads$Shifted" ({ cls := "OverTheHeads$Row", name := "floor", desc := "()I" } : Jvm.MethodName) ({ cls := "OverTheHeads$Row", name := "floor", desc := "()I" } : Jvm.MethodName)) ∈ lw_all := lw_g (lw_at lw_m5 23 rfl) rfl
theorem q1083 : (Jvm.Cond.sameMethod "OverTheHeads$Shifted" "OverTheHeads$Row" "far" "()I") ∈ lw_all := lw_g (lw_at lw_m5 34 rfl) rfl
theorem q1087 : (Jvm.Cond.selects "OverTheHeads$Shifted" ({ cls := "OverTheHeads$Row", name := "far", desc := "()I" } : Jvm.MethodName) ({ cls := "OverTheHeads$Row", name := "far", desc := "()I" } : Jvm.MethodName)) ∈ lw_all := lw_g (lw_at lw_m5 38 rfl) rfl
theorem q1097 : (Jvm.Cond.selects "OverTheHeads$Shifted" ({ cls := "OverTheHeads$Row", name := "eyes", desc := "(I)I" } : Jvm.MethodName) ({ cls := "OverTheHeads$Row", name := "eyes", desc := "(I)I" } : Jvm.MethodName)) ∈ lw_all := lw_g (lw_at lw_m5 48 rfl) rfl
theorem q1111 : (Jvm.Cond.selects "OverTheHeads$Shifted" ({ cls := "OverTheHeads$Row", name := "low", desc := "()I" } : Jvm.MethodName) ({ cls := "OverTheHeads$Row", name := "low", desc := "()I" } : Jvm.MethodName)) ∈ lw_all := lw_g (lw_at lw_m5 62 rfl) rfl
theorem q1122 : (Jvm.Cond.selects "OverTheHeads$Shifted" ({ cls := "OverTheHeads$Row", name := "heads", desc := "(I)I" } : Jvm.MethodName) ({ cls := "OverTheHeads$Row", name := "heads", desc := "(I)I" } : Jvm.MethodName)) ∈ lw_all := lw_g (lw_at lw_m5 73 rfl) rfl
theorem q1134 : (Jvm.Cond.selects "OverTheHeads$Shifted" ({ cls := "OverTheHeads$Row", name := "isAmong", desc := "()Z" } : Jvm.MethodName) ({ cls := "OverTheHeads$Row", name := "isAmong", desc := "()Z" } : Jvm.MethodName)) ∈ lw_all := lw_g (lw_at lw_m5 85 rfl) rfl
theorem q2100 : (Jvm.Cond.sameMethod "OverTheHeads$Shifted" "OverTheHeads$Shifted" "kind" "()I") ∈ lw_all := lw_g (lw_at lw_m9 91 rfl) rfl
theorem q2101 : (Jvm.Cond.sameMethod "OverTheHeads$Shifted" "OverTheHeads$Shifted" "place" "(I)I") ∈ lw_all := lw_g (lw_at lw_m9 92 rfl) rfl
theorem q2107 : (Jvm.Cond.castable "OverTheHeads$Shifted" "OverTheHeads$Row") ∈ lw_tbl := lw_at lw_m9 98 rfl
theorem q2123 : (Jvm.Cond.castable "OverTheHeads$Shifted" "java/lang/Object") ∈ lw_tbl := lw_at lw_m9 114 rfl
theorem in_X9 : ∀ w ∈ wsX90, w ∈ lw_all := lw_in wsX90 [867, 868, 869, 870, 871, 865] (by decide +kernel) (by decide +kernel)
