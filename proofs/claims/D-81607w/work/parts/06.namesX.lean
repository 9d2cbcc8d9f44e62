/-! StepRiders$Shelf -/
set_option maxRecDepth 100000
def RX1 : String := "StepRiders$Shelf"
def TX1 : u_T := fun k => match k with
  | _ => ("StepRiders$Shelf", "held", "Ljava/lang/Object;", false)
def tyX1 : Nat → FieldType := fun k => match k with
  | _ => .object "java/lang/Object"
abbrev wsX10 : List Cond := u_ws RX1 TX1 1
theorem nmX1 : ∀ a, a < 1 → ∀ b, b < 1 → a ≠ b → (TX1 a).2.1 ≠ (TX1 b).2.1 := by decide +kernel
theorem tyX1_ok : ∀ k, k < 1 → parseFieldDescriptor (TX1 k).2.2.1 = some (tyX1 k) := by decide +kernel
abbrev cX1_init : ByteArray := prog_11_method_1_code
def yX1_init : MethodName := ⟨RX1, "<init>", "()V"⟩
theorem dX1_init_0 : decode cX1_init 0 = .ok (.aload_n 0, 1) := by decide +kernel
theorem dX1_init_1 : decode cX1_init 1 = .ok (.invokespecial 1, 3) := by decide +kernel
theorem dX1_init_4 : decode cX1_init 4 = .ok (.return_, 1) := by decide +kernel
abbrev cX1_put : ByteArray := prog_11_method_4_code
def yX1_put : MethodName := ⟨RX1, "put", "(II)I"⟩
def dkwX1_put_2 : List UInt8 := [42, 180, 0, 7, 192, 0, 17, 27, 28, 79, 42, 27, 182, 0, 19, 172]
abbrev dktX1_put_2 : List UInt8 := dkwX1_put_2 ++ []
def dkwX1_put_1 : List UInt8 := [42, 180, 0, 7, 193, 0, 15, 153, 0, 17, 42, 180, 0, 7, 192, 0, 15, 27, 28, 147, 86, 167, 0, 13]
abbrev dktX1_put_1 : List UInt8 := dkwX1_put_1 ++ dktX1_put_2
def dkwX1_put_0 : List UInt8 := [42, 180, 0, 7, 193, 0, 13, 153, 0, 17, 42, 180, 0, 7, 192, 0, 13, 27, 28, 145, 84, 167, 0, 37]
abbrev dktX1_put_0 : List UInt8 := dkwX1_put_0 ++ dktX1_put_1
theorem dksX1_put_0 : cX1_put.data.toList.drop 0 = dktX1_put_0 := by decide +kernel
theorem dksX1_put_1 : cX1_put.data.toList.drop 24 = dktX1_put_1 := dk_seg dksX1_put_0 24 rfl rfl
theorem dksX1_put_2 : cX1_put.data.toList.drop 48 = dktX1_put_2 := dk_seg dksX1_put_1 24 rfl rfl
theorem dX1_put_0 : decode cX1_put 0 = .ok (.aload_n 0, 1) := dk_42 (dk_at dksX1_put_0 0 rfl rfl)
theorem dX1_put_1 : decode cX1_put 1 = .ok (.getfield 7, 3) := dk_180 0 7 (dk_at dksX1_put_0 1 rfl rfl)
theorem dX1_put_4 : decode cX1_put 4 = .ok (.instanceof 13, 3) := dk_193 0 13 (dk_at dksX1_put_0 4 rfl rfl)
theorem dX1_put_7 : decode cX1_put 7 = .ok (.ifCond .eq 17, 3) := dk_153 0 17 (dk_at dksX1_put_0 7 rfl rfl)
theorem dX1_put_10 : decode cX1_put 10 = .ok (.aload_n 0, 1) := dk_42 (dk_at dksX1_put_0 10 rfl rfl)
theorem dX1_put_11 : decode cX1_put 11 = .ok (.getfield 7, 3) := dk_180 0 7 (dk_at dksX1_put_0 11 rfl rfl)
theorem dX1_put_14 : decode cX1_put 14 = .ok (.checkcast 13, 3) := dk_192 0 13 (dk_at dksX1_put_0 14 rfl rfl)
theorem dX1_put_17 : decode cX1_put 17 = .ok (.iload_n 1, 1) := dk_27 (dk_at dksX1_put_0 17 rfl rfl)
theorem dX1_put_18 : decode cX1_put 18 = .ok (.iload_n 2, 1) := dk_28 (dk_at dksX1_put_0 18 rfl rfl)
theorem dX1_put_19 : decode cX1_put 19 = .ok (.i2b, 1) := dk_145 (dk_at dksX1_put_0 19 rfl rfl)
theorem dX1_put_20 : decode cX1_put 20 = .ok (.bastore, 1) := dk_84 (dk_at dksX1_put_0 20 rfl rfl)
theorem dX1_put_21 : decode cX1_put 21 = .ok (.goto 37, 3) := dk_167 0 37 (dk_at dksX1_put_0 21 rfl rfl)
theorem dX1_put_24 : decode cX1_put 24 = .ok (.aload_n 0, 1) := dk_42 (dk_at dksX1_put_1 0 rfl rfl)
theorem dX1_put_25 : decode cX1_put 25 = .ok (.getfield 7, 3) := dk_180 0 7 (dk_at dksX1_put_1 1 rfl rfl)
theorem dX1_put_28 : decode cX1_put 28 = .ok (.instanceof 15, 3) := dk_193 0 15 (dk_at dksX1_put_1 4 rfl rfl)
theorem dX1_put_31 : decode cX1_put 31 = .ok (.ifCond .eq 17, 3) := dk_153 0 17 (dk_at dksX1_put_1 7 rfl rfl)
theorem dX1_put_34 : decode cX1_put 34 = .ok (.aload_n 0, 1) := dk_42 (dk_at dksX1_put_1 10 rfl rfl)
theorem dX1_put_35 : decode cX1_put 35 = .ok (.getfield 7, 3) := dk_180 0 7 (dk_at dksX1_put_1 11 rfl rfl)
theorem dX1_put_38 : decode cX1_put 38 = .ok (.checkcast 15, 3) := dk_192 0 15 (dk_at dksX1_put_1 14 rfl rfl)
theorem dX1_put_41 : decode cX1_put 41 = .ok (.iload_n 1, 1) := dk_27 (dk_at dksX1_put_1 17 rfl rfl)
theorem dX1_put_42 : decode cX1_put 42 = .ok (.iload_n 2, 1) := dk_28 (dk_at dksX1_put_1 18 rfl rfl)
theorem dX1_put_43 : decode cX1_put 43 = .ok (.i2s, 1) := dk_147 (dk_at dksX1_put_1 19 rfl rfl)
theorem dX1_put_44 : decode cX1_put 44 = .ok (.sastore, 1) := dk_86 (dk_at dksX1_put_1 20 rfl rfl)
theorem dX1_put_45 : decode cX1_put 45 = .ok (.goto 13, 3) := dk_167 0 13 (dk_at dksX1_put_1 21 rfl rfl)
theorem dX1_put_48 : decode cX1_put 48 = .ok (.aload_n 0, 1) := dk_42 (dk_at dksX1_put_2 0 rfl rfl)
theorem dX1_put_49 : decode cX1_put 49 = .ok (.getfield 7, 3) := dk_180 0 7 (dk_at dksX1_put_2 1 rfl rfl)
theorem dX1_put_52 : decode cX1_put 52 = .ok (.checkcast 17, 3) := dk_192 0 17 (dk_at dksX1_put_2 4 rfl rfl)
theorem dX1_put_55 : decode cX1_put 55 = .ok (.iload_n 1, 1) := dk_27 (dk_at dksX1_put_2 7 rfl rfl)
theorem dX1_put_56 : decode cX1_put 56 = .ok (.iload_n 2, 1) := dk_28 (dk_at dksX1_put_2 8 rfl rfl)
theorem dX1_put_57 : decode cX1_put 57 = .ok (.iastore, 1) := dk_79 (dk_at dksX1_put_2 9 rfl rfl)
theorem dX1_put_58 : decode cX1_put 58 = .ok (.aload_n 0, 1) := dk_42 (dk_at dksX1_put_2 10 rfl rfl)
theorem dX1_put_59 : decode cX1_put 59 = .ok (.iload_n 1, 1) := dk_27 (dk_at dksX1_put_2 11 rfl rfl)
theorem dX1_put_60 : decode cX1_put 60 = .ok (.invokevirtual 19, 3) := dk_182 0 19 (dk_at dksX1_put_2 12 rfl rfl)
theorem dX1_put_63 : decode cX1_put 63 = .ok (.ireturn, 1) := dk_172 (dk_at dksX1_put_2 15 rfl rfl)
abbrev cX1_at : ByteArray := prog_11_method_3_code
def yX1_at : MethodName := ⟨RX1, "at", "(I)I"⟩
def dkwX1_at_2 : List UInt8 := [46, 172]
abbrev dktX1_at_2 : List UInt8 := dkwX1_at_2 ++ []
def dkwX1_at_1 : List UInt8 := [193, 0, 15, 153, 0, 13, 42, 180, 0, 7, 192, 0, 15, 27, 53, 172, 42, 180, 0, 7, 192, 0, 17, 27]
abbrev dktX1_at_1 : List UInt8 := dkwX1_at_1 ++ dktX1_at_2
def dkwX1_at_0 : List UInt8 := [42, 180, 0, 7, 193, 0, 13, 153, 0, 13, 42, 180, 0, 7, 192, 0, 13, 27, 51, 172, 42, 180, 0, 7]
abbrev dktX1_at_0 : List UInt8 := dkwX1_at_0 ++ dktX1_at_1
theorem dksX1_at_0 : cX1_at.data.toList.drop 0 = dktX1_at_0 := by decide +kernel
theorem dksX1_at_1 : cX1_at.data.toList.drop 24 = dktX1_at_1 := dk_seg dksX1_at_0 24 rfl rfl
theorem dksX1_at_2 : cX1_at.data.toList.drop 48 = dktX1_at_2 := dk_seg dksX1_at_1 24 rfl rfl
theorem dX1_at_0 : decode cX1_at 0 = .ok (.aload_n 0, 1) := dk_42 (dk_at dksX1_at_0 0 rfl rfl)
theorem dX1_at_1 : decode cX1_at 1 = .ok (.getfield 7, 3) := dk_180 0 7 (dk_at dksX1_at_0 1 rfl rfl)
theorem dX1_at_4 : decode cX1_at 4 = .ok (.instanceof 13, 3) := dk_193 0 13 (dk_at dksX1_at_0 4 rfl rfl)
theorem dX1_at_7 : decode cX1_at 7 = .ok (.ifCond .eq 13, 3) := dk_153 0 13 (dk_at dksX1_at_0 7 rfl rfl)
theorem dX1_at_10 : decode cX1_at 10 = .ok (.aload_n 0, 1) := dk_42 (dk_at dksX1_at_0 10 rfl rfl)
theorem dX1_at_11 : decode cX1_at 11 = .ok (.getfield 7, 3) := dk_180 0 7 (dk_at dksX1_at_0 11 rfl rfl)
theorem dX1_at_14 : decode cX1_at 14 = .ok (.checkcast 13, 3) := dk_192 0 13 (dk_at dksX1_at_0 14 rfl rfl)
theorem dX1_at_17 : decode cX1_at 17 = .ok (.iload_n 1, 1) := dk_27 (dk_at dksX1_at_0 17 rfl rfl)
theorem dX1_at_18 : decode cX1_at 18 = .ok (.baload, 1) := dk_51 (dk_at dksX1_at_0 18 rfl rfl)
theorem dX1_at_19 : decode cX1_at 19 = .ok (.ireturn, 1) := dk_172 (dk_at dksX1_at_0 19 rfl rfl)
theorem dX1_at_20 : decode cX1_at 20 = .ok (.aload_n 0, 1) := dk_42 (dk_at dksX1_at_0 20 rfl rfl)
theorem dX1_at_21 : decode cX1_at 21 = .ok (.getfield 7, 3) := dk_180 0 7 (dk_at dksX1_at_0 21 rfl rfl)
theorem dX1_at_24 : decode cX1_at 24 = .ok (.instanceof 15, 3) := dk_193 0 15 (dk_at dksX1_at_1 0 rfl rfl)
theorem dX1_at_27 : decode cX1_at 27 = .ok (.ifCond .eq 13, 3) := dk_153 0 13 (dk_at dksX1_at_1 3 rfl rfl)
theorem dX1_at_30 : decode cX1_at 30 = .ok (.aload_n 0, 1) := dk_42 (dk_at dksX1_at_1 6 rfl rfl)
theorem dX1_at_31 : decode cX1_at 31 = .ok (.getfield 7, 3) := dk_180 0 7 (dk_at dksX1_at_1 7 rfl rfl)
theorem dX1_at_34 : decode cX1_at 34 = .ok (.checkcast 15, 3) := dk_192 0 15 (dk_at dksX1_at_1 10 rfl rfl)
theorem dX1_at_37 : decode cX1_at 37 = .ok (.iload_n 1, 1) := dk_27 (dk_at dksX1_at_1 13 rfl rfl)
theorem dX1_at_38 : decode cX1_at 38 = .ok (.saload, 1) := dk_53 (dk_at dksX1_at_1 14 rfl rfl)
theorem dX1_at_39 : decode cX1_at 39 = .ok (.ireturn, 1) := dk_172 (dk_at dksX1_at_1 15 rfl rfl)
theorem dX1_at_40 : decode cX1_at 40 = .ok (.aload_n 0, 1) := dk_42 (dk_at dksX1_at_1 16 rfl rfl)
theorem dX1_at_41 : decode cX1_at 41 = .ok (.getfield 7, 3) := dk_180 0 7 (dk_at dksX1_at_1 17 rfl rfl)
theorem dX1_at_44 : decode cX1_at 44 = .ok (.checkcast 17, 3) := dk_192 0 17 (dk_at dksX1_at_1 20 rfl rfl)
theorem dX1_at_47 : decode cX1_at 47 = .ok (.iload_n 1, 1) := dk_27 (dk_at dksX1_at_1 23 rfl rfl)
theorem dX1_at_48 : decode cX1_at 48 = .ok (.iaload, 1) := dk_46 (dk_at dksX1_at_2 0 rfl rfl)
theorem dX1_at_49 : decode cX1_at 49 = .ok (.ireturn, 1) := dk_172 (dk_at dksX1_at_2 1 rfl rfl)
abbrev cX1_many : ByteArray := prog_11_method_2_code
def yX1_many : MethodName := ⟨RX1, "many", "()I"⟩
def dkwX1_many_1 : List UInt8 := [193, 0, 15, 153, 0, 12, 42, 180, 0, 7, 192, 0, 15, 190, 172, 42, 180, 0, 7, 192, 0, 17, 190, 172]
abbrev dktX1_many_1 : List UInt8 := dkwX1_many_1 ++ []
def dkwX1_many_0 : List UInt8 := [42, 180, 0, 7, 193, 0, 13, 153, 0, 12, 42, 180, 0, 7, 192, 0, 13, 190, 172, 42, 180, 0, 7]
abbrev dktX1_many_0 : List UInt8 := dkwX1_many_0 ++ dktX1_many_1
theorem dksX1_many_0 : cX1_many.data.toList.drop 0 = dktX1_many_0 := by decide +kernel
theorem dksX1_many_1 : cX1_many.data.toList.drop 23 = dktX1_many_1 := dk_seg dksX1_many_0 23 rfl rfl
theorem dX1_many_0 : decode cX1_many 0 = .ok (.aload_n 0, 1) := dk_42 (dk_at dksX1_many_0 0 rfl rfl)
theorem dX1_many_1 : decode cX1_many 1 = .ok (.getfield 7, 3) := dk_180 0 7 (dk_at dksX1_many_0 1 rfl rfl)
theorem dX1_many_4 : decode cX1_many 4 = .ok (.instanceof 13, 3) := dk_193 0 13 (dk_at dksX1_many_0 4 rfl rfl)
theorem dX1_many_7 : decode cX1_many 7 = .ok (.ifCond .eq 12, 3) := dk_153 0 12 (dk_at dksX1_many_0 7 rfl rfl)
theorem dX1_many_10 : decode cX1_many 10 = .ok (.aload_n 0, 1) := dk_42 (dk_at dksX1_many_0 10 rfl rfl)
theorem dX1_many_11 : decode cX1_many 11 = .ok (.getfield 7, 3) := dk_180 0 7 (dk_at dksX1_many_0 11 rfl rfl)
theorem dX1_many_14 : decode cX1_many 14 = .ok (.checkcast 13, 3) := dk_192 0 13 (dk_at dksX1_many_0 14 rfl rfl)
theorem dX1_many_17 : decode cX1_many 17 = .ok (.arraylength, 1) := dk_190 (dk_at dksX1_many_0 17 rfl rfl)
theorem dX1_many_18 : decode cX1_many 18 = .ok (.ireturn, 1) := dk_172 (dk_at dksX1_many_0 18 rfl rfl)
theorem dX1_many_19 : decode cX1_many 19 = .ok (.aload_n 0, 1) := dk_42 (dk_at dksX1_many_0 19 rfl rfl)
theorem dX1_many_20 : decode cX1_many 20 = .ok (.getfield 7, 3) := dk_180 0 7 (dk_at dksX1_many_0 20 rfl rfl)
theorem dX1_many_23 : decode cX1_many 23 = .ok (.instanceof 15, 3) := dk_193 0 15 (dk_at dksX1_many_1 0 rfl rfl)
theorem dX1_many_26 : decode cX1_many 26 = .ok (.ifCond .eq 12, 3) := dk_153 0 12 (dk_at dksX1_many_1 3 rfl rfl)
theorem dX1_many_29 : decode cX1_many 29 = .ok (.aload_n 0, 1) := dk_42 (dk_at dksX1_many_1 6 rfl rfl)
theorem dX1_many_30 : decode cX1_many 30 = .ok (.getfield 7, 3) := dk_180 0 7 (dk_at dksX1_many_1 7 rfl rfl)
theorem dX1_many_33 : decode cX1_many 33 = .ok (.checkcast 15, 3) := dk_192 0 15 (dk_at dksX1_many_1 10 rfl rfl)
theorem dX1_many_36 : decode cX1_many 36 = .ok (.arraylength, 1) := dk_190 (dk_at dksX1_many_1 13 rfl rfl)
theorem dX1_many_37 : decode cX1_many 37 = .ok (.ireturn, 1) := dk_172 (dk_at dksX1_many_1 14 rfl rfl)
theorem dX1_many_38 : decode cX1_many 38 = .ok (.aload_n 0, 1) := dk_42 (dk_at dksX1_many_1 15 rfl rfl)
theorem dX1_many_39 : decode cX1_many 39 = .ok (.getfield 7, 3) := dk_180 0 7 (dk_at dksX1_many_1 16 rfl rfl)
theorem dX1_many_42 : decode cX1_many 42 = .ok (.checkcast 17, 3) := dk_192 0 17 (dk_at dksX1_many_1 19 rfl rfl)
theorem dX1_many_45 : decode cX1_many 45 = .ok (.arraylength, 1) := dk_190 (dk_at dksX1_many_1 22 rfl rfl)
theorem dX1_many_46 : decode cX1_many 46 = .ok (.ireturn, 1) := dk_172 (dk_at dksX1_many_1 23 rfl rfl)
theorem q48 : (Jvm.Cond.initialized "StepRiders$Shelf") ∈ lw_all := lw_g (lw_at lw_m1 2 rfl) rfl
theorem q101 : (Jvm.Cond.instantiable "StepRiders$Shelf" (1 : Nat)) ∈ lw_all := lw_g (lw_at lw_m1 55 rfl) rfl
theorem q103 : (Jvm.Cond.instanceMethod ({ cls := "StepRiders$Shelf", name := "<init>", desc := "()V" } : Jvm.MethodName)) ∈ lw_all := lw_g (lw_at lw_m1 57 rfl) rfl
theorem q104 : (Jvm.Cond.code ({ cls := "StepRiders$Shelf", name := "<init>", desc := "()V" } : Jvm.MethodName) prog_11_method_1_code (1 : Nat) (Option.none : Option Jvm.ClassFile.FieldType)) ∈ lw_all := lw_g (lw_at lw_m1 58 rfl) rfl
theorem q105 : (Jvm.Cond.methodLink "StepRiders$Shelf" (1 : Nat) ({ cls := "java/lang/Object", name := "<init>", desc := "()V" } : Jvm.MethodName)) ∈ lw_all := lw_g (lw_at lw_m1 59 rfl) rfl
theorem q106 : (Jvm.Cond.fieldLink "StepRiders$Shelf" (7 : Nat) "StepRiders$Shelf" "held" "Ljava/lang/Object;") ∈ lw_all := lw_g (lw_at lw_m1 60 rfl) rfl
theorem q108 : (Jvm.Cond.lays "StepRiders$Shelf" "StepRiders$Shelf" "held" "Ljava/lang/Object;") ∈ lw_all := lw_g (lw_at lw_m1 62 rfl) rfl
theorem q109 : (Jvm.Cond.soleField "StepRiders$Shelf" "held") ∈ lw_all := lw_g (lw_at lw_m1 63 rfl) rfl
theorem q110 : (Jvm.Cond.superclass "StepRiders$Shelf" "java/lang/Object") ∈ lw_all := lw_g (lw_at lw_m1 64 rfl) rfl
theorem q413 : (Jvm.Cond.privateMethod ({ cls := "StepRiders$Shelf", name := "put", desc := "(II)I" } : Jvm.MethodName)) ∈ lw_tbl := lw_at lw_m2 127 rfl
theorem q414 : (Jvm.Cond.instanceMethod ({ cls := "StepRiders$Shelf", name := "put", desc := "(II)I" } : Jvm.MethodName)) ∈ lw_all := lw_g (lw_at lw_m2 128 rfl) rfl
theorem q415 : (Jvm.Cond.code ({ cls := "StepRiders$Shelf", name := "put", desc := "(II)I" } : Jvm.MethodName) prog_11_method_4_code (3 : Nat) (Option.some Jvm.ClassFile.FieldType.int)) ∈ lw_all := lw_g (lw_at lw_m2 129 rfl) rfl
theorem q416 : (Jvm.Cond.classLink "StepRiders$Shelf" (13 : Nat) "[B") ∈ lw_all := lw_g (lw_at lw_m2 130 rfl) rfl
theorem q417 : (Jvm.Cond.classLink "StepRiders$Shelf" (15 : Nat) "[S") ∈ lw_all := lw_g (lw_at lw_m2 131 rfl) rfl
theorem q418 : (Jvm.Cond.classLink "StepRiders$Shelf" (17 : Nat) "[I") ∈ lw_all := lw_g (lw_at lw_m2 132 rfl) rfl
theorem q419 : (Jvm.Cond.methodLink "StepRiders$Shelf" (19 : Nat) ({ cls := "StepRiders$Shelf", name := "at", desc := "(I)I" } : Jvm.MethodName)) ∈ lw_all := lw_g (lw_at lw_m2 133 rfl) rfl
theorem q420 : (Jvm.Cond.privateMethod ({ cls := "StepRiders$Shelf", name := "at", desc := "(I)I" } : Jvm.MethodName)) ∈ lw_tbl := lw_at lw_m2 134 rfl
theorem q421 : (Jvm.Cond.instanceMethod ({ cls := "StepRiders$Shelf", name := "at", desc := "(I)I" } : Jvm.MethodName)) ∈ lw_all := lw_g (lw_at lw_m2 135 rfl) rfl
theorem q422 : (Jvm.Cond.code ({ cls := "StepRiders$Shelf", name := "at", desc := "(I)I" } : Jvm.MethodName) prog_11_method_3_code (2 : Nat) (Option.some Jvm.ClassFile.FieldType.int)) ∈ lw_all := lw_g (lw_at lw_m2 136 rfl) rfl
theorem q450 : (Jvm.Cond.privateMethod ({ cls := "StepRiders$Shelf", name := "many", desc := "()I" } : Jvm.MethodName)) ∈ lw_tbl := lw_at lw_m2 164 rfl
theorem q451 : (Jvm.Cond.instanceMethod ({ cls := "StepRiders$Shelf", name := "many", desc := "()I" } : Jvm.MethodName)) ∈ lw_all := lw_g (lw_at lw_m2 165 rfl) rfl
theorem q452 : (Jvm.Cond.code ({ cls := "StepRiders$Shelf", name := "many", desc := "()I" } : Jvm.MethodName) prog_11_method_2_code (1 : Nat) (Option.some Jvm.ClassFile.FieldType.int)) ∈ lw_all := lw_g (lw_at lw_m2 166 rfl) rfl
theorem q755 : (Jvm.Cond.selects "StepRiders$Shelf" ({ cls := "java/lang/Object", name := "getClass", desc := "()Ljava/lang/Class;" } : Jvm.MethodName) ({ cls := "java/lang/Object", name := "getClass", desc := "()Ljava/lang/Class;" } : Jvm.MethodName)) ∈ lw_all := lw_g (lw_at lw_m3 229 rfl) rfl
theorem q1720 : (Jvm.Cond.castable "StepRiders$Shelf" "java/lang/Object") ∈ lw_tbl := lw_at lw_m7 234 rfl
theorem in_X1 : ∀ w ∈ wsX10, w ∈ lw_all := lw_in wsX10 [108] (by decide +kernel) (by decide +kernel)

/-! StepRiders$Stair -/
set_option maxRecDepth 100000
def RX2 : String := "StepRiders$Stair"
def TX2 : u_T := fun k => match k with
  | 0 => ("StepRiders$Stair", "steps", "I", false)
  | 1 => ("StepRiders$Stair", "speed", "I", false)
  | 2 => ("StepRiders$Stair", "tick", "I", false)
  | 3 => ("StepRiders$Stair", "went", "I", false)
  | 4 => ("StepRiders$Stair", "riders", "Ljava/util/List;", true)
  | 5 => ("StepRiders$Stair", "lane", "[I", true)
  | 6 => ("StepRiders$Stair", "where", "[I", true)
  | _ => ("StepRiders$Stair", "order", "[I", true)
def tyX2 : Nat → FieldType := fun k => match k with
  | 0 => .int
  | 1 => .int
  | 2 => .int
  | 3 => .int
  | 4 => .object "java/util/List"
  | 5 => .array .int
  | 6 => .array .int
  | _ => .array .int
abbrev wsX20 : List Cond := u_ws RX2 TX2 8
theorem nmX2 : ∀ a, a < 8 → ∀ b, b < 8 → a ≠ b → (TX2 a).2.1 ≠ (TX2 b).2.1 := by decide +kernel
theorem tyX2_ok : ∀ k, k < 8 → parseFieldDescriptor (TX2 k).2.2.1 = some (tyX2 k) := by decide +kernel
abbrev cX2_init : ByteArray := prog_15_method_1_code
def yX2_init : MethodName := ⟨RX2, "<init>", "()V"⟩
def dkwX2_init_1 : List UInt8 := [16, 7, 188, 10, 181, 0, 22, 42, 16, 7, 188, 10, 181, 0, 25, 177]
abbrev dktX2_init_1 : List UInt8 := dkwX2_init_1 ++ []
def dkwX2_init_0 : List UInt8 := [42, 183, 0, 3, 42, 187, 0, 9, 89, 183, 0, 11, 181, 0, 12, 42, 16, 7, 188, 10, 181, 0, 18, 42]
abbrev dktX2_init_0 : List UInt8 := dkwX2_init_0 ++ dktX2_init_1
theorem dksX2_init_0 : cX2_init.data.toList.drop 0 = dktX2_init_0 := by decide +kernel
theorem dksX2_init_1 : cX2_init.data.toList.drop 24 = dktX2_init_1 := dk_seg dksX2_init_0 24 rfl rfl
theorem dX2_init_0 : decode cX2_init 0 = .ok (.aload_n 0, 1) := dk_42 (dk_at dksX2_init_0 0 rfl rfl)
theorem dX2_init_1 : decode cX2_init 1 = .ok (.invokespecial 3, 3) := dk_183 0 3 (dk_at dksX2_init_0 1 rfl rfl)
theorem dX2_init_4 : decode cX2_init 4 = .ok (.aload_n 0, 1) := dk_42 (dk_at dksX2_init_0 4 rfl rfl)
theorem dX2_init_5 : decode cX2_init 5 = .ok (.new 9, 3) := dk_187 0 9 (dk_at dksX2_init_0 5 rfl rfl)
theorem dX2_init_8 : decode cX2_init 8 = .ok (.dup, 1) := dk_89 (dk_at dksX2_init_0 8 rfl rfl)
theorem dX2_init_9 : decode cX2_init 9 = .ok (.invokespecial 11, 3) := dk_183 0 11 (dk_at dksX2_init_0 9 rfl rfl)
theorem dX2_init_12 : decode cX2_init 12 = .ok (.putfield 12, 3) := dk_181 0 12 (dk_at dksX2_init_0 12 rfl rfl)
theorem dX2_init_15 : decode cX2_init 15 = .ok (.aload_n 0, 1) := dk_42 (dk_at dksX2_init_0 15 rfl rfl)
theorem dX2_init_16 : decode cX2_init 16 = .ok (.bipush 7, 2) := dk_16 7 (dk_at dksX2_init_0 16 rfl rfl)
theorem dX2_init_18 : decode cX2_init 18 = .ok (.newarray .int, 2) := dk_188_10 (dk_at dksX2_init_0 18 rfl rfl)
theorem dX2_init_20 : decode cX2_init 20 = .ok (.putfield 18, 3) := dk_181 0 18 (dk_at dksX2_init_0 20 rfl rfl)
theorem dX2_init_23 : decode cX2_init 23 = .ok (.aload_n 0, 1) := dk_42 (dk_at dksX2_init_0 23 rfl rfl)
theorem dX2_init_24 : decode cX2_init 24 = .ok (.bipush 7, 2) := dk_16 7 (dk_at dksX2_init_1 0 rfl rfl)
theorem dX2_init_26 : decode cX2_init 26 = .ok (.newarray .int, 2) := dk_188_10 (dk_at dksX2_init_1 2 rfl rfl)
theorem dX2_init_28 : decode cX2_init 28 = .ok (.putfield 22, 3) := dk_181 0 22 (dk_at dksX2_init_1 4 rfl rfl)
theorem dX2_init_31 : decode cX2_init 31 = .ok (.aload_n 0, 1) := dk_42 (dk_at dksX2_init_1 7 rfl rfl)
theorem dX2_init_32 : decode cX2_init 32 = .ok (.bipush 7, 2) := dk_16 7 (dk_at dksX2_init_1 8 rfl rfl)
theorem dX2_init_34 : decode cX2_init 34 = .ok (.newarray .int, 2) := dk_188_10 (dk_at dksX2_init_1 10 rfl rfl)
theorem dX2_init_36 : decode cX2_init 36 = .ok (.putfield 25, 3) := dk_181 0 25 (dk_at dksX2_init_1 12 rfl rfl)
theorem dX2_init_39 : decode cX2_init 39 = .ok (.return_, 1) := dk_177 (dk_at dksX2_init_1 15 rfl rfl)
abbrev cX2_many : ByteArray := prog_15_method_3_code
def yX2_many : MethodName := ⟨RX2, "many", "()I"⟩
def dkwX2_many_0 : List UInt8 := [42, 180, 0, 12, 185, 0, 52, 1, 0, 172]
abbrev dktX2_many_0 : List UInt8 := dkwX2_many_0 ++ []
theorem dksX2_many_0 : cX2_many.data.toList.drop 0 = dktX2_many_0 := by decide +kernel
theorem dX2_many_0 : decode cX2_many 0 = .ok (.aload_n 0, 1) := dk_42 (dk_at dksX2_many_0 0 rfl rfl)
theorem dX2_many_1 : decode cX2_many 1 = .ok (.getfield 12, 3) := dk_180 0 12 (dk_at dksX2_many_0 1 rfl rfl)
theorem dX2_many_4 : decode cX2_many 4 = .ok (.invokeinterface 52 1, 5) := by decide +kernel
theorem dX2_many_9 : decode cX2_many 9 = .ok (.ireturn, 1) := dk_172 (dk_at dksX2_many_0 9 rfl rfl)
abbrev cX2_become : ByteArray := prog_15_method_2_code
def yX2_become : MethodName := ⟨RX2, "become", "(LStepRiders$Stair;)LStepRiders$Stair;"⟩
def dkwX2_become_4 : List UInt8 := [185, 0, 56, 2, 0, 192, 0, 60, 185, 0, 62, 2, 0, 87, 132, 2, 1, 167, 255, 217, 42, 176]
abbrev dktX2_become_4 : List UInt8 := dkwX2_become_4 ++ []
def dkwX2_become_3 : List UInt8 := [61, 28, 43, 180, 0, 12, 185, 0, 52, 1, 0, 162, 0, 32, 42, 180, 0, 12, 43, 180, 0, 12, 28]
abbrev dktX2_become_3 : List UInt8 := dkwX2_become_3 ++ dktX2_become_4
def dkwX2_become_2 : List UInt8 := [180, 0, 22, 3, 42, 180, 0, 22, 3, 16, 7, 184, 0, 41, 42, 180, 0, 12, 185, 0, 47, 1, 0, 3]
abbrev dktX2_become_2 : List UInt8 := dkwX2_become_2 ++ dktX2_become_3
def dkwX2_become_1 : List UInt8 := [42, 43, 180, 0, 38, 181, 0, 38, 43, 180, 0, 18, 3, 42, 180, 0, 18, 3, 16, 7, 184, 0, 41, 43]
abbrev dktX2_become_1 : List UInt8 := dkwX2_become_1 ++ dktX2_become_2
def dkwX2_become_0 : List UInt8 := [42, 43, 180, 0, 28, 181, 0, 28, 42, 43, 180, 0, 32, 181, 0, 32, 42, 43, 180, 0, 35, 181, 0, 35]
abbrev dktX2_become_0 : List UInt8 := dkwX2_become_0 ++ dktX2_become_1
theorem dksX2_become_0 : cX2_become.data.toList.drop 0 = dktX2_become_0 := by decide +kernel
theorem dksX2_become_1 : cX2_become.data.toList.drop 24 = dktX2_become_1 := dk_seg dksX2_become_0 24 rfl rfl
theorem dksX2_become_2 : cX2_become.data.toList.drop 48 = dktX2_become_2 := dk_seg dksX2_become_1 24 rfl rfl
theorem dksX2_become_3 : cX2_become.data.toList.drop 72 = dktX2_become_3 := dk_seg dksX2_become_2 24 rfl rfl
theorem dksX2_become_4 : cX2_become.data.toList.drop 95 = dktX2_become_4 := dk_seg dksX2_become_3 23 rfl rfl
theorem dX2_become_0 : decode cX2_become 0 = .ok (.aload_n 0, 1) := dk_42 (dk_at dksX2_become_0 0 rfl rfl)
theorem dX2_become_1 : decode cX2_become 1 = .ok (.aload_n 1, 1) := dk_43 (dk_at dksX2_become_0 1 rfl rfl)
theorem dX2_become_2 : decode cX2_become 2 = .ok (.getfield 28, 3) := dk_180 0 28 (dk_at dksX2_become_0 2 rfl rfl)
theorem dX2_become_5 : decode cX2_become 5 = .ok (.putfield 28, 3) := dk_181 0 28 (dk_at dksX2_become_0 5 rfl rfl)
theorem dX2_become_8 : decode cX2_become 8 = .ok (.aload_n 0, 1) := dk_42 (dk_at dksX2_become_0 8 rfl rfl)
theorem dX2_become_9 : decode cX2_become 9 = .ok (.aload_n 1, 1) := dk_43 (dk_at dksX2_become_0 9 rfl rfl)
theorem dX2_become_10 : decode cX2_become 10 = .ok (.getfield 32, 3) := dk_180 0 32 (dk_at dksX2_become_0 10 rfl rfl)
theorem dX2_become_13 : decode cX2_become 13 = .ok (.putfield 32, 3) := dk_181 0 32 (dk_at dksX2_become_0 13 rfl rfl)
theorem dX2_become_16 : decode cX2_become 16 = .ok (.aload_n 0, 1) := dk_42 (dk_at dksX2_become_0 16 rfl rfl)
theorem dX2_become_17 : decode cX2_become 17 = .ok (.aload_n 1, 1) := dk_43 (dk_at dksX2_become_0 17 rfl rfl)
theorem dX2_become_18 : decode cX2_become 18 = .ok (.getfield 35, 3) := dk_180 0 35 (dk_at dksX2_become_0 18 rfl rfl)
theorem dX2_become_21 : decode cX2_become 21 = .ok (.putfield 35, 3) := dk_181 0 35 (dk_at dksX2_become_0 21 rfl rfl)
theorem dX2_become_24 : decode cX2_become 24 = .ok (.aload_n 0, 1) := dk_42 (dk_at dksX2_become_1 0 rfl rfl)
theorem dX2_become_25 : decode cX2_become 25 = .ok (.aload_n 1, 1) := dk_43 (dk_at dksX2_become_1 1 rfl rfl)
theorem dX2_become_26 : decode cX2_become 26 = .ok (.getfield 38, 3) := dk_180 0 38 (dk_at dksX2_become_1 2 rfl rfl)
theorem dX2_become_29 : decode cX2_become 29 = .ok (.putfield 38, 3) := dk_181 0 38 (dk_at dksX2_become_1 5 rfl rfl)
theorem dX2_become_32 : decode cX2_become 32 = .ok (.aload_n 1, 1) := dk_43 (dk_at dksX2_become_1 8 rfl rfl)
theorem dX2_become_33 : decode cX2_become 33 = .ok (.getfield 18, 3) := dk_180 0 18 (dk_at dksX2_become_1 9 rfl rfl)
theorem dX2_become_36 : decode cX2_become 36 = .ok (.iconst 0, 1) := dk_3 (dk_at dksX2_become_1 12 rfl rfl)
theorem dX2_become_37 : decode cX2_become 37 = .ok (.aload_n 0, 1) := dk_42 (dk_at dksX2_become_1 13 rfl rfl)
theorem dX2_become_38 : decode cX2_become 38 = .ok (.getfield 18, 3) := dk_180 0 18 (dk_at dksX2_become_1 14 rfl rfl)
theorem dX2_become_41 : decode cX2_become 41 = .ok (.iconst 0, 1) := dk_3 (dk_at dksX2_become_1 17 rfl rfl)
theorem dX2_become_42 : decode cX2_become 42 = .ok (.bipush 7, 2) := dk_16 7 (dk_at dksX2_become_1 18 rfl rfl)
theorem dX2_become_44 : decode cX2_become 44 = .ok (.invokestatic 41, 3) := dk_184 0 41 (dk_at dksX2_become_1 20 rfl rfl)
theorem dX2_become_47 : decode cX2_become 47 = .ok (.aload_n 1, 1) := dk_43 (dk_at dksX2_become_1 23 rfl rfl)
theorem dX2_become_48 : decode cX2_become 48 = .ok (.getfield 22, 3) := dk_180 0 22 (dk_at dksX2_become_2 0 rfl rfl)
theorem dX2_become_51 : decode cX2_become 51 = .ok (.iconst 0, 1) := dk_3 (dk_at dksX2_become_2 3 rfl rfl)
theorem dX2_become_52 : decode cX2_become 52 = .ok (.aload_n 0, 1) := dk_42 (dk_at dksX2_become_2 4 rfl rfl)
theorem dX2_become_53 : decode cX2_become 53 = .ok (.getfield 22, 3) := dk_180 0 22 (dk_at dksX2_become_2 5 rfl rfl)
theorem dX2_become_56 : decode cX2_become 56 = .ok (.iconst 0, 1) := dk_3 (dk_at dksX2_become_2 8 rfl rfl)
theorem dX2_become_57 : decode cX2_become 57 = .ok (.bipush 7, 2) := dk_16 7 (dk_at dksX2_become_2 9 rfl rfl)
theorem dX2_become_59 : decode cX2_become 59 = .ok (.invokestatic 41, 3) := dk_184 0 41 (dk_at dksX2_become_2 11 rfl rfl)
theorem dX2_become_62 : decode cX2_become 62 = .ok (.aload_n 0, 1) := dk_42 (dk_at dksX2_become_2 14 rfl rfl)
theorem dX2_become_63 : decode cX2_become 63 = .ok (.getfield 12, 3) := dk_180 0 12 (dk_at dksX2_become_2 15 rfl rfl)
theorem dX2_become_66 : decode cX2_become 66 = .ok (.invokeinterface 47 1, 5) := by decide +kernel
theorem dX2_become_71 : decode cX2_become 71 = .ok (.iconst 0, 1) := dk_3 (dk_at dksX2_become_2 23 rfl rfl)
theorem dX2_become_72 : decode cX2_become 72 = .ok (.istore_n 2, 1) := dk_61 (dk_at dksX2_become_3 0 rfl rfl)
theorem dX2_become_73 : decode cX2_become 73 = .ok (.iload_n 2, 1) := dk_28 (dk_at dksX2_become_3 1 rfl rfl)
theorem dX2_become_74 : decode cX2_become 74 = .ok (.aload_n 1, 1) := dk_43 (dk_at dksX2_become_3 2 rfl rfl)
theorem dX2_become_75 : decode cX2_become 75 = .ok (.getfield 12, 3) := dk_180 0 12 (dk_at dksX2_become_3 3 rfl rfl)
theorem dX2_become_78 : decode cX2_become 78 = .ok (.invokeinterface 52 1, 5) := by decide +kernel
theorem dX2_become_83 : decode cX2_become 83 = .ok (.if_icmp .ge 32, 3) := dk_162 0 32 (dk_at dksX2_become_3 11 rfl rfl)
theorem dX2_become_86 : decode cX2_become 86 = .ok (.aload_n 0, 1) := dk_42 (dk_at dksX2_become_3 14 rfl rfl)
theorem dX2_become_87 : decode cX2_become 87 = .ok (.getfield 12, 3) := dk_180 0 12 (dk_at dksX2_become_3 15 rfl rfl)
theorem dX2_become_90 : decode cX2_become 90 = .ok (.aload_n 1, 1) := dk_43 (dk_at dksX2_become_3 18 rfl rfl)
theorem dX2_become_91 : decode cX2_become 91 = .ok (.getfield 12, 3) := dk_180 0 12 (dk_at dksX2_become_3 19 rfl rfl)
theorem dX2_become_94 : decode cX2_become 94 = .ok (.iload_n 2, 1) := dk_28 (dk_at dksX2_become_3 22 rfl rfl)
theorem dX2_become_95 : decode cX2_become 95 = .ok (.invokeinterface 56 2, 5) := by decide +kernel
theorem dX2_become_100 : decode cX2_become 100 = .ok (.checkcast 60, 3) := dk_192 0 60 (dk_at dksX2_become_4 5 rfl rfl)
theorem dX2_become_103 : decode cX2_become 103 = .ok (.invokeinterface 62 2, 5) := by decide +kernel
theorem dX2_become_108 : decode cX2_become 108 = .ok (.pop, 1) := dk_87 (dk_at dksX2_become_4 13 rfl rfl)
theorem dX2_become_109 : decode cX2_become 109 = .ok (.iinc 2 1, 3) := dk_132 2 1 (dk_at dksX2_become_4 14 rfl rfl)
theorem dX2_become_112 : decode cX2_become 112 = .ok (.goto (-39), 3) := dk_167 255 217 (dk_at dksX2_become_4 17 rfl rfl)
theorem dX2_become_115 : decode cX2_become 115 = .ok (.aload_n 0, 1) := dk_42 (dk_at dksX2_become_4 20 rfl rfl)
theorem dX2_become_116 : decode cX2_become 116 = .ok (.areturn, 1) := dk_176 (dk_at dksX2_become_4 21 rfl rfl)
abbrev cX2_goOn : ByteArray := prog_15_method_11_code
def yX2_goOn : MethodName := ⟨RX2, "goOn", "()LStepRiders$Stair;"⟩
def dkwX2_goOn_5 : List UInt8 := [182, 0, 97, 42, 89, 180, 0, 35, 4, 96, 181, 0, 35, 42, 176]
abbrev dktX2_goOn_5 : List UInt8 := dkwX2_goOn_5 ++ []
def dkwX2_goOn_4 : List UInt8 := [180, 0, 22, 28, 16, 99, 79, 42, 89, 180, 0, 38, 4, 96, 181, 0, 38, 132, 2, 1, 167, 255, 187, 42]
abbrev dktX2_goOn_4 : List UInt8 := dkwX2_goOn_4 ++ dktX2_goOn_5
def dkwX2_goOn_3 : List UInt8 := [42, 180, 0, 32, 96, 79, 42, 180, 0, 22, 28, 46, 42, 180, 0, 28, 162, 0, 6, 167, 0, 21, 42]
abbrev dktX2_goOn_3 : List UInt8 := dkwX2_goOn_3 ++ dktX2_goOn_4
def dkwX2_goOn_2 : List UInt8 := [182, 0, 73, 162, 0, 67, 42, 28, 182, 0, 94, 154, 0, 6, 167, 0, 50, 42, 180, 0, 22, 28, 92, 46]
abbrev dktX2_goOn_2 : List UInt8 := dkwX2_goOn_2 ++ dktX2_goOn_3
def dkwX2_goOn_1 : List UInt8 := [185, 0, 56, 2, 0, 192, 0, 60, 42, 182, 0, 90, 132, 2, 1, 167, 255, 226, 3, 61, 28, 42]
abbrev dktX2_goOn_1 : List UInt8 := dkwX2_goOn_1 ++ dktX2_goOn_2
def dkwX2_goOn_0 : List UInt8 := [42, 182, 0, 87, 60, 3, 61, 28, 27, 162, 0, 31, 42, 180, 0, 12, 42, 180, 0, 25, 28, 46]
abbrev dktX2_goOn_0 : List UInt8 := dkwX2_goOn_0 ++ dktX2_goOn_1
theorem dksX2_goOn_0 : cX2_goOn.data.toList.drop 0 = dktX2_goOn_0 := by decide +kernel
theorem dksX2_goOn_1 : cX2_goOn.data.toList.drop 22 = dktX2_goOn_1 := dk_seg dksX2_goOn_0 22 rfl rfl
theorem dksX2_goOn_2 : cX2_goOn.data.toList.drop 44 = dktX2_goOn_2 := dk_seg dksX2_goOn_1 22 rfl rfl
theorem dksX2_goOn_3 : cX2_goOn.data.toList.drop 68 = dktX2_goOn_3 := dk_seg dksX2_goOn_2 24 rfl rfl
theorem dksX2_goOn_4 : cX2_goOn.data.toList.drop 91 = dktX2_goOn_4 := dk_seg dksX2_goOn_3 23 rfl rfl
theorem dksX2_goOn_5 : cX2_goOn.data.toList.drop 115 = dktX2_goOn_5 := dk_seg dksX2_goOn_4 24 rfl rfl
theorem dX2_goOn_0 : decode cX2_goOn 0 = .ok (.aload_n 0, 1) := dk_42 (dk_at dksX2_goOn_0 0 rfl rfl)
theorem dX2_goOn_1 : decode cX2_goOn 1 = .ok (.invokevirtual 87, 3) := dk_182 0 87 (dk_at dksX2_goOn_0 1 rfl rfl)
theorem dX2_goOn_4 : decode cX2_goOn 4 = .ok (.istore_n 1, 1) := dk_60 (dk_at dksX2_goOn_0 4 rfl rfl)
theorem dX2_goOn_5 : decode cX2_goOn 5 = .ok (.iconst 0, 1) := dk_3 (dk_at dksX2_goOn_0 5 rfl rfl)
theorem dX2_goOn_6 : decode cX2_goOn 6 = .ok (.istore_n 2, 1) := dk_61 (dk_at dksX2_goOn_0 6 rfl rfl)
theorem dX2_goOn_7 : decode cX2_goOn 7 = .ok (.iload_n 2, 1) := dk_28 (dk_at dksX2_goOn_0 7 rfl rfl)
theorem dX2_goOn_8 : decode cX2_goOn 8 = .ok (.iload_n 1, 1) := dk_27 (dk_at dksX2_goOn_0 8 rfl rfl)
theorem dX2_goOn_9 : decode cX2_goOn 9 = .ok (.if_icmp .ge 31, 3) := dk_162 0 31 (dk_at dksX2_goOn_0 9 rfl rfl)
theorem dX2_goOn_12 : decode cX2_goOn 12 = .ok (.aload_n 0, 1) := dk_42 (dk_at dksX2_goOn_0 12 rfl rfl)
theorem dX2_goOn_13 : decode cX2_goOn 13 = .ok (.getfield 12, 3) := dk_180 0 12 (dk_at dksX2_goOn_0 13 rfl rfl)
theorem dX2_goOn_16 : decode cX2_goOn 16 = .ok (.aload_n 0, 1) := dk_42 (dk_at dksX2_goOn_0 16 rfl rfl)
theorem dX2_goOn_17 : decode cX2_goOn 17 = .ok (.getfield 25, 3) := dk_180 0 25 (dk_at dksX2_goOn_0 17 rfl rfl)
theorem dX2_goOn_20 : decode cX2_goOn 20 = .ok (.iload_n 2, 1) := dk_28 (dk_at dksX2_goOn_0 20 rfl rfl)
theorem dX2_goOn_21 : decode cX2_goOn 21 = .ok (.iaload, 1) := dk_46 (dk_at dksX2_goOn_0 21 rfl rfl)
theorem dX2_goOn_22 : decode cX2_goOn 22 = .ok (.invokeinterface 56 2, 5) := by decide +kernel
theorem dX2_goOn_27 : decode cX2_goOn 27 = .ok (.checkcast 60, 3) := dk_192 0 60 (dk_at dksX2_goOn_1 5 rfl rfl)
theorem dX2_goOn_30 : decode cX2_goOn 30 = .ok (.aload_n 0, 1) := dk_42 (dk_at dksX2_goOn_1 8 rfl rfl)
theorem dX2_goOn_31 : decode cX2_goOn 31 = .ok (.invokevirtual 90, 3) := dk_182 0 90 (dk_at dksX2_goOn_1 9 rfl rfl)
theorem dX2_goOn_34 : decode cX2_goOn 34 = .ok (.iinc 2 1, 3) := dk_132 2 1 (dk_at dksX2_goOn_1 12 rfl rfl)
theorem dX2_goOn_37 : decode cX2_goOn 37 = .ok (.goto (-30), 3) := dk_167 255 226 (dk_at dksX2_goOn_1 15 rfl rfl)
theorem dX2_goOn_40 : decode cX2_goOn 40 = .ok (.iconst 0, 1) := dk_3 (dk_at dksX2_goOn_1 18 rfl rfl)
theorem dX2_goOn_41 : decode cX2_goOn 41 = .ok (.istore_n 2, 1) := dk_61 (dk_at dksX2_goOn_1 19 rfl rfl)
theorem dX2_goOn_42 : decode cX2_goOn 42 = .ok (.iload_n 2, 1) := dk_28 (dk_at dksX2_goOn_1 20 rfl rfl)
theorem dX2_goOn_43 : decode cX2_goOn 43 = .ok (.aload_n 0, 1) := dk_42 (dk_at dksX2_goOn_1 21 rfl rfl)
theorem dX2_goOn_44 : decode cX2_goOn 44 = .ok (.invokevirtual 73, 3) := dk_182 0 73 (dk_at dksX2_goOn_2 0 rfl rfl)
theorem dX2_goOn_47 : decode cX2_goOn 47 = .ok (.if_icmp .ge 67, 3) := dk_162 0 67 (dk_at dksX2_goOn_2 3 rfl rfl)
theorem dX2_goOn_50 : decode cX2_goOn 50 = .ok (.aload_n 0, 1) := dk_42 (dk_at dksX2_goOn_2 6 rfl rfl)
theorem dX2_goOn_51 : decode cX2_goOn 51 = .ok (.iload_n 2, 1) := dk_28 (dk_at dksX2_goOn_2 7 rfl rfl)
theorem dX2_goOn_52 : decode cX2_goOn 52 = .ok (.invokevirtual 94, 3) := dk_182 0 94 (dk_at dksX2_goOn_2 8 rfl rfl)
theorem dX2_goOn_55 : decode cX2_goOn 55 = .ok (.ifCond .ne 6, 3) := dk_154 0 6 (dk_at dksX2_goOn_2 11 rfl rfl)
theorem dX2_goOn_58 : decode cX2_goOn 58 = .ok (.goto 50, 3) := dk_167 0 50 (dk_at dksX2_goOn_2 14 rfl rfl)
theorem dX2_goOn_61 : decode cX2_goOn 61 = .ok (.aload_n 0, 1) := dk_42 (dk_at dksX2_goOn_2 17 rfl rfl)
theorem dX2_goOn_62 : decode cX2_goOn 62 = .ok (.getfield 22, 3) := dk_180 0 22 (dk_at dksX2_goOn_2 18 rfl rfl)
theorem dX2_goOn_65 : decode cX2_goOn 65 = .ok (.iload_n 2, 1) := dk_28 (dk_at dksX2_goOn_2 21 rfl rfl)
theorem dX2_goOn_66 : decode cX2_goOn 66 = .ok (.dup2, 1) := dk_92 (dk_at dksX2_goOn_2 22 rfl rfl)
theorem dX2_goOn_67 : decode cX2_goOn 67 = .ok (.iaload, 1) := dk_46 (dk_at dksX2_goOn_2 23 rfl rfl)
theorem dX2_goOn_68 : decode cX2_goOn 68 = .ok (.aload_n 0, 1) := dk_42 (dk_at dksX2_goOn_3 0 rfl rfl)
theorem dX2_goOn_69 : decode cX2_goOn 69 = .ok (.getfield 32, 3) := dk_180 0 32 (dk_at dksX2_goOn_3 1 rfl rfl)
theorem dX2_goOn_72 : decode cX2_goOn 72 = .ok (.iadd, 1) := dk_96 (dk_at dksX2_goOn_3 4 rfl rfl)
theorem dX2_goOn_73 : decode cX2_goOn 73 = .ok (.iastore, 1) := dk_79 (dk_at dksX2_goOn_3 5 rfl rfl)
theorem dX2_goOn_74 : decode cX2_goOn 74 = .ok (.aload_n 0, 1) := dk_42 (dk_at dksX2_goOn_3 6 rfl rfl)
theorem dX2_goOn_75 : decode cX2_goOn 75 = .ok (.getfield 22, 3) := dk_180 0 22 (dk_at dksX2_goOn_3 7 rfl rfl)
theorem dX2_goOn_78 : decode cX2_goOn 78 = .ok (.iload_n 2, 1) := dk_28 (dk_at dksX2_goOn_3 10 rfl rfl)
theorem dX2_goOn_79 : decode cX2_goOn 79 = .ok (.iaload, 1) := dk_46 (dk_at dksX2_goOn_3 11 rfl rfl)
theorem dX2_goOn_80 : decode cX2_goOn 80 = .ok (.aload_n 0, 1) := dk_42 (dk_at dksX2_goOn_3 12 rfl rfl)
theorem dX2_goOn_81 : decode cX2_goOn 81 = .ok (.getfield 28, 3) := dk_180 0 28 (dk_at dksX2_goOn_3 13 rfl rfl)
theorem dX2_goOn_84 : decode cX2_goOn 84 = .ok (.if_icmp .ge 6, 3) := dk_162 0 6 (dk_at dksX2_goOn_3 16 rfl rfl)
theorem dX2_goOn_87 : decode cX2_goOn 87 = .ok (.goto 21, 3) := dk_167 0 21 (dk_at dksX2_goOn_3 19 rfl rfl)
theorem dX2_goOn_90 : decode cX2_goOn 90 = .ok (.aload_n 0, 1) := dk_42 (dk_at dksX2_goOn_3 22 rfl rfl)
theorem dX2_goOn_91 : decode cX2_goOn 91 = .ok (.getfield 22, 3) := dk_180 0 22 (dk_at dksX2_goOn_4 0 rfl rfl)
theorem dX2_goOn_94 : decode cX2_goOn 94 = .ok (.iload_n 2, 1) := dk_28 (dk_at dksX2_goOn_4 3 rfl rfl)
theorem dX2_goOn_95 : decode cX2_goOn 95 = .ok (.bipush 99, 2) := dk_16 99 (dk_at dksX2_goOn_4 4 rfl rfl)
theorem dX2_goOn_97 : decode cX2_goOn 97 = .ok (.iastore, 1) := dk_79 (dk_at dksX2_goOn_4 6 rfl rfl)
theorem dX2_goOn_98 : decode cX2_goOn 98 = .ok (.aload_n 0, 1) := dk_42 (dk_at dksX2_goOn_4 7 rfl rfl)
theorem dX2_goOn_99 : decode cX2_goOn 99 = .ok (.dup, 1) := dk_89 (dk_at dksX2_goOn_4 8 rfl rfl)
theorem dX2_goOn_100 : decode cX2_goOn 100 = .ok (.getfield 38, 3) := dk_180 0 38 (dk_at dksX2_goOn_4 9 rfl rfl)
theorem dX2_goOn_103 : decode cX2_goOn 103 = .ok (.iconst 1, 1) := dk_4 (dk_at dksX2_goOn_4 12 rfl rfl)
theorem dX2_goOn_104 : decode cX2_goOn 104 = .ok (.iadd, 1) := dk_96 (dk_at dksX2_goOn_4 13 rfl rfl)
theorem dX2_goOn_105 : decode cX2_goOn 105 = .ok (.putfield 38, 3) := dk_181 0 38 (dk_at dksX2_goOn_4 14 rfl rfl)
theorem dX2_goOn_108 : decode cX2_goOn 108 = .ok (.iinc 2 1, 3) := dk_132 2 1 (dk_at dksX2_goOn_4 17 rfl rfl)
theorem dX2_goOn_111 : decode cX2_goOn 111 = .ok (.goto (-69), 3) := dk_167 255 187 (dk_at dksX2_goOn_4 20 rfl rfl)
theorem dX2_goOn_114 : decode cX2_goOn 114 = .ok (.aload_n 0, 1) := dk_42 (dk_at dksX2_goOn_4 23 rfl rfl)
theorem dX2_goOn_115 : decode cX2_goOn 115 = .ok (.invokevirtual 97, 3) := dk_182 0 97 (dk_at dksX2_goOn_5 0 rfl rfl)
theorem dX2_goOn_118 : decode cX2_goOn 118 = .ok (.aload_n 0, 1) := dk_42 (dk_at dksX2_goOn_5 3 rfl rfl)
theorem dX2_goOn_119 : decode cX2_goOn 119 = .ok (.dup, 1) := dk_89 (dk_at dksX2_goOn_5 4 rfl rfl)
theorem dX2_goOn_120 : decode cX2_goOn 120 = .ok (.getfield 35, 3) := dk_180 0 35 (dk_at dksX2_goOn_5 5 rfl rfl)
theorem dX2_goOn_123 : decode cX2_goOn 123 = .ok (.iconst 1, 1) := dk_4 (dk_at dksX2_goOn_5 8 rfl rfl)
theorem dX2_goOn_124 : decode cX2_goOn 124 = .ok (.iadd, 1) := dk_96 (dk_at dksX2_goOn_5 9 rfl rfl)
theorem dX2_goOn_125 : decode cX2_goOn 125 = .ok (.putfield 35, 3) := dk_181 0 35 (dk_at dksX2_goOn_5 10 rfl rfl)
theorem dX2_goOn_128 : decode cX2_goOn 128 = .ok (.aload_n 0, 1) := dk_42 (dk_at dksX2_goOn_5 13 rfl rfl)
theorem dX2_goOn_129 : decode cX2_goOn 129 = .ok (.areturn, 1) := dk_176 (dk_at dksX2_goOn_5 14 rfl rfl)
abbrev cX2_lineUp : ByteArray := prog_15_method_9_code
def yX2_lineUp : MethodName := ⟨RX2, "lineUp", "()I"⟩
def dkwX2_lineUp_3 : List UInt8 := [167, 255, 208, 132, 3, 1, 167, 255, 194, 132, 2, 255, 167, 255, 182, 27, 172]
abbrev dktX2_lineUp_3 : List UInt8 := dkwX2_lineUp_3 ++ []
def dkwX2_lineUp_2 : List UInt8 := [21, 4, 46, 29, 159, 0, 6, 167, 0, 14, 42, 180, 0, 25, 27, 21, 4, 79, 132, 1, 1, 132, 4, 1]
abbrev dktX2_lineUp_2 : List UInt8 := dkwX2_lineUp_2 ++ dktX2_lineUp_3
def dkwX2_lineUp_1 : List UInt8 := [21, 4, 42, 182, 0, 73, 162, 0, 45, 42, 180, 0, 22, 21, 4, 46, 28, 160, 0, 28, 42, 180, 0, 18]
abbrev dktX2_lineUp_1 : List UInt8 := dkwX2_lineUp_1 ++ dktX2_lineUp_2
def dkwX2_lineUp_0 : List UInt8 := [3, 60, 42, 180, 0, 28, 4, 100, 61, 28, 155, 0, 76, 3, 62, 29, 5, 162, 0, 63, 3, 54, 4]
abbrev dktX2_lineUp_0 : List UInt8 := dkwX2_lineUp_0 ++ dktX2_lineUp_1
theorem dksX2_lineUp_0 : cX2_lineUp.data.toList.drop 0 = dktX2_lineUp_0 := by decide +kernel
theorem dksX2_lineUp_1 : cX2_lineUp.data.toList.drop 23 = dktX2_lineUp_1 := dk_seg dksX2_lineUp_0 23 rfl rfl
theorem dksX2_lineUp_2 : cX2_lineUp.data.toList.drop 47 = dktX2_lineUp_2 := dk_seg dksX2_lineUp_1 24 rfl rfl
theorem dksX2_lineUp_3 : cX2_lineUp.data.toList.drop 71 = dktX2_lineUp_3 := dk_seg dksX2_lineUp_2 24 rfl rfl
theorem dX2_lineUp_0 : decode cX2_lineUp 0 = .ok (.iconst 0, 1) := dk_3 (dk_at dksX2_lineUp_0 0 rfl rfl)
theorem dX2_lineUp_1 : decode cX2_lineUp 1 = .ok (.istore_n 1, 1) := dk_60 (dk_at dksX2_lineUp_0 1 rfl rfl)
theorem dX2_lineUp_2 : decode cX2_lineUp 2 = .ok (.aload_n 0, 1) := dk_42 (dk_at dksX2_lineUp_0 2 rfl rfl)
theorem dX2_lineUp_3 : decode cX2_lineUp 3 = .ok (.getfield 28, 3) := dk_180 0 28 (dk_at dksX2_lineUp_0 3 rfl rfl)
theorem dX2_lineUp_6 : decode cX2_lineUp 6 = .ok (.iconst 1, 1) := dk_4 (dk_at dksX2_lineUp_0 6 rfl rfl)
theorem dX2_lineUp_7 : decode cX2_lineUp 7 = .ok (.isub, 1) := dk_100 (dk_at dksX2_lineUp_0 7 rfl rfl)
theorem dX2_lineUp_8 : decode cX2_lineUp 8 = .ok (.istore_n 2, 1) := dk_61 (dk_at dksX2_lineUp_0 8 rfl rfl)
theorem dX2_lineUp_9 : decode cX2_lineUp 9 = .ok (.iload_n 2, 1) := dk_28 (dk_at dksX2_lineUp_0 9 rfl rfl)
theorem dX2_lineUp_10 : decode cX2_lineUp 10 = .ok (.ifCond .lt 76, 3) := dk_155 0 76 (dk_at dksX2_lineUp_0 10 rfl rfl)
theorem dX2_lineUp_13 : decode cX2_lineUp 13 = .ok (.iconst 0, 1) := dk_3 (dk_at dksX2_lineUp_0 13 rfl rfl)
theorem dX2_lineUp_14 : decode cX2_lineUp 14 = .ok (.istore_n 3, 1) := dk_62 (dk_at dksX2_lineUp_0 14 rfl rfl)
theorem dX2_lineUp_15 : decode cX2_lineUp 15 = .ok (.iload_n 3, 1) := dk_29 (dk_at dksX2_lineUp_0 15 rfl rfl)
theorem dX2_lineUp_16 : decode cX2_lineUp 16 = .ok (.iconst 2, 1) := dk_5 (dk_at dksX2_lineUp_0 16 rfl rfl)
theorem dX2_lineUp_17 : decode cX2_lineUp 17 = .ok (.if_icmp .ge 63, 3) := dk_162 0 63 (dk_at dksX2_lineUp_0 17 rfl rfl)
theorem dX2_lineUp_20 : decode cX2_lineUp 20 = .ok (.iconst 0, 1) := dk_3 (dk_at dksX2_lineUp_0 20 rfl rfl)
theorem dX2_lineUp_21 : decode cX2_lineUp 21 = .ok (.istore 4, 2) := dk_54 4 (dk_at dksX2_lineUp_0 21 rfl rfl)
theorem dX2_lineUp_23 : decode cX2_lineUp 23 = .ok (.iload 4, 2) := dk_21 4 (dk_at dksX2_lineUp_1 0 rfl rfl)
theorem dX2_lineUp_25 : decode cX2_lineUp 25 = .ok (.aload_n 0, 1) := dk_42 (dk_at dksX2_lineUp_1 2 rfl rfl)
theorem dX2_lineUp_26 : decode cX2_lineUp 26 = .ok (.invokevirtual 73, 3) := dk_182 0 73 (dk_at dksX2_lineUp_1 3 rfl rfl)
theorem dX2_lineUp_29 : decode cX2_lineUp 29 = .ok (.if_icmp .ge 45, 3) := dk_162 0 45 (dk_at dksX2_lineUp_1 6 rfl rfl)
theorem dX2_lineUp_32 : decode cX2_lineUp 32 = .ok (.aload_n 0, 1) := dk_42 (dk_at dksX2_lineUp_1 9 rfl rfl)
theorem dX2_lineUp_33 : decode cX2_lineUp 33 = .ok (.getfield 22, 3) := dk_180 0 22 (dk_at dksX2_lineUp_1 10 rfl rfl)
theorem dX2_lineUp_36 : decode cX2_lineUp 36 = .ok (.iload 4, 2) := dk_21 4 (dk_at dksX2_lineUp_1 13 rfl rfl)
theorem dX2_lineUp_38 : decode cX2_lineUp 38 = .ok (.iaload, 1) := dk_46 (dk_at dksX2_lineUp_1 15 rfl rfl)
theorem dX2_lineUp_39 : decode cX2_lineUp 39 = .ok (.iload_n 2, 1) := dk_28 (dk_at dksX2_lineUp_1 16 rfl rfl)
theorem dX2_lineUp_40 : decode cX2_lineUp 40 = .ok (.if_icmp .ne 28, 3) := dk_160 0 28 (dk_at dksX2_lineUp_1 17 rfl rfl)
theorem dX2_lineUp_43 : decode cX2_lineUp 43 = .ok (.aload_n 0, 1) := dk_42 (dk_at dksX2_lineUp_1 20 rfl rfl)
theorem dX2_lineUp_44 : decode cX2_lineUp 44 = .ok (.getfield 18, 3) := dk_180 0 18 (dk_at dksX2_lineUp_1 21 rfl rfl)
theorem dX2_lineUp_47 : decode cX2_lineUp 47 = .ok (.iload 4, 2) := dk_21 4 (dk_at dksX2_lineUp_2 0 rfl rfl)
theorem dX2_lineUp_49 : decode cX2_lineUp 49 = .ok (.iaload, 1) := dk_46 (dk_at dksX2_lineUp_2 2 rfl rfl)
theorem dX2_lineUp_50 : decode cX2_lineUp 50 = .ok (.iload_n 3, 1) := dk_29 (dk_at dksX2_lineUp_2 3 rfl rfl)
theorem dX2_lineUp_51 : decode cX2_lineUp 51 = .ok (.if_icmp .eq 6, 3) := dk_159 0 6 (dk_at dksX2_lineUp_2 4 rfl rfl)
theorem dX2_lineUp_54 : decode cX2_lineUp 54 = .ok (.goto 14, 3) := dk_167 0 14 (dk_at dksX2_lineUp_2 7 rfl rfl)
theorem dX2_lineUp_57 : decode cX2_lineUp 57 = .ok (.aload_n 0, 1) := dk_42 (dk_at dksX2_lineUp_2 10 rfl rfl)
theorem dX2_lineUp_58 : decode cX2_lineUp 58 = .ok (.getfield 25, 3) := dk_180 0 25 (dk_at dksX2_lineUp_2 11 rfl rfl)
theorem dX2_lineUp_61 : decode cX2_lineUp 61 = .ok (.iload_n 1, 1) := dk_27 (dk_at dksX2_lineUp_2 14 rfl rfl)
theorem dX2_lineUp_62 : decode cX2_lineUp 62 = .ok (.iload 4, 2) := dk_21 4 (dk_at dksX2_lineUp_2 15 rfl rfl)
theorem dX2_lineUp_64 : decode cX2_lineUp 64 = .ok (.iastore, 1) := dk_79 (dk_at dksX2_lineUp_2 17 rfl rfl)
theorem dX2_lineUp_65 : decode cX2_lineUp 65 = .ok (.iinc 1 1, 3) := dk_132 1 1 (dk_at dksX2_lineUp_2 18 rfl rfl)
theorem dX2_lineUp_68 : decode cX2_lineUp 68 = .ok (.iinc 4 1, 3) := dk_132 4 1 (dk_at dksX2_lineUp_2 21 rfl rfl)
theorem dX2_lineUp_71 : decode cX2_lineUp 71 = .ok (.goto (-48), 3) := dk_167 255 208 (dk_at dksX2_lineUp_3 0 rfl rfl)
theorem dX2_lineUp_74 : decode cX2_lineUp 74 = .ok (.iinc 3 1, 3) := dk_132 3 1 (dk_at dksX2_lineUp_3 3 rfl rfl)
theorem dX2_lineUp_77 : decode cX2_lineUp 77 = .ok (.goto (-62), 3) := dk_167 255 194 (dk_at dksX2_lineUp_3 6 rfl rfl)
theorem dX2_lineUp_80 : decode cX2_lineUp 80 = .ok (.iinc 2 (-1), 3) := dk_132 2 255 (dk_at dksX2_lineUp_3 9 rfl rfl)
theorem dX2_lineUp_83 : decode cX2_lineUp 83 = .ok (.goto (-74), 3) := dk_167 255 182 (dk_at dksX2_lineUp_3 12 rfl rfl)
theorem dX2_lineUp_86 : decode cX2_lineUp 86 = .ok (.iload_n 1, 1) := dk_27 (dk_at dksX2_lineUp_3 15 rfl rfl)
theorem dX2_lineUp_87 : decode cX2_lineUp 87 = .ok (.ireturn, 1) := dk_172 (dk_at dksX2_lineUp_3 16 rfl rfl)
abbrev cX2_climbs : ByteArray := prog_15_method_8_code
def yX2_climbs : MethodName := ⟨RX2, "climbs", "(II)V"⟩
def dkwX2_climbs_2 : List UInt8 := [79, 177]
abbrev dktX2_climbs_2 : List UInt8 := dkwX2_climbs_2 ++ []
def dkwX2_climbs_1 : List UInt8 := [153, 0, 25, 42, 27, 29, 42, 180, 0, 18, 27, 46, 182, 0, 84, 153, 0, 10, 42, 180, 0, 22, 27, 29]
abbrev dktX2_climbs_1 : List UInt8 := dkwX2_climbs_1 ++ dktX2_climbs_2
def dkwX2_climbs_0 : List UInt8 := [42, 180, 0, 22, 27, 46, 28, 96, 62, 29, 133, 9, 42, 180, 0, 28, 4, 100, 133, 184, 0, 80]
abbrev dktX2_climbs_0 : List UInt8 := dkwX2_climbs_0 ++ dktX2_climbs_1
theorem dksX2_climbs_0 : cX2_climbs.data.toList.drop 0 = dktX2_climbs_0 := by decide +kernel
theorem dksX2_climbs_1 : cX2_climbs.data.toList.drop 22 = dktX2_climbs_1 := dk_seg dksX2_climbs_0 22 rfl rfl
theorem dksX2_climbs_2 : cX2_climbs.data.toList.drop 46 = dktX2_climbs_2 := dk_seg dksX2_climbs_1 24 rfl rfl
theorem dX2_climbs_0 : decode cX2_climbs 0 = .ok (.aload_n 0, 1) := dk_42 (dk_at dksX2_climbs_0 0 rfl rfl)
theorem dX2_climbs_1 : decode cX2_climbs 1 = .ok (.getfield 22, 3) := dk_180 0 22 (dk_at dksX2_climbs_0 1 rfl rfl)
theorem dX2_climbs_4 : decode cX2_climbs 4 = .ok (.iload_n 1, 1) := dk_27 (dk_at dksX2_climbs_0 4 rfl rfl)
theorem dX2_climbs_5 : decode cX2_climbs 5 = .ok (.iaload, 1) := dk_46 (dk_at dksX2_climbs_0 5 rfl rfl)
theorem dX2_climbs_6 : decode cX2_climbs 6 = .ok (.iload_n 2, 1) := dk_28 (dk_at dksX2_climbs_0 6 rfl rfl)
theorem dX2_climbs_7 : decode cX2_climbs 7 = .ok (.iadd, 1) := dk_96 (dk_at dksX2_climbs_0 7 rfl rfl)
theorem dX2_climbs_8 : decode cX2_climbs 8 = .ok (.istore_n 3, 1) := dk_62 (dk_at dksX2_climbs_0 8 rfl rfl)
theorem dX2_climbs_9 : decode cX2_climbs 9 = .ok (.iload_n 3, 1) := dk_29 (dk_at dksX2_climbs_0 9 rfl rfl)
theorem dX2_climbs_10 : decode cX2_climbs 10 = .ok (.i2l, 1) := dk_133 (dk_at dksX2_climbs_0 10 rfl rfl)
theorem dX2_climbs_11 : decode cX2_climbs 11 = .ok (.lconst 0, 1) := dk_9 (dk_at dksX2_climbs_0 11 rfl rfl)
theorem dX2_climbs_12 : decode cX2_climbs 12 = .ok (.aload_n 0, 1) := dk_42 (dk_at dksX2_climbs_0 12 rfl rfl)
theorem dX2_climbs_13 : decode cX2_climbs 13 = .ok (.getfield 28, 3) := dk_180 0 28 (dk_at dksX2_climbs_0 13 rfl rfl)
theorem dX2_climbs_16 : decode cX2_climbs 16 = .ok (.iconst 1, 1) := dk_4 (dk_at dksX2_climbs_0 16 rfl rfl)
theorem dX2_climbs_17 : decode cX2_climbs 17 = .ok (.isub, 1) := dk_100 (dk_at dksX2_climbs_0 17 rfl rfl)
theorem dX2_climbs_18 : decode cX2_climbs 18 = .ok (.i2l, 1) := dk_133 (dk_at dksX2_climbs_0 18 rfl rfl)
theorem dX2_climbs_19 : decode cX2_climbs 19 = .ok (.invokestatic 80, 3) := dk_184 0 80 (dk_at dksX2_climbs_0 19 rfl rfl)
theorem dX2_climbs_22 : decode cX2_climbs 22 = .ok (.ifCond .eq 25, 3) := dk_153 0 25 (dk_at dksX2_climbs_1 0 rfl rfl)
theorem dX2_climbs_25 : decode cX2_climbs 25 = .ok (.aload_n 0, 1) := dk_42 (dk_at dksX2_climbs_1 3 rfl rfl)
theorem dX2_climbs_26 : decode cX2_climbs 26 = .ok (.iload_n 1, 1) := dk_27 (dk_at dksX2_climbs_1 4 rfl rfl)
theorem dX2_climbs_27 : decode cX2_climbs 27 = .ok (.iload_n 3, 1) := dk_29 (dk_at dksX2_climbs_1 5 rfl rfl)
theorem dX2_climbs_28 : decode cX2_climbs 28 = .ok (.aload_n 0, 1) := dk_42 (dk_at dksX2_climbs_1 6 rfl rfl)
theorem dX2_climbs_29 : decode cX2_climbs 29 = .ok (.getfield 18, 3) := dk_180 0 18 (dk_at dksX2_climbs_1 7 rfl rfl)
theorem dX2_climbs_32 : decode cX2_climbs 32 = .ok (.iload_n 1, 1) := dk_27 (dk_at dksX2_climbs_1 10 rfl rfl)
theorem dX2_climbs_33 : decode cX2_climbs 33 = .ok (.iaload, 1) := dk_46 (dk_at dksX2_climbs_1 11 rfl rfl)
theorem dX2_climbs_34 : decode cX2_climbs 34 = .ok (.invokevirtual 84, 3) := dk_182 0 84 (dk_at dksX2_climbs_1 12 rfl rfl)
theorem dX2_climbs_37 : decode cX2_climbs 37 = .ok (.ifCond .eq 10, 3) := dk_153 0 10 (dk_at dksX2_climbs_1 15 rfl rfl)
theorem dX2_climbs_40 : decode cX2_climbs 40 = .ok (.aload_n 0, 1) := dk_42 (dk_at dksX2_climbs_1 18 rfl rfl)
theorem dX2_climbs_41 : decode cX2_climbs 41 = .ok (.getfield 22, 3) := dk_180 0 22 (dk_at dksX2_climbs_1 19 rfl rfl)
theorem dX2_climbs_44 : decode cX2_climbs 44 = .ok (.iload_n 1, 1) := dk_27 (dk_at dksX2_climbs_1 22 rfl rfl)
theorem dX2_climbs_45 : decode cX2_climbs 45 = .ok (.iload_n 3, 1) := dk_29 (dk_at dksX2_climbs_1 23 rfl rfl)
theorem dX2_climbs_46 : decode cX2_climbs 46 = .ok (.iastore, 1) := dk_79 (dk_at dksX2_climbs_2 0 rfl rfl)
theorem dX2_climbs_47 : decode cX2_climbs 47 = .ok (.return_, 1) := dk_177 (dk_at dksX2_climbs_2 1 rfl rfl)
abbrev cX2_isFree : ByteArray := prog_15_method_7_code
def yX2_isFree : MethodName := ⟨RX2, "isFree", "(III)Z"⟩
def dkwX2_isFree_2 : List UInt8 := [182, 0, 76, 153, 0, 5, 3, 172, 132, 4, 1, 167, 255, 201, 4, 172]
abbrev dktX2_isFree_2 : List UInt8 := dkwX2_isFree_2 ++ []
def dkwX2_isFree_1 : List UInt8 := [28, 29, 182, 0, 76, 154, 0, 24, 42, 27, 182, 0, 70, 153, 0, 18, 42, 21, 4, 28, 4, 29, 100]
abbrev dktX2_isFree_1 : List UInt8 := dkwX2_isFree_1 ++ dktX2_isFree_2
def dkwX2_isFree_0 : List UInt8 := [3, 54, 4, 21, 4, 42, 182, 0, 73, 162, 0, 52, 21, 4, 27, 160, 0, 6, 167, 0, 37, 42, 21, 4]
abbrev dktX2_isFree_0 : List UInt8 := dkwX2_isFree_0 ++ dktX2_isFree_1
theorem dksX2_isFree_0 : cX2_isFree.data.toList.drop 0 = dktX2_isFree_0 := by decide +kernel
theorem dksX2_isFree_1 : cX2_isFree.data.toList.drop 24 = dktX2_isFree_1 := dk_seg dksX2_isFree_0 24 rfl rfl
theorem dksX2_isFree_2 : cX2_isFree.data.toList.drop 47 = dktX2_isFree_2 := dk_seg dksX2_isFree_1 23 rfl rfl
theorem dX2_isFree_0 : decode cX2_isFree 0 = .ok (.iconst 0, 1) := dk_3 (dk_at dksX2_isFree_0 0 rfl rfl)
theorem dX2_isFree_1 : decode cX2_isFree 1 = .ok (.istore 4, 2) := dk_54 4 (dk_at dksX2_isFree_0 1 rfl rfl)
theorem dX2_isFree_3 : decode cX2_isFree 3 = .ok (.iload 4, 2) := dk_21 4 (dk_at dksX2_isFree_0 3 rfl rfl)
theorem dX2_isFree_5 : decode cX2_isFree 5 = .ok (.aload_n 0, 1) := dk_42 (dk_at dksX2_isFree_0 5 rfl rfl)
theorem dX2_isFree_6 : decode cX2_isFree 6 = .ok (.invokevirtual 73, 3) := dk_182 0 73 (dk_at dksX2_isFree_0 6 rfl rfl)
theorem dX2_isFree_9 : decode cX2_isFree 9 = .ok (.if_icmp .ge 52, 3) := dk_162 0 52 (dk_at dksX2_isFree_0 9 rfl rfl)
theorem dX2_isFree_12 : decode cX2_isFree 12 = .ok (.iload 4, 2) := dk_21 4 (dk_at dksX2_isFree_0 12 rfl rfl)
theorem dX2_isFree_14 : decode cX2_isFree 14 = .ok (.iload_n 1, 1) := dk_27 (dk_at dksX2_isFree_0 14 rfl rfl)
theorem dX2_isFree_15 : decode cX2_isFree 15 = .ok (.if_icmp .ne 6, 3) := dk_160 0 6 (dk_at dksX2_isFree_0 15 rfl rfl)
theorem dX2_isFree_18 : decode cX2_isFree 18 = .ok (.goto 37, 3) := dk_167 0 37 (dk_at dksX2_isFree_0 18 rfl rfl)
theorem dX2_isFree_21 : decode cX2_isFree 21 = .ok (.aload_n 0, 1) := dk_42 (dk_at dksX2_isFree_0 21 rfl rfl)
theorem dX2_isFree_22 : decode cX2_isFree 22 = .ok (.iload 4, 2) := dk_21 4 (dk_at dksX2_isFree_0 22 rfl rfl)
theorem dX2_isFree_24 : decode cX2_isFree 24 = .ok (.iload_n 2, 1) := dk_28 (dk_at dksX2_isFree_1 0 rfl rfl)
theorem dX2_isFree_25 : decode cX2_isFree 25 = .ok (.iload_n 3, 1) := dk_29 (dk_at dksX2_isFree_1 1 rfl rfl)
theorem dX2_isFree_26 : decode cX2_isFree 26 = .ok (.invokevirtual 76, 3) := dk_182 0 76 (dk_at dksX2_isFree_1 2 rfl rfl)
theorem dX2_isFree_29 : decode cX2_isFree 29 = .ok (.ifCond .ne 24, 3) := dk_154 0 24 (dk_at dksX2_isFree_1 5 rfl rfl)
theorem dX2_isFree_32 : decode cX2_isFree 32 = .ok (.aload_n 0, 1) := dk_42 (dk_at dksX2_isFree_1 8 rfl rfl)
theorem dX2_isFree_33 : decode cX2_isFree 33 = .ok (.iload_n 1, 1) := dk_27 (dk_at dksX2_isFree_1 9 rfl rfl)
theorem dX2_isFree_34 : decode cX2_isFree 34 = .ok (.invokevirtual 70, 3) := dk_182 0 70 (dk_at dksX2_isFree_1 10 rfl rfl)
theorem dX2_isFree_37 : decode cX2_isFree 37 = .ok (.ifCond .eq 18, 3) := dk_153 0 18 (dk_at dksX2_isFree_1 13 rfl rfl)
theorem dX2_isFree_40 : decode cX2_isFree 40 = .ok (.aload_n 0, 1) := dk_42 (dk_at dksX2_isFree_1 16 rfl rfl)
theorem dX2_isFree_41 : decode cX2_isFree 41 = .ok (.iload 4, 2) := dk_21 4 (dk_at dksX2_isFree_1 17 rfl rfl)
theorem dX2_isFree_43 : decode cX2_isFree 43 = .ok (.iload_n 2, 1) := dk_28 (dk_at dksX2_isFree_1 19 rfl rfl)
theorem dX2_isFree_44 : decode cX2_isFree 44 = .ok (.iconst 1, 1) := dk_4 (dk_at dksX2_isFree_1 20 rfl rfl)
theorem dX2_isFree_45 : decode cX2_isFree 45 = .ok (.iload_n 3, 1) := dk_29 (dk_at dksX2_isFree_1 21 rfl rfl)
theorem dX2_isFree_46 : decode cX2_isFree 46 = .ok (.isub, 1) := dk_100 (dk_at dksX2_isFree_1 22 rfl rfl)
theorem dX2_isFree_47 : decode cX2_isFree 47 = .ok (.invokevirtual 76, 3) := dk_182 0 76 (dk_at dksX2_isFree_2 0 rfl rfl)
theorem dX2_isFree_50 : decode cX2_isFree 50 = .ok (.ifCond .eq 5, 3) := dk_153 0 5 (dk_at dksX2_isFree_2 3 rfl rfl)
theorem dX2_isFree_53 : decode cX2_isFree 53 = .ok (.iconst 0, 1) := dk_3 (dk_at dksX2_isFree_2 6 rfl rfl)
theorem dX2_isFree_54 : decode cX2_isFree 54 = .ok (.ireturn, 1) := dk_172 (dk_at dksX2_isFree_2 7 rfl rfl)
theorem dX2_isFree_55 : decode cX2_isFree 55 = .ok (.iinc 4 1, 3) := dk_132 4 1 (dk_at dksX2_isFree_2 8 rfl rfl)
theorem dX2_isFree_58 : decode cX2_isFree 58 = .ok (.goto (-55), 3) := dk_167 255 201 (dk_at dksX2_isFree_2 11 rfl rfl)
theorem dX2_isFree_61 : decode cX2_isFree 61 = .ok (.iconst 1, 1) := dk_4 (dk_at dksX2_isFree_2 14 rfl rfl)
theorem dX2_isFree_62 : decode cX2_isFree 62 = .ok (.ireturn, 1) := dk_172 (dk_at dksX2_isFree_2 15 rfl rfl)
abbrev cX2_takes : ByteArray := prog_15_method_6_code
def yX2_takes : MethodName := ⟨RX2, "takes", "(III)Z"⟩
def dkwX2_takes_1 : List UInt8 := [29, 160, 0, 7, 4, 167, 0, 4, 3, 172]
abbrev dktX2_takes_1 : List UInt8 := dkwX2_takes_1 ++ []
def dkwX2_takes_0 : List UInt8 := [42, 180, 0, 22, 27, 46, 28, 160, 0, 25, 42, 27, 182, 0, 70, 154, 0, 13, 42, 180, 0, 18, 27, 46]
abbrev dktX2_takes_0 : List UInt8 := dkwX2_takes_0 ++ dktX2_takes_1
theorem dksX2_takes_0 : cX2_takes.data.toList.drop 0 = dktX2_takes_0 := by decide +kernel
theorem dksX2_takes_1 : cX2_takes.data.toList.drop 24 = dktX2_takes_1 := dk_seg dksX2_takes_0 24 rfl rfl
theorem dX2_takes_0 : decode cX2_takes 0 = .ok (.aload_n 0, 1) := dk_42 (dk_at dksX2_takes_0 0 rfl rfl)
theorem dX2_takes_1 : decode cX2_takes 1 = .ok (.getfield 22, 3) := dk_180 0 22 (dk_at dksX2_takes_0 1 rfl rfl)
theorem dX2_takes_4 : decode cX2_takes 4 = .ok (.iload_n 1, 1) := dk_27 (dk_at dksX2_takes_0 4 rfl rfl)
theorem dX2_takes_5 : decode cX2_takes 5 = .ok (.iaload, 1) := dk_46 (dk_at dksX2_takes_0 5 rfl rfl)
theorem dX2_takes_6 : decode cX2_takes 6 = .ok (.iload_n 2, 1) := dk_28 (dk_at dksX2_takes_0 6 rfl rfl)
theorem dX2_takes_7 : decode cX2_takes 7 = .ok (.if_icmp .ne 25, 3) := dk_160 0 25 (dk_at dksX2_takes_0 7 rfl rfl)
theorem dX2_takes_10 : decode cX2_takes 10 = .ok (.aload_n 0, 1) := dk_42 (dk_at dksX2_takes_0 10 rfl rfl)
theorem dX2_takes_11 : decode cX2_takes 11 = .ok (.iload_n 1, 1) := dk_27 (dk_at dksX2_takes_0 11 rfl rfl)
theorem dX2_takes_12 : decode cX2_takes 12 = .ok (.invokevirtual 70, 3) := dk_182 0 70 (dk_at dksX2_takes_0 12 rfl rfl)
theorem dX2_takes_15 : decode cX2_takes 15 = .ok (.ifCond .ne 13, 3) := dk_154 0 13 (dk_at dksX2_takes_0 15 rfl rfl)
theorem dX2_takes_18 : decode cX2_takes 18 = .ok (.aload_n 0, 1) := dk_42 (dk_at dksX2_takes_0 18 rfl rfl)
theorem dX2_takes_19 : decode cX2_takes 19 = .ok (.getfield 18, 3) := dk_180 0 18 (dk_at dksX2_takes_0 19 rfl rfl)
theorem dX2_takes_22 : decode cX2_takes 22 = .ok (.iload_n 1, 1) := dk_27 (dk_at dksX2_takes_0 22 rfl rfl)
theorem dX2_takes_23 : decode cX2_takes 23 = .ok (.iaload, 1) := dk_46 (dk_at dksX2_takes_0 23 rfl rfl)
theorem dX2_takes_24 : decode cX2_takes 24 = .ok (.iload_n 3, 1) := dk_29 (dk_at dksX2_takes_1 0 rfl rfl)
theorem dX2_takes_25 : decode cX2_takes 25 = .ok (.if_icmp .ne 7, 3) := dk_160 0 7 (dk_at dksX2_takes_1 1 rfl rfl)
theorem dX2_takes_28 : decode cX2_takes 28 = .ok (.iconst 1, 1) := dk_4 (dk_at dksX2_takes_1 4 rfl rfl)
theorem dX2_takes_29 : decode cX2_takes 29 = .ok (.goto 4, 3) := dk_167 0 4 (dk_at dksX2_takes_1 5 rfl rfl)
theorem dX2_takes_32 : decode cX2_takes 32 = .ok (.iconst 0, 1) := dk_3 (dk_at dksX2_takes_1 8 rfl rfl)
theorem dX2_takes_33 : decode cX2_takes 33 = .ok (.ireturn, 1) := dk_172 (dk_at dksX2_takes_1 9 rfl rfl)
abbrev cX2_isWide : ByteArray := prog_15_method_5_code
def yX2_isWide : MethodName := ⟨RX2, "isWide", "(I)Z"⟩
def dkwX2_isWide_0 : List UInt8 := [42, 180, 0, 12, 27, 185, 0, 56, 2, 0, 192, 0, 60, 182, 0, 66, 172]
abbrev dktX2_isWide_0 : List UInt8 := dkwX2_isWide_0 ++ []
theorem dksX2_isWide_0 : cX2_isWide.data.toList.drop 0 = dktX2_isWide_0 := by decide +kernel
theorem dX2_isWide_0 : decode cX2_isWide 0 = .ok (.aload_n 0, 1) := dk_42 (dk_at dksX2_isWide_0 0 rfl rfl)
theorem dX2_isWide_1 : decode cX2_isWide 1 = .ok (.getfield 12, 3) := dk_180 0 12 (dk_at dksX2_isWide_0 1 rfl rfl)
theorem dX2_isWide_4 : decode cX2_isWide 4 = .ok (.iload_n 1, 1) := dk_27 (dk_at dksX2_isWide_0 4 rfl rfl)
theorem dX2_isWide_5 : decode cX2_isWide 5 = .ok (.invokeinterface 56 2, 5) := by decide +kernel
theorem dX2_isWide_10 : decode cX2_isWide 10 = .ok (.checkcast 60, 3) := dk_192 0 60 (dk_at dksX2_isWide_0 10 rfl rfl)
theorem dX2_isWide_13 : decode cX2_isWide 13 = .ok (.invokevirtual 66, 3) := dk_182 0 66 (dk_at dksX2_isWide_0 13 rfl rfl)
theorem dX2_isWide_16 : decode cX2_isWide 16 = .ok (.ireturn, 1) := dk_172 (dk_at dksX2_isWide_0 16 rfl rfl)
abbrev cX2_isOn : ByteArray := prog_15_method_4_code
def yX2_isOn : MethodName := ⟨RX2, "isOn", "(I)Z"⟩
def dkwX2_isOn_1 : List UInt8 := [167, 0, 4, 3, 172]
abbrev dktX2_isOn_1 : List UInt8 := dkwX2_isOn_1 ++ []
def dkwX2_isOn_0 : List UInt8 := [42, 180, 0, 22, 27, 46, 2, 159, 0, 18, 42, 180, 0, 22, 27, 46, 16, 99, 159, 0, 7, 4]
abbrev dktX2_isOn_0 : List UInt8 := dkwX2_isOn_0 ++ dktX2_isOn_1
theorem dksX2_isOn_0 : cX2_isOn.data.toList.drop 0 = dktX2_isOn_0 := by decide +kernel
theorem dksX2_isOn_1 : cX2_isOn.data.toList.drop 22 = dktX2_isOn_1 := dk_seg dksX2_isOn_0 22 rfl rfl
theorem dX2_isOn_0 : decode cX2_isOn 0 = .ok (.aload_n 0, 1) := dk_42 (dk_at dksX2_isOn_0 0 rfl rfl)
theorem dX2_isOn_1 : decode cX2_isOn 1 = .ok (.getfield 22, 3) := dk_180 0 22 (dk_at dksX2_isOn_0 1 rfl rfl)
theorem dX2_isOn_4 : decode cX2_isOn 4 = .ok (.iload_n 1, 1) := dk_27 (dk_at dksX2_isOn_0 4 rfl rfl)
theorem dX2_isOn_5 : decode cX2_isOn 5 = .ok (.iaload, 1) := dk_46 (dk_at dksX2_isOn_0 5 rfl rfl)
theorem dX2_isOn_6 : decode cX2_isOn 6 = .ok (.iconst (-1), 1) := dk_2 (dk_at dksX2_isOn_0 6 rfl rfl)
theorem dX2_isOn_7 : decode cX2_isOn 7 = .ok (.if_icmp .eq 18, 3) := dk_159 0 18 (dk_at dksX2_isOn_0 7 rfl rfl)
theorem dX2_isOn_10 : decode cX2_isOn 10 = .ok (.aload_n 0, 1) := dk_42 (dk_at dksX2_isOn_0 10 rfl rfl)
theorem dX2_isOn_11 : decode cX2_isOn 11 = .ok (.getfield 22, 3) := dk_180 0 22 (dk_at dksX2_isOn_0 11 rfl rfl)
theorem dX2_isOn_14 : decode cX2_isOn 14 = .ok (.iload_n 1, 1) := dk_27 (dk_at dksX2_isOn_0 14 rfl rfl)
theorem dX2_isOn_15 : decode cX2_isOn 15 = .ok (.iaload, 1) := dk_46 (dk_at dksX2_isOn_0 15 rfl rfl)
theorem dX2_isOn_16 : decode cX2_isOn 16 = .ok (.bipush 99, 2) := dk_16 99 (dk_at dksX2_isOn_0 16 rfl rfl)
theorem dX2_isOn_18 : decode cX2_isOn 18 = .ok (.if_icmp .eq 7, 3) := dk_159 0 7 (dk_at dksX2_isOn_0 18 rfl rfl)
theorem dX2_isOn_21 : decode cX2_isOn 21 = .ok (.iconst 1, 1) := dk_4 (dk_at dksX2_isOn_0 21 rfl rfl)
theorem dX2_isOn_22 : decode cX2_isOn 22 = .ok (.goto 4, 3) := dk_167 0 4 (dk_at dksX2_isOn_1 0 rfl rfl)
theorem dX2_isOn_25 : decode cX2_isOn 25 = .ok (.iconst 0, 1) := dk_3 (dk_at dksX2_isOn_1 3 rfl rfl)
theorem dX2_isOn_26 : decode cX2_isOn 26 = .ok (.ireturn, 1) := dk_172 (dk_at dksX2_isOn_1 4 rfl rfl)
abbrev cX2_comes : ByteArray := prog_15_method_10_code
def yX2_comes : MethodName := ⟨RX2, "comes", "()V"⟩
def dkwX2_comes_2 : List UInt8 := [132, 1, 1, 167, 255, 209, 177]
abbrev dktX2_comes_2 : List UInt8 := dkwX2_comes_2 ++ []
def dkwX2_comes_1 : List UInt8 := [180, 0, 18, 27, 46, 182, 0, 84, 154, 0, 6, 167, 0, 11, 42, 180, 0, 22, 27, 3, 79, 177]
abbrev dktX2_comes_1 : List UInt8 := dkwX2_comes_1 ++ dktX2_comes_2
def dkwX2_comes_0 : List UInt8 := [3, 60, 27, 42, 182, 0, 73, 162, 0, 45, 42, 180, 0, 22, 27, 46, 2, 160, 0, 29, 42, 27, 3, 42]
abbrev dktX2_comes_0 : List UInt8 := dkwX2_comes_0 ++ dktX2_comes_1
theorem dksX2_comes_0 : cX2_comes.data.toList.drop 0 = dktX2_comes_0 := by decide +kernel
theorem dksX2_comes_1 : cX2_comes.data.toList.drop 24 = dktX2_comes_1 := dk_seg dksX2_comes_0 24 rfl rfl
theorem dksX2_comes_2 : cX2_comes.data.toList.drop 46 = dktX2_comes_2 := dk_seg dksX2_comes_1 22 rfl rfl
theorem dX2_comes_0 : decode cX2_comes 0 = .ok (.iconst 0, 1) := dk_3 (dk_at dksX2_comes_0 0 rfl rfl)
theorem dX2_comes_1 : decode cX2_comes 1 = .ok (.istore_n 1, 1) := dk_60 (dk_at dksX2_comes_0 1 rfl rfl)
theorem dX2_comes_2 : decode cX2_comes 2 = .ok (.iload_n 1, 1) := dk_27 (dk_at dksX2_comes_0 2 rfl rfl)
theorem dX2_comes_3 : decode cX2_comes 3 = .ok (.aload_n 0, 1) := dk_42 (dk_at dksX2_comes_0 3 rfl rfl)
theorem dX2_comes_4 : decode cX2_comes 4 = .ok (.invokevirtual 73, 3) := dk_182 0 73 (dk_at dksX2_comes_0 4 rfl rfl)
theorem dX2_comes_7 : decode cX2_comes 7 = .ok (.if_icmp .ge 45, 3) := dk_162 0 45 (dk_at dksX2_comes_0 7 rfl rfl)
theorem dX2_comes_10 : decode cX2_comes 10 = .ok (.aload_n 0, 1) := dk_42 (dk_at dksX2_comes_0 10 rfl rfl)
theorem dX2_comes_11 : decode cX2_comes 11 = .ok (.getfield 22, 3) := dk_180 0 22 (dk_at dksX2_comes_0 11 rfl rfl)
theorem dX2_comes_14 : decode cX2_comes 14 = .ok (.iload_n 1, 1) := dk_27 (dk_at dksX2_comes_0 14 rfl rfl)
theorem dX2_comes_15 : decode cX2_comes 15 = .ok (.iaload, 1) := dk_46 (dk_at dksX2_comes_0 15 rfl rfl)
theorem dX2_comes_16 : decode cX2_comes 16 = .ok (.iconst (-1), 1) := dk_2 (dk_at dksX2_comes_0 16 rfl rfl)
theorem dX2_comes_17 : decode cX2_comes 17 = .ok (.if_icmp .ne 29, 3) := dk_160 0 29 (dk_at dksX2_comes_0 17 rfl rfl)
theorem dX2_comes_20 : decode cX2_comes 20 = .ok (.aload_n 0, 1) := dk_42 (dk_at dksX2_comes_0 20 rfl rfl)
theorem dX2_comes_21 : decode cX2_comes 21 = .ok (.iload_n 1, 1) := dk_27 (dk_at dksX2_comes_0 21 rfl rfl)
theorem dX2_comes_22 : decode cX2_comes 22 = .ok (.iconst 0, 1) := dk_3 (dk_at dksX2_comes_0 22 rfl rfl)
theorem dX2_comes_23 : decode cX2_comes 23 = .ok (.aload_n 0, 1) := dk_42 (dk_at dksX2_comes_0 23 rfl rfl)
theorem dX2_comes_24 : decode cX2_comes 24 = .ok (.getfield 18, 3) := dk_180 0 18 (dk_at dksX2_comes_1 0 rfl rfl)
theorem dX2_comes_27 : decode cX2_comes 27 = .ok (.iload_n 1, 1) := dk_27 (dk_at dksX2_comes_1 3 rfl rfl)
theorem dX2_comes_28 : decode cX2_comes 28 = .ok (.iaload, 1) := dk_46 (dk_at dksX2_comes_1 4 rfl rfl)
theorem dX2_comes_29 : decode cX2_comes 29 = .ok (.invokevirtual 84, 3) := dk_182 0 84 (dk_at dksX2_comes_1 5 rfl rfl)
theorem dX2_comes_32 : decode cX2_comes 32 = .ok (.ifCond .ne 6, 3) := dk_154 0 6 (dk_at dksX2_comes_1 8 rfl rfl)
theorem dX2_comes_35 : decode cX2_comes 35 = .ok (.goto 11, 3) := dk_167 0 11 (dk_at dksX2_comes_1 11 rfl rfl)
theorem dX2_comes_38 : decode cX2_comes 38 = .ok (.aload_n 0, 1) := dk_42 (dk_at dksX2_comes_1 14 rfl rfl)
theorem dX2_comes_39 : decode cX2_comes 39 = .ok (.getfield 22, 3) := dk_180 0 22 (dk_at dksX2_comes_1 15 rfl rfl)
theorem dX2_comes_42 : decode cX2_comes 42 = .ok (.iload_n 1, 1) := dk_27 (dk_at dksX2_comes_1 18 rfl rfl)
theorem dX2_comes_43 : decode cX2_comes 43 = .ok (.iconst 0, 1) := dk_3 (dk_at dksX2_comes_1 19 rfl rfl)
theorem dX2_comes_44 : decode cX2_comes 44 = .ok (.iastore, 1) := dk_79 (dk_at dksX2_comes_1 20 rfl rfl)
theorem dX2_comes_45 : decode cX2_comes 45 = .ok (.return_, 1) := dk_177 (dk_at dksX2_comes_1 21 rfl rfl)
theorem dX2_comes_46 : decode cX2_comes 46 = .ok (.iinc 1 1, 3) := dk_132 1 1 (dk_at dksX2_comes_2 0 rfl rfl)
theorem dX2_comes_49 : decode cX2_comes 49 = .ok (.goto (-47), 3) := dk_167 255 209 (dk_at dksX2_comes_2 3 rfl rfl)
theorem dX2_comes_52 : decode cX2_comes 52 = .ok (.return_, 1) := dk_177 (dk_at dksX2_comes_2 6 rfl rfl)
abbrev cX2_offs : ByteArray := prog_15_method_14_code
def yX2_offs : MethodName := ⟨RX2, "offs", "()I"⟩
def dkwX2_offs_0 : List UInt8 := [42, 16, 99, 182, 0, 104, 184, 0, 108, 172]
abbrev dktX2_offs_0 : List UInt8 := dkwX2_offs_0 ++ []
theorem dksX2_offs_0 : cX2_offs.data.toList.drop 0 = dktX2_offs_0 := by decide +kernel
theorem dX2_offs_0 : decode cX2_offs 0 = .ok (.aload_n 0, 1) := dk_42 (dk_at dksX2_offs_0 0 rfl rfl)
theorem dX2_offs_1 : decode cX2_offs 1 = .ok (.bipush 99, 2) := dk_16 99 (dk_at dksX2_offs_0 1 rfl rfl)
theorem dX2_offs_3 : decode cX2_offs 3 = .ok (.invokevirtual 104, 3) := dk_182 0 104 (dk_at dksX2_offs_0 3 rfl rfl)
theorem dX2_offs_6 : decode cX2_offs 6 = .ok (.invokestatic 108, 3) := dk_184 0 108 (dk_at dksX2_offs_0 6 rfl rfl)
theorem dX2_offs_9 : decode cX2_offs 9 = .ok (.ireturn, 1) := dk_172 (dk_at dksX2_offs_0 9 rfl rfl)
abbrev cX2_those : ByteArray := prog_15_method_13_code
def yX2_those : MethodName := ⟨RX2, "those", "(I)I"⟩
def dkwX2_those_1 : List UInt8 := [29, 120, 167, 0, 4, 3, 128, 61, 132, 3, 1, 167, 255, 225, 28, 172]
abbrev dktX2_those_1 : List UInt8 := dkwX2_those_1 ++ []
def dkwX2_those_0 : List UInt8 := [3, 61, 3, 62, 29, 42, 182, 0, 73, 162, 0, 29, 28, 42, 180, 0, 22, 29, 46, 27, 160, 0, 9, 4]
abbrev dktX2_those_0 : List UInt8 := dkwX2_those_0 ++ dktX2_those_1
theorem dksX2_those_0 : cX2_those.data.toList.drop 0 = dktX2_those_0 := by decide +kernel
theorem dksX2_those_1 : cX2_those.data.toList.drop 24 = dktX2_those_1 := dk_seg dksX2_those_0 24 rfl rfl
theorem dX2_those_0 : decode cX2_those 0 = .ok (.iconst 0, 1) := dk_3 (dk_at dksX2_those_0 0 rfl rfl)
theorem dX2_those_1 : decode cX2_those 1 = .ok (.istore_n 2, 1) := dk_61 (dk_at dksX2_those_0 1 rfl rfl)
theorem dX2_those_2 : decode cX2_those 2 = .ok (.iconst 0, 1) := dk_3 (dk_at dksX2_those_0 2 rfl rfl)
theorem dX2_those_3 : decode cX2_those 3 = .ok (.istore_n 3, 1) := dk_62 (dk_at dksX2_those_0 3 rfl rfl)
theorem dX2_those_4 : decode cX2_those 4 = .ok (.iload_n 3, 1) := dk_29 (dk_at dksX2_those_0 4 rfl rfl)
theorem dX2_those_5 : decode cX2_those 5 = .ok (.aload_n 0, 1) := dk_42 (dk_at dksX2_those_0 5 rfl rfl)
theorem dX2_those_6 : decode cX2_those 6 = .ok (.invokevirtual 73, 3) := dk_182 0 73 (dk_at dksX2_those_0 6 rfl rfl)
theorem dX2_those_9 : decode cX2_those 9 = .ok (.if_icmp .ge 29, 3) := dk_162 0 29 (dk_at dksX2_those_0 9 rfl rfl)
theorem dX2_those_12 : decode cX2_those 12 = .ok (.iload_n 2, 1) := dk_28 (dk_at dksX2_those_0 12 rfl rfl)
theorem dX2_those_13 : decode cX2_those 13 = .ok (.aload_n 0, 1) := dk_42 (dk_at dksX2_those_0 13 rfl rfl)
theorem dX2_those_14 : decode cX2_those 14 = .ok (.getfield 22, 3) := dk_180 0 22 (dk_at dksX2_those_0 14 rfl rfl)
theorem dX2_those_17 : decode cX2_those 17 = .ok (.iload_n 3, 1) := dk_29 (dk_at dksX2_those_0 17 rfl rfl)
theorem dX2_those_18 : decode cX2_those 18 = .ok (.iaload, 1) := dk_46 (dk_at dksX2_those_0 18 rfl rfl)
theorem dX2_those_19 : decode cX2_those 19 = .ok (.iload_n 1, 1) := dk_27 (dk_at dksX2_those_0 19 rfl rfl)
theorem dX2_those_20 : decode cX2_those 20 = .ok (.if_icmp .ne 9, 3) := dk_160 0 9 (dk_at dksX2_those_0 20 rfl rfl)
theorem dX2_those_23 : decode cX2_those 23 = .ok (.iconst 1, 1) := dk_4 (dk_at dksX2_those_0 23 rfl rfl)
theorem dX2_those_24 : decode cX2_those 24 = .ok (.iload_n 3, 1) := dk_29 (dk_at dksX2_those_1 0 rfl rfl)
theorem dX2_those_25 : decode cX2_those 25 = .ok (.ishl, 1) := dk_120 (dk_at dksX2_those_1 1 rfl rfl)
theorem dX2_those_26 : decode cX2_those 26 = .ok (.goto 4, 3) := dk_167 0 4 (dk_at dksX2_those_1 2 rfl rfl)
theorem dX2_those_29 : decode cX2_those 29 = .ok (.iconst 0, 1) := dk_3 (dk_at dksX2_those_1 5 rfl rfl)
theorem dX2_those_30 : decode cX2_those 30 = .ok (.ior, 1) := dk_128 (dk_at dksX2_those_1 6 rfl rfl)
theorem dX2_those_31 : decode cX2_those 31 = .ok (.istore_n 2, 1) := dk_61 (dk_at dksX2_those_1 7 rfl rfl)
theorem dX2_those_32 : decode cX2_those 32 = .ok (.iinc 3 1, 3) := dk_132 3 1 (dk_at dksX2_those_1 8 rfl rfl)
theorem dX2_those_35 : decode cX2_those 35 = .ok (.goto (-31), 3) := dk_167 255 225 (dk_at dksX2_those_1 11 rfl rfl)
theorem dX2_those_38 : decode cX2_those 38 = .ok (.iload_n 2, 1) := dk_28 (dk_at dksX2_those_1 14 rfl rfl)
theorem dX2_those_39 : decode cX2_those 39 = .ok (.ireturn, 1) := dk_172 (dk_at dksX2_those_1 15 rfl rfl)
abbrev cX2_goOn_2 : ByteArray := prog_15_method_12_code
def yX2_goOn_2 : MethodName := ⟨RX2, "goOn", "(I)LStepRiders$Stair;"⟩
def dkwX2_goOn_2_0 : List UInt8 := [3, 61, 28, 27, 162, 0, 14, 42, 182, 0, 100, 87, 132, 2, 1, 167, 255, 243, 42, 176]
abbrev dktX2_goOn_2_0 : List UInt8 := dkwX2_goOn_2_0 ++ []
theorem dksX2_goOn_2_0 : cX2_goOn_2.data.toList.drop 0 = dktX2_goOn_2_0 := by decide +kernel
theorem dX2_goOn_2_0 : decode cX2_goOn_2 0 = .ok (.iconst 0, 1) := dk_3 (dk_at dksX2_goOn_2_0 0 rfl rfl)
theorem dX2_goOn_2_1 : decode cX2_goOn_2 1 = .ok (.istore_n 2, 1) := dk_61 (dk_at dksX2_goOn_2_0 1 rfl rfl)
theorem dX2_goOn_2_2 : decode cX2_goOn_2 2 = .ok (.iload_n 2, 1) := dk_28 (dk_at dksX2_goOn_2_0 2 rfl rfl)
theorem dX2_goOn_2_3 : decode cX2_goOn_2 3 = .ok (.iload_n 1, 1) := dk_27 (dk_at dksX2_goOn_2_0 3 rfl rfl)
theorem dX2_goOn_2_4 : decode cX2_goOn_2 4 = .ok (.if_icmp .ge 14, 3) := dk_162 0 14 (dk_at dksX2_goOn_2_0 4 rfl rfl)
theorem dX2_goOn_2_7 : decode cX2_goOn_2 7 = .ok (.aload_n 0, 1) := dk_42 (dk_at dksX2_goOn_2_0 7 rfl rfl)
theorem dX2_goOn_2_8 : decode cX2_goOn_2 8 = .ok (.invokevirtual 100, 3) := dk_182 0 100 (dk_at dksX2_goOn_2_0 8 rfl rfl)
theorem dX2_goOn_2_11 : decode cX2_goOn_2 11 = .ok (.pop, 1) := dk_87 (dk_at dksX2_goOn_2_0 11 rfl rfl)
theorem dX2_goOn_2_12 : decode cX2_goOn_2 12 = .ok (.iinc 2 1, 3) := dk_132 2 1 (dk_at dksX2_goOn_2_0 12 rfl rfl)
theorem dX2_goOn_2_15 : decode cX2_goOn_2 15 = .ok (.goto (-13), 3) := dk_167 255 243 (dk_at dksX2_goOn_2_0 15 rfl rfl)
theorem dX2_goOn_2_18 : decode cX2_goOn_2 18 = .ok (.aload_n 0, 1) := dk_42 (dk_at dksX2_goOn_2_0 18 rfl rfl)
theorem dX2_goOn_2_19 : decode cX2_goOn_2 19 = .ok (.areturn, 1) := dk_176 (dk_at dksX2_goOn_2_0 19 rfl rfl)
abbrev cX2_clears : ByteArray := prog_15_method_15_code
def yX2_clears : MethodName := ⟨RX2, "clears", "()I"⟩
def dkwX2_clears_1 : List UInt8 := [132, 1, 1, 167, 255, 231, 27, 172]
abbrev dktX2_clears_1 : List UInt8 := dkwX2_clears_1 ++ []
def dkwX2_clears_0 : List UInt8 := [3, 60, 27, 16, 60, 163, 0, 25, 42, 182, 0, 113, 42, 182, 0, 73, 162, 0, 14, 42, 182, 0, 100, 87]
abbrev dktX2_clears_0 : List UInt8 := dkwX2_clears_0 ++ dktX2_clears_1
theorem dksX2_clears_0 : cX2_clears.data.toList.drop 0 = dktX2_clears_0 := by decide +kernel
theorem dksX2_clears_1 : cX2_clears.data.toList.drop 24 = dktX2_clears_1 := dk_seg dksX2_clears_0 24 rfl rfl
theorem dX2_clears_0 : decode cX2_clears 0 = .ok (.iconst 0, 1) := dk_3 (dk_at dksX2_clears_0 0 rfl rfl)
theorem dX2_clears_1 : decode cX2_clears 1 = .ok (.istore_n 1, 1) := dk_60 (dk_at dksX2_clears_0 1 rfl rfl)
theorem dX2_clears_2 : decode cX2_clears 2 = .ok (.iload_n 1, 1) := dk_27 (dk_at dksX2_clears_0 2 rfl rfl)
theorem dX2_clears_3 : decode cX2_clears 3 = .ok (.bipush 60, 2) := dk_16 60 (dk_at dksX2_clears_0 3 rfl rfl)
theorem dX2_clears_5 : decode cX2_clears 5 = .ok (.if_icmp .gt 25, 3) := dk_163 0 25 (dk_at dksX2_clears_0 5 rfl rfl)
theorem dX2_clears_8 : decode cX2_clears 8 = .ok (.aload_n 0, 1) := dk_42 (dk_at dksX2_clears_0 8 rfl rfl)
theorem dX2_clears_9 : decode cX2_clears 9 = .ok (.invokevirtual 113, 3) := dk_182 0 113 (dk_at dksX2_clears_0 9 rfl rfl)
theorem dX2_clears_12 : decode cX2_clears 12 = .ok (.aload_n 0, 1) := dk_42 (dk_at dksX2_clears_0 12 rfl rfl)
theorem dX2_clears_13 : decode cX2_clears 13 = .ok (.invokevirtual 73, 3) := dk_182 0 73 (dk_at dksX2_clears_0 13 rfl rfl)
theorem dX2_clears_16 : decode cX2_clears 16 = .ok (.if_icmp .ge 14, 3) := dk_162 0 14 (dk_at dksX2_clears_0 16 rfl rfl)
theorem dX2_clears_19 : decode cX2_clears 19 = .ok (.aload_n 0, 1) := dk_42 (dk_at dksX2_clears_0 19 rfl rfl)
theorem dX2_clears_20 : decode cX2_clears 20 = .ok (.invokevirtual 100, 3) := dk_182 0 100 (dk_at dksX2_clears_0 20 rfl rfl)
theorem dX2_clears_23 : decode cX2_clears 23 = .ok (.pop, 1) := dk_87 (dk_at dksX2_clears_0 23 rfl rfl)
theorem dX2_clears_24 : decode cX2_clears 24 = .ok (.iinc 1 1, 3) := dk_132 1 1 (dk_at dksX2_clears_1 0 rfl rfl)
theorem dX2_clears_27 : decode cX2_clears 27 = .ok (.goto (-25), 3) := dk_167 255 231 (dk_at dksX2_clears_1 3 rfl rfl)
theorem dX2_clears_30 : decode cX2_clears 30 = .ok (.iload_n 1, 1) := dk_27 (dk_at dksX2_clears_1 6 rfl rfl)
theorem dX2_clears_31 : decode cX2_clears 31 = .ok (.ireturn, 1) := dk_172 (dk_at dksX2_clears_1 7 rfl rfl)
theorem q49 : (Jvm.Cond.initialized "StepRiders$Stair") ∈ lw_all := lw_g (lw_at lw_m1 3 rfl) rfl
theorem q112 : (Jvm.Cond.instantiable "StepRiders$Stair" (8 : Nat)) ∈ lw_all := lw_g (lw_at lw_m1 66 rfl) rfl
theorem q114 : (Jvm.Cond.instanceMethod ({ cls := "StepRiders$Stair", name := "<init>", desc := "()V" } : Jvm.MethodName)) ∈ lw_all := lw_g (lw_at lw_m1 68 rfl) rfl
theorem q115 : (Jvm.Cond.code ({ cls := "StepRiders$Stair", name := "<init>", desc := "()V" } : Jvm.MethodName) prog_15_method_1_code (1 : Nat) (Option.none : Option Jvm.ClassFile.FieldType)) ∈ lw_all := lw_g (lw_at lw_m1 69 rfl) rfl
theorem q116 : (Jvm.Cond.methodLink "StepRiders$Stair" (3 : Nat) ({ cls := "java/lang/Object", name := "<init>", desc := "()V" } : Jvm.MethodName)) ∈ lw_all := lw_g (lw_at lw_m1 70 rfl) rfl
theorem q117 : (Jvm.Cond.classLink "StepRiders$Stair" (9 : Nat) "java/util/ArrayList") ∈ lw_all := lw_g (lw_at lw_m1 71 rfl) rfl
theorem q119 : (Jvm.Cond.methodLink "StepRiders$Stair" (11 : Nat) ({ cls := "java/util/ArrayList", name := "<init>", desc := "()V" } : Jvm.MethodName)) ∈ lw_all := lw_g (lw_at lw_m1 73 rfl) rfl
theorem q144 : (Jvm.Cond.fieldLink "StepRiders$Stair" (28 : Nat) "StepRiders$Stair" "steps" "I") ∈ lw_all := lw_g (lw_at lw_m1 98 rfl) rfl
theorem q149 : (Jvm.Cond.fieldLink "StepRiders$Stair" (32 : Nat) "StepRiders$Stair" "speed" "I") ∈ lw_all := lw_g (lw_at lw_m1 103 rfl) rfl
theorem q152 : (Jvm.Cond.fieldLink "StepRiders$Stair" (35 : Nat) "StepRiders$Stair" "tick" "I") ∈ lw_all := lw_g (lw_at lw_m1 106 rfl) rfl
theorem q155 : (Jvm.Cond.fieldLink "StepRiders$Stair" (38 : Nat) "StepRiders$Stair" "went" "I") ∈ lw_all := lw_g (lw_at lw_m1 109 rfl) rfl
theorem q157 : (Jvm.Cond.fieldLink "StepRiders$Stair" (12 : Nat) "StepRiders$Stair" "riders" "Ljava/util/List;") ∈ lw_all := lw_g (lw_at lw_m1 111 rfl) rfl
theorem q161 : (Jvm.Cond.fieldLink "StepRiders$Stair" (18 : Nat) "StepRiders$Stair" "lane" "[I") ∈ lw_all := lw_g (lw_at lw_m1 115 rfl) rfl
theorem q167 : (Jvm.Cond.fieldLink "StepRiders$Stair" (22 : Nat) "StepRiders$Stair" "where" "[I") ∈ lw_all := lw_g (lw_at lw_m1 121 rfl) rfl
theorem q172 : (Jvm.Cond.fieldLink "StepRiders$Stair" (25 : Nat) "StepRiders$Stair" "order" "[I") ∈ lw_all := lw_g (lw_at lw_m1 126 rfl) rfl
theorem q173 : (Jvm.Cond.lays "StepRiders$Stair" "StepRiders$Stair" "steps" "I") ∈ lw_all := lw_g (lw_at lw_m1 127 rfl) rfl
theorem q174 : (Jvm.Cond.soleField "StepRiders$Stair" "steps") ∈ lw_all := lw_g (lw_at lw_m1 128 rfl) rfl
theorem q175 : (Jvm.Cond.lays "StepRiders$Stair" "StepRiders$Stair" "speed" "I") ∈ lw_all := lw_g (lw_at lw_m1 129 rfl) rfl
theorem q176 : (Jvm.Cond.soleField "StepRiders$Stair" "speed") ∈ lw_all := lw_g (lw_at lw_m1 130 rfl) rfl
theorem q177 : (Jvm.Cond.lays "StepRiders$Stair" "StepRiders$Stair" "tick" "I") ∈ lw_all := lw_g (lw_at lw_m1 131 rfl) rfl
theorem q178 : (Jvm.Cond.soleField "StepRiders$Stair" "tick") ∈ lw_all := lw_g (lw_at lw_m1 132 rfl) rfl
theorem q179 : (Jvm.Cond.lays "StepRiders$Stair" "StepRiders$Stair" "went" "I") ∈ lw_all := lw_g (lw_at lw_m1 133 rfl) rfl
theorem q180 : (Jvm.Cond.soleField "StepRiders$Stair" "went") ∈ lw_all := lw_g (lw_at lw_m1 134 rfl) rfl
theorem q181 : (Jvm.Cond.laysFinal "StepRiders$Stair" "StepRiders$Stair" "riders" "Ljava/util/List;") ∈ lw_all := lw_g (lw_at lw_m1 135 rfl) rfl
theorem q182 : (Jvm.Cond.soleField "StepRiders$Stair" "riders") ∈ lw_all := lw_g (lw_at lw_m1 136 rfl) rfl
theorem q183 : (Jvm.Cond.laysFinal "StepRiders$Stair" "StepRiders$Stair" "lane" "[I") ∈ lw_all := lw_g (lw_at lw_m1 137 rfl) rfl
theorem q184 : (Jvm.Cond.soleField "StepRiders$Stair" "lane") ∈ lw_all := lw_g (lw_at lw_m1 138 rfl) rfl
theorem q185 : (Jvm.Cond.laysFinal "StepRiders$Stair" "StepRiders$Stair" "where" "[I") ∈ lw_all := lw_g (lw_at lw_m1 139 rfl) rfl
theorem q186 : (Jvm.Cond.soleField "StepRiders$Stair" "where") ∈ lw_all := lw_g (lw_at lw_m1 140 rfl) rfl
theorem q187 : (Jvm.Cond.laysFinal "StepRiders$Stair" "StepRiders$Stair" "order" "[I") ∈ lw_all := lw_g (lw_at lw_m1 141 rfl) rfl
theorem q188 : (Jvm.Cond.soleField "StepRiders$Stair" "order") ∈ lw_all := lw_g (lw_at lw_m1 142 rfl) rfl
theorem q189 : (Jvm.Cond.superclass "StepRiders$Stair" "java/lang/Object") ∈ lw_all := lw_g (lw_at lw_m1 143 rfl) rfl
theorem q653 : (Jvm.Cond.instanceMethod ({ cls := "StepRiders$Stair", name := "many", desc := "()I" } : Jvm.MethodName)) ∈ lw_all := lw_g (lw_at lw_m3 127 rfl) rfl
theorem q654 : (Jvm.Cond.selects "StepRiders$Stair" ({ cls := "StepRiders$Stair", name := "many", desc := "()I" } : Jvm.MethodName) ({ cls := "StepRiders$Stair", name := "many", desc := "()I" } : Jvm.MethodName)) ∈ lw_all := lw_g (lw_at lw_m3 128 rfl) rfl
theorem q655 : (Jvm.Cond.code ({ cls := "StepRiders$Stair", name := "many", desc := "()I" } : Jvm.MethodName) prog_15_method_3_code (1 : Nat) (Option.some Jvm.ClassFile.FieldType.int)) ∈ lw_all := lw_g (lw_at lw_m3 129 rfl) rfl
theorem q656 : (Jvm.Cond.interfaceEntry "StepRiders$Stair" (52 : Nat)) ∈ lw_tbl := lw_at lw_m3 130 rfl
theorem q657 : (Jvm.Cond.methodLink "StepRiders$Stair" (52 : Nat) ({ cls := "java/util/List", name := "size", desc := "()I" } : Jvm.MethodName)) ∈ lw_all := lw_g (lw_at lw_m3 131 rfl) rfl
theorem q759 : (Jvm.Cond.selects "StepRiders$Stair" ({ cls := "java/lang/Object", name := "getClass", desc := "()Ljava/lang/Class;" } : Jvm.MethodName) ({ cls := "java/lang/Object", name := "getClass", desc := "()Ljava/lang/Class;" } : Jvm.MethodName)) ∈ lw_all := lw_g (lw_at lw_m3 233 rfl) rfl
theorem q785 : (Jvm.Cond.instanceMethod ({ cls := "StepRiders$Stair", name := "become", desc := "(LStepRiders$Stair;)LStepRiders$Stair;" } : Jvm.MethodName)) ∈ lw_all := lw_g (lw_at lw_m4 19 rfl) rfl
theorem q786 : (Jvm.Cond.selects "StepRiders$Stair" ({ cls := "StepRiders$Stair", name := "become", desc := "(LStepRiders$Stair;)LStepRiders$Stair;" } : Jvm.MethodName) ({ cls := "StepRiders$Stair", name := "become", desc := "(LStepRiders$Stair;)LStepRiders$Stair;" } : Jvm.MethodName)) ∈ lw_all := lw_g (lw_at lw_m4 20 rfl) rfl
theorem q787 : (Jvm.Cond.code ({ cls := "StepRiders$Stair", name := "become", desc := "(LStepRiders$Stair;)LStepRiders$Stair;" } : Jvm.MethodName) prog_15_method_2_code (3 : Nat) (Option.some (Jvm.ClassFile.FieldType.object "StepRiders$Stair"))) ∈ lw_all := lw_g (lw_at lw_m4 21 rfl) rfl
theorem q788 : (Jvm.Cond.methodLink "StepRiders$Stair" (41 : Nat) ({ cls := "java/lang/System", name := "arraycopy", desc := "(Ljava/lang/Object;ILjava/lang/Object;II)V" } : Jvm.MethodName)) ∈ lw_all := lw_g (lw_at lw_m4 22 rfl) rfl
theorem q789 : (Jvm.Cond.interfaceEntry "StepRiders$Stair" (47 : Nat)) ∈ lw_tbl := lw_at lw_m4 23 rfl
theorem q790 : (Jvm.Cond.methodLink "StepRiders$Stair" (47 : Nat) ({ cls := "java/util/List", name := "clear", desc := "()V" } : Jvm.MethodName)) ∈ lw_all := lw_g (lw_at lw_m4 24 rfl) rfl
theorem q798 : (Jvm.Cond.interfaceEntry "StepRiders$Stair" (56 : Nat)) ∈ lw_tbl := lw_at lw_m4 32 rfl
theorem q799 : (Jvm.Cond.methodLink "StepRiders$Stair" (56 : Nat) ({ cls := "java/util/List", name := "get", desc := "(I)Ljava/lang/Object;" } : Jvm.MethodName)) ∈ lw_all := lw_g (lw_at lw_m4 33 rfl) rfl
theorem q817 : (Jvm.Cond.classLink "StepRiders$Stair" (60 : Nat) "StepRiders$Rider") ∈ lw_all := lw_g (lw_at lw_m4 51 rfl) rfl
theorem q818 : (Jvm.Cond.interfaceEntry "StepRiders$Stair" (62 : Nat)) ∈ lw_tbl := lw_at lw_m4 52 rfl
theorem q819 : (Jvm.Cond.methodLink "StepRiders$Stair" (62 : Nat) ({ cls := "java/util/List", name := "add", desc := "(Ljava/lang/Object;)Z" } : Jvm.MethodName)) ∈ lw_all := lw_g (lw_at lw_m4 53 rfl) rfl
theorem q840 : (Jvm.Cond.instanceMethod ({ cls := "StepRiders$Stair", name := "goOn", desc := "()LStepRiders$Stair;" } : Jvm.MethodName)) ∈ lw_all := lw_g (lw_at lw_m4 74 rfl) rfl
theorem q841 : (Jvm.Cond.selects "StepRiders$Stair" ({ cls := "StepRiders$Stair", name := "goOn", desc := "()LStepRiders$Stair;" } : Jvm.MethodName) ({ cls := "StepRiders$Stair", name := "goOn", desc := "()LStepRiders$Stair;" } : Jvm.MethodName)) ∈ lw_all := lw_g (lw_at lw_m4 75 rfl) rfl
theorem q842 : (Jvm.Cond.code ({ cls := "StepRiders$Stair", name := "goOn", desc := "()LStepRiders$Stair;" } : Jvm.MethodName) prog_15_method_11_code (3 : Nat) (Option.some (Jvm.ClassFile.FieldType.object "StepRiders$Stair"))) ∈ lw_all := lw_g (lw_at lw_m4 76 rfl) rfl
theorem q843 : (Jvm.Cond.methodLink "StepRiders$Stair" (87 : Nat) ({ cls := "StepRiders$Stair", name := "lineUp", desc := "()I" } : Jvm.MethodName)) ∈ lw_all := lw_g (lw_at lw_m4 77 rfl) rfl
theorem q844 : (Jvm.Cond.privateMethod ({ cls := "StepRiders$Stair", name := "lineUp", desc := "()I" } : Jvm.MethodName)) ∈ lw_tbl := lw_at lw_m4 78 rfl
theorem q845 : (Jvm.Cond.instanceMethod ({ cls := "StepRiders$Stair", name := "lineUp", desc := "()I" } : Jvm.MethodName)) ∈ lw_all := lw_g (lw_at lw_m4 79 rfl) rfl
theorem q846 : (Jvm.Cond.code ({ cls := "StepRiders$Stair", name := "lineUp", desc := "()I" } : Jvm.MethodName) prog_15_method_9_code (5 : Nat) (Option.some Jvm.ClassFile.FieldType.int)) ∈ lw_all := lw_g (lw_at lw_m4 80 rfl) rfl
theorem q847 : (Jvm.Cond.methodLink "StepRiders$Stair" (73 : Nat) ({ cls := "StepRiders$Stair", name := "many", desc := "()I" } : Jvm.MethodName)) ∈ lw_all := lw_g (lw_at lw_m4 81 rfl) rfl
theorem q848 : (Jvm.Cond.methodLink "StepRiders$Stair" (90 : Nat) ({ cls := "StepRiders$Rider", name := "goes", desc := "(LStepRiders$Stair;)V" } : Jvm.MethodName)) ∈ lw_all := lw_g (lw_at lw_m4 82 rfl) rfl
theorem q864 : (Jvm.Cond.instanceMethod ({ cls := "StepRiders$Stair", name := "climbs", desc := "(II)V" } : Jvm.MethodName)) ∈ lw_all := lw_g (lw_at lw_m4 98 rfl) rfl
theorem q865 : (Jvm.Cond.selects "StepRiders$Stair" ({ cls := "StepRiders$Stair", name := "climbs", desc := "(II)V" } : Jvm.MethodName) ({ cls := "StepRiders$Stair", name := "climbs", desc := "(II)V" } : Jvm.MethodName)) ∈ lw_all := lw_g (lw_at lw_m4 99 rfl) rfl
theorem q866 : (Jvm.Cond.code ({ cls := "StepRiders$Stair", name := "climbs", desc := "(II)V" } : Jvm.MethodName) prog_15_method_8_code (4 : Nat) (Option.none : Option Jvm.ClassFile.FieldType)) ∈ lw_all := lw_g (lw_at lw_m4 100 rfl) rfl
theorem q867 : (Jvm.Cond.methodLinkNest "StepRiders$Stair" (80 : Nat) ({ cls := "StepRiders", name := "isIn", desc := "(JJJ)Z" } : Jvm.MethodName) "StepRiders") ∈ lw_tbl := lw_at lw_m4 101 rfl
theorem q868 : (Jvm.Cond.methodLink "StepRiders$Stair" (84 : Nat) ({ cls := "StepRiders$Stair", name := "isFree", desc := "(III)Z" } : Jvm.MethodName)) ∈ lw_all := lw_g (lw_at lw_m4 102 rfl) rfl
theorem q869 : (Jvm.Cond.instanceMethod ({ cls := "StepRiders$Stair", name := "isFree", desc := "(III)Z" } : Jvm.MethodName)) ∈ lw_all := lw_g (lw_at lw_m4 103 rfl) rfl
theorem q870 : (Jvm.Cond.selects "StepRiders$Stair" ({ cls := "StepRiders$Stair", name := "isFree", desc := "(III)Z" } : Jvm.MethodName) ({ cls := "StepRiders$Stair", name := "isFree", desc := "(III)Z" } : Jvm.MethodName)) ∈ lw_all := lw_g (lw_at lw_m4 104 rfl) rfl
theorem q871 : (Jvm.Cond.code ({ cls := "StepRiders$Stair", name := "isFree", desc := "(III)Z" } : Jvm.MethodName) prog_15_method_7_code (5 : Nat) (Option.some Jvm.ClassFile.FieldType.boolean)) ∈ lw_all := lw_g (lw_at lw_m4 105 rfl) rfl
theorem q872 : (Jvm.Cond.methodLink "StepRiders$Stair" (76 : Nat) ({ cls := "StepRiders$Stair", name := "takes", desc := "(III)Z" } : Jvm.MethodName)) ∈ lw_all := lw_g (lw_at lw_m4 106 rfl) rfl
theorem q873 : (Jvm.Cond.instanceMethod ({ cls := "StepRiders$Stair", name := "takes", desc := "(III)Z" } : Jvm.MethodName)) ∈ lw_all := lw_g (lw_at lw_m4 107 rfl) rfl
theorem q874 : (Jvm.Cond.selects "StepRiders$Stair" ({ cls := "StepRiders$Stair", name := "takes", desc := "(III)Z" } : Jvm.MethodName) ({ cls := "StepRiders$Stair", name := "takes", desc := "(III)Z" } : Jvm.MethodName)) ∈ lw_all := lw_g (lw_at lw_m4 108 rfl) rfl
theorem q875 : (Jvm.Cond.code ({ cls := "StepRiders$Stair", name := "takes", desc := "(III)Z" } : Jvm.MethodName) prog_15_method_6_code (4 : Nat) (Option.some Jvm.ClassFile.FieldType.boolean)) ∈ lw_all := lw_g (lw_at lw_m4 109 rfl) rfl
theorem q876 : (Jvm.Cond.methodLink "StepRiders$Stair" (70 : Nat) ({ cls := "StepRiders$Stair", name := "isWide", desc := "(I)Z" } : Jvm.MethodName)) ∈ lw_all := lw_g (lw_at lw_m4 110 rfl) rfl
theorem q877 : (Jvm.Cond.instanceMethod ({ cls := "StepRiders$Stair", name := "isWide", desc := "(I)Z" } : Jvm.MethodName)) ∈ lw_all := lw_g (lw_at lw_m4 111 rfl) rfl
theorem q878 : (Jvm.Cond.selects "StepRiders$Stair" ({ cls := "StepRiders$Stair", name := "isWide", desc := "(I)Z" } : Jvm.MethodName) ({ cls := "StepRiders$Stair", name := "isWide", desc := "(I)Z" } : Jvm.MethodName)) ∈ lw_all := lw_g (lw_at lw_m4 112 rfl) rfl
theorem q879 : (Jvm.Cond.code ({ cls := "StepRiders$Stair", name := "isWide", desc := "(I)Z" } : Jvm.MethodName) prog_15_method_5_code (2 : Nat) (Option.some Jvm.ClassFile.FieldType.boolean)) ∈ lw_all := lw_g (lw_at lw_m4 113 rfl) rfl
theorem q880 : (Jvm.Cond.methodLink "StepRiders$Stair" (66 : Nat) ({ cls := "StepRiders$Rider", name := "isWide", desc := "()Z" } : Jvm.MethodName)) ∈ lw_all := lw_g (lw_at lw_m4 114 rfl) rfl
theorem q917 : (Jvm.Cond.methodLink "StepRiders$Stair" (94 : Nat) ({ cls := "StepRiders$Stair", name := "isOn", desc := "(I)Z" } : Jvm.MethodName)) ∈ lw_all := lw_g (lw_at lw_m4 151 rfl) rfl
theorem q918 : (Jvm.Cond.instanceMethod ({ cls := "StepRiders$Stair", name := "isOn", desc := "(I)Z" } : Jvm.MethodName)) ∈ lw_all := lw_g (lw_at lw_m4 152 rfl) rfl
theorem q919 : (Jvm.Cond.selects "StepRiders$Stair" ({ cls := "StepRiders$Stair", name := "isOn", desc := "(I)Z" } : Jvm.MethodName) ({ cls := "StepRiders$Stair", name := "isOn", desc := "(I)Z" } : Jvm.MethodName)) ∈ lw_all := lw_g (lw_at lw_m4 153 rfl) rfl
theorem q920 : (Jvm.Cond.code ({ cls := "StepRiders$Stair", name := "isOn", desc := "(I)Z" } : Jvm.MethodName) prog_15_method_4_code (2 : Nat) (Option.some Jvm.ClassFile.FieldType.boolean)) ∈ lw_all := lw_g (lw_at lw_m4 154 rfl) rfl
theorem q921 : (Jvm.Cond.methodLink "StepRiders$Stair" (97 : Nat) ({ cls := "StepRiders$Stair", name := "comes", desc := "()V" } : Jvm.MethodName)) ∈ lw_all := lw_g (lw_at lw_m4 155 rfl) rfl
theorem q922 : (Jvm.Cond.privateMethod ({ cls := "StepRiders$Stair", name := "comes", desc := "()V" } : Jvm.MethodName)) ∈ lw_tbl := lw_at lw_m4 156 rfl
theorem q923 : (Jvm.Cond.instanceMethod ({ cls := "StepRiders$Stair", name := "comes", desc := "()V" } : Jvm.MethodName)) ∈ lw_all := lw_g (lw_at lw_m4 157 rfl) rfl
theorem q924 : (Jvm.Cond.code ({ cls := "StepRiders$Stair", name := "comes", desc := "()V" } : Jvm.MethodName) prog_15_method_10_code (2 : Nat) (Option.none : Option Jvm.ClassFile.FieldType)) ∈ lw_all := lw_g (lw_at lw_m4 158 rfl) rfl
theorem q926 : (Jvm.Cond.instanceMethod ({ cls := "StepRiders$Stair", name := "offs", desc := "()I" } : Jvm.MethodName)) ∈ lw_all := lw_g (lw_at lw_m4 160 rfl) rfl
theorem q927 : (Jvm.Cond.selects "StepRiders$Stair" ({ cls := "StepRiders$Stair", name := "offs", desc := "()I" } : Jvm.MethodName) ({ cls := "StepRiders$Stair", name := "offs", desc := "()I" } : Jvm.MethodName)) ∈ lw_all := lw_g (lw_at lw_m4 161 rfl) rfl
theorem q928 : (Jvm.Cond.code ({ cls := "StepRiders$Stair", name := "offs", desc := "()I" } : Jvm.MethodName) prog_15_method_14_code (1 : Nat) (Option.some Jvm.ClassFile.FieldType.int)) ∈ lw_all := lw_g (lw_at lw_m4 162 rfl) rfl
theorem q929 : (Jvm.Cond.methodLink "StepRiders$Stair" (104 : Nat) ({ cls := "StepRiders$Stair", name := "those", desc := "(I)I" } : Jvm.MethodName)) ∈ lw_all := lw_g (lw_at lw_m4 163 rfl) rfl
theorem q930 : (Jvm.Cond.instanceMethod ({ cls := "StepRiders$Stair", name := "those", desc := "(I)I" } : Jvm.MethodName)) ∈ lw_all := lw_g (lw_at lw_m4 164 rfl) rfl
theorem q931 : (Jvm.Cond.selects "StepRiders$Stair" ({ cls := "StepRiders$Stair", name := "those", desc := "(I)I" } : Jvm.MethodName) ({ cls := "StepRiders$Stair", name := "those", desc := "(I)I" } : Jvm.MethodName)) ∈ lw_all := lw_g (lw_at lw_m4 165 rfl) rfl
theorem q932 : (Jvm.Cond.code ({ cls := "StepRiders$Stair", name := "those", desc := "(I)I" } : Jvm.MethodName) prog_15_method_13_code (4 : Nat) (Option.some Jvm.ClassFile.FieldType.int)) ∈ lw_all := lw_g (lw_at lw_m4 166 rfl) rfl
theorem q933 : (Jvm.Cond.methodLink "StepRiders$Stair" (108 : Nat) ({ cls := "java/lang/Integer", name := "bitCount", desc := "(I)I" } : Jvm.MethodName)) ∈ lw_all := lw_g (lw_at lw_m4 167 rfl) rfl
theorem q991 : (Jvm.Cond.instanceMethod ({ cls := "StepRiders$Stair", name := "goOn", desc := "(I)LStepRiders$Stair;" } : Jvm.MethodName)) ∈ lw_all := lw_g (lw_at lw_m4 225 rfl) rfl
theorem q992 : (Jvm.Cond.selects "StepRiders$Stair" ({ cls := "StepRiders$Stair", name := "goOn", desc := "(I)LStepRiders$Stair;" } : Jvm.MethodName) ({ cls := "StepRiders$Stair", name := "goOn", desc := "(I)LStepRiders$Stair;" } : Jvm.MethodName)) ∈ lw_all := lw_g (lw_at lw_m4 226 rfl) rfl
theorem q993 : (Jvm.Cond.code ({ cls := "StepRiders$Stair", name := "goOn", desc := "(I)LStepRiders$Stair;" } : Jvm.MethodName) prog_15_method_12_code (3 : Nat) (Option.some (Jvm.ClassFile.FieldType.object "StepRiders$Stair"))) ∈ lw_all := lw_g (lw_at lw_m4 227 rfl) rfl
theorem q994 : (Jvm.Cond.methodLink "StepRiders$Stair" (100 : Nat) ({ cls := "StepRiders$Stair", name := "goOn", desc := "()LStepRiders$Stair;" } : Jvm.MethodName)) ∈ lw_all := lw_g (lw_at lw_m4 228 rfl) rfl
theorem q1009 : (Jvm.Cond.instanceMethod ({ cls := "StepRiders$Stair", name := "clears", desc := "()I" } : Jvm.MethodName)) ∈ lw_all := lw_g (lw_at lw_m5 3 rfl) rfl
theorem q1010 : (Jvm.Cond.selects "StepRiders$Stair" ({ cls := "StepRiders$Stair", name := "clears", desc := "()I" } : Jvm.MethodName) ({ cls := "StepRiders$Stair", name := "clears", desc := "()I" } : Jvm.MethodName)) ∈ lw_all := lw_g (lw_at lw_m5 4 rfl) rfl
theorem q1011 : (Jvm.Cond.code ({ cls := "StepRiders$Stair", name := "clears", desc := "()I" } : Jvm.MethodName) prog_15_method_15_code (2 : Nat) (Option.some Jvm.ClassFile.FieldType.int)) ∈ lw_all := lw_g (lw_at lw_m5 5 rfl) rfl
theorem q1012 : (Jvm.Cond.methodLink "StepRiders$Stair" (113 : Nat) ({ cls := "StepRiders$Stair", name := "offs", desc := "()I" } : Jvm.MethodName)) ∈ lw_all := lw_g (lw_at lw_m5 6 rfl) rfl
theorem q1721 : (Jvm.Cond.castable "StepRiders$Stair" "java/lang/Object") ∈ lw_tbl := lw_at lw_m7 235 rfl
theorem in_X2 : ∀ w ∈ wsX20, w ∈ lw_all := lw_in wsX20 [173, 175, 177, 179, 181, 183, 185, 187] (by decide +kernel) (by decide +kernel)

/-! StepRiders$Trail -/
set_option maxRecDepth 100000
def RX3 : String := "StepRiders$Trail"
def TX3 : u_T := fun k => match k with
  | 0 => ("StepRiders$Trail", "body", "[I", true)
  | _ => ("StepRiders$Trail", "many", "I", false)
def tyX3 : Nat → FieldType := fun k => match k with
  | 0 => .array .int
  | _ => .int
abbrev wsX30 : List Cond := u_ws RX3 TX3 2
theorem nmX3 : ∀ a, a < 2 → ∀ b, b < 2 → a ≠ b → (TX3 a).2.1 ≠ (TX3 b).2.1 := by decide +kernel
theorem tyX3_ok : ∀ k, k < 2 → parseFieldDescriptor (TX3 k).2.2.1 = some (tyX3 k) := by decide +kernel
abbrev cX3_init : ByteArray := prog_18_method_1_code
def yX3_init : MethodName := ⟨RX3, "<init>", "()V"⟩
def dkwX3_init_0 : List UInt8 := [42, 183, 0, 3, 42, 16, 16, 188, 10, 181, 0, 9, 177]
abbrev dktX3_init_0 : List UInt8 := dkwX3_init_0 ++ []
theorem dksX3_init_0 : cX3_init.data.toList.drop 0 = dktX3_init_0 := by decide +kernel
theorem dX3_init_0 : decode cX3_init 0 = .ok (.aload_n 0, 1) := dk_42 (dk_at dksX3_init_0 0 rfl rfl)
theorem dX3_init_1 : decode cX3_init 1 = .ok (.invokespecial 3, 3) := dk_183 0 3 (dk_at dksX3_init_0 1 rfl rfl)
theorem dX3_init_4 : decode cX3_init 4 = .ok (.aload_n 0, 1) := dk_42 (dk_at dksX3_init_0 4 rfl rfl)
theorem dX3_init_5 : decode cX3_init 5 = .ok (.bipush 16, 2) := dk_16 16 (dk_at dksX3_init_0 5 rfl rfl)
theorem dX3_init_7 : decode cX3_init 7 = .ok (.newarray .int, 2) := dk_188_10 (dk_at dksX3_init_0 7 rfl rfl)
theorem dX3_init_9 : decode cX3_init 9 = .ok (.putfield 9, 3) := dk_181 0 9 (dk_at dksX3_init_0 9 rfl rfl)
theorem dX3_init_12 : decode cX3_init 12 = .ok (.return_, 1) := dk_177 (dk_at dksX3_init_0 12 rfl rfl)
abbrev cX3_begins : ByteArray := prog_18_method_2_code
def yX3_begins : MethodName := ⟨RX3, "begins", "(I)V"⟩
def dkwX3_begins_1 : List UInt8 := [27, 79, 177]
abbrev dktX3_begins_1 : List UInt8 := dkwX3_begins_1 ++ []
def dkwX3_begins_0 : List UInt8 := [42, 180, 0, 15, 16, 16, 162, 0, 20, 42, 180, 0, 9, 42, 89, 180, 0, 15, 90, 4, 96, 181, 0, 15]
abbrev dktX3_begins_0 : List UInt8 := dkwX3_begins_0 ++ dktX3_begins_1
theorem dksX3_begins_0 : cX3_begins.data.toList.drop 0 = dktX3_begins_0 := by decide +kernel
theorem dksX3_begins_1 : cX3_begins.data.toList.drop 24 = dktX3_begins_1 := dk_seg dksX3_begins_0 24 rfl rfl
theorem dX3_begins_0 : decode cX3_begins 0 = .ok (.aload_n 0, 1) := dk_42 (dk_at dksX3_begins_0 0 rfl rfl)
theorem dX3_begins_1 : decode cX3_begins 1 = .ok (.getfield 15, 3) := dk_180 0 15 (dk_at dksX3_begins_0 1 rfl rfl)
theorem dX3_begins_4 : decode cX3_begins 4 = .ok (.bipush 16, 2) := dk_16 16 (dk_at dksX3_begins_0 4 rfl rfl)
theorem dX3_begins_6 : decode cX3_begins 6 = .ok (.if_icmp .ge 20, 3) := dk_162 0 20 (dk_at dksX3_begins_0 6 rfl rfl)
theorem dX3_begins_9 : decode cX3_begins 9 = .ok (.aload_n 0, 1) := dk_42 (dk_at dksX3_begins_0 9 rfl rfl)
theorem dX3_begins_10 : decode cX3_begins 10 = .ok (.getfield 9, 3) := dk_180 0 9 (dk_at dksX3_begins_0 10 rfl rfl)
theorem dX3_begins_13 : decode cX3_begins 13 = .ok (.aload_n 0, 1) := dk_42 (dk_at dksX3_begins_0 13 rfl rfl)
theorem dX3_begins_14 : decode cX3_begins 14 = .ok (.dup, 1) := dk_89 (dk_at dksX3_begins_0 14 rfl rfl)
theorem dX3_begins_15 : decode cX3_begins 15 = .ok (.getfield 15, 3) := dk_180 0 15 (dk_at dksX3_begins_0 15 rfl rfl)
theorem dX3_begins_18 : decode cX3_begins 18 = .ok (.dup_x1, 1) := dk_90 (dk_at dksX3_begins_0 18 rfl rfl)
theorem dX3_begins_19 : decode cX3_begins 19 = .ok (.iconst 1, 1) := dk_4 (dk_at dksX3_begins_0 19 rfl rfl)
theorem dX3_begins_20 : decode cX3_begins 20 = .ok (.iadd, 1) := dk_96 (dk_at dksX3_begins_0 20 rfl rfl)
theorem dX3_begins_21 : decode cX3_begins 21 = .ok (.putfield 15, 3) := dk_181 0 15 (dk_at dksX3_begins_0 21 rfl rfl)
theorem dX3_begins_24 : decode cX3_begins 24 = .ok (.iload_n 1, 1) := dk_27 (dk_at dksX3_begins_1 0 rfl rfl)
theorem dX3_begins_25 : decode cX3_begins 25 = .ok (.iastore, 1) := dk_79 (dk_at dksX3_begins_1 1 rfl rfl)
theorem dX3_begins_26 : decode cX3_begins 26 = .ok (.return_, 1) := dk_177 (dk_at dksX3_begins_1 2 rfl rfl)
theorem q53 : (Jvm.Cond.initialized "StepRiders$Trail") ∈ lw_all := lw_g (lw_at lw_m1 7 rfl) rfl
theorem q193 : (Jvm.Cond.instantiable "StepRiders$Trail" (2 : Nat)) ∈ lw_all := lw_g (lw_at lw_m1 147 rfl) rfl
theorem q195 : (Jvm.Cond.instanceMethod ({ cls := "StepRiders$Trail", name := "<init>", desc := "()V" } : Jvm.MethodName)) ∈ lw_all := lw_g (lw_at lw_m1 149 rfl) rfl
theorem q196 : (Jvm.Cond.code ({ cls := "StepRiders$Trail", name := "<init>", desc := "()V" } : Jvm.MethodName) prog_18_method_1_code (1 : Nat) (Option.none : Option Jvm.ClassFile.FieldType)) ∈ lw_all := lw_g (lw_at lw_m1 150 rfl) rfl
theorem q197 : (Jvm.Cond.methodLink "StepRiders$Trail" (3 : Nat) ({ cls := "java/lang/Object", name := "<init>", desc := "()V" } : Jvm.MethodName)) ∈ lw_all := lw_g (lw_at lw_m1 151 rfl) rfl
theorem q198 : (Jvm.Cond.fieldLink "StepRiders$Trail" (9 : Nat) "StepRiders$Trail" "body" "[I") ∈ lw_all := lw_g (lw_at lw_m1 152 rfl) rfl
theorem q200 : (Jvm.Cond.fieldLink "StepRiders$Trail" (15 : Nat) "StepRiders$Trail" "many" "I") ∈ lw_all := lw_g (lw_at lw_m1 154 rfl) rfl
theorem q202 : (Jvm.Cond.laysFinal "StepRiders$Trail" "StepRiders$Trail" "body" "[I") ∈ lw_all := lw_g (lw_at lw_m1 156 rfl) rfl
theorem q203 : (Jvm.Cond.soleField "StepRiders$Trail" "body") ∈ lw_all := lw_g (lw_at lw_m1 157 rfl) rfl
theorem q204 : (Jvm.Cond.lays "StepRiders$Trail" "StepRiders$Trail" "many" "I") ∈ lw_all := lw_g (lw_at lw_m1 158 rfl) rfl
theorem q205 : (Jvm.Cond.soleField "StepRiders$Trail" "many") ∈ lw_all := lw_g (lw_at lw_m1 159 rfl) rfl
theorem q206 : (Jvm.Cond.superclass "StepRiders$Trail" "java/lang/Object") ∈ lw_all := lw_g (lw_at lw_m1 160 rfl) rfl
theorem q762 : (Jvm.Cond.selects "StepRiders$Trail" ({ cls := "java/lang/Object", name := "getClass", desc := "()Ljava/lang/Class;" } : Jvm.MethodName) ({ cls := "java/lang/Object", name := "getClass", desc := "()Ljava/lang/Class;" } : Jvm.MethodName)) ∈ lw_all := lw_g (lw_at lw_m3 236 rfl) rfl
theorem q1279 : (Jvm.Cond.instanceMethod ({ cls := "StepRiders$Trail", name := "begins", desc := "(I)V" } : Jvm.MethodName)) ∈ lw_all := lw_g (lw_at lw_m6 33 rfl) rfl
theorem q1280 : (Jvm.Cond.selects "StepRiders$Trail" ({ cls := "StepRiders$Trail", name := "begins", desc := "(I)V" } : Jvm.MethodName) ({ cls := "StepRiders$Trail", name := "begins", desc := "(I)V" } : Jvm.MethodName)) ∈ lw_all := lw_g (lw_at lw_m6 34 rfl) rfl
theorem q1281 : (Jvm.Cond.code ({ cls := "StepRiders$Trail", name := "begins", desc := "(I)V" } : Jvm.MethodName) prog_18_method_2_code (2 : Nat) (Option.none : Option Jvm.ClassFile.FieldType)) ∈ lw_all := lw_g (lw_at lw_m6 35 rfl) rfl
theorem q1724 : (Jvm.Cond.castable "StepRiders$Trail" "java/lang/Object") ∈ lw_tbl := lw_at lw_m7 238 rfl
theorem in_X3 : ∀ w ∈ wsX30, w ∈ lw_all := lw_in wsX30 [202, 204] (by decide +kernel) (by decide +kernel)

/-! StepRiders$Reader -/
set_option maxRecDepth 100000
def RX5 : String := "StepRiders$Reader"
def TX5 : u_T := fun k => match k with
  | 0 => ("StepRiders$Reader", "text", "[B", true)
  | 1 => ("StepRiders$Reader", "size", "I", true)
  | 2 => ("StepRiders$Reader", "at", "I", false)
  | 3 => ("StepRiders$Reader", "token", "I", false)
  | 4 => ("StepRiders$Reader", "from", "I", false)
  | 5 => ("StepRiders$Reader", "value", "I", false)
  | _ => ("StepRiders$Reader", "made", "LStepRiders$Stair;", true)
def tyX5 : Nat → FieldType := fun k => match k with
  | 0 => .array .byte
  | 1 => .int
  | 2 => .int
  | 3 => .int
  | 4 => .int
  | 5 => .int
  | _ => .object "StepRiders$Stair"
abbrev wsX50 : List Cond := u_ws RX5 TX5 7
theorem nmX5 : ∀ a, a < 7 → ∀ b, b < 7 → a ≠ b → (TX5 a).2.1 ≠ (TX5 b).2.1 := by decide +kernel
theorem tyX5_ok : ∀ k, k < 7 → parseFieldDescriptor (TX5 k).2.2.1 = some (tyX5 k) := by decide +kernel
abbrev cX5_init : ByteArray := prog_8_method_1_code
def yX5_init : MethodName := ⟨RX5, "<init>", "([BI)V"⟩
def dkwX5_init_1 : List UInt8 := [181, 0, 22, 177]
abbrev dktX5_init_1 : List UInt8 := dkwX5_init_1 ++ []
def dkwX5_init_0 : List UInt8 := [42, 183, 0, 3, 42, 187, 0, 9, 89, 183, 0, 11, 181, 0, 12, 42, 43, 181, 0, 18, 42, 28]
abbrev dktX5_init_0 : List UInt8 := dkwX5_init_0 ++ dktX5_init_1
theorem dksX5_init_0 : cX5_init.data.toList.drop 0 = dktX5_init_0 := by decide +kernel
theorem dksX5_init_1 : cX5_init.data.toList.drop 22 = dktX5_init_1 := dk_seg dksX5_init_0 22 rfl rfl
theorem dX5_init_0 : decode cX5_init 0 = .ok (.aload_n 0, 1) := dk_42 (dk_at dksX5_init_0 0 rfl rfl)
theorem dX5_init_1 : decode cX5_init 1 = .ok (.invokespecial 3, 3) := dk_183 0 3 (dk_at dksX5_init_0 1 rfl rfl)
theorem dX5_init_4 : decode cX5_init 4 = .ok (.aload_n 0, 1) := dk_42 (dk_at dksX5_init_0 4 rfl rfl)
theorem dX5_init_5 : decode cX5_init 5 = .ok (.new 9, 3) := dk_187 0 9 (dk_at dksX5_init_0 5 rfl rfl)
theorem dX5_init_8 : decode cX5_init 8 = .ok (.dup, 1) := dk_89 (dk_at dksX5_init_0 8 rfl rfl)
theorem dX5_init_9 : decode cX5_init 9 = .ok (.invokespecial 11, 3) := dk_183 0 11 (dk_at dksX5_init_0 9 rfl rfl)
theorem dX5_init_12 : decode cX5_init 12 = .ok (.putfield 12, 3) := dk_181 0 12 (dk_at dksX5_init_0 12 rfl rfl)
theorem dX5_init_15 : decode cX5_init 15 = .ok (.aload_n 0, 1) := dk_42 (dk_at dksX5_init_0 15 rfl rfl)
theorem dX5_init_16 : decode cX5_init 16 = .ok (.aload_n 1, 1) := dk_43 (dk_at dksX5_init_0 16 rfl rfl)
theorem dX5_init_17 : decode cX5_init 17 = .ok (.putfield 18, 3) := dk_181 0 18 (dk_at dksX5_init_0 17 rfl rfl)
theorem dX5_init_20 : decode cX5_init 20 = .ok (.aload_n 0, 1) := dk_42 (dk_at dksX5_init_0 20 rfl rfl)
theorem dX5_init_21 : decode cX5_init 21 = .ok (.iload_n 2, 1) := dk_28 (dk_at dksX5_init_0 21 rfl rfl)
theorem dX5_init_22 : decode cX5_init 22 = .ok (.putfield 22, 3) := dk_181 0 22 (dk_at dksX5_init_1 0 rfl rfl)
theorem dX5_init_25 : decode cX5_init 25 = .ok (.return_, 1) := dk_177 (dk_at dksX5_init_1 3 rfl rfl)
abbrev cX5_all : ByteArray := prog_8_method_8_code
def yX5_all : MethodName := ⟨RX5, "all", "()V"⟩
def dkwX5_all_4 : List UInt8 := [180, 0, 12, 27, 181, 0, 89, 177]
abbrev dktX5_all_4 : List UInt8 := dkwX5_all_4 ++ []
def dkwX5_all_3 : List UInt8 := [182, 0, 86, 167, 255, 245, 42, 42, 180, 0, 52, 154, 0, 7, 4, 167, 0, 4, 3, 4, 182, 0, 60, 42]
abbrev dktX5_all_3 : List UInt8 := dkwX5_all_3 ++ dktX5_all_4
def dkwX5_all_2 : List UInt8 := [16, 59, 182, 0, 75, 42, 42, 182, 0, 82, 4, 182, 0, 60, 42, 182, 0, 82, 153, 0, 10, 42]
abbrev dktX5_all_2 : List UInt8 := dkwX5_all_2 ++ dktX5_all_3
def dkwX5_all_1 : List UInt8 := [182, 0, 71, 60, 42, 16, 44, 182, 0, 75, 42, 180, 0, 12, 42, 3, 5, 182, 0, 71, 181, 0, 79, 42]
abbrev dktX5_all_1 : List UInt8 := dkwX5_all_1 ++ dktX5_all_2
def dkwX5_all_0 : List UInt8 := [42, 182, 0, 64, 42, 42, 4, 16, 109, 182, 0, 67, 4, 182, 0, 60, 42, 182, 0, 64, 42, 7, 16, 12]
abbrev dktX5_all_0 : List UInt8 := dkwX5_all_0 ++ dktX5_all_1
theorem dksX5_all_0 : cX5_all.data.toList.drop 0 = dktX5_all_0 := by decide +kernel
theorem dksX5_all_1 : cX5_all.data.toList.drop 24 = dktX5_all_1 := dk_seg dksX5_all_0 24 rfl rfl
theorem dksX5_all_2 : cX5_all.data.toList.drop 48 = dktX5_all_2 := dk_seg dksX5_all_1 24 rfl rfl
theorem dksX5_all_3 : cX5_all.data.toList.drop 70 = dktX5_all_3 := dk_seg dksX5_all_2 22 rfl rfl
theorem dksX5_all_4 : cX5_all.data.toList.drop 94 = dktX5_all_4 := dk_seg dksX5_all_3 24 rfl rfl
theorem dX5_all_0 : decode cX5_all 0 = .ok (.aload_n 0, 1) := dk_42 (dk_at dksX5_all_0 0 rfl rfl)
theorem dX5_all_1 : decode cX5_all 1 = .ok (.invokevirtual 64, 3) := dk_182 0 64 (dk_at dksX5_all_0 1 rfl rfl)
theorem dX5_all_4 : decode cX5_all 4 = .ok (.aload_n 0, 1) := dk_42 (dk_at dksX5_all_0 4 rfl rfl)
theorem dX5_all_5 : decode cX5_all 5 = .ok (.aload_n 0, 1) := dk_42 (dk_at dksX5_all_0 5 rfl rfl)
theorem dX5_all_6 : decode cX5_all 6 = .ok (.iconst 1, 1) := dk_4 (dk_at dksX5_all_0 6 rfl rfl)
theorem dX5_all_7 : decode cX5_all 7 = .ok (.bipush 109, 2) := dk_16 109 (dk_at dksX5_all_0 7 rfl rfl)
theorem dX5_all_9 : decode cX5_all 9 = .ok (.invokevirtual 67, 3) := dk_182 0 67 (dk_at dksX5_all_0 9 rfl rfl)
theorem dX5_all_12 : decode cX5_all 12 = .ok (.iconst 1, 1) := dk_4 (dk_at dksX5_all_0 12 rfl rfl)
theorem dX5_all_13 : decode cX5_all 13 = .ok (.invokevirtual 60, 3) := dk_182 0 60 (dk_at dksX5_all_0 13 rfl rfl)
theorem dX5_all_16 : decode cX5_all 16 = .ok (.aload_n 0, 1) := dk_42 (dk_at dksX5_all_0 16 rfl rfl)
theorem dX5_all_17 : decode cX5_all 17 = .ok (.invokevirtual 64, 3) := dk_182 0 64 (dk_at dksX5_all_0 17 rfl rfl)
theorem dX5_all_20 : decode cX5_all 20 = .ok (.aload_n 0, 1) := dk_42 (dk_at dksX5_all_0 20 rfl rfl)
theorem dX5_all_21 : decode cX5_all 21 = .ok (.iconst 4, 1) := dk_7 (dk_at dksX5_all_0 21 rfl rfl)
theorem dX5_all_22 : decode cX5_all 22 = .ok (.bipush 12, 2) := dk_16 12 (dk_at dksX5_all_0 22 rfl rfl)
theorem dX5_all_24 : decode cX5_all 24 = .ok (.invokevirtual 71, 3) := dk_182 0 71 (dk_at dksX5_all_1 0 rfl rfl)
theorem dX5_all_27 : decode cX5_all 27 = .ok (.istore_n 1, 1) := dk_60 (dk_at dksX5_all_1 3 rfl rfl)
theorem dX5_all_28 : decode cX5_all 28 = .ok (.aload_n 0, 1) := dk_42 (dk_at dksX5_all_1 4 rfl rfl)
theorem dX5_all_29 : decode cX5_all 29 = .ok (.bipush 44, 2) := dk_16 44 (dk_at dksX5_all_1 5 rfl rfl)
theorem dX5_all_31 : decode cX5_all 31 = .ok (.invokevirtual 75, 3) := dk_182 0 75 (dk_at dksX5_all_1 7 rfl rfl)
theorem dX5_all_34 : decode cX5_all 34 = .ok (.aload_n 0, 1) := dk_42 (dk_at dksX5_all_1 10 rfl rfl)
theorem dX5_all_35 : decode cX5_all 35 = .ok (.getfield 12, 3) := dk_180 0 12 (dk_at dksX5_all_1 11 rfl rfl)
theorem dX5_all_38 : decode cX5_all 38 = .ok (.aload_n 0, 1) := dk_42 (dk_at dksX5_all_1 14 rfl rfl)
theorem dX5_all_39 : decode cX5_all 39 = .ok (.iconst 0, 1) := dk_3 (dk_at dksX5_all_1 15 rfl rfl)
theorem dX5_all_40 : decode cX5_all 40 = .ok (.iconst 2, 1) := dk_5 (dk_at dksX5_all_1 16 rfl rfl)
theorem dX5_all_41 : decode cX5_all 41 = .ok (.invokevirtual 71, 3) := dk_182 0 71 (dk_at dksX5_all_1 17 rfl rfl)
theorem dX5_all_44 : decode cX5_all 44 = .ok (.putfield 79, 3) := dk_181 0 79 (dk_at dksX5_all_1 20 rfl rfl)
theorem dX5_all_47 : decode cX5_all 47 = .ok (.aload_n 0, 1) := dk_42 (dk_at dksX5_all_1 23 rfl rfl)
theorem dX5_all_48 : decode cX5_all 48 = .ok (.bipush 59, 2) := dk_16 59 (dk_at dksX5_all_2 0 rfl rfl)
theorem dX5_all_50 : decode cX5_all 50 = .ok (.invokevirtual 75, 3) := dk_182 0 75 (dk_at dksX5_all_2 2 rfl rfl)
theorem dX5_all_53 : decode cX5_all 53 = .ok (.aload_n 0, 1) := dk_42 (dk_at dksX5_all_2 5 rfl rfl)
theorem dX5_all_54 : decode cX5_all 54 = .ok (.aload_n 0, 1) := dk_42 (dk_at dksX5_all_2 6 rfl rfl)
theorem dX5_all_55 : decode cX5_all 55 = .ok (.invokevirtual 82, 3) := dk_182 0 82 (dk_at dksX5_all_2 7 rfl rfl)
theorem dX5_all_58 : decode cX5_all 58 = .ok (.iconst 1, 1) := dk_4 (dk_at dksX5_all_2 10 rfl rfl)
theorem dX5_all_59 : decode cX5_all 59 = .ok (.invokevirtual 60, 3) := dk_182 0 60 (dk_at dksX5_all_2 11 rfl rfl)
theorem dX5_all_62 : decode cX5_all 62 = .ok (.aload_n 0, 1) := dk_42 (dk_at dksX5_all_2 14 rfl rfl)
theorem dX5_all_63 : decode cX5_all 63 = .ok (.invokevirtual 82, 3) := dk_182 0 82 (dk_at dksX5_all_2 15 rfl rfl)
theorem dX5_all_66 : decode cX5_all 66 = .ok (.ifCond .eq 10, 3) := dk_153 0 10 (dk_at dksX5_all_2 18 rfl rfl)
theorem dX5_all_69 : decode cX5_all 69 = .ok (.aload_n 0, 1) := dk_42 (dk_at dksX5_all_2 21 rfl rfl)
theorem dX5_all_70 : decode cX5_all 70 = .ok (.invokevirtual 86, 3) := dk_182 0 86 (dk_at dksX5_all_3 0 rfl rfl)
theorem dX5_all_73 : decode cX5_all 73 = .ok (.goto (-11), 3) := dk_167 255 245 (dk_at dksX5_all_3 3 rfl rfl)
theorem dX5_all_76 : decode cX5_all 76 = .ok (.aload_n 0, 1) := dk_42 (dk_at dksX5_all_3 6 rfl rfl)
theorem dX5_all_77 : decode cX5_all 77 = .ok (.aload_n 0, 1) := dk_42 (dk_at dksX5_all_3 7 rfl rfl)
theorem dX5_all_78 : decode cX5_all 78 = .ok (.getfield 52, 3) := dk_180 0 52 (dk_at dksX5_all_3 8 rfl rfl)
theorem dX5_all_81 : decode cX5_all 81 = .ok (.ifCond .ne 7, 3) := dk_154 0 7 (dk_at dksX5_all_3 11 rfl rfl)
theorem dX5_all_84 : decode cX5_all 84 = .ok (.iconst 1, 1) := dk_4 (dk_at dksX5_all_3 14 rfl rfl)
theorem dX5_all_85 : decode cX5_all 85 = .ok (.goto 4, 3) := dk_167 0 4 (dk_at dksX5_all_3 15 rfl rfl)
theorem dX5_all_88 : decode cX5_all 88 = .ok (.iconst 0, 1) := dk_3 (dk_at dksX5_all_3 18 rfl rfl)
theorem dX5_all_89 : decode cX5_all 89 = .ok (.iconst 1, 1) := dk_4 (dk_at dksX5_all_3 19 rfl rfl)
theorem dX5_all_90 : decode cX5_all 90 = .ok (.invokevirtual 60, 3) := dk_182 0 60 (dk_at dksX5_all_3 20 rfl rfl)
theorem dX5_all_93 : decode cX5_all 93 = .ok (.aload_n 0, 1) := dk_42 (dk_at dksX5_all_3 23 rfl rfl)
theorem dX5_all_94 : decode cX5_all 94 = .ok (.getfield 12, 3) := dk_180 0 12 (dk_at dksX5_all_4 0 rfl rfl)
theorem dX5_all_97 : decode cX5_all 97 = .ok (.iload_n 1, 1) := dk_27 (dk_at dksX5_all_4 3 rfl rfl)
theorem dX5_all_98 : decode cX5_all 98 = .ok (.putfield 89, 3) := dk_181 0 89 (dk_at dksX5_all_4 4 rfl rfl)
theorem dX5_all_101 : decode cX5_all 101 = .ok (.return_, 1) := dk_177 (dk_at dksX5_all_4 7 rfl rfl)
abbrev cX5_next : ByteArray := prog_8_method_3_code
def yX5_next : MethodName := ⟨RX5, "next", "()V"⟩
def dkwX5_next_9 : List UInt8 := [181, 0, 52, 177]
abbrev dktX5_next_9 : List UInt8 := dkwX5_next_9 ++ []
def dkwX5_next_8 : List UInt8 := [167, 255, 190, 42, 42, 180, 0, 26, 42, 180, 0, 30, 100, 5, 164, 0, 7, 7, 167, 0, 4, 5]
abbrev dktX5_next_8 : List UInt8 := dkwX5_next_8 ++ dktX5_next_9
def dkwX5_next_7 : List UInt8 := [96, 16, 48, 100, 167, 0, 7, 42, 180, 0, 37, 181, 0, 37, 42, 89, 180, 0, 26, 4, 96, 181, 0, 26]
abbrev dktX5_next_7 : List UInt8 := dkwX5_next_7 ++ dktX5_next_8
def dkwX5_next_6 : List UInt8 := [42, 180, 0, 26, 42, 180, 0, 30, 4, 96, 160, 0, 21, 16, 10, 42, 180, 0, 37, 104, 42, 182, 0, 33]
abbrev dktX5_next_6 : List UInt8 := dkwX5_next_6 ++ dktX5_next_7
def dkwX5_next_5 : List UInt8 := [16, 48, 100, 181, 0, 37, 42, 182, 0, 33, 133, 20, 0, 48, 20, 0, 50, 184, 0, 44, 153, 0, 55, 42]
abbrev dktX5_next_5 : List UInt8 := dkwX5_next_5 ++ dktX5_next_6
def dkwX5_next_4 : List UInt8 := [16, 59, 160, 0, 7, 6, 167, 0, 4, 7, 181, 0, 52, 42, 180, 0, 52, 5, 159, 0, 4, 177, 42, 27]
abbrev dktX5_next_4 : List UInt8 := dkwX5_next_4 ++ dktX5_next_5
def dkwX5_next_3 : List UInt8 := [20, 0, 48, 20, 0, 50, 184, 0, 44, 153, 0, 7, 5, 167, 0, 20, 27, 16, 44, 159, 0, 9, 27]
abbrev dktX5_next_3 : List UInt8 := dkwX5_next_3 ++ dktX5_next_4
def dkwX5_next_2 : List UInt8 := [167, 0, 56, 27, 133, 20, 0, 40, 20, 0, 42, 184, 0, 44, 153, 0, 7, 4, 167, 0, 38, 27, 133]
abbrev dktX5_next_2 : List UInt8 := dkwX5_next_2 ++ dktX5_next_3
def dkwX5_next_1 : List UInt8 := [18, 29, 160, 0, 7, 3, 167, 0, 4, 4, 96, 181, 0, 26, 42, 27, 18, 29, 160, 0, 7, 3]
abbrev dktX5_next_1 : List UInt8 := dkwX5_next_1 ++ dktX5_next_2
def dkwX5_next_0 : List UInt8 := [42, 42, 180, 0, 26, 181, 0, 30, 42, 182, 0, 33, 60, 42, 27, 181, 0, 37, 42, 89, 180, 0, 26, 27]
abbrev dktX5_next_0 : List UInt8 := dkwX5_next_0 ++ dktX5_next_1
theorem dksX5_next_0 : cX5_next.data.toList.drop 0 = dktX5_next_0 := by decide +kernel
theorem dksX5_next_1 : cX5_next.data.toList.drop 24 = dktX5_next_1 := dk_seg dksX5_next_0 24 rfl rfl
theorem dksX5_next_2 : cX5_next.data.toList.drop 46 = dktX5_next_2 := dk_seg dksX5_next_1 22 rfl rfl
theorem dksX5_next_3 : cX5_next.data.toList.drop 69 = dktX5_next_3 := dk_seg dksX5_next_2 23 rfl rfl
theorem dksX5_next_4 : cX5_next.data.toList.drop 92 = dktX5_next_4 := dk_seg dksX5_next_3 23 rfl rfl
theorem dksX5_next_5 : cX5_next.data.toList.drop 116 = dktX5_next_5 := dk_seg dksX5_next_4 24 rfl rfl
theorem dksX5_next_6 : cX5_next.data.toList.drop 140 = dktX5_next_6 := dk_seg dksX5_next_5 24 rfl rfl
theorem dksX5_next_7 : cX5_next.data.toList.drop 164 = dktX5_next_7 := dk_seg dksX5_next_6 24 rfl rfl
theorem dksX5_next_8 : cX5_next.data.toList.drop 188 = dktX5_next_8 := dk_seg dksX5_next_7 24 rfl rfl
theorem dksX5_next_9 : cX5_next.data.toList.drop 210 = dktX5_next_9 := dk_seg dksX5_next_8 22 rfl rfl
theorem dX5_next_0 : decode cX5_next 0 = .ok (.aload_n 0, 1) := dk_42 (dk_at dksX5_next_0 0 rfl rfl)
theorem dX5_next_1 : decode cX5_next 1 = .ok (.aload_n 0, 1) := dk_42 (dk_at dksX5_next_0 1 rfl rfl)
theorem dX5_next_2 : decode cX5_next 2 = .ok (.getfield 26, 3) := dk_180 0 26 (dk_at dksX5_next_0 2 rfl rfl)
theorem dX5_next_5 : decode cX5_next 5 = .ok (.putfield 30, 3) := dk_181 0 30 (dk_at dksX5_next_0 5 rfl rfl)
theorem dX5_next_8 : decode cX5_next 8 = .ok (.aload_n 0, 1) := dk_42 (dk_at dksX5_next_0 8 rfl rfl)
theorem dX5_next_9 : decode cX5_next 9 = .ok (.invokevirtual 33, 3) := dk_182 0 33 (dk_at dksX5_next_0 9 rfl rfl)
theorem dX5_next_12 : decode cX5_next 12 = .ok (.istore_n 1, 1) := dk_60 (dk_at dksX5_next_0 12 rfl rfl)
theorem dX5_next_13 : decode cX5_next 13 = .ok (.aload_n 0, 1) := dk_42 (dk_at dksX5_next_0 13 rfl rfl)
theorem dX5_next_14 : decode cX5_next 14 = .ok (.iload_n 1, 1) := dk_27 (dk_at dksX5_next_0 14 rfl rfl)
theorem dX5_next_15 : decode cX5_next 15 = .ok (.putfield 37, 3) := dk_181 0 37 (dk_at dksX5_next_0 15 rfl rfl)
theorem dX5_next_18 : decode cX5_next 18 = .ok (.aload_n 0, 1) := dk_42 (dk_at dksX5_next_0 18 rfl rfl)
theorem dX5_next_19 : decode cX5_next 19 = .ok (.dup, 1) := dk_89 (dk_at dksX5_next_0 19 rfl rfl)
theorem dX5_next_20 : decode cX5_next 20 = .ok (.getfield 26, 3) := dk_180 0 26 (dk_at dksX5_next_0 20 rfl rfl)
theorem dX5_next_23 : decode cX5_next 23 = .ok (.iload_n 1, 1) := dk_27 (dk_at dksX5_next_0 23 rfl rfl)
theorem dX5_next_24 : decode cX5_next 24 = .ok (.ldc 29, 2) := dk_18 29 (dk_at dksX5_next_1 0 rfl rfl)
theorem dX5_next_26 : decode cX5_next 26 = .ok (.if_icmp .ne 7, 3) := dk_160 0 7 (dk_at dksX5_next_1 2 rfl rfl)
theorem dX5_next_29 : decode cX5_next 29 = .ok (.iconst 0, 1) := dk_3 (dk_at dksX5_next_1 5 rfl rfl)
theorem dX5_next_30 : decode cX5_next 30 = .ok (.goto 4, 3) := dk_167 0 4 (dk_at dksX5_next_1 6 rfl rfl)
theorem dX5_next_33 : decode cX5_next 33 = .ok (.iconst 1, 1) := dk_4 (dk_at dksX5_next_1 9 rfl rfl)
theorem dX5_next_34 : decode cX5_next 34 = .ok (.iadd, 1) := dk_96 (dk_at dksX5_next_1 10 rfl rfl)
theorem dX5_next_35 : decode cX5_next 35 = .ok (.putfield 26, 3) := dk_181 0 26 (dk_at dksX5_next_1 11 rfl rfl)
theorem dX5_next_38 : decode cX5_next 38 = .ok (.aload_n 0, 1) := dk_42 (dk_at dksX5_next_1 14 rfl rfl)
theorem dX5_next_39 : decode cX5_next 39 = .ok (.iload_n 1, 1) := dk_27 (dk_at dksX5_next_1 15 rfl rfl)
theorem dX5_next_40 : decode cX5_next 40 = .ok (.ldc 29, 2) := dk_18 29 (dk_at dksX5_next_1 16 rfl rfl)
theorem dX5_next_42 : decode cX5_next 42 = .ok (.if_icmp .ne 7, 3) := dk_160 0 7 (dk_at dksX5_next_1 18 rfl rfl)
theorem dX5_next_45 : decode cX5_next 45 = .ok (.iconst 0, 1) := dk_3 (dk_at dksX5_next_1 21 rfl rfl)
theorem dX5_next_46 : decode cX5_next 46 = .ok (.goto 56, 3) := dk_167 0 56 (dk_at dksX5_next_2 0 rfl rfl)
theorem dX5_next_49 : decode cX5_next 49 = .ok (.iload_n 1, 1) := dk_27 (dk_at dksX5_next_2 3 rfl rfl)
theorem dX5_next_50 : decode cX5_next 50 = .ok (.i2l, 1) := dk_133 (dk_at dksX5_next_2 4 rfl rfl)
theorem dX5_next_51 : decode cX5_next 51 = .ok (.ldc2_w 40, 3) := dk_20 0 40 (dk_at dksX5_next_2 5 rfl rfl)
theorem dX5_next_54 : decode cX5_next 54 = .ok (.ldc2_w 42, 3) := dk_20 0 42 (dk_at dksX5_next_2 8 rfl rfl)
theorem dX5_next_57 : decode cX5_next 57 = .ok (.invokestatic 44, 3) := dk_184 0 44 (dk_at dksX5_next_2 11 rfl rfl)
theorem dX5_next_60 : decode cX5_next 60 = .ok (.ifCond .eq 7, 3) := dk_153 0 7 (dk_at dksX5_next_2 14 rfl rfl)
theorem dX5_next_63 : decode cX5_next 63 = .ok (.iconst 1, 1) := dk_4 (dk_at dksX5_next_2 17 rfl rfl)
theorem dX5_next_64 : decode cX5_next 64 = .ok (.goto 38, 3) := dk_167 0 38 (dk_at dksX5_next_2 18 rfl rfl)
theorem dX5_next_67 : decode cX5_next 67 = .ok (.iload_n 1, 1) := dk_27 (dk_at dksX5_next_2 21 rfl rfl)
theorem dX5_next_68 : decode cX5_next 68 = .ok (.i2l, 1) := dk_133 (dk_at dksX5_next_2 22 rfl rfl)
theorem dX5_next_69 : decode cX5_next 69 = .ok (.ldc2_w 48, 3) := dk_20 0 48 (dk_at dksX5_next_3 0 rfl rfl)
theorem dX5_next_72 : decode cX5_next 72 = .ok (.ldc2_w 50, 3) := dk_20 0 50 (dk_at dksX5_next_3 3 rfl rfl)
theorem dX5_next_75 : decode cX5_next 75 = .ok (.invokestatic 44, 3) := dk_184 0 44 (dk_at dksX5_next_3 6 rfl rfl)
theorem dX5_next_78 : decode cX5_next 78 = .ok (.ifCond .eq 7, 3) := dk_153 0 7 (dk_at dksX5_next_3 9 rfl rfl)
theorem dX5_next_81 : decode cX5_next 81 = .ok (.iconst 2, 1) := dk_5 (dk_at dksX5_next_3 12 rfl rfl)
theorem dX5_next_82 : decode cX5_next 82 = .ok (.goto 20, 3) := dk_167 0 20 (dk_at dksX5_next_3 13 rfl rfl)
theorem dX5_next_85 : decode cX5_next 85 = .ok (.iload_n 1, 1) := dk_27 (dk_at dksX5_next_3 16 rfl rfl)
theorem dX5_next_86 : decode cX5_next 86 = .ok (.bipush 44, 2) := dk_16 44 (dk_at dksX5_next_3 17 rfl rfl)
theorem dX5_next_88 : decode cX5_next 88 = .ok (.if_icmp .eq 9, 3) := dk_159 0 9 (dk_at dksX5_next_3 19 rfl rfl)
theorem dX5_next_91 : decode cX5_next 91 = .ok (.iload_n 1, 1) := dk_27 (dk_at dksX5_next_3 22 rfl rfl)
theorem dX5_next_92 : decode cX5_next 92 = .ok (.bipush 59, 2) := dk_16 59 (dk_at dksX5_next_4 0 rfl rfl)
theorem dX5_next_94 : decode cX5_next 94 = .ok (.if_icmp .ne 7, 3) := dk_160 0 7 (dk_at dksX5_next_4 2 rfl rfl)
theorem dX5_next_97 : decode cX5_next 97 = .ok (.iconst 3, 1) := dk_6 (dk_at dksX5_next_4 5 rfl rfl)
theorem dX5_next_98 : decode cX5_next 98 = .ok (.goto 4, 3) := dk_167 0 4 (dk_at dksX5_next_4 6 rfl rfl)
theorem dX5_next_101 : decode cX5_next 101 = .ok (.iconst 4, 1) := dk_7 (dk_at dksX5_next_4 9 rfl rfl)
theorem dX5_next_102 : decode cX5_next 102 = .ok (.putfield 52, 3) := dk_181 0 52 (dk_at dksX5_next_4 10 rfl rfl)
theorem dX5_next_105 : decode cX5_next 105 = .ok (.aload_n 0, 1) := dk_42 (dk_at dksX5_next_4 13 rfl rfl)
theorem dX5_next_106 : decode cX5_next 106 = .ok (.getfield 52, 3) := dk_180 0 52 (dk_at dksX5_next_4 14 rfl rfl)
theorem dX5_next_109 : decode cX5_next 109 = .ok (.iconst 2, 1) := dk_5 (dk_at dksX5_next_4 17 rfl rfl)
theorem dX5_next_110 : decode cX5_next 110 = .ok (.if_icmp .eq 4, 3) := dk_159 0 4 (dk_at dksX5_next_4 18 rfl rfl)
theorem dX5_next_113 : decode cX5_next 113 = .ok (.return_, 1) := dk_177 (dk_at dksX5_next_4 21 rfl rfl)
theorem dX5_next_114 : decode cX5_next 114 = .ok (.aload_n 0, 1) := dk_42 (dk_at dksX5_next_4 22 rfl rfl)
theorem dX5_next_115 : decode cX5_next 115 = .ok (.iload_n 1, 1) := dk_27 (dk_at dksX5_next_4 23 rfl rfl)
theorem dX5_next_116 : decode cX5_next 116 = .ok (.bipush 48, 2) := dk_16 48 (dk_at dksX5_next_5 0 rfl rfl)
theorem dX5_next_118 : decode cX5_next 118 = .ok (.isub, 1) := dk_100 (dk_at dksX5_next_5 2 rfl rfl)
theorem dX5_next_119 : decode cX5_next 119 = .ok (.putfield 37, 3) := dk_181 0 37 (dk_at dksX5_next_5 3 rfl rfl)
theorem dX5_next_122 : decode cX5_next 122 = .ok (.aload_n 0, 1) := dk_42 (dk_at dksX5_next_5 6 rfl rfl)
theorem dX5_next_123 : decode cX5_next 123 = .ok (.invokevirtual 33, 3) := dk_182 0 33 (dk_at dksX5_next_5 7 rfl rfl)
theorem dX5_next_126 : decode cX5_next 126 = .ok (.i2l, 1) := dk_133 (dk_at dksX5_next_5 10 rfl rfl)
theorem dX5_next_127 : decode cX5_next 127 = .ok (.ldc2_w 48, 3) := dk_20 0 48 (dk_at dksX5_next_5 11 rfl rfl)
theorem dX5_next_130 : decode cX5_next 130 = .ok (.ldc2_w 50, 3) := dk_20 0 50 (dk_at dksX5_next_5 14 rfl rfl)
theorem dX5_next_133 : decode cX5_next 133 = .ok (.invokestatic 44, 3) := dk_184 0 44 (dk_at dksX5_next_5 17 rfl rfl)
theorem dX5_next_136 : decode cX5_next 136 = .ok (.ifCond .eq 55, 3) := dk_153 0 55 (dk_at dksX5_next_5 20 rfl rfl)
theorem dX5_next_139 : decode cX5_next 139 = .ok (.aload_n 0, 1) := dk_42 (dk_at dksX5_next_5 23 rfl rfl)
theorem dX5_next_140 : decode cX5_next 140 = .ok (.aload_n 0, 1) := dk_42 (dk_at dksX5_next_6 0 rfl rfl)
theorem dX5_next_141 : decode cX5_next 141 = .ok (.getfield 26, 3) := dk_180 0 26 (dk_at dksX5_next_6 1 rfl rfl)
theorem dX5_next_144 : decode cX5_next 144 = .ok (.aload_n 0, 1) := dk_42 (dk_at dksX5_next_6 4 rfl rfl)
theorem dX5_next_145 : decode cX5_next 145 = .ok (.getfield 30, 3) := dk_180 0 30 (dk_at dksX5_next_6 5 rfl rfl)
theorem dX5_next_148 : decode cX5_next 148 = .ok (.iconst 1, 1) := dk_4 (dk_at dksX5_next_6 8 rfl rfl)
theorem dX5_next_149 : decode cX5_next 149 = .ok (.iadd, 1) := dk_96 (dk_at dksX5_next_6 9 rfl rfl)
theorem dX5_next_150 : decode cX5_next 150 = .ok (.if_icmp .ne 21, 3) := dk_160 0 21 (dk_at dksX5_next_6 10 rfl rfl)
theorem dX5_next_153 : decode cX5_next 153 = .ok (.bipush 10, 2) := dk_16 10 (dk_at dksX5_next_6 13 rfl rfl)
theorem dX5_next_155 : decode cX5_next 155 = .ok (.aload_n 0, 1) := dk_42 (dk_at dksX5_next_6 15 rfl rfl)
theorem dX5_next_156 : decode cX5_next 156 = .ok (.getfield 37, 3) := dk_180 0 37 (dk_at dksX5_next_6 16 rfl rfl)
theorem dX5_next_159 : decode cX5_next 159 = .ok (.imul, 1) := dk_104 (dk_at dksX5_next_6 19 rfl rfl)
theorem dX5_next_160 : decode cX5_next 160 = .ok (.aload_n 0, 1) := dk_42 (dk_at dksX5_next_6 20 rfl rfl)
theorem dX5_next_161 : decode cX5_next 161 = .ok (.invokevirtual 33, 3) := dk_182 0 33 (dk_at dksX5_next_6 21 rfl rfl)
theorem dX5_next_164 : decode cX5_next 164 = .ok (.iadd, 1) := dk_96 (dk_at dksX5_next_7 0 rfl rfl)
theorem dX5_next_165 : decode cX5_next 165 = .ok (.bipush 48, 2) := dk_16 48 (dk_at dksX5_next_7 1 rfl rfl)
theorem dX5_next_167 : decode cX5_next 167 = .ok (.isub, 1) := dk_100 (dk_at dksX5_next_7 3 rfl rfl)
theorem dX5_next_168 : decode cX5_next 168 = .ok (.goto 7, 3) := dk_167 0 7 (dk_at dksX5_next_7 4 rfl rfl)
theorem dX5_next_171 : decode cX5_next 171 = .ok (.aload_n 0, 1) := dk_42 (dk_at dksX5_next_7 7 rfl rfl)
theorem dX5_next_172 : decode cX5_next 172 = .ok (.getfield 37, 3) := dk_180 0 37 (dk_at dksX5_next_7 8 rfl rfl)
theorem dX5_next_175 : decode cX5_next 175 = .ok (.putfield 37, 3) := dk_181 0 37 (dk_at dksX5_next_7 11 rfl rfl)
theorem dX5_next_178 : decode cX5_next 178 = .ok (.aload_n 0, 1) := dk_42 (dk_at dksX5_next_7 14 rfl rfl)
theorem dX5_next_179 : decode cX5_next 179 = .ok (.dup, 1) := dk_89 (dk_at dksX5_next_7 15 rfl rfl)
theorem dX5_next_180 : decode cX5_next 180 = .ok (.getfield 26, 3) := dk_180 0 26 (dk_at dksX5_next_7 16 rfl rfl)
theorem dX5_next_183 : decode cX5_next 183 = .ok (.iconst 1, 1) := dk_4 (dk_at dksX5_next_7 19 rfl rfl)
theorem dX5_next_184 : decode cX5_next 184 = .ok (.iadd, 1) := dk_96 (dk_at dksX5_next_7 20 rfl rfl)
theorem dX5_next_185 : decode cX5_next 185 = .ok (.putfield 26, 3) := dk_181 0 26 (dk_at dksX5_next_7 21 rfl rfl)
theorem dX5_next_188 : decode cX5_next 188 = .ok (.goto (-66), 3) := dk_167 255 190 (dk_at dksX5_next_8 0 rfl rfl)
theorem dX5_next_191 : decode cX5_next 191 = .ok (.aload_n 0, 1) := dk_42 (dk_at dksX5_next_8 3 rfl rfl)
theorem dX5_next_192 : decode cX5_next 192 = .ok (.aload_n 0, 1) := dk_42 (dk_at dksX5_next_8 4 rfl rfl)
theorem dX5_next_193 : decode cX5_next 193 = .ok (.getfield 26, 3) := dk_180 0 26 (dk_at dksX5_next_8 5 rfl rfl)
theorem dX5_next_196 : decode cX5_next 196 = .ok (.aload_n 0, 1) := dk_42 (dk_at dksX5_next_8 8 rfl rfl)
theorem dX5_next_197 : decode cX5_next 197 = .ok (.getfield 30, 3) := dk_180 0 30 (dk_at dksX5_next_8 9 rfl rfl)
theorem dX5_next_200 : decode cX5_next 200 = .ok (.isub, 1) := dk_100 (dk_at dksX5_next_8 12 rfl rfl)
theorem dX5_next_201 : decode cX5_next 201 = .ok (.iconst 2, 1) := dk_5 (dk_at dksX5_next_8 13 rfl rfl)
theorem dX5_next_202 : decode cX5_next 202 = .ok (.if_icmp .le 7, 3) := dk_164 0 7 (dk_at dksX5_next_8 14 rfl rfl)
theorem dX5_next_205 : decode cX5_next 205 = .ok (.iconst 4, 1) := dk_7 (dk_at dksX5_next_8 17 rfl rfl)
theorem dX5_next_206 : decode cX5_next 206 = .ok (.goto 4, 3) := dk_167 0 4 (dk_at dksX5_next_8 18 rfl rfl)
theorem dX5_next_209 : decode cX5_next 209 = .ok (.iconst 2, 1) := dk_5 (dk_at dksX5_next_8 21 rfl rfl)
theorem dX5_next_210 : decode cX5_next 210 = .ok (.putfield 52, 3) := dk_181 0 52 (dk_at dksX5_next_9 0 rfl rfl)
theorem dX5_next_213 : decode cX5_next 213 = .ok (.return_, 1) := dk_177 (dk_at dksX5_next_9 3 rfl rfl)
abbrev cX5_look : ByteArray := prog_8_method_2_code
def yX5_look : MethodName := ⟨RX5, "look", "()I"⟩
def dkwX5_look_1 : List UInt8 := [167, 0, 5, 18, 29, 172]
abbrev dktX5_look_1 : List UInt8 := dkwX5_look_1 ++ []
def dkwX5_look_0 : List UInt8 := [42, 180, 0, 26, 42, 180, 0, 22, 162, 0, 19, 42, 180, 0, 18, 42, 180, 0, 26, 51, 17, 0, 255, 126]
abbrev dktX5_look_0 : List UInt8 := dkwX5_look_0 ++ dktX5_look_1
theorem dksX5_look_0 : cX5_look.data.toList.drop 0 = dktX5_look_0 := by decide +kernel
theorem dksX5_look_1 : cX5_look.data.toList.drop 24 = dktX5_look_1 := dk_seg dksX5_look_0 24 rfl rfl
theorem dX5_look_0 : decode cX5_look 0 = .ok (.aload_n 0, 1) := dk_42 (dk_at dksX5_look_0 0 rfl rfl)
theorem dX5_look_1 : decode cX5_look 1 = .ok (.getfield 26, 3) := dk_180 0 26 (dk_at dksX5_look_0 1 rfl rfl)
theorem dX5_look_4 : decode cX5_look 4 = .ok (.aload_n 0, 1) := dk_42 (dk_at dksX5_look_0 4 rfl rfl)
theorem dX5_look_5 : decode cX5_look 5 = .ok (.getfield 22, 3) := dk_180 0 22 (dk_at dksX5_look_0 5 rfl rfl)
theorem dX5_look_8 : decode cX5_look 8 = .ok (.if_icmp .ge 19, 3) := dk_162 0 19 (dk_at dksX5_look_0 8 rfl rfl)
theorem dX5_look_11 : decode cX5_look 11 = .ok (.aload_n 0, 1) := dk_42 (dk_at dksX5_look_0 11 rfl rfl)
theorem dX5_look_12 : decode cX5_look 12 = .ok (.getfield 18, 3) := dk_180 0 18 (dk_at dksX5_look_0 12 rfl rfl)
theorem dX5_look_15 : decode cX5_look 15 = .ok (.aload_n 0, 1) := dk_42 (dk_at dksX5_look_0 15 rfl rfl)
theorem dX5_look_16 : decode cX5_look 16 = .ok (.getfield 26, 3) := dk_180 0 26 (dk_at dksX5_look_0 16 rfl rfl)
theorem dX5_look_19 : decode cX5_look 19 = .ok (.baload, 1) := dk_51 (dk_at dksX5_look_0 19 rfl rfl)
theorem dX5_look_20 : decode cX5_look 20 = .ok (.sipush 255, 3) := dk_17 0 255 (dk_at dksX5_look_0 20 rfl rfl)
theorem dX5_look_23 : decode cX5_look 23 = .ok (.iand, 1) := dk_126 (dk_at dksX5_look_0 23 rfl rfl)
theorem dX5_look_24 : decode cX5_look 24 = .ok (.goto 5, 3) := dk_167 0 5 (dk_at dksX5_look_1 0 rfl rfl)
theorem dX5_look_27 : decode cX5_look 27 = .ok (.ldc 29, 2) := dk_18 29 (dk_at dksX5_look_1 3 rfl rfl)
theorem dX5_look_29 : decode cX5_look 29 = .ok (.ireturn, 1) := dk_172 (dk_at dksX5_look_1 5 rfl rfl)
abbrev cX5_is : ByteArray := prog_8_method_5_code
def yX5_is : MethodName := ⟨RX5, "is", "(II)Z"⟩
def dkwX5_is_0 : List UInt8 := [42, 180, 0, 52, 27, 160, 0, 15, 42, 180, 0, 37, 28, 160, 0, 7, 4, 167, 0, 4, 3, 172]
abbrev dktX5_is_0 : List UInt8 := dkwX5_is_0 ++ []
theorem dksX5_is_0 : cX5_is.data.toList.drop 0 = dktX5_is_0 := by decide +kernel
theorem dX5_is_0 : decode cX5_is 0 = .ok (.aload_n 0, 1) := dk_42 (dk_at dksX5_is_0 0 rfl rfl)
theorem dX5_is_1 : decode cX5_is 1 = .ok (.getfield 52, 3) := dk_180 0 52 (dk_at dksX5_is_0 1 rfl rfl)
theorem dX5_is_4 : decode cX5_is 4 = .ok (.iload_n 1, 1) := dk_27 (dk_at dksX5_is_0 4 rfl rfl)
theorem dX5_is_5 : decode cX5_is 5 = .ok (.if_icmp .ne 15, 3) := dk_160 0 15 (dk_at dksX5_is_0 5 rfl rfl)
theorem dX5_is_8 : decode cX5_is 8 = .ok (.aload_n 0, 1) := dk_42 (dk_at dksX5_is_0 8 rfl rfl)
theorem dX5_is_9 : decode cX5_is 9 = .ok (.getfield 37, 3) := dk_180 0 37 (dk_at dksX5_is_0 9 rfl rfl)
theorem dX5_is_12 : decode cX5_is 12 = .ok (.iload_n 2, 1) := dk_28 (dk_at dksX5_is_0 12 rfl rfl)
theorem dX5_is_13 : decode cX5_is 13 = .ok (.if_icmp .ne 7, 3) := dk_160 0 7 (dk_at dksX5_is_0 13 rfl rfl)
theorem dX5_is_16 : decode cX5_is 16 = .ok (.iconst 1, 1) := dk_4 (dk_at dksX5_is_0 16 rfl rfl)
theorem dX5_is_17 : decode cX5_is 17 = .ok (.goto 4, 3) := dk_167 0 4 (dk_at dksX5_is_0 17 rfl rfl)
theorem dX5_is_20 : decode cX5_is 20 = .ok (.iconst 0, 1) := dk_3 (dk_at dksX5_is_0 20 rfl rfl)
theorem dX5_is_21 : decode cX5_is 21 = .ok (.ireturn, 1) := dk_172 (dk_at dksX5_is_0 21 rfl rfl)
abbrev cX5_must : ByteArray := prog_8_method_4_code
def yX5_must : MethodName := ⟨RX5, "must", "(ZI)V"⟩
def dkwX5_must_0 : List UInt8 := [27, 154, 0, 16, 187, 0, 55, 89, 28, 42, 180, 0, 30, 183, 0, 57, 191, 177]
abbrev dktX5_must_0 : List UInt8 := dkwX5_must_0 ++ []
theorem dksX5_must_0 : cX5_must.data.toList.drop 0 = dktX5_must_0 := by decide +kernel
theorem dX5_must_0 : decode cX5_must 0 = .ok (.iload_n 1, 1) := dk_27 (dk_at dksX5_must_0 0 rfl rfl)
theorem dX5_must_1 : decode cX5_must 1 = .ok (.ifCond .ne 16, 3) := dk_154 0 16 (dk_at dksX5_must_0 1 rfl rfl)
theorem dX5_must_4 : decode cX5_must 4 = .ok (.new 55, 3) := dk_187 0 55 (dk_at dksX5_must_0 4 rfl rfl)
theorem dX5_must_7 : decode cX5_must 7 = .ok (.dup, 1) := dk_89 (dk_at dksX5_must_0 7 rfl rfl)
theorem dX5_must_8 : decode cX5_must 8 = .ok (.iload_n 2, 1) := dk_28 (dk_at dksX5_must_0 8 rfl rfl)
theorem dX5_must_9 : decode cX5_must 9 = .ok (.aload_n 0, 1) := dk_42 (dk_at dksX5_must_0 9 rfl rfl)
theorem dX5_must_10 : decode cX5_must 10 = .ok (.getfield 30, 3) := dk_180 0 30 (dk_at dksX5_must_0 10 rfl rfl)
theorem dX5_must_13 : decode cX5_must 13 = .ok (.invokespecial 57, 3) := dk_183 0 57 (dk_at dksX5_must_0 13 rfl rfl)
theorem dX5_must_16 : decode cX5_must 16 = .ok (.athrow, 1) := dk_191 (dk_at dksX5_must_0 16 rfl rfl)
theorem dX5_must_17 : decode cX5_must 17 = .ok (.return_, 1) := dk_177 (dk_at dksX5_must_0 17 rfl rfl)
abbrev cX5_figure : ByteArray := prog_8_method_6_code
def yX5_figure : MethodName := ⟨RX5, "figure", "(II)I"⟩
def dkwX5_figure_1 : List UInt8 := [27, 133, 28, 133, 184, 0, 44, 5, 182, 0, 60, 42, 180, 0, 37, 62, 42, 182, 0, 64, 29, 172]
abbrev dktX5_figure_1 : List UInt8 := dkwX5_figure_1 ++ []
def dkwX5_figure_0 : List UInt8 := [42, 42, 180, 0, 52, 5, 160, 0, 7, 4, 167, 0, 4, 3, 4, 182, 0, 60, 42, 42, 180, 0, 37, 133]
abbrev dktX5_figure_0 : List UInt8 := dkwX5_figure_0 ++ dktX5_figure_1
theorem dksX5_figure_0 : cX5_figure.data.toList.drop 0 = dktX5_figure_0 := by decide +kernel
theorem dksX5_figure_1 : cX5_figure.data.toList.drop 24 = dktX5_figure_1 := dk_seg dksX5_figure_0 24 rfl rfl
theorem dX5_figure_0 : decode cX5_figure 0 = .ok (.aload_n 0, 1) := dk_42 (dk_at dksX5_figure_0 0 rfl rfl)
theorem dX5_figure_1 : decode cX5_figure 1 = .ok (.aload_n 0, 1) := dk_42 (dk_at dksX5_figure_0 1 rfl rfl)
theorem dX5_figure_2 : decode cX5_figure 2 = .ok (.getfield 52, 3) := dk_180 0 52 (dk_at dksX5_figure_0 2 rfl rfl)
theorem dX5_figure_5 : decode cX5_figure 5 = .ok (.iconst 2, 1) := dk_5 (dk_at dksX5_figure_0 5 rfl rfl)
theorem dX5_figure_6 : decode cX5_figure 6 = .ok (.if_icmp .ne 7, 3) := dk_160 0 7 (dk_at dksX5_figure_0 6 rfl rfl)
theorem dX5_figure_9 : decode cX5_figure 9 = .ok (.iconst 1, 1) := dk_4 (dk_at dksX5_figure_0 9 rfl rfl)
theorem dX5_figure_10 : decode cX5_figure 10 = .ok (.goto 4, 3) := dk_167 0 4 (dk_at dksX5_figure_0 10 rfl rfl)
theorem dX5_figure_13 : decode cX5_figure 13 = .ok (.iconst 0, 1) := dk_3 (dk_at dksX5_figure_0 13 rfl rfl)
theorem dX5_figure_14 : decode cX5_figure 14 = .ok (.iconst 1, 1) := dk_4 (dk_at dksX5_figure_0 14 rfl rfl)
theorem dX5_figure_15 : decode cX5_figure 15 = .ok (.invokevirtual 60, 3) := dk_182 0 60 (dk_at dksX5_figure_0 15 rfl rfl)
theorem dX5_figure_18 : decode cX5_figure 18 = .ok (.aload_n 0, 1) := dk_42 (dk_at dksX5_figure_0 18 rfl rfl)
theorem dX5_figure_19 : decode cX5_figure 19 = .ok (.aload_n 0, 1) := dk_42 (dk_at dksX5_figure_0 19 rfl rfl)
theorem dX5_figure_20 : decode cX5_figure 20 = .ok (.getfield 37, 3) := dk_180 0 37 (dk_at dksX5_figure_0 20 rfl rfl)
theorem dX5_figure_23 : decode cX5_figure 23 = .ok (.i2l, 1) := dk_133 (dk_at dksX5_figure_0 23 rfl rfl)
theorem dX5_figure_24 : decode cX5_figure 24 = .ok (.iload_n 1, 1) := dk_27 (dk_at dksX5_figure_1 0 rfl rfl)
theorem dX5_figure_25 : decode cX5_figure 25 = .ok (.i2l, 1) := dk_133 (dk_at dksX5_figure_1 1 rfl rfl)
theorem dX5_figure_26 : decode cX5_figure 26 = .ok (.iload_n 2, 1) := dk_28 (dk_at dksX5_figure_1 2 rfl rfl)
theorem dX5_figure_27 : decode cX5_figure 27 = .ok (.i2l, 1) := dk_133 (dk_at dksX5_figure_1 3 rfl rfl)
theorem dX5_figure_28 : decode cX5_figure 28 = .ok (.invokestatic 44, 3) := dk_184 0 44 (dk_at dksX5_figure_1 4 rfl rfl)
theorem dX5_figure_31 : decode cX5_figure 31 = .ok (.iconst 2, 1) := dk_5 (dk_at dksX5_figure_1 7 rfl rfl)
theorem dX5_figure_32 : decode cX5_figure 32 = .ok (.invokevirtual 60, 3) := dk_182 0 60 (dk_at dksX5_figure_1 8 rfl rfl)
theorem dX5_figure_35 : decode cX5_figure 35 = .ok (.aload_n 0, 1) := dk_42 (dk_at dksX5_figure_1 11 rfl rfl)
theorem dX5_figure_36 : decode cX5_figure 36 = .ok (.getfield 37, 3) := dk_180 0 37 (dk_at dksX5_figure_1 12 rfl rfl)
theorem dX5_figure_39 : decode cX5_figure 39 = .ok (.istore_n 3, 1) := dk_62 (dk_at dksX5_figure_1 15 rfl rfl)
theorem dX5_figure_40 : decode cX5_figure 40 = .ok (.aload_n 0, 1) := dk_42 (dk_at dksX5_figure_1 16 rfl rfl)
theorem dX5_figure_41 : decode cX5_figure 41 = .ok (.invokevirtual 64, 3) := dk_182 0 64 (dk_at dksX5_figure_1 17 rfl rfl)
theorem dX5_figure_44 : decode cX5_figure 44 = .ok (.iload_n 3, 1) := dk_29 (dk_at dksX5_figure_1 20 rfl rfl)
theorem dX5_figure_45 : decode cX5_figure 45 = .ok (.ireturn, 1) := dk_172 (dk_at dksX5_figure_1 21 rfl rfl)
abbrev cX5_sign : ByteArray := prog_8_method_7_code
def yX5_sign : MethodName := ⟨RX5, "sign", "(I)V"⟩
def dkwX5_sign_0 : List UInt8 := [42, 42, 6, 27, 182, 0, 67, 4, 182, 0, 60, 42, 182, 0, 64, 177]
abbrev dktX5_sign_0 : List UInt8 := dkwX5_sign_0 ++ []
theorem dksX5_sign_0 : cX5_sign.data.toList.drop 0 = dktX5_sign_0 := by decide +kernel
theorem dX5_sign_0 : decode cX5_sign 0 = .ok (.aload_n 0, 1) := dk_42 (dk_at dksX5_sign_0 0 rfl rfl)
theorem dX5_sign_1 : decode cX5_sign 1 = .ok (.aload_n 0, 1) := dk_42 (dk_at dksX5_sign_0 1 rfl rfl)
theorem dX5_sign_2 : decode cX5_sign 2 = .ok (.iconst 3, 1) := dk_6 (dk_at dksX5_sign_0 2 rfl rfl)
theorem dX5_sign_3 : decode cX5_sign 3 = .ok (.iload_n 1, 1) := dk_27 (dk_at dksX5_sign_0 3 rfl rfl)
theorem dX5_sign_4 : decode cX5_sign 4 = .ok (.invokevirtual 67, 3) := dk_182 0 67 (dk_at dksX5_sign_0 4 rfl rfl)
theorem dX5_sign_7 : decode cX5_sign 7 = .ok (.iconst 1, 1) := dk_4 (dk_at dksX5_sign_0 7 rfl rfl)
theorem dX5_sign_8 : decode cX5_sign 8 = .ok (.invokevirtual 60, 3) := dk_182 0 60 (dk_at dksX5_sign_0 8 rfl rfl)
theorem dX5_sign_11 : decode cX5_sign 11 = .ok (.aload_n 0, 1) := dk_42 (dk_at dksX5_sign_0 11 rfl rfl)
theorem dX5_sign_12 : decode cX5_sign 12 = .ok (.invokevirtual 64, 3) := dk_182 0 64 (dk_at dksX5_sign_0 12 rfl rfl)
theorem dX5_sign_15 : decode cX5_sign 15 = .ok (.return_, 1) := dk_177 (dk_at dksX5_sign_0 15 rfl rfl)
abbrev cX5_isRider : ByteArray := prog_8_method_9_code
def yX5_isRider : MethodName := ⟨RX5, "isRider", "()Z"⟩
def dkwX5_isRider_1 : List UInt8 := [3, 172]
abbrev dktX5_isRider_1 : List UInt8 := dkwX5_isRider_1 ++ []
def dkwX5_isRider_0 : List UInt8 := [42, 180, 0, 52, 4, 160, 0, 19, 18, 92, 42, 180, 0, 37, 182, 0, 94, 155, 0, 7, 4, 167, 0, 4]
abbrev dktX5_isRider_0 : List UInt8 := dkwX5_isRider_0 ++ dktX5_isRider_1
theorem dksX5_isRider_0 : cX5_isRider.data.toList.drop 0 = dktX5_isRider_0 := by decide +kernel
theorem dksX5_isRider_1 : cX5_isRider.data.toList.drop 24 = dktX5_isRider_1 := dk_seg dksX5_isRider_0 24 rfl rfl
theorem dX5_isRider_0 : decode cX5_isRider 0 = .ok (.aload_n 0, 1) := dk_42 (dk_at dksX5_isRider_0 0 rfl rfl)
theorem dX5_isRider_1 : decode cX5_isRider 1 = .ok (.getfield 52, 3) := dk_180 0 52 (dk_at dksX5_isRider_0 1 rfl rfl)
theorem dX5_isRider_4 : decode cX5_isRider 4 = .ok (.iconst 1, 1) := dk_4 (dk_at dksX5_isRider_0 4 rfl rfl)
theorem dX5_isRider_5 : decode cX5_isRider 5 = .ok (.if_icmp .ne 19, 3) := dk_160 0 19 (dk_at dksX5_isRider_0 5 rfl rfl)
theorem dX5_isRider_8 : decode cX5_isRider 8 = .ok (.ldc 92, 2) := dk_18 92 (dk_at dksX5_isRider_0 8 rfl rfl)
theorem dX5_isRider_10 : decode cX5_isRider 10 = .ok (.aload_n 0, 1) := dk_42 (dk_at dksX5_isRider_0 10 rfl rfl)
theorem dX5_isRider_11 : decode cX5_isRider 11 = .ok (.getfield 37, 3) := dk_180 0 37 (dk_at dksX5_isRider_0 11 rfl rfl)
theorem dX5_isRider_14 : decode cX5_isRider 14 = .ok (.invokevirtual 94, 3) := dk_182 0 94 (dk_at dksX5_isRider_0 14 rfl rfl)
theorem dX5_isRider_17 : decode cX5_isRider 17 = .ok (.ifCond .lt 7, 3) := dk_155 0 7 (dk_at dksX5_isRider_0 17 rfl rfl)
theorem dX5_isRider_20 : decode cX5_isRider 20 = .ok (.iconst 1, 1) := dk_4 (dk_at dksX5_isRider_0 20 rfl rfl)
theorem dX5_isRider_21 : decode cX5_isRider 21 = .ok (.goto 4, 3) := dk_167 0 4 (dk_at dksX5_isRider_0 21 rfl rfl)
theorem dX5_isRider_24 : decode cX5_isRider 24 = .ok (.iconst 0, 1) := dk_3 (dk_at dksX5_isRider_1 0 rfl rfl)
theorem dX5_isRider_25 : decode cX5_isRider 25 = .ok (.ireturn, 1) := dk_172 (dk_at dksX5_isRider_1 1 rfl rfl)
abbrev cX5_rider : ByteArray := prog_8_method_10_code
def yX5_rider : MethodName := ⟨RX5, "rider", "()V"⟩
def dkwX5_rider_3 : List UInt8 := [180, 0, 12, 180, 0, 110, 28, 27, 184, 0, 114, 185, 0, 118, 2, 0, 87, 177]
abbrev dktX5_rider_3 : List UInt8 := dkwX5_rider_3 ++ []
def dkwX5_rider_2 : List UInt8 := [42, 3, 4, 182, 0, 71, 79, 42, 16, 59, 182, 0, 75, 42, 180, 0, 12, 180, 0, 107, 27, 2, 79, 42]
abbrev dktX5_rider_2 : List UInt8 := dkwX5_rider_2 ++ dktX5_rider_3
def dkwX5_rider_1 : List UInt8 := [4, 18, 92, 42, 180, 0, 37, 182, 0, 94, 96, 61, 42, 182, 0, 64, 42, 180, 0, 12, 180, 0, 103, 27]
abbrev dktX5_rider_1 : List UInt8 := dkwX5_rider_1 ++ dktX5_rider_2
def dkwX5_rider_0 : List UInt8 := [42, 180, 0, 12, 182, 0, 100, 60, 42, 27, 16, 7, 162, 0, 7, 4, 167, 0, 4, 3, 6, 182, 0, 60]
abbrev dktX5_rider_0 : List UInt8 := dkwX5_rider_0 ++ dktX5_rider_1
theorem dksX5_rider_0 : cX5_rider.data.toList.drop 0 = dktX5_rider_0 := by decide +kernel
theorem dksX5_rider_1 : cX5_rider.data.toList.drop 24 = dktX5_rider_1 := dk_seg dksX5_rider_0 24 rfl rfl
theorem dksX5_rider_2 : cX5_rider.data.toList.drop 48 = dktX5_rider_2 := dk_seg dksX5_rider_1 24 rfl rfl
theorem dksX5_rider_3 : cX5_rider.data.toList.drop 72 = dktX5_rider_3 := dk_seg dksX5_rider_2 24 rfl rfl
theorem dX5_rider_0 : decode cX5_rider 0 = .ok (.aload_n 0, 1) := dk_42 (dk_at dksX5_rider_0 0 rfl rfl)
theorem dX5_rider_1 : decode cX5_rider 1 = .ok (.getfield 12, 3) := dk_180 0 12 (dk_at dksX5_rider_0 1 rfl rfl)
theorem dX5_rider_4 : decode cX5_rider 4 = .ok (.invokevirtual 100, 3) := dk_182 0 100 (dk_at dksX5_rider_0 4 rfl rfl)
theorem dX5_rider_7 : decode cX5_rider 7 = .ok (.istore_n 1, 1) := dk_60 (dk_at dksX5_rider_0 7 rfl rfl)
theorem dX5_rider_8 : decode cX5_rider 8 = .ok (.aload_n 0, 1) := dk_42 (dk_at dksX5_rider_0 8 rfl rfl)
theorem dX5_rider_9 : decode cX5_rider 9 = .ok (.iload_n 1, 1) := dk_27 (dk_at dksX5_rider_0 9 rfl rfl)
theorem dX5_rider_10 : decode cX5_rider 10 = .ok (.bipush 7, 2) := dk_16 7 (dk_at dksX5_rider_0 10 rfl rfl)
theorem dX5_rider_12 : decode cX5_rider 12 = .ok (.if_icmp .ge 7, 3) := dk_162 0 7 (dk_at dksX5_rider_0 12 rfl rfl)
theorem dX5_rider_15 : decode cX5_rider 15 = .ok (.iconst 1, 1) := dk_4 (dk_at dksX5_rider_0 15 rfl rfl)
theorem dX5_rider_16 : decode cX5_rider 16 = .ok (.goto 4, 3) := dk_167 0 4 (dk_at dksX5_rider_0 16 rfl rfl)
theorem dX5_rider_19 : decode cX5_rider 19 = .ok (.iconst 0, 1) := dk_3 (dk_at dksX5_rider_0 19 rfl rfl)
theorem dX5_rider_20 : decode cX5_rider 20 = .ok (.iconst 3, 1) := dk_6 (dk_at dksX5_rider_0 20 rfl rfl)
theorem dX5_rider_21 : decode cX5_rider 21 = .ok (.invokevirtual 60, 3) := dk_182 0 60 (dk_at dksX5_rider_0 21 rfl rfl)
theorem dX5_rider_24 : decode cX5_rider 24 = .ok (.iconst 1, 1) := dk_4 (dk_at dksX5_rider_1 0 rfl rfl)
theorem dX5_rider_25 : decode cX5_rider 25 = .ok (.ldc 92, 2) := dk_18 92 (dk_at dksX5_rider_1 1 rfl rfl)
theorem dX5_rider_27 : decode cX5_rider 27 = .ok (.aload_n 0, 1) := dk_42 (dk_at dksX5_rider_1 3 rfl rfl)
theorem dX5_rider_28 : decode cX5_rider 28 = .ok (.getfield 37, 3) := dk_180 0 37 (dk_at dksX5_rider_1 4 rfl rfl)
theorem dX5_rider_31 : decode cX5_rider 31 = .ok (.invokevirtual 94, 3) := dk_182 0 94 (dk_at dksX5_rider_1 7 rfl rfl)
theorem dX5_rider_34 : decode cX5_rider 34 = .ok (.iadd, 1) := dk_96 (dk_at dksX5_rider_1 10 rfl rfl)
theorem dX5_rider_35 : decode cX5_rider 35 = .ok (.istore_n 2, 1) := dk_61 (dk_at dksX5_rider_1 11 rfl rfl)
theorem dX5_rider_36 : decode cX5_rider 36 = .ok (.aload_n 0, 1) := dk_42 (dk_at dksX5_rider_1 12 rfl rfl)
theorem dX5_rider_37 : decode cX5_rider 37 = .ok (.invokevirtual 64, 3) := dk_182 0 64 (dk_at dksX5_rider_1 13 rfl rfl)
theorem dX5_rider_40 : decode cX5_rider 40 = .ok (.aload_n 0, 1) := dk_42 (dk_at dksX5_rider_1 16 rfl rfl)
theorem dX5_rider_41 : decode cX5_rider 41 = .ok (.getfield 12, 3) := dk_180 0 12 (dk_at dksX5_rider_1 17 rfl rfl)
theorem dX5_rider_44 : decode cX5_rider 44 = .ok (.getfield 103, 3) := dk_180 0 103 (dk_at dksX5_rider_1 20 rfl rfl)
theorem dX5_rider_47 : decode cX5_rider 47 = .ok (.iload_n 1, 1) := dk_27 (dk_at dksX5_rider_1 23 rfl rfl)
theorem dX5_rider_48 : decode cX5_rider 48 = .ok (.aload_n 0, 1) := dk_42 (dk_at dksX5_rider_2 0 rfl rfl)
theorem dX5_rider_49 : decode cX5_rider 49 = .ok (.iconst 0, 1) := dk_3 (dk_at dksX5_rider_2 1 rfl rfl)
theorem dX5_rider_50 : decode cX5_rider 50 = .ok (.iconst 1, 1) := dk_4 (dk_at dksX5_rider_2 2 rfl rfl)
theorem dX5_rider_51 : decode cX5_rider 51 = .ok (.invokevirtual 71, 3) := dk_182 0 71 (dk_at dksX5_rider_2 3 rfl rfl)
theorem dX5_rider_54 : decode cX5_rider 54 = .ok (.iastore, 1) := dk_79 (dk_at dksX5_rider_2 6 rfl rfl)
theorem dX5_rider_55 : decode cX5_rider 55 = .ok (.aload_n 0, 1) := dk_42 (dk_at dksX5_rider_2 7 rfl rfl)
theorem dX5_rider_56 : decode cX5_rider 56 = .ok (.bipush 59, 2) := dk_16 59 (dk_at dksX5_rider_2 8 rfl rfl)
theorem dX5_rider_58 : decode cX5_rider 58 = .ok (.invokevirtual 75, 3) := dk_182 0 75 (dk_at dksX5_rider_2 10 rfl rfl)
theorem dX5_rider_61 : decode cX5_rider 61 = .ok (.aload_n 0, 1) := dk_42 (dk_at dksX5_rider_2 13 rfl rfl)
theorem dX5_rider_62 : decode cX5_rider 62 = .ok (.getfield 12, 3) := dk_180 0 12 (dk_at dksX5_rider_2 14 rfl rfl)
theorem dX5_rider_65 : decode cX5_rider 65 = .ok (.getfield 107, 3) := dk_180 0 107 (dk_at dksX5_rider_2 17 rfl rfl)
theorem dX5_rider_68 : decode cX5_rider 68 = .ok (.iload_n 1, 1) := dk_27 (dk_at dksX5_rider_2 20 rfl rfl)
theorem dX5_rider_69 : decode cX5_rider 69 = .ok (.iconst (-1), 1) := dk_2 (dk_at dksX5_rider_2 21 rfl rfl)
theorem dX5_rider_70 : decode cX5_rider 70 = .ok (.iastore, 1) := dk_79 (dk_at dksX5_rider_2 22 rfl rfl)
theorem dX5_rider_71 : decode cX5_rider 71 = .ok (.aload_n 0, 1) := dk_42 (dk_at dksX5_rider_2 23 rfl rfl)
theorem dX5_rider_72 : decode cX5_rider 72 = .ok (.getfield 12, 3) := dk_180 0 12 (dk_at dksX5_rider_3 0 rfl rfl)
theorem dX5_rider_75 : decode cX5_rider 75 = .ok (.getfield 110, 3) := dk_180 0 110 (dk_at dksX5_rider_3 3 rfl rfl)
theorem dX5_rider_78 : decode cX5_rider 78 = .ok (.iload_n 2, 1) := dk_28 (dk_at dksX5_rider_3 6 rfl rfl)
theorem dX5_rider_79 : decode cX5_rider 79 = .ok (.iload_n 1, 1) := dk_27 (dk_at dksX5_rider_3 7 rfl rfl)
theorem dX5_rider_80 : decode cX5_rider 80 = .ok (.invokestatic 114, 3) := dk_184 0 114 (dk_at dksX5_rider_3 8 rfl rfl)
theorem dX5_rider_83 : decode cX5_rider 83 = .ok (.invokeinterface 118 2, 5) := by decide +kernel
theorem dX5_rider_88 : decode cX5_rider 88 = .ok (.pop, 1) := dk_87 (dk_at dksX5_rider_3 16 rfl rfl)
theorem dX5_rider_89 : decode cX5_rider 89 = .ok (.return_, 1) := dk_177 (dk_at dksX5_rider_3 17 rfl rfl)
theorem q65 : (Jvm.Cond.initialized "StepRiders$Reader") ∈ lw_all := lw_g (lw_at lw_m1 19 rfl) rfl
theorem q146 : (Jvm.Cond.fieldLink "StepRiders$Reader" (89 : Nat) "StepRiders$Stair" "steps" "I") ∈ lw_all := lw_g (lw_at lw_m1 100 rfl) rfl
theorem q150 : (Jvm.Cond.fieldLink "StepRiders$Reader" (79 : Nat) "StepRiders$Stair" "speed" "I") ∈ lw_all := lw_g (lw_at lw_m1 104 rfl) rfl
theorem q159 : (Jvm.Cond.fieldLink "StepRiders$Reader" (110 : Nat) "StepRiders$Stair" "riders" "Ljava/util/List;") ∈ lw_all := lw_g (lw_at lw_m1 113 rfl) rfl
theorem q165 : (Jvm.Cond.fieldLink "StepRiders$Reader" (103 : Nat) "StepRiders$Stair" "lane" "[I") ∈ lw_all := lw_g (lw_at lw_m1 119 rfl) rfl
theorem q170 : (Jvm.Cond.fieldLink "StepRiders$Reader" (107 : Nat) "StepRiders$Stair" "where" "[I") ∈ lw_all := lw_g (lw_at lw_m1 124 rfl) rfl
theorem q465 : (Jvm.Cond.instantiable "StepRiders$Reader" (7 : Nat)) ∈ lw_all := lw_g (lw_at lw_m2 179 rfl) rfl
theorem q467 : (Jvm.Cond.instanceMethod ({ cls := "StepRiders$Reader", name := "<init>", desc := "([BI)V" } : Jvm.MethodName)) ∈ lw_all := lw_g (lw_at lw_m2 181 rfl) rfl
theorem q468 : (Jvm.Cond.code ({ cls := "StepRiders$Reader", name := "<init>", desc := "([BI)V" } : Jvm.MethodName) prog_8_method_1_code (3 : Nat) (Option.none : Option Jvm.ClassFile.FieldType)) ∈ lw_all := lw_g (lw_at lw_m2 182 rfl) rfl
theorem q469 : (Jvm.Cond.methodLink "StepRiders$Reader" (3 : Nat) ({ cls := "java/lang/Object", name := "<init>", desc := "()V" } : Jvm.MethodName)) ∈ lw_all := lw_g (lw_at lw_m2 183 rfl) rfl
theorem q470 : (Jvm.Cond.classLink "StepRiders$Reader" (9 : Nat) "StepRiders$Stair") ∈ lw_all := lw_g (lw_at lw_m2 184 rfl) rfl
theorem q471 : (Jvm.Cond.methodLinkNest "StepRiders$Reader" (11 : Nat) ({ cls := "StepRiders$Stair", name := "<init>", desc := "()V" } : Jvm.MethodName) "StepRiders") ∈ lw_tbl := lw_at lw_m2 185 rfl
theorem q472 : (Jvm.Cond.fieldLink "StepRiders$Reader" (18 : Nat) "StepRiders$Reader" "text" "[B") ∈ lw_all := lw_g (lw_at lw_m2 186 rfl) rfl
theorem q473 : (Jvm.Cond.fieldLink "StepRiders$Reader" (22 : Nat) "StepRiders$Reader" "size" "I") ∈ lw_all := lw_g (lw_at lw_m2 187 rfl) rfl
theorem q474 : (Jvm.Cond.fieldLink "StepRiders$Reader" (26 : Nat) "StepRiders$Reader" "at" "I") ∈ lw_all := lw_g (lw_at lw_m2 188 rfl) rfl
theorem q475 : (Jvm.Cond.fieldLink "StepRiders$Reader" (52 : Nat) "StepRiders$Reader" "token" "I") ∈ lw_all := lw_g (lw_at lw_m2 189 rfl) rfl
theorem q476 : (Jvm.Cond.fieldLink "StepRiders$Reader" (30 : Nat) "StepRiders$Reader" "from" "I") ∈ lw_all := lw_g (lw_at lw_m2 190 rfl) rfl
theorem q477 : (Jvm.Cond.fieldLink "StepRiders$Reader" (37 : Nat) "StepRiders$Reader" "value" "I") ∈ lw_all := lw_g (lw_at lw_m2 191 rfl) rfl
theorem q478 : (Jvm.Cond.fieldLink "StepRiders$Reader" (12 : Nat) "StepRiders$Reader" "made" "LStepRiders$Stair;") ∈ lw_all := lw_g (lw_at lw_m2 192 rfl) rfl
theorem q480 : (Jvm.Cond.laysFinal "StepRiders$Reader" "StepRiders$Reader" "text" "[B") ∈ lw_all := lw_g (lw_at lw_m2 194 rfl) rfl
theorem q481 : (Jvm.Cond.soleField "StepRiders$Reader" "text") ∈ lw_all := lw_g (lw_at lw_m2 195 rfl) rfl
theorem q482 : (Jvm.Cond.laysFinal "StepRiders$Reader" "StepRiders$Reader" "size" "I") ∈ lw_all := lw_g (lw_at lw_m2 196 rfl) rfl
theorem q483 : (Jvm.Cond.soleField "StepRiders$Reader" "size") ∈ lw_all := lw_g (lw_at lw_m2 197 rfl) rfl
theorem q484 : (Jvm.Cond.lays "StepRiders$Reader" "StepRiders$Reader" "at" "I") ∈ lw_all := lw_g (lw_at lw_m2 198 rfl) rfl
theorem q485 : (Jvm.Cond.soleField "StepRiders$Reader" "at") ∈ lw_all := lw_g (lw_at lw_m2 199 rfl) rfl
theorem q486 : (Jvm.Cond.lays "StepRiders$Reader" "StepRiders$Reader" "token" "I") ∈ lw_all := lw_g (lw_at lw_m2 200 rfl) rfl
theorem q487 : (Jvm.Cond.soleField "StepRiders$Reader" "token") ∈ lw_all := lw_g (lw_at lw_m2 201 rfl) rfl
theorem q488 : (Jvm.Cond.lays "StepRiders$Reader" "StepRiders$Reader" "from" "I") ∈ lw_all := lw_g (lw_at lw_m2 202 rfl) rfl
theorem q489 : (Jvm.Cond.soleField "StepRiders$Reader" "from") ∈ lw_all := lw_g (lw_at lw_m2 203 rfl) rfl
theorem q490 : (Jvm.Cond.lays "StepRiders$Reader" "StepRiders$Reader" "value" "I") ∈ lw_all := lw_g (lw_at lw_m2 204 rfl) rfl
theorem q491 : (Jvm.Cond.soleField "StepRiders$Reader" "value") ∈ lw_all := lw_g (lw_at lw_m2 205 rfl) rfl
theorem q492 : (Jvm.Cond.laysFinal "StepRiders$Reader" "StepRiders$Reader" "made" "LStepRiders$Stair;") ∈ lw_all := lw_g (lw_at lw_m2 206 rfl) rfl
theorem q493 : (Jvm.Cond.soleField "StepRiders$Reader" "made") ∈ lw_all := lw_g (lw_at lw_m2 207 rfl) rfl
theorem q494 : (Jvm.Cond.superclass "StepRiders$Reader" "java/lang/Object") ∈ lw_all := lw_g (lw_at lw_m2 208 rfl) rfl
theorem q496 : (Jvm.Cond.instanceMethod ({ cls := "StepRiders$Reader", name := "all", desc := "()V" } : Jvm.MethodName)) ∈ lw_all := lw_g (lw_at lw_m2 210 rfl) rfl
theorem q497 : (Jvm.Cond.selects "StepRiders$Reader" ({ cls := "StepRiders$Reader", name := "all", desc := "()V" } : Jvm.MethodName) ({ cls := "StepRiders$Reader", name := "all", desc := "()V" } : Jvm.MethodName)) ∈ lw_all := lw_g (lw_at lw_m2 211 rfl) rfl
theorem q498 : (Jvm.Cond.code ({ cls := "StepRiders$Reader", name := "all", desc := "()V" } : Jvm.MethodName) prog_8_method_8_code (2 : Nat) (Option.none : Option Jvm.ClassFile.FieldType)) ∈ lw_all := lw_g (lw_at lw_m2 212 rfl) rfl
theorem q499 : (Jvm.Cond.methodLink "StepRiders$Reader" (64 : Nat) ({ cls := "StepRiders$Reader", name := "next", desc := "()V" } : Jvm.MethodName)) ∈ lw_all := lw_g (lw_at lw_m2 213 rfl) rfl
theorem q500 : (Jvm.Cond.privateMethod ({ cls := "StepRiders$Reader", name := "next", desc := "()V" } : Jvm.MethodName)) ∈ lw_tbl := lw_at lw_m2 214 rfl
theorem q501 : (Jvm.Cond.instanceMethod ({ cls := "StepRiders$Reader", name := "next", desc := "()V" } : Jvm.MethodName)) ∈ lw_all := lw_g (lw_at lw_m2 215 rfl) rfl
theorem q502 : (Jvm.Cond.code ({ cls := "StepRiders$Reader", name := "next", desc := "()V" } : Jvm.MethodName) prog_8_method_3_code (2 : Nat) (Option.none : Option Jvm.ClassFile.FieldType)) ∈ lw_all := lw_g (lw_at lw_m2 216 rfl) rfl
theorem q503 : (Jvm.Cond.methodLink "StepRiders$Reader" (33 : Nat) ({ cls := "StepRiders$Reader", name := "look", desc := "()I" } : Jvm.MethodName)) ∈ lw_all := lw_g (lw_at lw_m2 217 rfl) rfl
theorem q504 : (Jvm.Cond.privateMethod ({ cls := "StepRiders$Reader", name := "look", desc := "()I" } : Jvm.MethodName)) ∈ lw_tbl := lw_at lw_m2 218 rfl
theorem q505 : (Jvm.Cond.instanceMethod ({ cls := "StepRiders$Reader", name := "look", desc := "()I" } : Jvm.MethodName)) ∈ lw_all := lw_g (lw_at lw_m2 219 rfl) rfl
theorem q506 : (Jvm.Cond.code ({ cls := "StepRiders$Reader", name := "look", desc := "()I" } : Jvm.MethodName) prog_8_method_2_code (1 : Nat) (Option.some Jvm.ClassFile.FieldType.int)) ∈ lw_all := lw_g (lw_at lw_m2 220 rfl) rfl
theorem q507 : (Jvm.Cond.constant "StepRiders$Reader" (29 : Nat) (-1000000 : Int32)) ∈ lw_all := lw_g (lw_at lw_m2 221 rfl) rfl
theorem q508 : (Jvm.Cond.constantLong "StepRiders$Reader" (40 : Nat) (97 : Int64)) ∈ lw_all := lw_g (lw_at lw_m2 222 rfl) rfl
theorem q509 : (Jvm.Cond.constantLong "StepRiders$Reader" (42 : Nat) (122 : Int64)) ∈ lw_all := lw_g (lw_at lw_m2 223 rfl) rfl
theorem q510 : (Jvm.Cond.methodLinkNest "StepRiders$Reader" (44 : Nat) ({ cls := "StepRiders", name := "isIn", desc := "(JJJ)Z" } : Jvm.MethodName) "StepRiders") ∈ lw_tbl := lw_at lw_m2 224 rfl
theorem q511 : (Jvm.Cond.constantLong "StepRiders$Reader" (48 : Nat) (48 : Int64)) ∈ lw_all := lw_g (lw_at lw_m2 225 rfl) rfl
theorem q512 : (Jvm.Cond.constantLong "StepRiders$Reader" (50 : Nat) (57 : Int64)) ∈ lw_all := lw_g (lw_at lw_m2 226 rfl) rfl
theorem q513 : (Jvm.Cond.methodLink "StepRiders$Reader" (67 : Nat) ({ cls := "StepRiders$Reader", name := "is", desc := "(II)Z" } : Jvm.MethodName)) ∈ lw_all := lw_g (lw_at lw_m2 227 rfl) rfl
theorem q514 : (Jvm.Cond.privateMethod ({ cls := "StepRiders$Reader", name := "is", desc := "(II)Z" } : Jvm.MethodName)) ∈ lw_tbl := lw_at lw_m2 228 rfl
theorem q515 : (Jvm.Cond.instanceMethod ({ cls := "StepRiders$Reader", name := "is", desc := "(II)Z" } : Jvm.MethodName)) ∈ lw_all := lw_g (lw_at lw_m2 229 rfl) rfl
theorem q516 : (Jvm.Cond.code ({ cls := "StepRiders$Reader", name := "is", desc := "(II)Z" } : Jvm.MethodName) prog_8_method_5_code (3 : Nat) (Option.some Jvm.ClassFile.FieldType.boolean)) ∈ lw_all := lw_g (lw_at lw_m2 230 rfl) rfl
theorem q517 : (Jvm.Cond.methodLink "StepRiders$Reader" (60 : Nat) ({ cls := "StepRiders$Reader", name := "must", desc := "(ZI)V" } : Jvm.MethodName)) ∈ lw_all := lw_g (lw_at lw_m2 231 rfl) rfl
theorem q518 : (Jvm.Cond.privateMethod ({ cls := "StepRiders$Reader", name := "must", desc := "(ZI)V" } : Jvm.MethodName)) ∈ lw_tbl := lw_at lw_m2 232 rfl
theorem q519 : (Jvm.Cond.instanceMethod ({ cls := "StepRiders$Reader", name := "must", desc := "(ZI)V" } : Jvm.MethodName)) ∈ lw_all := lw_g (lw_at lw_m2 233 rfl) rfl
theorem q520 : (Jvm.Cond.code ({ cls := "StepRiders$Reader", name := "must", desc := "(ZI)V" } : Jvm.MethodName) prog_8_method_4_code (3 : Nat) (Option.none : Option Jvm.ClassFile.FieldType)) ∈ lw_all := lw_g (lw_at lw_m2 234 rfl) rfl
theorem q521 : (Jvm.Cond.classLink "StepRiders$Reader" (55 : Nat) "StepRiders$Fault") ∈ lw_all := lw_g (lw_at lw_m2 235 rfl) rfl
theorem q530 : (Jvm.Cond.methodLink "StepRiders$Reader" (57 : Nat) ({ cls := "StepRiders$Fault", name := "<init>", desc := "(II)V" } : Jvm.MethodName)) ∈ lw_all := lw_g (lw_at lw_m3 4 rfl) rfl
theorem q549 : (Jvm.Cond.methodLink "StepRiders$Reader" (71 : Nat) ({ cls := "StepRiders$Reader", name := "figure", desc := "(II)I" } : Jvm.MethodName)) ∈ lw_all := lw_g (lw_at lw_m3 23 rfl) rfl
theorem q550 : (Jvm.Cond.privateMethod ({ cls := "StepRiders$Reader", name := "figure", desc := "(II)I" } : Jvm.MethodName)) ∈ lw_tbl := lw_at lw_m3 24 rfl
theorem q551 : (Jvm.Cond.instanceMethod ({ cls := "StepRiders$Reader", name := "figure", desc := "(II)I" } : Jvm.MethodName)) ∈ lw_all := lw_g (lw_at lw_m3 25 rfl) rfl
theorem q552 : (Jvm.Cond.code ({ cls := "StepRiders$Reader", name := "figure", desc := "(II)I" } : Jvm.MethodName) prog_8_method_6_code (4 : Nat) (Option.some Jvm.ClassFile.FieldType.int)) ∈ lw_all := lw_g (lw_at lw_m3 26 rfl) rfl
theorem q553 : (Jvm.Cond.methodLink "StepRiders$Reader" (75 : Nat) ({ cls := "StepRiders$Reader", name := "sign", desc := "(I)V" } : Jvm.MethodName)) ∈ lw_all := lw_g (lw_at lw_m3 27 rfl) rfl
theorem q554 : (Jvm.Cond.privateMethod ({ cls := "StepRiders$Reader", name := "sign", desc := "(I)V" } : Jvm.MethodName)) ∈ lw_tbl := lw_at lw_m3 28 rfl
theorem q555 : (Jvm.Cond.instanceMethod ({ cls := "StepRiders$Reader", name := "sign", desc := "(I)V" } : Jvm.MethodName)) ∈ lw_all := lw_g (lw_at lw_m3 29 rfl) rfl
theorem q556 : (Jvm.Cond.code ({ cls := "StepRiders$Reader", name := "sign", desc := "(I)V" } : Jvm.MethodName) prog_8_method_7_code (2 : Nat) (Option.none : Option Jvm.ClassFile.FieldType)) ∈ lw_all := lw_g (lw_at lw_m3 30 rfl) rfl
theorem q557 : (Jvm.Cond.methodLink "StepRiders$Reader" (82 : Nat) ({ cls := "StepRiders$Reader", name := "isRider", desc := "()Z" } : Jvm.MethodName)) ∈ lw_all := lw_g (lw_at lw_m3 31 rfl) rfl
theorem q558 : (Jvm.Cond.privateMethod ({ cls := "StepRiders$Reader", name := "isRider", desc := "()Z" } : Jvm.MethodName)) ∈ lw_tbl := lw_at lw_m3 32 rfl
theorem q559 : (Jvm.Cond.instanceMethod ({ cls := "StepRiders$Reader", name := "isRider", desc := "()Z" } : Jvm.MethodName)) ∈ lw_all := lw_g (lw_at lw_m3 33 rfl) rfl
theorem q560 : (Jvm.Cond.code ({ cls := "StepRiders$Reader", name := "isRider", desc := "()Z" } : Jvm.MethodName) prog_8_method_9_code (1 : Nat) (Option.some Jvm.ClassFile.FieldType.boolean)) ∈ lw_all := lw_g (lw_at lw_m3 34 rfl) rfl
theorem q561 : (Jvm.Cond.stringRef "StepRiders$Reader" (92 : Nat) "swrtc") ∈ lw_tbl := lw_at lw_m3 35 rfl
theorem q562 : (Jvm.Cond.methodLink "StepRiders$Reader" (94 : Nat) ({ cls := "java/lang/String", name := "indexOf", desc := "(I)I" } : Jvm.MethodName)) ∈ lw_all := lw_g (lw_at lw_m3 36 rfl) rfl
theorem q648 : (Jvm.Cond.methodLink "StepRiders$Reader" (86 : Nat) ({ cls := "StepRiders$Reader", name := "rider", desc := "()V" } : Jvm.MethodName)) ∈ lw_all := lw_g (lw_at lw_m3 122 rfl) rfl
theorem q649 : (Jvm.Cond.privateMethod ({ cls := "StepRiders$Reader", name := "rider", desc := "()V" } : Jvm.MethodName)) ∈ lw_tbl := lw_at lw_m3 123 rfl
theorem q650 : (Jvm.Cond.instanceMethod ({ cls := "StepRiders$Reader", name := "rider", desc := "()V" } : Jvm.MethodName)) ∈ lw_all := lw_g (lw_at lw_m3 124 rfl) rfl
theorem q651 : (Jvm.Cond.code ({ cls := "StepRiders$Reader", name := "rider", desc := "()V" } : Jvm.MethodName) prog_8_method_10_code (3 : Nat) (Option.none : Option Jvm.ClassFile.FieldType)) ∈ lw_all := lw_g (lw_at lw_m3 125 rfl) rfl
theorem q652 : (Jvm.Cond.methodLink "StepRiders$Reader" (100 : Nat) ({ cls := "StepRiders$Stair", name := "many", desc := "()I" } : Jvm.MethodName)) ∈ lw_all := lw_g (lw_at lw_m3 126 rfl) rfl
theorem q666 : (Jvm.Cond.methodLinkNest "StepRiders$Reader" (114 : Nat) ({ cls := "StepRiders", name := "riderBy", desc := "(II)LStepRiders$Rider;" } : Jvm.MethodName) "StepRiders") ∈ lw_tbl := lw_at lw_m3 140 rfl
theorem q714 : (Jvm.Cond.interfaceEntry "StepRiders$Reader" (118 : Nat)) ∈ lw_tbl := lw_at lw_m3 188 rfl
theorem q715 : (Jvm.Cond.methodLink "StepRiders$Reader" (118 : Nat) ({ cls := "java/util/List", name := "add", desc := "(Ljava/lang/Object;)Z" } : Jvm.MethodName)) ∈ lw_all := lw_g (lw_at lw_m3 189 rfl) rfl
theorem q753 : (Jvm.Cond.selects "StepRiders$Reader" ({ cls := "java/lang/Object", name := "getClass", desc := "()Ljava/lang/Class;" } : Jvm.MethodName) ({ cls := "java/lang/Object", name := "getClass", desc := "()Ljava/lang/Class;" } : Jvm.MethodName)) ∈ lw_all := lw_g (lw_at lw_m3 227 rfl) rfl
theorem q1730 : (Jvm.Cond.castable "StepRiders$Reader" "java/lang/Object") ∈ lw_tbl := lw_at lw_m8 4 rfl
theorem in_X5 : ∀ w ∈ wsX50, w ∈ lw_all := lw_in wsX50 [480, 482, 484, 486, 488, 490, 492] (by decide +kernel) (by decide +kernel)

/-! StepRiders$Fault -/
set_option maxRecDepth 100000
def RX6 : String := "StepRiders$Fault"
def TX6 : u_T := fun k => match k with
  | 0 => ("java/lang/Throwable", "cause", "Ljava/lang/Throwable;", false)
  | 1 => ("java/lang/Throwable", "stackTrace", "[Ljava/lang/StackTraceElement;", false)
  | 2 => ("java/lang/Throwable", "suppressedExceptions", "Ljava/util/List;", false)
  | 3 => ("java/lang/Throwable", "detailMessage", "Ljava/lang/String;", false)
  | 4 => ("java/lang/Throwable", "backtrace", "Ljava/lang/Object;", false)
  | 5 => ("java/lang/Throwable", "depth", "I", false)
  | 6 => ("StepRiders$Fault", "kind", "I", true)
  | _ => ("StepRiders$Fault", "place", "I", true)
def tyX6 : Nat → FieldType := fun k => match k with
  | 0 => .object "java/lang/Throwable"
  | 1 => .array (.object "java/lang/StackTraceElement")
  | 2 => .object "java/util/List"
  | 3 => .object "java/lang/String"
  | 4 => .object "java/lang/Object"
  | 5 => .int
  | 6 => .int
  | _ => .int
abbrev wsX60 : List Cond := u_ws RX6 TX6 8
theorem nmX6 : ∀ a, a < 8 → ∀ b, b < 8 → a ≠ b → (TX6 a).2.1 ≠ (TX6 b).2.1 := by decide +kernel
theorem tyX6_ok : ∀ k, k < 8 → parseFieldDescriptor (TX6 k).2.2.1 = some (tyX6 k) := by decide +kernel
abbrev cX6_init : ByteArray := prog_4_method_1_code
def yX6_init : MethodName := ⟨RX6, "<init>", "(II)V"⟩
def dkwX6_init_0 : List UInt8 := [42, 1, 1, 3, 3, 183, 0, 1, 42, 27, 181, 0, 7, 42, 28, 181, 0, 13, 177]
abbrev dktX6_init_0 : List UInt8 := dkwX6_init_0 ++ []
theorem dksX6_init_0 : cX6_init.data.toList.drop 0 = dktX6_init_0 := by decide +kernel
theorem dX6_init_0 : decode cX6_init 0 = .ok (.aload_n 0, 1) := dk_42 (dk_at dksX6_init_0 0 rfl rfl)
theorem dX6_init_1 : decode cX6_init 1 = .ok (.aconst_null, 1) := dk_1 (dk_at dksX6_init_0 1 rfl rfl)
theorem dX6_init_2 : decode cX6_init 2 = .ok (.aconst_null, 1) := dk_1 (dk_at dksX6_init_0 2 rfl rfl)
theorem dX6_init_3 : decode cX6_init 3 = .ok (.iconst 0, 1) := dk_3 (dk_at dksX6_init_0 3 rfl rfl)
theorem dX6_init_4 : decode cX6_init 4 = .ok (.iconst 0, 1) := dk_3 (dk_at dksX6_init_0 4 rfl rfl)
theorem dX6_init_5 : decode cX6_init 5 = .ok (.invokespecial 1, 3) := dk_183 0 1 (dk_at dksX6_init_0 5 rfl rfl)
theorem dX6_init_8 : decode cX6_init 8 = .ok (.aload_n 0, 1) := dk_42 (dk_at dksX6_init_0 8 rfl rfl)
theorem dX6_init_9 : decode cX6_init 9 = .ok (.iload_n 1, 1) := dk_27 (dk_at dksX6_init_0 9 rfl rfl)
theorem dX6_init_10 : decode cX6_init 10 = .ok (.putfield 7, 3) := dk_181 0 7 (dk_at dksX6_init_0 10 rfl rfl)
theorem dX6_init_13 : decode cX6_init 13 = .ok (.aload_n 0, 1) := dk_42 (dk_at dksX6_init_0 13 rfl rfl)
theorem dX6_init_14 : decode cX6_init 14 = .ok (.iload_n 2, 1) := dk_28 (dk_at dksX6_init_0 14 rfl rfl)
theorem dX6_init_15 : decode cX6_init 15 = .ok (.putfield 13, 3) := dk_181 0 13 (dk_at dksX6_init_0 15 rfl rfl)
theorem dX6_init_18 : decode cX6_init 18 = .ok (.return_, 1) := dk_177 (dk_at dksX6_init_0 18 rfl rfl)
theorem q66 : (Jvm.Cond.initialized "StepRiders$Fault") ∈ lw_all := lw_g (lw_at lw_m1 20 rfl) rfl
theorem q277 : (Jvm.Cond.selects "StepRiders$Fault" ({ cls := "java/lang/Throwable", name := "fillInStackTrace", desc := "()Ljava/lang/Throwable;" } : Jvm.MethodName) ({ cls := "java/lang/Throwable", name := "fillInStackTrace", desc := "()Ljava/lang/Throwable;" } : Jvm.MethodName)) ∈ lw_all := lw_g (lw_at lw_m1 231 rfl) rfl
theorem q522 : (Jvm.Cond.instantiable "StepRiders$Fault" (8 : Nat)) ∈ lw_all := lw_g (lw_at lw_m2 236 rfl) rfl
theorem q523 : (Jvm.Cond.castable "StepRiders$Fault" "StepRiders$Fault") ∈ lw_tbl := lw_at lw_m2 237 rfl
theorem q524 : (Jvm.Cond.selects "StepRiders$Fault" ({ cls := "java/lang/Throwable", name := "fillInStackTrace", desc := "(I)Ljava/lang/Throwable;" } : Jvm.MethodName) ({ cls := "java/lang/Throwable", name := "fillInStackTrace", desc := "(I)Ljava/lang/Throwable;" } : Jvm.MethodName)) ∈ lw_all := lw_g (lw_at lw_m2 238 rfl) rfl
theorem q525 : (Jvm.Cond.lays "StepRiders$Fault" "java/lang/Throwable" "cause" "Ljava/lang/Throwable;") ∈ lw_all := lw_g (lw_at lw_m2 239 rfl) rfl
theorem q526 : (Jvm.Cond.lays "StepRiders$Fault" "java/lang/Throwable" "stackTrace" "[Ljava/lang/StackTraceElement;") ∈ lw_all := lw_g (lw_at lw_m3 0 rfl) rfl
theorem q527 : (Jvm.Cond.lays "StepRiders$Fault" "java/lang/Throwable" "suppressedExceptions" "Ljava/util/List;") ∈ lw_all := lw_g (lw_at lw_m3 1 rfl) rfl
theorem q528 : (Jvm.Cond.lays "StepRiders$Fault" "java/lang/Throwable" "detailMessage" "Ljava/lang/String;") ∈ lw_all := lw_g (lw_at lw_m3 2 rfl) rfl
theorem q529 : (Jvm.Cond.lays "StepRiders$Fault" "java/lang/Throwable" "backtrace" "Ljava/lang/Object;") ∈ lw_all := lw_g (lw_at lw_m3 3 rfl) rfl
theorem q531 : (Jvm.Cond.instanceMethod ({ cls := "StepRiders$Fault", name := "<init>", desc := "(II)V" } : Jvm.MethodName)) ∈ lw_all := lw_g (lw_at lw_m3 5 rfl) rfl
theorem q532 : (Jvm.Cond.code ({ cls := "StepRiders$Fault", name := "<init>", desc := "(II)V" } : Jvm.MethodName) prog_4_method_1_code (3 : Nat) (Option.none : Option Jvm.ClassFile.FieldType)) ∈ lw_all := lw_g (lw_at lw_m3 6 rfl) rfl
theorem q533 : (Jvm.Cond.methodLink "StepRiders$Fault" (1 : Nat) ({ cls := "java/lang/Exception", name := "<init>", desc := "(Ljava/lang/String;Ljava/lang/Throwable;ZZ)V" } : Jvm.MethodName)) ∈ lw_all := lw_g (lw_at lw_m3 7 rfl) rfl
theorem q539 : (Jvm.Cond.fieldLink "StepRiders$Fault" (7 : Nat) "StepRiders$Fault" "kind" "I") ∈ lw_all := lw_g (lw_at lw_m3 13 rfl) rfl
theorem q541 : (Jvm.Cond.fieldLink "StepRiders$Fault" (13 : Nat) "StepRiders$Fault" "place" "I") ∈ lw_all := lw_g (lw_at lw_m3 15 rfl) rfl
theorem q543 : (Jvm.Cond.laysFinal "StepRiders$Fault" "StepRiders$Fault" "kind" "I") ∈ lw_all := lw_g (lw_at lw_m3 17 rfl) rfl
theorem q544 : (Jvm.Cond.soleField "StepRiders$Fault" "kind") ∈ lw_all := lw_g (lw_at lw_m3 18 rfl) rfl
theorem q545 : (Jvm.Cond.laysFinal "StepRiders$Fault" "StepRiders$Fault" "place" "I") ∈ lw_all := lw_g (lw_at lw_m3 19 rfl) rfl
theorem q546 : (Jvm.Cond.soleField "StepRiders$Fault" "place") ∈ lw_all := lw_g (lw_at lw_m3 20 rfl) rfl
theorem q547 : (Jvm.Cond.lays "StepRiders$Fault" "java/lang/Throwable" "depth" "I") ∈ lw_all := lw_g (lw_at lw_m3 21 rfl) rfl
theorem q548 : (Jvm.Cond.superclass "StepRiders$Fault" "java/lang/Exception") ∈ lw_all := lw_g (lw_at lw_m3 22 rfl) rfl
theorem q751 : (Jvm.Cond.selects "StepRiders$Fault" ({ cls := "java/lang/Object", name := "getClass", desc := "()Ljava/lang/Class;" } : Jvm.MethodName) ({ cls := "java/lang/Object", name := "getClass", desc := "()Ljava/lang/Class;" } : Jvm.MethodName)) ∈ lw_all := lw_g (lw_at lw_m3 225 rfl) rfl
theorem q1731 : (Jvm.Cond.castable "StepRiders$Fault" "java/lang/Object") ∈ lw_tbl := lw_at lw_m8 5 rfl
theorem in_X6 : ∀ w ∈ wsX60, w ∈ lw_all := lw_in wsX60 [525, 526, 527, 528, 529, 547, 543, 545] (by decide +kernel) (by decide +kernel)

/-! StepRiders$Rider -/
set_option maxRecDepth 100000
def RX7 : String := "StepRiders$Rider"
abbrev cX7_init : ByteArray := prog_9_method_1_code
def yX7_init : MethodName := ⟨RX7, "<init>", "(I)V"⟩
def dkwX7_init_0 : List UInt8 := [42, 183, 0, 1, 42, 27, 181, 0, 7, 177]
abbrev dktX7_init_0 : List UInt8 := dkwX7_init_0 ++ []
theorem dksX7_init_0 : cX7_init.data.toList.drop 0 = dktX7_init_0 := by decide +kernel
theorem dX7_init_0 : decode cX7_init 0 = .ok (.aload_n 0, 1) := dk_42 (dk_at dksX7_init_0 0 rfl rfl)
theorem dX7_init_1 : decode cX7_init 1 = .ok (.invokespecial 1, 3) := dk_183 0 1 (dk_at dksX7_init_0 1 rfl rfl)
theorem dX7_init_4 : decode cX7_init 4 = .ok (.aload_n 0, 1) := dk_42 (dk_at dksX7_init_0 4 rfl rfl)
theorem dX7_init_5 : decode cX7_init 5 = .ok (.iload_n 1, 1) := dk_27 (dk_at dksX7_init_0 5 rfl rfl)
theorem dX7_init_6 : decode cX7_init 6 = .ok (.putfield 7, 3) := dk_181 0 7 (dk_at dksX7_init_0 6 rfl rfl)
theorem dX7_init_9 : decode cX7_init 9 = .ok (.return_, 1) := dk_177 (dk_at dksX7_init_0 9 rfl rfl)
abbrev cX7_number : ByteArray := prog_9_method_5_code
def yX7_number : MethodName := ⟨RX7, "number", "()I"⟩
theorem dX7_number_0 : decode cX7_number 0 = .ok (.aload_n 0, 1) := by decide +kernel
theorem dX7_number_1 : decode cX7_number 1 = .ok (.getfield 7, 3) := by decide +kernel
theorem dX7_number_4 : decode cX7_number 4 = .ok (.ireturn, 1) := by decide +kernel
abbrev cX7_isWide : ByteArray := prog_9_method_3_code
def yX7_isWide : MethodName := ⟨RX7, "isWide", "()Z"⟩
theorem dX7_isWide_0 : decode cX7_isWide 0 = .ok (.iconst 0, 1) := by decide +kernel
theorem dX7_isWide_1 : decode cX7_isWide 1 = .ok (.ireturn, 1) := by decide +kernel
theorem q72 : (Jvm.Cond.initialized "StepRiders$Rider") ∈ lw_all := lw_g (lw_at lw_m1 26 rfl) rfl
theorem q675 : (Jvm.Cond.instanceMethod ({ cls := "StepRiders$Rider", name := "<init>", desc := "(I)V" } : Jvm.MethodName)) ∈ lw_all := lw_g (lw_at lw_m3 149 rfl) rfl
theorem q676 : (Jvm.Cond.code ({ cls := "StepRiders$Rider", name := "<init>", desc := "(I)V" } : Jvm.MethodName) prog_9_method_1_code (2 : Nat) (Option.none : Option Jvm.ClassFile.FieldType)) ∈ lw_all := lw_g (lw_at lw_m3 150 rfl) rfl
theorem q677 : (Jvm.Cond.methodLink "StepRiders$Rider" (1 : Nat) ({ cls := "java/lang/Object", name := "<init>", desc := "()V" } : Jvm.MethodName)) ∈ lw_all := lw_g (lw_at lw_m3 151 rfl) rfl
theorem q678 : (Jvm.Cond.fieldLink "StepRiders$Rider" (7 : Nat) "StepRiders$Rider" "number" "I") ∈ lw_all := lw_g (lw_at lw_m3 152 rfl) rfl
theorem q680 : (Jvm.Cond.soleField "StepRiders$Rider" "number") ∈ lw_all := lw_g (lw_at lw_m3 154 rfl) rfl
theorem q849 : (Jvm.Cond.declares ({ cls := "StepRiders$Rider", name := "goes", desc := "(LStepRiders$Stair;)V" } : Jvm.MethodName)) ∈ lw_tbl := lw_at lw_m4 83 rfl
theorem q850 : (Jvm.Cond.sameMethod "StepRiders$Rider" "StepRiders$Rider" "goes" "(LStepRiders$Stair;)V") ∈ lw_all := lw_g (lw_at lw_m4 84 rfl) rfl
theorem q859 : (Jvm.Cond.declares ({ cls := "StepRiders$Rider", name := "number", desc := "()I" } : Jvm.MethodName)) ∈ lw_tbl := lw_at lw_m4 93 rfl
theorem q861 : (Jvm.Cond.instanceMethod ({ cls := "StepRiders$Rider", name := "number", desc := "()I" } : Jvm.MethodName)) ∈ lw_all := lw_g (lw_at lw_m4 95 rfl) rfl
theorem q862 : (Jvm.Cond.code ({ cls := "StepRiders$Rider", name := "number", desc := "()I" } : Jvm.MethodName) prog_9_method_5_code (1 : Nat) (Option.some Jvm.ClassFile.FieldType.int)) ∈ lw_all := lw_g (lw_at lw_m4 96 rfl) rfl
theorem q881 : (Jvm.Cond.instanceMethod ({ cls := "StepRiders$Rider", name := "isWide", desc := "()Z" } : Jvm.MethodName)) ∈ lw_all := lw_g (lw_at lw_m4 115 rfl) rfl
theorem q882 : (Jvm.Cond.sameMethod "StepRiders$Rider" "StepRiders$Rider" "isWide" "()Z") ∈ lw_all := lw_g (lw_at lw_m4 116 rfl) rfl
theorem q891 : (Jvm.Cond.code ({ cls := "StepRiders$Rider", name := "isWide", desc := "()Z" } : Jvm.MethodName) prog_9_method_3_code (1 : Nat) (Option.some Jvm.ClassFile.FieldType.boolean)) ∈ lw_all := lw_g (lw_at lw_m4 125 rfl) rfl
theorem q1216 : (Jvm.Cond.declares ({ cls := "StepRiders$Rider", name := "kind", desc := "()I" } : Jvm.MethodName)) ∈ lw_tbl := lw_at lw_m5 210 rfl
theorem q1217 : (Jvm.Cond.sameMethod "StepRiders$Rider" "StepRiders$Rider" "kind" "()I") ∈ lw_all := lw_g (lw_at lw_m5 211 rfl) rfl
theorem q1273 : (Jvm.Cond.superclass "StepRiders$Rider" "java/lang/Object") ∈ lw_all := lw_g (lw_at lw_m6 27 rfl) rfl
theorem q1328 : (Jvm.Cond.publicMethod ({ cls := "StepRiders$Rider", name := "number", desc := "()I" } : Jvm.MethodName)) ∈ lw_tbl := lw_at lw_m6 82 rfl
theorem q1701 : (Jvm.Cond.sameMethod "StepRiders$Rider" "StepRiders$Rider" "number" "()I") ∈ lw_all := lw_g (lw_at lw_m7 215 rfl) rfl

/-! StepRiders$Stander -/
set_option maxRecDepth 100000
def RX8 : String := "StepRiders$Stander"
def TX8 : u_T := fun k => match k with
  | _ => ("StepRiders$Rider", "number", "I", true)
def tyX8 : Nat → FieldType := fun k => match k with
  | _ => .int
abbrev wsX80 : List Cond := u_ws RX8 TX8 1
theorem nmX8 : ∀ a, a < 1 → ∀ b, b < 1 → a ≠ b → (TX8 a).2.1 ≠ (TX8 b).2.1 := by decide +kernel
theorem tyX8_ok : ∀ k, k < 1 → parseFieldDescriptor (TX8 k).2.2.1 = some (tyX8 k) := by decide +kernel
abbrev cX8_init : ByteArray := prog_16_method_1_code
def yX8_init : MethodName := ⟨RX8, "<init>", "(I)V"⟩
def dkwX8_init_0 : List UInt8 := [42, 27, 183, 0, 3, 177]
abbrev dktX8_init_0 : List UInt8 := dkwX8_init_0 ++ []
theorem dksX8_init_0 : cX8_init.data.toList.drop 0 = dktX8_init_0 := by decide +kernel
theorem dX8_init_0 : decode cX8_init 0 = .ok (.aload_n 0, 1) := dk_42 (dk_at dksX8_init_0 0 rfl rfl)
theorem dX8_init_1 : decode cX8_init 1 = .ok (.iload_n 1, 1) := dk_27 (dk_at dksX8_init_0 1 rfl rfl)
theorem dX8_init_2 : decode cX8_init 2 = .ok (.invokespecial 3, 3) := dk_183 0 3 (dk_at dksX8_init_0 2 rfl rfl)
theorem dX8_init_5 : decode cX8_init 5 = .ok (.return_, 1) := dk_177 (dk_at dksX8_init_0 5 rfl rfl)
abbrev cX8_goes : ByteArray := prog_16_method_4_code
def yX8_goes : MethodName := ⟨RX8, "goes", "(LStepRiders$Stair;)V"⟩
def dkwX8_goes_1 : List UInt8 := [177]
abbrev dktX8_goes_1 : List UInt8 := dkwX8_goes_1 ++ []
def dkwX8_goes_0 : List UInt8 := [42, 182, 0, 9, 61, 28, 158, 0, 18, 43, 42, 182, 0, 15, 4, 182, 0, 18, 132, 2, 255, 167, 255, 240]
abbrev dktX8_goes_0 : List UInt8 := dkwX8_goes_0 ++ dktX8_goes_1
theorem dksX8_goes_0 : cX8_goes.data.toList.drop 0 = dktX8_goes_0 := by decide +kernel
theorem dksX8_goes_1 : cX8_goes.data.toList.drop 24 = dktX8_goes_1 := dk_seg dksX8_goes_0 24 rfl rfl
theorem dX8_goes_0 : decode cX8_goes 0 = .ok (.aload_n 0, 1) := dk_42 (dk_at dksX8_goes_0 0 rfl rfl)
theorem dX8_goes_1 : decode cX8_goes 1 = .ok (.invokevirtual 9, 3) := dk_182 0 9 (dk_at dksX8_goes_0 1 rfl rfl)
theorem dX8_goes_4 : decode cX8_goes 4 = .ok (.istore_n 2, 1) := dk_61 (dk_at dksX8_goes_0 4 rfl rfl)
theorem dX8_goes_5 : decode cX8_goes 5 = .ok (.iload_n 2, 1) := dk_28 (dk_at dksX8_goes_0 5 rfl rfl)
theorem dX8_goes_6 : decode cX8_goes 6 = .ok (.ifCond .le 18, 3) := dk_158 0 18 (dk_at dksX8_goes_0 6 rfl rfl)
theorem dX8_goes_9 : decode cX8_goes 9 = .ok (.aload_n 1, 1) := dk_43 (dk_at dksX8_goes_0 9 rfl rfl)
theorem dX8_goes_10 : decode cX8_goes 10 = .ok (.aload_n 0, 1) := dk_42 (dk_at dksX8_goes_0 10 rfl rfl)
theorem dX8_goes_11 : decode cX8_goes 11 = .ok (.invokevirtual 15, 3) := dk_182 0 15 (dk_at dksX8_goes_0 11 rfl rfl)
theorem dX8_goes_14 : decode cX8_goes 14 = .ok (.iconst 1, 1) := dk_4 (dk_at dksX8_goes_0 14 rfl rfl)
theorem dX8_goes_15 : decode cX8_goes 15 = .ok (.invokevirtual 18, 3) := dk_182 0 18 (dk_at dksX8_goes_0 15 rfl rfl)
theorem dX8_goes_18 : decode cX8_goes 18 = .ok (.iinc 2 (-1), 3) := dk_132 2 255 (dk_at dksX8_goes_0 18 rfl rfl)
theorem dX8_goes_21 : decode cX8_goes 21 = .ok (.goto (-16), 3) := dk_167 255 240 (dk_at dksX8_goes_0 21 rfl rfl)
theorem dX8_goes_24 : decode cX8_goes 24 = .ok (.return_, 1) := dk_177 (dk_at dksX8_goes_1 0 rfl rfl)
abbrev cX8_steps : ByteArray := prog_16_method_3_code
def yX8_steps : MethodName := ⟨RX8, "steps", "()I"⟩
theorem dX8_steps_0 : decode cX8_steps 0 = .ok (.iconst 0, 1) := by decide +kernel
theorem dX8_steps_1 : decode cX8_steps 1 = .ok (.ireturn, 1) := by decide +kernel
abbrev cX8_kind : ByteArray := prog_16_method_2_code
def yX8_kind : MethodName := ⟨RX8, "kind", "()I"⟩
theorem dX8_kind_0 : decode cX8_kind 0 = .ok (.iconst 1, 1) := by decide +kernel
theorem dX8_kind_1 : decode cX8_kind 1 = .ok (.ireturn, 1) := by decide +kernel
abbrev cX8_size : ByteArray := prog_16_method_5_code
def yX8_size : MethodName := ⟨RX8, "size", "(LStepRiders$Trail;LStepRiders$Held;)I"⟩
def dkwX8_size_0 : List UInt8 := [43, 16, 11, 182, 0, 24, 42, 43, 44, 183, 0, 29, 42, 43, 44, 182, 0, 33, 96, 172]
abbrev dktX8_size_0 : List UInt8 := dkwX8_size_0 ++ []
theorem dksX8_size_0 : cX8_size.data.toList.drop 0 = dktX8_size_0 := by decide +kernel
theorem dX8_size_0 : decode cX8_size 0 = .ok (.aload_n 1, 1) := dk_43 (dk_at dksX8_size_0 0 rfl rfl)
theorem dX8_size_1 : decode cX8_size 1 = .ok (.bipush 11, 2) := dk_16 11 (dk_at dksX8_size_0 1 rfl rfl)
theorem dX8_size_3 : decode cX8_size 3 = .ok (.invokevirtual 24, 3) := dk_182 0 24 (dk_at dksX8_size_0 3 rfl rfl)
theorem dX8_size_6 : decode cX8_size 6 = .ok (.aload_n 0, 1) := dk_42 (dk_at dksX8_size_0 6 rfl rfl)
theorem dX8_size_7 : decode cX8_size 7 = .ok (.aload_n 1, 1) := dk_43 (dk_at dksX8_size_0 7 rfl rfl)
theorem dX8_size_8 : decode cX8_size 8 = .ok (.aload_n 2, 1) := dk_44 (dk_at dksX8_size_0 8 rfl rfl)
theorem dX8_size_9 : decode cX8_size 9 = .ok (.invokespecial 29, 3) := dk_183 0 29 (dk_at dksX8_size_0 9 rfl rfl)
theorem dX8_size_12 : decode cX8_size 12 = .ok (.aload_n 0, 1) := dk_42 (dk_at dksX8_size_0 12 rfl rfl)
theorem dX8_size_13 : decode cX8_size 13 = .ok (.aload_n 1, 1) := dk_43 (dk_at dksX8_size_0 13 rfl rfl)
theorem dX8_size_14 : decode cX8_size 14 = .ok (.aload_n 2, 1) := dk_44 (dk_at dksX8_size_0 14 rfl rfl)
theorem dX8_size_15 : decode cX8_size 15 = .ok (.invokevirtual 33, 3) := dk_182 0 33 (dk_at dksX8_size_0 15 rfl rfl)
theorem dX8_size_18 : decode cX8_size 18 = .ok (.iadd, 1) := dk_96 (dk_at dksX8_size_0 18 rfl rfl)
theorem dX8_size_19 : decode cX8_size 19 = .ok (.ireturn, 1) := dk_172 (dk_at dksX8_size_0 19 rfl rfl)
abbrev cX8_mark : ByteArray := prog_16_method_6_code
def yX8_mark : MethodName := ⟨RX8, "mark", "(LStepRiders$Trail;LStepRiders$Held;)I"⟩
def dkwX8_mark_0 : List UInt8 := [43, 16, 21, 182, 0, 24, 42, 43, 44, 183, 0, 36, 44, 185, 0, 37, 1, 0, 96, 172]
abbrev dktX8_mark_0 : List UInt8 := dkwX8_mark_0 ++ []
theorem dksX8_mark_0 : cX8_mark.data.toList.drop 0 = dktX8_mark_0 := by decide +kernel
theorem dX8_mark_0 : decode cX8_mark 0 = .ok (.aload_n 1, 1) := dk_43 (dk_at dksX8_mark_0 0 rfl rfl)
theorem dX8_mark_1 : decode cX8_mark 1 = .ok (.bipush 21, 2) := dk_16 21 (dk_at dksX8_mark_0 1 rfl rfl)
theorem dX8_mark_3 : decode cX8_mark 3 = .ok (.invokevirtual 24, 3) := dk_182 0 24 (dk_at dksX8_mark_0 3 rfl rfl)
theorem dX8_mark_6 : decode cX8_mark 6 = .ok (.aload_n 0, 1) := dk_42 (dk_at dksX8_mark_0 6 rfl rfl)
theorem dX8_mark_7 : decode cX8_mark 7 = .ok (.aload_n 1, 1) := dk_43 (dk_at dksX8_mark_0 7 rfl rfl)
theorem dX8_mark_8 : decode cX8_mark 8 = .ok (.aload_n 2, 1) := dk_44 (dk_at dksX8_mark_0 8 rfl rfl)
theorem dX8_mark_9 : decode cX8_mark 9 = .ok (.invokespecial 36, 3) := dk_183 0 36 (dk_at dksX8_mark_0 9 rfl rfl)
theorem dX8_mark_12 : decode cX8_mark 12 = .ok (.aload_n 2, 1) := dk_44 (dk_at dksX8_mark_0 12 rfl rfl)
theorem dX8_mark_13 : decode cX8_mark 13 = .ok (.invokeinterface 37 1, 5) := by decide +kernel
theorem dX8_mark_18 : decode cX8_mark 18 = .ok (.iadd, 1) := dk_96 (dk_at dksX8_mark_0 18 rfl rfl)
theorem dX8_mark_19 : decode cX8_mark 19 = .ok (.ireturn, 1) := dk_172 (dk_at dksX8_mark_0 19 rfl rfl)
theorem q73 : (Jvm.Cond.initialized "StepRiders$Stander") ∈ lw_all := lw_g (lw_at lw_m1 27 rfl) rfl
theorem q670 : (Jvm.Cond.instantiable "StepRiders$Stander" (1 : Nat)) ∈ lw_all := lw_g (lw_at lw_m3 144 rfl) rfl
theorem q672 : (Jvm.Cond.instanceMethod ({ cls := "StepRiders$Stander", name := "<init>", desc := "(I)V" } : Jvm.MethodName)) ∈ lw_all := lw_g (lw_at lw_m3 146 rfl) rfl
theorem q673 : (Jvm.Cond.code ({ cls := "StepRiders$Stander", name := "<init>", desc := "(I)V" } : Jvm.MethodName) prog_16_method_1_code (2 : Nat) (Option.none : Option Jvm.ClassFile.FieldType)) ∈ lw_all := lw_g (lw_at lw_m3 147 rfl) rfl
theorem q674 : (Jvm.Cond.methodLink "StepRiders$Stander" (3 : Nat) ({ cls := "StepRiders$Rider", name := "<init>", desc := "(I)V" } : Jvm.MethodName)) ∈ lw_all := lw_g (lw_at lw_m3 148 rfl) rfl
theorem q679 : (Jvm.Cond.laysFinal "StepRiders$Stander" "StepRiders$Rider" "number" "I") ∈ lw_all := lw_g (lw_at lw_m3 153 rfl) rfl
theorem q681 : (Jvm.Cond.superclass "StepRiders$Stander" "StepRiders$Rider") ∈ lw_all := lw_g (lw_at lw_m3 155 rfl) rfl
theorem q760 : (Jvm.Cond.selects "StepRiders$Stander" ({ cls := "java/lang/Object", name := "getClass", desc := "()Ljava/lang/Class;" } : Jvm.MethodName) ({ cls := "java/lang/Object", name := "getClass", desc := "()Ljava/lang/Class;" } : Jvm.MethodName)) ∈ lw_all := lw_g (lw_at lw_m3 234 rfl) rfl
theorem q888 : (Jvm.Cond.selects "StepRiders$Stander" ({ cls := "StepRiders$Rider", name := "isWide", desc := "()Z" } : Jvm.MethodName) ({ cls := "StepRiders$Rider", name := "isWide", desc := "()Z" } : Jvm.MethodName)) ∈ lw_all := lw_g (lw_at lw_m4 122 rfl) rfl
theorem q893 : (Jvm.Cond.instanceMethod ({ cls := "StepRiders$Stander", name := "goes", desc := "(LStepRiders$Stair;)V" } : Jvm.MethodName)) ∈ lw_all := lw_g (lw_at lw_m4 127 rfl) rfl
theorem q894 : (Jvm.Cond.code ({ cls := "StepRiders$Stander", name := "goes", desc := "(LStepRiders$Stair;)V" } : Jvm.MethodName) prog_16_method_4_code (3 : Nat) (Option.none : Option Jvm.ClassFile.FieldType)) ∈ lw_all := lw_g (lw_at lw_m4 128 rfl) rfl
theorem q895 : (Jvm.Cond.methodLink "StepRiders$Stander" (9 : Nat) ({ cls := "StepRiders$Stander", name := "steps", desc := "()I" } : Jvm.MethodName)) ∈ lw_all := lw_g (lw_at lw_m4 129 rfl) rfl
theorem q896 : (Jvm.Cond.instanceMethod ({ cls := "StepRiders$Stander", name := "steps", desc := "()I" } : Jvm.MethodName)) ∈ lw_all := lw_g (lw_at lw_m4 130 rfl) rfl
theorem q897 : (Jvm.Cond.selects "StepRiders$Stander" ({ cls := "StepRiders$Stander", name := "steps", desc := "()I" } : Jvm.MethodName) ({ cls := "StepRiders$Stander", name := "steps", desc := "()I" } : Jvm.MethodName)) ∈ lw_all := lw_g (lw_at lw_m4 131 rfl) rfl
theorem q898 : (Jvm.Cond.sameMethod "StepRiders$Stander" "StepRiders$Stander" "steps" "()I") ∈ lw_all := lw_g (lw_at lw_m4 132 rfl) rfl
theorem q907 : (Jvm.Cond.code ({ cls := "StepRiders$Stander", name := "steps", desc := "()I" } : Jvm.MethodName) prog_16_method_3_code (1 : Nat) (Option.some Jvm.ClassFile.FieldType.int)) ∈ lw_all := lw_g (lw_at lw_m4 141 rfl) rfl
theorem q908 : (Jvm.Cond.methodLink "StepRiders$Stander" (15 : Nat) ({ cls := "StepRiders$Stander", name := "number", desc := "()I" } : Jvm.MethodName)) ∈ lw_all := lw_g (lw_at lw_m4 142 rfl) rfl
theorem q909 : (Jvm.Cond.sameMethod "StepRiders$Stander" "StepRiders$Rider" "number" "()I") ∈ lw_all := lw_g (lw_at lw_m4 143 rfl) rfl
theorem q911 : (Jvm.Cond.selects "StepRiders$Stander" ({ cls := "StepRiders$Stander", name := "number", desc := "()I" } : Jvm.MethodName) ({ cls := "StepRiders$Rider", name := "number", desc := "()I" } : Jvm.MethodName)) ∈ lw_all := lw_g (lw_at lw_m4 145 rfl) rfl
theorem q913 : (Jvm.Cond.methodLink "StepRiders$Stander" (18 : Nat) ({ cls := "StepRiders$Stair", name := "climbs", desc := "(II)V" } : Jvm.MethodName)) ∈ lw_all := lw_g (lw_at lw_m4 147 rfl) rfl
theorem q914 : (Jvm.Cond.selects "StepRiders$Stander" ({ cls := "StepRiders$Rider", name := "goes", desc := "(LStepRiders$Stair;)V" } : Jvm.MethodName) ({ cls := "StepRiders$Stander", name := "goes", desc := "(LStepRiders$Stair;)V" } : Jvm.MethodName)) ∈ lw_all := lw_g (lw_at lw_m4 148 rfl) rfl
theorem q1224 : (Jvm.Cond.selects "StepRiders$Stander" ({ cls := "StepRiders$Rider", name := "kind", desc := "()I" } : Jvm.MethodName) ({ cls := "StepRiders$Stander", name := "kind", desc := "()I" } : Jvm.MethodName)) ∈ lw_all := lw_g (lw_at lw_m5 218 rfl) rfl
theorem q1225 : (Jvm.Cond.instanceMethod ({ cls := "StepRiders$Stander", name := "kind", desc := "()I" } : Jvm.MethodName)) ∈ lw_all := lw_g (lw_at lw_m5 219 rfl) rfl
theorem q1226 : (Jvm.Cond.code ({ cls := "StepRiders$Stander", name := "kind", desc := "()I" } : Jvm.MethodName) prog_16_method_2_code (1 : Nat) (Option.some Jvm.ClassFile.FieldType.int)) ∈ lw_all := lw_g (lw_at lw_m5 220 rfl) rfl
theorem q1300 : (Jvm.Cond.instanceMethod ({ cls := "StepRiders$Stander", name := "size", desc := "(LStepRiders$Trail;LStepRiders$Held;)I" } : Jvm.MethodName)) ∈ lw_all := lw_g (lw_at lw_m6 54 rfl) rfl
theorem q1301 : (Jvm.Cond.code ({ cls := "StepRiders$Stander", name := "size", desc := "(LStepRiders$Trail;LStepRiders$Held;)I" } : Jvm.MethodName) prog_16_method_5_code (3 : Nat) (Option.some Jvm.ClassFile.FieldType.int)) ∈ lw_all := lw_g (lw_at lw_m6 55 rfl) rfl
theorem q1302 : (Jvm.Cond.methodLink "StepRiders$Stander" (24 : Nat) ({ cls := "StepRiders$Trail", name := "begins", desc := "(I)V" } : Jvm.MethodName)) ∈ lw_all := lw_g (lw_at lw_m6 56 rfl) rfl
theorem q1303 : (Jvm.Cond.methodLink "StepRiders$Stander" (33 : Nat) ({ cls := "StepRiders$Stander", name := "mark", desc := "(LStepRiders$Trail;LStepRiders$Held;)I" } : Jvm.MethodName)) ∈ lw_all := lw_g (lw_at lw_m6 57 rfl) rfl
theorem q1304 : (Jvm.Cond.instanceMethod ({ cls := "StepRiders$Stander", name := "mark", desc := "(LStepRiders$Trail;LStepRiders$Held;)I" } : Jvm.MethodName)) ∈ lw_all := lw_g (lw_at lw_m6 58 rfl) rfl
theorem q1305 : (Jvm.Cond.selects "StepRiders$Stander" ({ cls := "StepRiders$Stander", name := "mark", desc := "(LStepRiders$Trail;LStepRiders$Held;)I" } : Jvm.MethodName) ({ cls := "StepRiders$Stander", name := "mark", desc := "(LStepRiders$Trail;LStepRiders$Held;)I" } : Jvm.MethodName)) ∈ lw_all := lw_g (lw_at lw_m6 59 rfl) rfl
theorem q1306 : (Jvm.Cond.sameMethod "StepRiders$Stander" "StepRiders$Stander" "mark" "(LStepRiders$Trail;LStepRiders$Held;)I") ∈ lw_all := lw_g (lw_at lw_m6 60 rfl) rfl
theorem q1317 : (Jvm.Cond.code ({ cls := "StepRiders$Stander", name := "mark", desc := "(LStepRiders$Trail;LStepRiders$Held;)I" } : Jvm.MethodName) prog_16_method_6_code (3 : Nat) (Option.some Jvm.ClassFile.FieldType.int)) ∈ lw_all := lw_g (lw_at lw_m6 71 rfl) rfl
theorem q1332 : (Jvm.Cond.castable "StepRiders$Stander" "StepRiders$Marked") ∈ lw_tbl := lw_at lw_m6 86 rfl
theorem q1333 : (Jvm.Cond.selects "StepRiders$Stander" ({ cls := "StepRiders$Marked", name := "number", desc := "()I" } : Jvm.MethodName) ({ cls := "StepRiders$Rider", name := "number", desc := "()I" } : Jvm.MethodName)) ∈ lw_all := lw_g (lw_at lw_m6 87 rfl) rfl
theorem q1334 : (Jvm.Cond.unhidden "StepRiders$Stander" "number" "()I") ∈ lw_tbl := lw_at lw_m6 88 rfl
theorem q1341 : (Jvm.Cond.interfaceEntry "StepRiders$Stander" (37 : Nat)) ∈ lw_tbl := lw_at lw_m6 95 rfl
theorem q1342 : (Jvm.Cond.methodLink "StepRiders$Stander" (37 : Nat) ({ cls := "StepRiders$Held", name := "lane", desc := "()I" } : Jvm.MethodName)) ∈ lw_all := lw_g (lw_at lw_m6 96 rfl) rfl
theorem q1350 : (Jvm.Cond.selects "StepRiders$Stander" ({ cls := "StepRiders$Marked", name := "size", desc := "(LStepRiders$Trail;LStepRiders$Held;)I" } : Jvm.MethodName) ({ cls := "StepRiders$Stander", name := "size", desc := "(LStepRiders$Trail;LStepRiders$Held;)I" } : Jvm.MethodName)) ∈ lw_all := lw_g (lw_at lw_m6 104 rfl) rfl
theorem q1361 : (Jvm.Cond.selects "StepRiders$Stander" ({ cls := "StepRiders$Marked", name := "mark", desc := "(LStepRiders$Trail;LStepRiders$Held;)I" } : Jvm.MethodName) ({ cls := "StepRiders$Stander", name := "mark", desc := "(LStepRiders$Trail;LStepRiders$Held;)I" } : Jvm.MethodName)) ∈ lw_all := lw_g (lw_at lw_m6 115 rfl) rfl
theorem q1704 : (Jvm.Cond.selects "StepRiders$Stander" ({ cls := "StepRiders$Rider", name := "number", desc := "()I" } : Jvm.MethodName) ({ cls := "StepRiders$Rider", name := "number", desc := "()I" } : Jvm.MethodName)) ∈ lw_all := lw_g (lw_at lw_m7 218 rfl) rfl
theorem q1708 : (Jvm.Cond.sameMethod "StepRiders$Stander" "StepRiders$Stander" "size" "(LStepRiders$Trail;LStepRiders$Held;)I") ∈ lw_all := lw_g (lw_at lw_m7 222 rfl) rfl
theorem q1714 : (Jvm.Cond.castable "StepRiders$Stander" "StepRiders$Rider") ∈ lw_tbl := lw_at lw_m7 228 rfl
theorem q1732 : (Jvm.Cond.castable "StepRiders$Stander" "java/lang/Object") ∈ lw_tbl := lw_at lw_m8 6 rfl
theorem in_X8 : ∀ w ∈ wsX80, w ∈ lw_all := lw_in wsX80 [679] (by decide +kernel) (by decide +kernel)

/-! StepRiders$Walker -/
set_option maxRecDepth 100000
def RX9 : String := "StepRiders$Walker"
def TX9 : u_T := fun k => match k with
  | _ => ("StepRiders$Rider", "number", "I", true)
def tyX9 : Nat → FieldType := fun k => match k with
  | _ => .int
abbrev wsX90 : List Cond := u_ws RX9 TX9 1
theorem nmX9 : ∀ a, a < 1 → ∀ b, b < 1 → a ≠ b → (TX9 a).2.1 ≠ (TX9 b).2.1 := by decide +kernel
theorem tyX9_ok : ∀ k, k < 1 → parseFieldDescriptor (TX9 k).2.2.1 = some (tyX9 k) := by decide +kernel
abbrev cX9_init : ByteArray := prog_20_method_1_code
def yX9_init : MethodName := ⟨RX9, "<init>", "(I)V"⟩
def dkwX9_init_0 : List UInt8 := [42, 27, 183, 0, 3, 177]
abbrev dktX9_init_0 : List UInt8 := dkwX9_init_0 ++ []
theorem dksX9_init_0 : cX9_init.data.toList.drop 0 = dktX9_init_0 := by decide +kernel
theorem dX9_init_0 : decode cX9_init 0 = .ok (.aload_n 0, 1) := dk_42 (dk_at dksX9_init_0 0 rfl rfl)
theorem dX9_init_1 : decode cX9_init 1 = .ok (.iload_n 1, 1) := dk_27 (dk_at dksX9_init_0 1 rfl rfl)
theorem dX9_init_2 : decode cX9_init 2 = .ok (.invokespecial 3, 3) := dk_183 0 3 (dk_at dksX9_init_0 2 rfl rfl)
theorem dX9_init_5 : decode cX9_init 5 = .ok (.return_, 1) := dk_177 (dk_at dksX9_init_0 5 rfl rfl)
abbrev cX9_steps : ByteArray := prog_20_method_3_code
def yX9_steps : MethodName := ⟨RX9, "steps", "()I"⟩
def dkwX9_steps_0 : List UInt8 := [42, 183, 0, 9, 4, 96, 172]
abbrev dktX9_steps_0 : List UInt8 := dkwX9_steps_0 ++ []
theorem dksX9_steps_0 : cX9_steps.data.toList.drop 0 = dktX9_steps_0 := by decide +kernel
theorem dX9_steps_0 : decode cX9_steps 0 = .ok (.aload_n 0, 1) := dk_42 (dk_at dksX9_steps_0 0 rfl rfl)
theorem dX9_steps_1 : decode cX9_steps 1 = .ok (.invokespecial 9, 3) := dk_183 0 9 (dk_at dksX9_steps_0 1 rfl rfl)
theorem dX9_steps_4 : decode cX9_steps 4 = .ok (.iconst 1, 1) := dk_4 (dk_at dksX9_steps_0 4 rfl rfl)
theorem dX9_steps_5 : decode cX9_steps 5 = .ok (.iadd, 1) := dk_96 (dk_at dksX9_steps_0 5 rfl rfl)
theorem dX9_steps_6 : decode cX9_steps 6 = .ok (.ireturn, 1) := dk_172 (dk_at dksX9_steps_0 6 rfl rfl)
abbrev cX9_kind : ByteArray := prog_20_method_2_code
def yX9_kind : MethodName := ⟨RX9, "kind", "()I"⟩
theorem dX9_kind_0 : decode cX9_kind 0 = .ok (.iconst 2, 1) := by decide +kernel
theorem dX9_kind_1 : decode cX9_kind 1 = .ok (.ireturn, 1) := by decide +kernel
abbrev cX9_mark : ByteArray := prog_20_method_5_code
def yX9_mark : MethodName := ⟨RX9, "mark", "(LStepRiders$Trail;LStepRiders$Held;)I"⟩
def dkwX9_mark_0 : List UInt8 := [43, 16, 24, 182, 0, 13, 5, 42, 43, 44, 183, 0, 22, 104, 172]
abbrev dktX9_mark_0 : List UInt8 := dkwX9_mark_0 ++ []
theorem dksX9_mark_0 : cX9_mark.data.toList.drop 0 = dktX9_mark_0 := by decide +kernel
theorem dX9_mark_0 : decode cX9_mark 0 = .ok (.aload_n 1, 1) := dk_43 (dk_at dksX9_mark_0 0 rfl rfl)
theorem dX9_mark_1 : decode cX9_mark 1 = .ok (.bipush 24, 2) := dk_16 24 (dk_at dksX9_mark_0 1 rfl rfl)
theorem dX9_mark_3 : decode cX9_mark 3 = .ok (.invokevirtual 13, 3) := dk_182 0 13 (dk_at dksX9_mark_0 3 rfl rfl)
theorem dX9_mark_6 : decode cX9_mark 6 = .ok (.iconst 2, 1) := dk_5 (dk_at dksX9_mark_0 6 rfl rfl)
theorem dX9_mark_7 : decode cX9_mark 7 = .ok (.aload_n 0, 1) := dk_42 (dk_at dksX9_mark_0 7 rfl rfl)
theorem dX9_mark_8 : decode cX9_mark 8 = .ok (.aload_n 1, 1) := dk_43 (dk_at dksX9_mark_0 8 rfl rfl)
theorem dX9_mark_9 : decode cX9_mark 9 = .ok (.aload_n 2, 1) := dk_44 (dk_at dksX9_mark_0 9 rfl rfl)
theorem dX9_mark_10 : decode cX9_mark 10 = .ok (.invokespecial 22, 3) := dk_183 0 22 (dk_at dksX9_mark_0 10 rfl rfl)
theorem dX9_mark_13 : decode cX9_mark 13 = .ok (.imul, 1) := dk_104 (dk_at dksX9_mark_0 13 rfl rfl)
theorem dX9_mark_14 : decode cX9_mark 14 = .ok (.ireturn, 1) := dk_172 (dk_at dksX9_mark_0 14 rfl rfl)
abbrev cX9_size : ByteArray := prog_20_method_4_code
def yX9_size : MethodName := ⟨RX9, "size", "(LStepRiders$Trail;LStepRiders$Held;)I"⟩
def dkwX9_size_0 : List UInt8 := [43, 16, 12, 182, 0, 13, 42, 43, 44, 183, 0, 18, 116, 172]
abbrev dktX9_size_0 : List UInt8 := dkwX9_size_0 ++ []
theorem dksX9_size_0 : cX9_size.data.toList.drop 0 = dktX9_size_0 := by decide +kernel
theorem dX9_size_0 : decode cX9_size 0 = .ok (.aload_n 1, 1) := dk_43 (dk_at dksX9_size_0 0 rfl rfl)
theorem dX9_size_1 : decode cX9_size 1 = .ok (.bipush 12, 2) := dk_16 12 (dk_at dksX9_size_0 1 rfl rfl)
theorem dX9_size_3 : decode cX9_size 3 = .ok (.invokevirtual 13, 3) := dk_182 0 13 (dk_at dksX9_size_0 3 rfl rfl)
theorem dX9_size_6 : decode cX9_size 6 = .ok (.aload_n 0, 1) := dk_42 (dk_at dksX9_size_0 6 rfl rfl)
theorem dX9_size_7 : decode cX9_size 7 = .ok (.aload_n 1, 1) := dk_43 (dk_at dksX9_size_0 7 rfl rfl)
theorem dX9_size_8 : decode cX9_size 8 = .ok (.aload_n 2, 1) := dk_44 (dk_at dksX9_size_0 8 rfl rfl)
theorem dX9_size_9 : decode cX9_size 9 = .ok (.invokespecial 18, 3) := dk_183 0 18 (dk_at dksX9_size_0 9 rfl rfl)
theorem dX9_size_12 : decode cX9_size 12 = .ok (.ineg, 1) := dk_116 (dk_at dksX9_size_0 12 rfl rfl)
theorem dX9_size_13 : decode cX9_size 13 = .ok (.ireturn, 1) := dk_172 (dk_at dksX9_size_0 13 rfl rfl)
theorem q74 : (Jvm.Cond.initialized "StepRiders$Walker") ∈ lw_all := lw_g (lw_at lw_m1 28 rfl) rfl
theorem q683 : (Jvm.Cond.instantiable "StepRiders$Walker" (1 : Nat)) ∈ lw_all := lw_g (lw_at lw_m3 157 rfl) rfl
theorem q685 : (Jvm.Cond.instanceMethod ({ cls := "StepRiders$Walker", name := "<init>", desc := "(I)V" } : Jvm.MethodName)) ∈ lw_all := lw_g (lw_at lw_m3 159 rfl) rfl
theorem q686 : (Jvm.Cond.code ({ cls := "StepRiders$Walker", name := "<init>", desc := "(I)V" } : Jvm.MethodName) prog_20_method_1_code (2 : Nat) (Option.none : Option Jvm.ClassFile.FieldType)) ∈ lw_all := lw_g (lw_at lw_m3 160 rfl) rfl
theorem q687 : (Jvm.Cond.methodLink "StepRiders$Walker" (3 : Nat) ({ cls := "StepRiders$Stander", name := "<init>", desc := "(I)V" } : Jvm.MethodName)) ∈ lw_all := lw_g (lw_at lw_m3 161 rfl) rfl
theorem q688 : (Jvm.Cond.laysFinal "StepRiders$Walker" "StepRiders$Rider" "number" "I") ∈ lw_all := lw_g (lw_at lw_m3 162 rfl) rfl
theorem q689 : (Jvm.Cond.superclass "StepRiders$Walker" "StepRiders$Stander") ∈ lw_all := lw_g (lw_at lw_m3 163 rfl) rfl
theorem q764 : (Jvm.Cond.selects "StepRiders$Walker" ({ cls := "java/lang/Object", name := "getClass", desc := "()Ljava/lang/Class;" } : Jvm.MethodName) ({ cls := "java/lang/Object", name := "getClass", desc := "()Ljava/lang/Class;" } : Jvm.MethodName)) ∈ lw_all := lw_g (lw_at lw_m3 238 rfl) rfl
theorem q890 : (Jvm.Cond.selects "StepRiders$Walker" ({ cls := "StepRiders$Rider", name := "isWide", desc := "()Z" } : Jvm.MethodName) ({ cls := "StepRiders$Rider", name := "isWide", desc := "()Z" } : Jvm.MethodName)) ∈ lw_all := lw_g (lw_at lw_m4 124 rfl) rfl
theorem q903 : (Jvm.Cond.selects "StepRiders$Walker" ({ cls := "StepRiders$Stander", name := "steps", desc := "()I" } : Jvm.MethodName) ({ cls := "StepRiders$Walker", name := "steps", desc := "()I" } : Jvm.MethodName)) ∈ lw_all := lw_g (lw_at lw_m4 137 rfl) rfl
theorem q904 : (Jvm.Cond.instanceMethod ({ cls := "StepRiders$Walker", name := "steps", desc := "()I" } : Jvm.MethodName)) ∈ lw_all := lw_g (lw_at lw_m4 138 rfl) rfl
theorem q905 : (Jvm.Cond.code ({ cls := "StepRiders$Walker", name := "steps", desc := "()I" } : Jvm.MethodName) prog_20_method_3_code (1 : Nat) (Option.some Jvm.ClassFile.FieldType.int)) ∈ lw_all := lw_g (lw_at lw_m4 139 rfl) rfl
theorem q906 : (Jvm.Cond.methodLink "StepRiders$Walker" (9 : Nat) ({ cls := "StepRiders$Stander", name := "steps", desc := "()I" } : Jvm.MethodName)) ∈ lw_all := lw_g (lw_at lw_m4 140 rfl) rfl
theorem q912 : (Jvm.Cond.selects "StepRiders$Walker" ({ cls := "StepRiders$Stander", name := "number", desc := "()I" } : Jvm.MethodName) ({ cls := "StepRiders$Rider", name := "number", desc := "()I" } : Jvm.MethodName)) ∈ lw_all := lw_g (lw_at lw_m4 146 rfl) rfl
theorem q916 : (Jvm.Cond.selects "StepRiders$Walker" ({ cls := "StepRiders$Rider", name := "goes", desc := "(LStepRiders$Stair;)V" } : Jvm.MethodName) ({ cls := "StepRiders$Stander", name := "goes", desc := "(LStepRiders$Stair;)V" } : Jvm.MethodName)) ∈ lw_all := lw_g (lw_at lw_m4 150 rfl) rfl
theorem q1230 : (Jvm.Cond.selects "StepRiders$Walker" ({ cls := "StepRiders$Rider", name := "kind", desc := "()I" } : Jvm.MethodName) ({ cls := "StepRiders$Walker", name := "kind", desc := "()I" } : Jvm.MethodName)) ∈ lw_all := lw_g (lw_at lw_m5 224 rfl) rfl
theorem q1231 : (Jvm.Cond.instanceMethod ({ cls := "StepRiders$Walker", name := "kind", desc := "()I" } : Jvm.MethodName)) ∈ lw_all := lw_g (lw_at lw_m5 225 rfl) rfl
theorem q1232 : (Jvm.Cond.code ({ cls := "StepRiders$Walker", name := "kind", desc := "()I" } : Jvm.MethodName) prog_20_method_2_code (1 : Nat) (Option.some Jvm.ClassFile.FieldType.int)) ∈ lw_all := lw_g (lw_at lw_m5 226 rfl) rfl
theorem q1312 : (Jvm.Cond.selects "StepRiders$Walker" ({ cls := "StepRiders$Stander", name := "mark", desc := "(LStepRiders$Trail;LStepRiders$Held;)I" } : Jvm.MethodName) ({ cls := "StepRiders$Walker", name := "mark", desc := "(LStepRiders$Trail;LStepRiders$Held;)I" } : Jvm.MethodName)) ∈ lw_all := lw_g (lw_at lw_m6 66 rfl) rfl
theorem q1313 : (Jvm.Cond.instanceMethod ({ cls := "StepRiders$Walker", name := "mark", desc := "(LStepRiders$Trail;LStepRiders$Held;)I" } : Jvm.MethodName)) ∈ lw_all := lw_g (lw_at lw_m6 67 rfl) rfl
theorem q1314 : (Jvm.Cond.code ({ cls := "StepRiders$Walker", name := "mark", desc := "(LStepRiders$Trail;LStepRiders$Held;)I" } : Jvm.MethodName) prog_20_method_5_code (3 : Nat) (Option.some Jvm.ClassFile.FieldType.int)) ∈ lw_all := lw_g (lw_at lw_m6 68 rfl) rfl
theorem q1315 : (Jvm.Cond.methodLink "StepRiders$Walker" (13 : Nat) ({ cls := "StepRiders$Trail", name := "begins", desc := "(I)V" } : Jvm.MethodName)) ∈ lw_all := lw_g (lw_at lw_m6 69 rfl) rfl
theorem q1316 : (Jvm.Cond.methodLink "StepRiders$Walker" (22 : Nat) ({ cls := "StepRiders$Stander", name := "mark", desc := "(LStepRiders$Trail;LStepRiders$Held;)I" } : Jvm.MethodName)) ∈ lw_all := lw_g (lw_at lw_m6 70 rfl) rfl
theorem q1338 : (Jvm.Cond.castable "StepRiders$Walker" "StepRiders$Marked") ∈ lw_tbl := lw_at lw_m6 92 rfl
theorem q1339 : (Jvm.Cond.selects "StepRiders$Walker" ({ cls := "StepRiders$Marked", name := "number", desc := "()I" } : Jvm.MethodName) ({ cls := "StepRiders$Rider", name := "number", desc := "()I" } : Jvm.MethodName)) ∈ lw_all := lw_g (lw_at lw_m6 93 rfl) rfl
theorem q1340 : (Jvm.Cond.unhidden "StepRiders$Walker" "number" "()I") ∈ lw_tbl := lw_at lw_m6 94 rfl
theorem q1352 : (Jvm.Cond.selects "StepRiders$Walker" ({ cls := "StepRiders$Marked", name := "size", desc := "(LStepRiders$Trail;LStepRiders$Held;)I" } : Jvm.MethodName) ({ cls := "StepRiders$Walker", name := "size", desc := "(LStepRiders$Trail;LStepRiders$Held;)I" } : Jvm.MethodName)) ∈ lw_all := lw_g (lw_at lw_m6 106 rfl) rfl
theorem q1353 : (Jvm.Cond.instanceMethod ({ cls := "StepRiders$Walker", name := "size", desc := "(LStepRiders$Trail;LStepRiders$Held;)I" } : Jvm.MethodName)) ∈ lw_all := lw_g (lw_at lw_m6 107 rfl) rfl
theorem q1354 : (Jvm.Cond.code ({ cls := "StepRiders$Walker", name := "size", desc := "(LStepRiders$Trail;LStepRiders$Held;)I" } : Jvm.MethodName) prog_20_method_4_code (3 : Nat) (Option.some Jvm.ClassFile.FieldType.int)) ∈ lw_all := lw_g (lw_at lw_m6 108 rfl) rfl
theorem q1355 : (Jvm.Cond.methodLink "StepRiders$Walker" (18 : Nat) ({ cls := "StepRiders$Stander", name := "size", desc := "(LStepRiders$Trail;LStepRiders$Held;)I" } : Jvm.MethodName)) ∈ lw_all := lw_g (lw_at lw_m6 109 rfl) rfl
theorem q1363 : (Jvm.Cond.selects "StepRiders$Walker" ({ cls := "StepRiders$Marked", name := "mark", desc := "(LStepRiders$Trail;LStepRiders$Held;)I" } : Jvm.MethodName) ({ cls := "StepRiders$Walker", name := "mark", desc := "(LStepRiders$Trail;LStepRiders$Held;)I" } : Jvm.MethodName)) ∈ lw_all := lw_g (lw_at lw_m6 117 rfl) rfl
theorem q1706 : (Jvm.Cond.selects "StepRiders$Walker" ({ cls := "StepRiders$Rider", name := "number", desc := "()I" } : Jvm.MethodName) ({ cls := "StepRiders$Rider", name := "number", desc := "()I" } : Jvm.MethodName)) ∈ lw_all := lw_g (lw_at lw_m7 220 rfl) rfl
theorem q1716 : (Jvm.Cond.castable "StepRiders$Walker" "StepRiders$Rider") ∈ lw_tbl := lw_at lw_m7 230 rfl
theorem q1718 : (Jvm.Cond.castable "StepRiders$Walker" "StepRiders$Stander") ∈ lw_tbl := lw_at lw_m7 232 rfl
theorem q1733 : (Jvm.Cond.castable "StepRiders$Walker" "java/lang/Object") ∈ lw_tbl := lw_at lw_m8 7 rfl
theorem in_X9 : ∀ w ∈ wsX90, w ∈ lw_all := lw_in wsX90 [688] (by decide +kernel) (by decide +kernel)

/-! StepRiders$Runner -/
set_option maxRecDepth 100000
def RX10 : String := "StepRiders$Runner"
def TX10 : u_T := fun k => match k with
  | _ => ("StepRiders$Rider", "number", "I", true)
def tyX10 : Nat → FieldType := fun k => match k with
  | _ => .int
abbrev wsX100 : List Cond := u_ws RX10 TX10 1
theorem nmX10 : ∀ a, a < 1 → ∀ b, b < 1 → a ≠ b → (TX10 a).2.1 ≠ (TX10 b).2.1 := by decide +kernel
theorem tyX10_ok : ∀ k, k < 1 → parseFieldDescriptor (TX10 k).2.2.1 = some (tyX10 k) := by decide +kernel
abbrev cX10_init : ByteArray := prog_10_method_1_code
def yX10_init : MethodName := ⟨RX10, "<init>", "(I)V"⟩
def dkwX10_init_0 : List UInt8 := [42, 27, 183, 0, 3, 177]
abbrev dktX10_init_0 : List UInt8 := dkwX10_init_0 ++ []
theorem dksX10_init_0 : cX10_init.data.toList.drop 0 = dktX10_init_0 := by decide +kernel
theorem dX10_init_0 : decode cX10_init 0 = .ok (.aload_n 0, 1) := dk_42 (dk_at dksX10_init_0 0 rfl rfl)
theorem dX10_init_1 : decode cX10_init 1 = .ok (.iload_n 1, 1) := dk_27 (dk_at dksX10_init_0 1 rfl rfl)
theorem dX10_init_2 : decode cX10_init 2 = .ok (.invokespecial 3, 3) := dk_183 0 3 (dk_at dksX10_init_0 2 rfl rfl)
theorem dX10_init_5 : decode cX10_init 5 = .ok (.return_, 1) := dk_177 (dk_at dksX10_init_0 5 rfl rfl)
abbrev cX10_steps : ByteArray := prog_10_method_3_code
def yX10_steps : MethodName := ⟨RX10, "steps", "()I"⟩
def dkwX10_steps_0 : List UInt8 := [42, 183, 0, 9, 5, 96, 172]
abbrev dktX10_steps_0 : List UInt8 := dkwX10_steps_0 ++ []
theorem dksX10_steps_0 : cX10_steps.data.toList.drop 0 = dktX10_steps_0 := by decide +kernel
theorem dX10_steps_0 : decode cX10_steps 0 = .ok (.aload_n 0, 1) := dk_42 (dk_at dksX10_steps_0 0 rfl rfl)
theorem dX10_steps_1 : decode cX10_steps 1 = .ok (.invokespecial 9, 3) := dk_183 0 9 (dk_at dksX10_steps_0 1 rfl rfl)
theorem dX10_steps_4 : decode cX10_steps 4 = .ok (.iconst 2, 1) := dk_5 (dk_at dksX10_steps_0 4 rfl rfl)
theorem dX10_steps_5 : decode cX10_steps 5 = .ok (.iadd, 1) := dk_96 (dk_at dksX10_steps_0 5 rfl rfl)
theorem dX10_steps_6 : decode cX10_steps 6 = .ok (.ireturn, 1) := dk_172 (dk_at dksX10_steps_0 6 rfl rfl)
abbrev cX10_kind : ByteArray := prog_10_method_2_code
def yX10_kind : MethodName := ⟨RX10, "kind", "()I"⟩
theorem dX10_kind_0 : decode cX10_kind 0 = .ok (.iconst 3, 1) := by decide +kernel
theorem dX10_kind_1 : decode cX10_kind 1 = .ok (.ireturn, 1) := by decide +kernel
abbrev cX10_mark : ByteArray := prog_10_method_4_code
def yX10_mark : MethodName := ⟨RX10, "mark", "(LStepRiders$Trail;LStepRiders$Held;)I"⟩
def dkwX10_mark_0 : List UInt8 := [43, 16, 22, 182, 0, 13, 42, 43, 44, 183, 0, 18, 17, 3, 232, 100, 172]
abbrev dktX10_mark_0 : List UInt8 := dkwX10_mark_0 ++ []
theorem dksX10_mark_0 : cX10_mark.data.toList.drop 0 = dktX10_mark_0 := by decide +kernel
theorem dX10_mark_0 : decode cX10_mark 0 = .ok (.aload_n 1, 1) := dk_43 (dk_at dksX10_mark_0 0 rfl rfl)
theorem dX10_mark_1 : decode cX10_mark 1 = .ok (.bipush 22, 2) := dk_16 22 (dk_at dksX10_mark_0 1 rfl rfl)
theorem dX10_mark_3 : decode cX10_mark 3 = .ok (.invokevirtual 13, 3) := dk_182 0 13 (dk_at dksX10_mark_0 3 rfl rfl)
theorem dX10_mark_6 : decode cX10_mark 6 = .ok (.aload_n 0, 1) := dk_42 (dk_at dksX10_mark_0 6 rfl rfl)
theorem dX10_mark_7 : decode cX10_mark 7 = .ok (.aload_n 1, 1) := dk_43 (dk_at dksX10_mark_0 7 rfl rfl)
theorem dX10_mark_8 : decode cX10_mark 8 = .ok (.aload_n 2, 1) := dk_44 (dk_at dksX10_mark_0 8 rfl rfl)
theorem dX10_mark_9 : decode cX10_mark 9 = .ok (.invokespecial 18, 3) := dk_183 0 18 (dk_at dksX10_mark_0 9 rfl rfl)
theorem dX10_mark_12 : decode cX10_mark 12 = .ok (.sipush 1000, 3) := dk_17 3 232 (dk_at dksX10_mark_0 12 rfl rfl)
theorem dX10_mark_15 : decode cX10_mark 15 = .ok (.isub, 1) := dk_100 (dk_at dksX10_mark_0 15 rfl rfl)
theorem dX10_mark_16 : decode cX10_mark 16 = .ok (.ireturn, 1) := dk_172 (dk_at dksX10_mark_0 16 rfl rfl)
theorem q75 : (Jvm.Cond.initialized "StepRiders$Runner") ∈ lw_all := lw_g (lw_at lw_m1 29 rfl) rfl
theorem q691 : (Jvm.Cond.instantiable "StepRiders$Runner" (1 : Nat)) ∈ lw_all := lw_g (lw_at lw_m3 165 rfl) rfl
theorem q693 : (Jvm.Cond.instanceMethod ({ cls := "StepRiders$Runner", name := "<init>", desc := "(I)V" } : Jvm.MethodName)) ∈ lw_all := lw_g (lw_at lw_m3 167 rfl) rfl
theorem q694 : (Jvm.Cond.code ({ cls := "StepRiders$Runner", name := "<init>", desc := "(I)V" } : Jvm.MethodName) prog_10_method_1_code (2 : Nat) (Option.none : Option Jvm.ClassFile.FieldType)) ∈ lw_all := lw_g (lw_at lw_m3 168 rfl) rfl
theorem q695 : (Jvm.Cond.methodLink "StepRiders$Runner" (3 : Nat) ({ cls := "StepRiders$Stander", name := "<init>", desc := "(I)V" } : Jvm.MethodName)) ∈ lw_all := lw_g (lw_at lw_m3 169 rfl) rfl
theorem q696 : (Jvm.Cond.laysFinal "StepRiders$Runner" "StepRiders$Rider" "number" "I") ∈ lw_all := lw_g (lw_at lw_m3 170 rfl) rfl
theorem q697 : (Jvm.Cond.superclass "StepRiders$Runner" "StepRiders$Stander") ∈ lw_all := lw_g (lw_at lw_m3 171 rfl) rfl
theorem q754 : (Jvm.Cond.selects "StepRiders$Runner" ({ cls := "java/lang/Object", name := "getClass", desc := "()Ljava/lang/Class;" } : Jvm.MethodName) ({ cls := "java/lang/Object", name := "getClass", desc := "()Ljava/lang/Class;" } : Jvm.MethodName)) ∈ lw_all := lw_g (lw_at lw_m3 228 rfl) rfl
theorem q887 : (Jvm.Cond.selects "StepRiders$Runner" ({ cls := "StepRiders$Rider", name := "isWide", desc := "()Z" } : Jvm.MethodName) ({ cls := "StepRiders$Rider", name := "isWide", desc := "()Z" } : Jvm.MethodName)) ∈ lw_all := lw_g (lw_at lw_m4 121 rfl) rfl
theorem q892 : (Jvm.Cond.selects "StepRiders$Runner" ({ cls := "StepRiders$Rider", name := "goes", desc := "(LStepRiders$Stair;)V" } : Jvm.MethodName) ({ cls := "StepRiders$Stander", name := "goes", desc := "(LStepRiders$Stair;)V" } : Jvm.MethodName)) ∈ lw_all := lw_g (lw_at lw_m4 126 rfl) rfl
theorem q899 : (Jvm.Cond.selects "StepRiders$Runner" ({ cls := "StepRiders$Stander", name := "steps", desc := "()I" } : Jvm.MethodName) ({ cls := "StepRiders$Runner", name := "steps", desc := "()I" } : Jvm.MethodName)) ∈ lw_all := lw_g (lw_at lw_m4 133 rfl) rfl
theorem q900 : (Jvm.Cond.instanceMethod ({ cls := "StepRiders$Runner", name := "steps", desc := "()I" } : Jvm.MethodName)) ∈ lw_all := lw_g (lw_at lw_m4 134 rfl) rfl
theorem q901 : (Jvm.Cond.code ({ cls := "StepRiders$Runner", name := "steps", desc := "()I" } : Jvm.MethodName) prog_10_method_3_code (1 : Nat) (Option.some Jvm.ClassFile.FieldType.int)) ∈ lw_all := lw_g (lw_at lw_m4 135 rfl) rfl
theorem q902 : (Jvm.Cond.methodLink "StepRiders$Runner" (9 : Nat) ({ cls := "StepRiders$Stander", name := "steps", desc := "()I" } : Jvm.MethodName)) ∈ lw_all := lw_g (lw_at lw_m4 136 rfl) rfl
theorem q910 : (Jvm.Cond.selects "StepRiders$Runner" ({ cls := "StepRiders$Stander", name := "number", desc := "()I" } : Jvm.MethodName) ({ cls := "StepRiders$Rider", name := "number", desc := "()I" } : Jvm.MethodName)) ∈ lw_all := lw_g (lw_at lw_m4 144 rfl) rfl
theorem q1221 : (Jvm.Cond.selects "StepRiders$Runner" ({ cls := "StepRiders$Rider", name := "kind", desc := "()I" } : Jvm.MethodName) ({ cls := "StepRiders$Runner", name := "kind", desc := "()I" } : Jvm.MethodName)) ∈ lw_all := lw_g (lw_at lw_m5 215 rfl) rfl
theorem q1222 : (Jvm.Cond.instanceMethod ({ cls := "StepRiders$Runner", name := "kind", desc := "()I" } : Jvm.MethodName)) ∈ lw_all := lw_g (lw_at lw_m5 216 rfl) rfl
theorem q1223 : (Jvm.Cond.code ({ cls := "StepRiders$Runner", name := "kind", desc := "()I" } : Jvm.MethodName) prog_10_method_2_code (1 : Nat) (Option.some Jvm.ClassFile.FieldType.int)) ∈ lw_all := lw_g (lw_at lw_m5 217 rfl) rfl
theorem q1299 : (Jvm.Cond.selects "StepRiders$Runner" ({ cls := "StepRiders$Marked", name := "size", desc := "(LStepRiders$Trail;LStepRiders$Held;)I" } : Jvm.MethodName) ({ cls := "StepRiders$Stander", name := "size", desc := "(LStepRiders$Trail;LStepRiders$Held;)I" } : Jvm.MethodName)) ∈ lw_all := lw_g (lw_at lw_m6 53 rfl) rfl
theorem q1307 : (Jvm.Cond.selects "StepRiders$Runner" ({ cls := "StepRiders$Stander", name := "mark", desc := "(LStepRiders$Trail;LStepRiders$Held;)I" } : Jvm.MethodName) ({ cls := "StepRiders$Runner", name := "mark", desc := "(LStepRiders$Trail;LStepRiders$Held;)I" } : Jvm.MethodName)) ∈ lw_all := lw_g (lw_at lw_m6 61 rfl) rfl
theorem q1308 : (Jvm.Cond.instanceMethod ({ cls := "StepRiders$Runner", name := "mark", desc := "(LStepRiders$Trail;LStepRiders$Held;)I" } : Jvm.MethodName)) ∈ lw_all := lw_g (lw_at lw_m6 62 rfl) rfl
theorem q1309 : (Jvm.Cond.code ({ cls := "StepRiders$Runner", name := "mark", desc := "(LStepRiders$Trail;LStepRiders$Held;)I" } : Jvm.MethodName) prog_10_method_4_code (3 : Nat) (Option.some Jvm.ClassFile.FieldType.int)) ∈ lw_all := lw_g (lw_at lw_m6 63 rfl) rfl
theorem q1310 : (Jvm.Cond.methodLink "StepRiders$Runner" (13 : Nat) ({ cls := "StepRiders$Trail", name := "begins", desc := "(I)V" } : Jvm.MethodName)) ∈ lw_all := lw_g (lw_at lw_m6 64 rfl) rfl
theorem q1311 : (Jvm.Cond.methodLink "StepRiders$Runner" (18 : Nat) ({ cls := "StepRiders$Stander", name := "mark", desc := "(LStepRiders$Trail;LStepRiders$Held;)I" } : Jvm.MethodName)) ∈ lw_all := lw_g (lw_at lw_m6 65 rfl) rfl
theorem q1329 : (Jvm.Cond.castable "StepRiders$Runner" "StepRiders$Marked") ∈ lw_tbl := lw_at lw_m6 83 rfl
theorem q1330 : (Jvm.Cond.selects "StepRiders$Runner" ({ cls := "StepRiders$Marked", name := "number", desc := "()I" } : Jvm.MethodName) ({ cls := "StepRiders$Rider", name := "number", desc := "()I" } : Jvm.MethodName)) ∈ lw_all := lw_g (lw_at lw_m6 84 rfl) rfl
theorem q1331 : (Jvm.Cond.unhidden "StepRiders$Runner" "number" "()I") ∈ lw_tbl := lw_at lw_m6 85 rfl
theorem q1360 : (Jvm.Cond.selects "StepRiders$Runner" ({ cls := "StepRiders$Marked", name := "mark", desc := "(LStepRiders$Trail;LStepRiders$Held;)I" } : Jvm.MethodName) ({ cls := "StepRiders$Runner", name := "mark", desc := "(LStepRiders$Trail;LStepRiders$Held;)I" } : Jvm.MethodName)) ∈ lw_all := lw_g (lw_at lw_m6 114 rfl) rfl
theorem q1703 : (Jvm.Cond.selects "StepRiders$Runner" ({ cls := "StepRiders$Rider", name := "number", desc := "()I" } : Jvm.MethodName) ({ cls := "StepRiders$Rider", name := "number", desc := "()I" } : Jvm.MethodName)) ∈ lw_all := lw_g (lw_at lw_m7 217 rfl) rfl
theorem q1713 : (Jvm.Cond.castable "StepRiders$Runner" "StepRiders$Rider") ∈ lw_tbl := lw_at lw_m7 227 rfl
theorem q1717 : (Jvm.Cond.castable "StepRiders$Runner" "StepRiders$Stander") ∈ lw_tbl := lw_at lw_m7 231 rfl
theorem q1734 : (Jvm.Cond.castable "StepRiders$Runner" "java/lang/Object") ∈ lw_tbl := lw_at lw_m8 8 rfl
theorem in_X10 : ∀ w ∈ wsX100, w ∈ lw_all := lw_in wsX100 [696] (by decide +kernel) (by decide +kernel)

/-! StepRiders$Trunk -/
set_option maxRecDepth 100000
def RX11 : String := "StepRiders$Trunk"
def TX11 : u_T := fun k => match k with
  | _ => ("StepRiders$Rider", "number", "I", true)
def tyX11 : Nat → FieldType := fun k => match k with
  | _ => .int
abbrev wsX110 : List Cond := u_ws RX11 TX11 1
theorem nmX11 : ∀ a, a < 1 → ∀ b, b < 1 → a ≠ b → (TX11 a).2.1 ≠ (TX11 b).2.1 := by decide +kernel
theorem tyX11_ok : ∀ k, k < 1 → parseFieldDescriptor (TX11 k).2.2.1 = some (tyX11 k) := by decide +kernel
abbrev cX11_init : ByteArray := prog_19_method_1_code
def yX11_init : MethodName := ⟨RX11, "<init>", "(I)V"⟩
def dkwX11_init_0 : List UInt8 := [42, 27, 183, 0, 3, 177]
abbrev dktX11_init_0 : List UInt8 := dkwX11_init_0 ++ []
theorem dksX11_init_0 : cX11_init.data.toList.drop 0 = dktX11_init_0 := by decide +kernel
theorem dX11_init_0 : decode cX11_init 0 = .ok (.aload_n 0, 1) := dk_42 (dk_at dksX11_init_0 0 rfl rfl)
theorem dX11_init_1 : decode cX11_init 1 = .ok (.iload_n 1, 1) := dk_27 (dk_at dksX11_init_0 1 rfl rfl)
theorem dX11_init_2 : decode cX11_init 2 = .ok (.invokespecial 3, 3) := dk_183 0 3 (dk_at dksX11_init_0 2 rfl rfl)
theorem dX11_init_5 : decode cX11_init 5 = .ok (.return_, 1) := dk_177 (dk_at dksX11_init_0 5 rfl rfl)
abbrev cX11_goes : ByteArray := prog_19_method_4_code
def yX11_goes : MethodName := ⟨RX11, "goes", "(LStepRiders$Stair;)V"⟩
theorem dX11_goes_0 : decode cX11_goes 0 = .ok (.return_, 1) := by decide +kernel
abbrev cX11_isWide : ByteArray := prog_19_method_3_code
def yX11_isWide : MethodName := ⟨RX11, "isWide", "()Z"⟩
def dkwX11_isWide_0 : List UInt8 := [42, 183, 0, 9, 154, 0, 7, 4, 167, 0, 4, 3, 172]
abbrev dktX11_isWide_0 : List UInt8 := dkwX11_isWide_0 ++ []
theorem dksX11_isWide_0 : cX11_isWide.data.toList.drop 0 = dktX11_isWide_0 := by decide +kernel
theorem dX11_isWide_0 : decode cX11_isWide 0 = .ok (.aload_n 0, 1) := dk_42 (dk_at dksX11_isWide_0 0 rfl rfl)
theorem dX11_isWide_1 : decode cX11_isWide 1 = .ok (.invokespecial 9, 3) := dk_183 0 9 (dk_at dksX11_isWide_0 1 rfl rfl)
theorem dX11_isWide_4 : decode cX11_isWide 4 = .ok (.ifCond .ne 7, 3) := dk_154 0 7 (dk_at dksX11_isWide_0 4 rfl rfl)
theorem dX11_isWide_7 : decode cX11_isWide 7 = .ok (.iconst 1, 1) := dk_4 (dk_at dksX11_isWide_0 7 rfl rfl)
theorem dX11_isWide_8 : decode cX11_isWide 8 = .ok (.goto 4, 3) := dk_167 0 4 (dk_at dksX11_isWide_0 8 rfl rfl)
theorem dX11_isWide_11 : decode cX11_isWide 11 = .ok (.iconst 0, 1) := dk_3 (dk_at dksX11_isWide_0 11 rfl rfl)
theorem dX11_isWide_12 : decode cX11_isWide 12 = .ok (.ireturn, 1) := dk_172 (dk_at dksX11_isWide_0 12 rfl rfl)
abbrev cX11_kind : ByteArray := prog_19_method_2_code
def yX11_kind : MethodName := ⟨RX11, "kind", "()I"⟩
theorem dX11_kind_0 : decode cX11_kind 0 = .ok (.iconst 4, 1) := by decide +kernel
theorem dX11_kind_1 : decode cX11_kind 1 = .ok (.ireturn, 1) := by decide +kernel
abbrev cX11_size : ByteArray := prog_19_method_5_code
def yX11_size : MethodName := ⟨RX11, "size", "(LStepRiders$Trail;LStepRiders$Held;)I"⟩
def dkwX11_size_0 : List UInt8 := [43, 16, 13, 182, 0, 13, 42, 43, 44, 183, 0, 18, 16, 100, 100, 172]
abbrev dktX11_size_0 : List UInt8 := dkwX11_size_0 ++ []
theorem dksX11_size_0 : cX11_size.data.toList.drop 0 = dktX11_size_0 := by decide +kernel
theorem dX11_size_0 : decode cX11_size 0 = .ok (.aload_n 1, 1) := dk_43 (dk_at dksX11_size_0 0 rfl rfl)
theorem dX11_size_1 : decode cX11_size 1 = .ok (.bipush 13, 2) := dk_16 13 (dk_at dksX11_size_0 1 rfl rfl)
theorem dX11_size_3 : decode cX11_size 3 = .ok (.invokevirtual 13, 3) := dk_182 0 13 (dk_at dksX11_size_0 3 rfl rfl)
theorem dX11_size_6 : decode cX11_size 6 = .ok (.aload_n 0, 1) := dk_42 (dk_at dksX11_size_0 6 rfl rfl)
theorem dX11_size_7 : decode cX11_size 7 = .ok (.aload_n 1, 1) := dk_43 (dk_at dksX11_size_0 7 rfl rfl)
theorem dX11_size_8 : decode cX11_size 8 = .ok (.aload_n 2, 1) := dk_44 (dk_at dksX11_size_0 8 rfl rfl)
theorem dX11_size_9 : decode cX11_size 9 = .ok (.invokespecial 18, 3) := dk_183 0 18 (dk_at dksX11_size_0 9 rfl rfl)
theorem dX11_size_12 : decode cX11_size 12 = .ok (.bipush 100, 2) := dk_16 100 (dk_at dksX11_size_0 12 rfl rfl)
theorem dX11_size_14 : decode cX11_size 14 = .ok (.isub, 1) := dk_100 (dk_at dksX11_size_0 14 rfl rfl)
theorem dX11_size_15 : decode cX11_size 15 = .ok (.ireturn, 1) := dk_172 (dk_at dksX11_size_0 15 rfl rfl)
abbrev cX11_mark : ByteArray := prog_19_method_6_code
def yX11_mark : MethodName := ⟨RX11, "mark", "(LStepRiders$Trail;LStepRiders$Held;)I"⟩
def dkwX11_mark_0 : List UInt8 := [43, 16, 23, 182, 0, 13, 42, 43, 44, 183, 0, 22, 42, 43, 44, 182, 0, 25, 100, 172]
abbrev dktX11_mark_0 : List UInt8 := dkwX11_mark_0 ++ []
theorem dksX11_mark_0 : cX11_mark.data.toList.drop 0 = dktX11_mark_0 := by decide +kernel
theorem dX11_mark_0 : decode cX11_mark 0 = .ok (.aload_n 1, 1) := dk_43 (dk_at dksX11_mark_0 0 rfl rfl)
theorem dX11_mark_1 : decode cX11_mark 1 = .ok (.bipush 23, 2) := dk_16 23 (dk_at dksX11_mark_0 1 rfl rfl)
theorem dX11_mark_3 : decode cX11_mark 3 = .ok (.invokevirtual 13, 3) := dk_182 0 13 (dk_at dksX11_mark_0 3 rfl rfl)
theorem dX11_mark_6 : decode cX11_mark 6 = .ok (.aload_n 0, 1) := dk_42 (dk_at dksX11_mark_0 6 rfl rfl)
theorem dX11_mark_7 : decode cX11_mark 7 = .ok (.aload_n 1, 1) := dk_43 (dk_at dksX11_mark_0 7 rfl rfl)
theorem dX11_mark_8 : decode cX11_mark 8 = .ok (.aload_n 2, 1) := dk_44 (dk_at dksX11_mark_0 8 rfl rfl)
theorem dX11_mark_9 : decode cX11_mark 9 = .ok (.invokespecial 22, 3) := dk_183 0 22 (dk_at dksX11_mark_0 9 rfl rfl)
theorem dX11_mark_12 : decode cX11_mark 12 = .ok (.aload_n 0, 1) := dk_42 (dk_at dksX11_mark_0 12 rfl rfl)
theorem dX11_mark_13 : decode cX11_mark 13 = .ok (.aload_n 1, 1) := dk_43 (dk_at dksX11_mark_0 13 rfl rfl)
theorem dX11_mark_14 : decode cX11_mark 14 = .ok (.aload_n 2, 1) := dk_44 (dk_at dksX11_mark_0 14 rfl rfl)
theorem dX11_mark_15 : decode cX11_mark 15 = .ok (.invokevirtual 25, 3) := dk_182 0 25 (dk_at dksX11_mark_0 15 rfl rfl)
theorem dX11_mark_18 : decode cX11_mark 18 = .ok (.isub, 1) := dk_100 (dk_at dksX11_mark_0 18 rfl rfl)
theorem dX11_mark_19 : decode cX11_mark 19 = .ok (.ireturn, 1) := dk_172 (dk_at dksX11_mark_0 19 rfl rfl)
theorem q76 : (Jvm.Cond.initialized "StepRiders$Trunk") ∈ lw_all := lw_g (lw_at lw_m1 30 rfl) rfl
theorem q699 : (Jvm.Cond.instantiable "StepRiders$Trunk" (1 : Nat)) ∈ lw_all := lw_g (lw_at lw_m3 173 rfl) rfl
theorem q701 : (Jvm.Cond.instanceMethod ({ cls := "StepRiders$Trunk", name := "<init>", desc := "(I)V" } : Jvm.MethodName)) ∈ lw_all := lw_g (lw_at lw_m3 175 rfl) rfl
theorem q702 : (Jvm.Cond.code ({ cls := "StepRiders$Trunk", name := "<init>", desc := "(I)V" } : Jvm.MethodName) prog_19_method_1_code (2 : Nat) (Option.none : Option Jvm.ClassFile.FieldType)) ∈ lw_all := lw_g (lw_at lw_m3 176 rfl) rfl
theorem q703 : (Jvm.Cond.methodLink "StepRiders$Trunk" (3 : Nat) ({ cls := "StepRiders$Rider", name := "<init>", desc := "(I)V" } : Jvm.MethodName)) ∈ lw_all := lw_g (lw_at lw_m3 177 rfl) rfl
theorem q704 : (Jvm.Cond.laysFinal "StepRiders$Trunk" "StepRiders$Rider" "number" "I") ∈ lw_all := lw_g (lw_at lw_m3 178 rfl) rfl
theorem q705 : (Jvm.Cond.superclass "StepRiders$Trunk" "StepRiders$Rider") ∈ lw_all := lw_g (lw_at lw_m3 179 rfl) rfl
theorem q763 : (Jvm.Cond.selects "StepRiders$Trunk" ({ cls := "java/lang/Object", name := "getClass", desc := "()Ljava/lang/Class;" } : Jvm.MethodName) ({ cls := "java/lang/Object", name := "getClass", desc := "()Ljava/lang/Class;" } : Jvm.MethodName)) ∈ lw_all := lw_g (lw_at lw_m3 237 rfl) rfl
theorem q855 : (Jvm.Cond.instanceMethod ({ cls := "StepRiders$Trunk", name := "goes", desc := "(LStepRiders$Stair;)V" } : Jvm.MethodName)) ∈ lw_all := lw_g (lw_at lw_m4 89 rfl) rfl
theorem q856 : (Jvm.Cond.code ({ cls := "StepRiders$Trunk", name := "goes", desc := "(LStepRiders$Stair;)V" } : Jvm.MethodName) prog_19_method_4_code (2 : Nat) (Option.none : Option Jvm.ClassFile.FieldType)) ∈ lw_all := lw_g (lw_at lw_m4 90 rfl) rfl
theorem q884 : (Jvm.Cond.instanceMethod ({ cls := "StepRiders$Trunk", name := "isWide", desc := "()Z" } : Jvm.MethodName)) ∈ lw_all := lw_g (lw_at lw_m4 118 rfl) rfl
theorem q885 : (Jvm.Cond.code ({ cls := "StepRiders$Trunk", name := "isWide", desc := "()Z" } : Jvm.MethodName) prog_19_method_3_code (1 : Nat) (Option.some Jvm.ClassFile.FieldType.boolean)) ∈ lw_all := lw_g (lw_at lw_m4 119 rfl) rfl
theorem q886 : (Jvm.Cond.methodLink "StepRiders$Trunk" (9 : Nat) ({ cls := "StepRiders$Rider", name := "isWide", desc := "()Z" } : Jvm.MethodName)) ∈ lw_all := lw_g (lw_at lw_m4 120 rfl) rfl
theorem q889 : (Jvm.Cond.selects "StepRiders$Trunk" ({ cls := "StepRiders$Rider", name := "isWide", desc := "()Z" } : Jvm.MethodName) ({ cls := "StepRiders$Trunk", name := "isWide", desc := "()Z" } : Jvm.MethodName)) ∈ lw_all := lw_g (lw_at lw_m4 123 rfl) rfl
theorem q915 : (Jvm.Cond.selects "StepRiders$Trunk" ({ cls := "StepRiders$Rider", name := "goes", desc := "(LStepRiders$Stair;)V" } : Jvm.MethodName) ({ cls := "StepRiders$Trunk", name := "goes", desc := "(LStepRiders$Stair;)V" } : Jvm.MethodName)) ∈ lw_all := lw_g (lw_at lw_m4 149 rfl) rfl
theorem q1227 : (Jvm.Cond.selects "StepRiders$Trunk" ({ cls := "StepRiders$Rider", name := "kind", desc := "()I" } : Jvm.MethodName) ({ cls := "StepRiders$Trunk", name := "kind", desc := "()I" } : Jvm.MethodName)) ∈ lw_all := lw_g (lw_at lw_m5 221 rfl) rfl
theorem q1228 : (Jvm.Cond.instanceMethod ({ cls := "StepRiders$Trunk", name := "kind", desc := "()I" } : Jvm.MethodName)) ∈ lw_all := lw_g (lw_at lw_m5 222 rfl) rfl
theorem q1229 : (Jvm.Cond.code ({ cls := "StepRiders$Trunk", name := "kind", desc := "()I" } : Jvm.MethodName) prog_19_method_2_code (1 : Nat) (Option.some Jvm.ClassFile.FieldType.int)) ∈ lw_all := lw_g (lw_at lw_m5 223 rfl) rfl
theorem q1283 : (Jvm.Cond.instanceMethod ({ cls := "StepRiders$Trunk", name := "size", desc := "(LStepRiders$Trail;LStepRiders$Held;)I" } : Jvm.MethodName)) ∈ lw_all := lw_g (lw_at lw_m6 37 rfl) rfl
theorem q1284 : (Jvm.Cond.code ({ cls := "StepRiders$Trunk", name := "size", desc := "(LStepRiders$Trail;LStepRiders$Held;)I" } : Jvm.MethodName) prog_19_method_5_code (3 : Nat) (Option.some Jvm.ClassFile.FieldType.int)) ∈ lw_all := lw_g (lw_at lw_m6 38 rfl) rfl
theorem q1285 : (Jvm.Cond.methodLink "StepRiders$Trunk" (13 : Nat) ({ cls := "StepRiders$Trail", name := "begins", desc := "(I)V" } : Jvm.MethodName)) ∈ lw_all := lw_g (lw_at lw_m6 39 rfl) rfl
theorem q1335 : (Jvm.Cond.castable "StepRiders$Trunk" "StepRiders$Marked") ∈ lw_tbl := lw_at lw_m6 89 rfl
theorem q1336 : (Jvm.Cond.selects "StepRiders$Trunk" ({ cls := "StepRiders$Marked", name := "number", desc := "()I" } : Jvm.MethodName) ({ cls := "StepRiders$Rider", name := "number", desc := "()I" } : Jvm.MethodName)) ∈ lw_all := lw_g (lw_at lw_m6 90 rfl) rfl
theorem q1337 : (Jvm.Cond.unhidden "StepRiders$Trunk" "number" "()I") ∈ lw_tbl := lw_at lw_m6 91 rfl
theorem q1351 : (Jvm.Cond.selects "StepRiders$Trunk" ({ cls := "StepRiders$Marked", name := "size", desc := "(LStepRiders$Trail;LStepRiders$Held;)I" } : Jvm.MethodName) ({ cls := "StepRiders$Trunk", name := "size", desc := "(LStepRiders$Trail;LStepRiders$Held;)I" } : Jvm.MethodName)) ∈ lw_all := lw_g (lw_at lw_m6 105 rfl) rfl
theorem q1357 : (Jvm.Cond.instanceMethod ({ cls := "StepRiders$Trunk", name := "mark", desc := "(LStepRiders$Trail;LStepRiders$Held;)I" } : Jvm.MethodName)) ∈ lw_all := lw_g (lw_at lw_m6 111 rfl) rfl
theorem q1358 : (Jvm.Cond.code ({ cls := "StepRiders$Trunk", name := "mark", desc := "(LStepRiders$Trail;LStepRiders$Held;)I" } : Jvm.MethodName) prog_19_method_6_code (3 : Nat) (Option.some Jvm.ClassFile.FieldType.int)) ∈ lw_all := lw_g (lw_at lw_m6 112 rfl) rfl
theorem q1359 : (Jvm.Cond.methodLink "StepRiders$Trunk" (25 : Nat) ({ cls := "StepRiders$Trunk", name := "size", desc := "(LStepRiders$Trail;LStepRiders$Held;)I" } : Jvm.MethodName)) ∈ lw_all := lw_g (lw_at lw_m6 113 rfl) rfl
theorem q1362 : (Jvm.Cond.selects "StepRiders$Trunk" ({ cls := "StepRiders$Marked", name := "mark", desc := "(LStepRiders$Trail;LStepRiders$Held;)I" } : Jvm.MethodName) ({ cls := "StepRiders$Trunk", name := "mark", desc := "(LStepRiders$Trail;LStepRiders$Held;)I" } : Jvm.MethodName)) ∈ lw_all := lw_g (lw_at lw_m6 116 rfl) rfl
theorem q1700 : (Jvm.Cond.sameMethod "StepRiders$Trunk" "StepRiders$Trunk" "goes" "(LStepRiders$Stair;)V") ∈ lw_all := lw_g (lw_at lw_m7 214 rfl) rfl
theorem q1705 : (Jvm.Cond.selects "StepRiders$Trunk" ({ cls := "StepRiders$Rider", name := "number", desc := "()I" } : Jvm.MethodName) ({ cls := "StepRiders$Rider", name := "number", desc := "()I" } : Jvm.MethodName)) ∈ lw_all := lw_g (lw_at lw_m7 219 rfl) rfl
theorem q1707 : (Jvm.Cond.sameMethod "StepRiders$Trunk" "StepRiders$Trunk" "size" "(LStepRiders$Trail;LStepRiders$Held;)I") ∈ lw_all := lw_g (lw_at lw_m7 221 rfl) rfl
theorem q1710 : (Jvm.Cond.selects "StepRiders$Trunk" ({ cls := "StepRiders$Trunk", name := "size", desc := "(LStepRiders$Trail;LStepRiders$Held;)I" } : Jvm.MethodName) ({ cls := "StepRiders$Trunk", name := "size", desc := "(LStepRiders$Trail;LStepRiders$Held;)I" } : Jvm.MethodName)) ∈ lw_all := lw_g (lw_at lw_m7 224 rfl) rfl
theorem q1715 : (Jvm.Cond.castable "StepRiders$Trunk" "StepRiders$Rider") ∈ lw_tbl := lw_at lw_m7 229 rfl
theorem q1735 : (Jvm.Cond.castable "StepRiders$Trunk" "java/lang/Object") ∈ lw_tbl := lw_at lw_m8 9 rfl
theorem in_X11 : ∀ w ∈ wsX110, w ∈ lw_all := lw_in wsX110 [704] (by decide +kernel) (by decide +kernel)

/-! StepRiders$Child -/
set_option maxRecDepth 100000
def RX12 : String := "StepRiders$Child"
def TX12 : u_T := fun k => match k with
  | _ => ("StepRiders$Rider", "number", "I", true)
def tyX12 : Nat → FieldType := fun k => match k with
  | _ => .int
abbrev wsX120 : List Cond := u_ws RX12 TX12 1
theorem nmX12 : ∀ a, a < 1 → ∀ b, b < 1 → a ≠ b → (TX12 a).2.1 ≠ (TX12 b).2.1 := by decide +kernel
theorem tyX12_ok : ∀ k, k < 1 → parseFieldDescriptor (TX12 k).2.2.1 = some (tyX12 k) := by decide +kernel
abbrev cX12_init : ByteArray := prog_3_method_1_code
def yX12_init : MethodName := ⟨RX12, "<init>", "(I)V"⟩
def dkwX12_init_0 : List UInt8 := [42, 27, 183, 0, 3, 177]
abbrev dktX12_init_0 : List UInt8 := dkwX12_init_0 ++ []
theorem dksX12_init_0 : cX12_init.data.toList.drop 0 = dktX12_init_0 := by decide +kernel
theorem dX12_init_0 : decode cX12_init 0 = .ok (.aload_n 0, 1) := dk_42 (dk_at dksX12_init_0 0 rfl rfl)
theorem dX12_init_1 : decode cX12_init 1 = .ok (.iload_n 1, 1) := dk_27 (dk_at dksX12_init_0 1 rfl rfl)
theorem dX12_init_2 : decode cX12_init 2 = .ok (.invokespecial 3, 3) := dk_183 0 3 (dk_at dksX12_init_0 2 rfl rfl)
theorem dX12_init_5 : decode cX12_init 5 = .ok (.return_, 1) := dk_177 (dk_at dksX12_init_0 5 rfl rfl)
abbrev cX12_goes : ByteArray := prog_3_method_3_code
def yX12_goes : MethodName := ⟨RX12, "goes", "(LStepRiders$Stair;)V"⟩
def dkwX12_goes_1 : List UInt8 := [177]
abbrev dktX12_goes_1 : List UInt8 := dkwX12_goes_1 ++ []
def dkwX12_goes_0 : List UInt8 := [42, 43, 183, 0, 9, 43, 180, 0, 13, 5, 112, 4, 160, 0, 12, 43, 42, 182, 0, 19, 2, 182, 0, 25]
abbrev dktX12_goes_0 : List UInt8 := dkwX12_goes_0 ++ dktX12_goes_1
theorem dksX12_goes_0 : cX12_goes.data.toList.drop 0 = dktX12_goes_0 := by decide +kernel
theorem dksX12_goes_1 : cX12_goes.data.toList.drop 24 = dktX12_goes_1 := dk_seg dksX12_goes_0 24 rfl rfl
theorem dX12_goes_0 : decode cX12_goes 0 = .ok (.aload_n 0, 1) := dk_42 (dk_at dksX12_goes_0 0 rfl rfl)
theorem dX12_goes_1 : decode cX12_goes 1 = .ok (.aload_n 1, 1) := dk_43 (dk_at dksX12_goes_0 1 rfl rfl)
theorem dX12_goes_2 : decode cX12_goes 2 = .ok (.invokespecial 9, 3) := dk_183 0 9 (dk_at dksX12_goes_0 2 rfl rfl)
theorem dX12_goes_5 : decode cX12_goes 5 = .ok (.aload_n 1, 1) := dk_43 (dk_at dksX12_goes_0 5 rfl rfl)
theorem dX12_goes_6 : decode cX12_goes 6 = .ok (.getfield 13, 3) := dk_180 0 13 (dk_at dksX12_goes_0 6 rfl rfl)
theorem dX12_goes_9 : decode cX12_goes 9 = .ok (.iconst 2, 1) := dk_5 (dk_at dksX12_goes_0 9 rfl rfl)
theorem dX12_goes_10 : decode cX12_goes 10 = .ok (.irem, 1) := dk_112 (dk_at dksX12_goes_0 10 rfl rfl)
theorem dX12_goes_11 : decode cX12_goes 11 = .ok (.iconst 1, 1) := dk_4 (dk_at dksX12_goes_0 11 rfl rfl)
theorem dX12_goes_12 : decode cX12_goes 12 = .ok (.if_icmp .ne 12, 3) := dk_160 0 12 (dk_at dksX12_goes_0 12 rfl rfl)
theorem dX12_goes_15 : decode cX12_goes 15 = .ok (.aload_n 1, 1) := dk_43 (dk_at dksX12_goes_0 15 rfl rfl)
theorem dX12_goes_16 : decode cX12_goes 16 = .ok (.aload_n 0, 1) := dk_42 (dk_at dksX12_goes_0 16 rfl rfl)
theorem dX12_goes_17 : decode cX12_goes 17 = .ok (.invokevirtual 19, 3) := dk_182 0 19 (dk_at dksX12_goes_0 17 rfl rfl)
theorem dX12_goes_20 : decode cX12_goes 20 = .ok (.iconst (-1), 1) := dk_2 (dk_at dksX12_goes_0 20 rfl rfl)
theorem dX12_goes_21 : decode cX12_goes 21 = .ok (.invokevirtual 25, 3) := dk_182 0 25 (dk_at dksX12_goes_0 21 rfl rfl)
theorem dX12_goes_24 : decode cX12_goes 24 = .ok (.return_, 1) := dk_177 (dk_at dksX12_goes_1 0 rfl rfl)
abbrev cX12_kind : ByteArray := prog_3_method_2_code
def yX12_kind : MethodName := ⟨RX12, "kind", "()I"⟩
theorem dX12_kind_0 : decode cX12_kind 0 = .ok (.iconst 5, 1) := by decide +kernel
theorem dX12_kind_1 : decode cX12_kind 1 = .ok (.ireturn, 1) := by decide +kernel
abbrev cX12_size : ByteArray := prog_3_method_4_code
def yX12_size : MethodName := ⟨RX12, "size", "(LStepRiders$Trail;LStepRiders$Held;)I"⟩
def dkwX12_size_0 : List UInt8 := [43, 16, 14, 182, 0, 29, 5, 42, 43, 44, 183, 0, 34, 104, 172]
abbrev dktX12_size_0 : List UInt8 := dkwX12_size_0 ++ []
theorem dksX12_size_0 : cX12_size.data.toList.drop 0 = dktX12_size_0 := by decide +kernel
theorem dX12_size_0 : decode cX12_size 0 = .ok (.aload_n 1, 1) := dk_43 (dk_at dksX12_size_0 0 rfl rfl)
theorem dX12_size_1 : decode cX12_size 1 = .ok (.bipush 14, 2) := dk_16 14 (dk_at dksX12_size_0 1 rfl rfl)
theorem dX12_size_3 : decode cX12_size 3 = .ok (.invokevirtual 29, 3) := dk_182 0 29 (dk_at dksX12_size_0 3 rfl rfl)
theorem dX12_size_6 : decode cX12_size 6 = .ok (.iconst 2, 1) := dk_5 (dk_at dksX12_size_0 6 rfl rfl)
theorem dX12_size_7 : decode cX12_size 7 = .ok (.aload_n 0, 1) := dk_42 (dk_at dksX12_size_0 7 rfl rfl)
theorem dX12_size_8 : decode cX12_size 8 = .ok (.aload_n 1, 1) := dk_43 (dk_at dksX12_size_0 8 rfl rfl)
theorem dX12_size_9 : decode cX12_size 9 = .ok (.aload_n 2, 1) := dk_44 (dk_at dksX12_size_0 9 rfl rfl)
theorem dX12_size_10 : decode cX12_size 10 = .ok (.invokespecial 34, 3) := dk_183 0 34 (dk_at dksX12_size_0 10 rfl rfl)
theorem dX12_size_13 : decode cX12_size 13 = .ok (.imul, 1) := dk_104 (dk_at dksX12_size_0 13 rfl rfl)
theorem dX12_size_14 : decode cX12_size 14 = .ok (.ireturn, 1) := dk_172 (dk_at dksX12_size_0 14 rfl rfl)
theorem q77 : (Jvm.Cond.initialized "StepRiders$Child") ∈ lw_all := lw_g (lw_at lw_m1 31 rfl) rfl
theorem q153 : (Jvm.Cond.fieldLink "StepRiders$Child" (13 : Nat) "StepRiders$Stair" "tick" "I") ∈ lw_all := lw_g (lw_at lw_m1 107 rfl) rfl
theorem q707 : (Jvm.Cond.instantiable "StepRiders$Child" (1 : Nat)) ∈ lw_all := lw_g (lw_at lw_m3 181 rfl) rfl
theorem q709 : (Jvm.Cond.instanceMethod ({ cls := "StepRiders$Child", name := "<init>", desc := "(I)V" } : Jvm.MethodName)) ∈ lw_all := lw_g (lw_at lw_m3 183 rfl) rfl
theorem q710 : (Jvm.Cond.code ({ cls := "StepRiders$Child", name := "<init>", desc := "(I)V" } : Jvm.MethodName) prog_3_method_1_code (2 : Nat) (Option.none : Option Jvm.ClassFile.FieldType)) ∈ lw_all := lw_g (lw_at lw_m3 184 rfl) rfl
theorem q711 : (Jvm.Cond.methodLink "StepRiders$Child" (3 : Nat) ({ cls := "StepRiders$Trunk", name := "<init>", desc := "(I)V" } : Jvm.MethodName)) ∈ lw_all := lw_g (lw_at lw_m3 185 rfl) rfl
theorem q712 : (Jvm.Cond.laysFinal "StepRiders$Child" "StepRiders$Rider" "number" "I") ∈ lw_all := lw_g (lw_at lw_m3 186 rfl) rfl
theorem q713 : (Jvm.Cond.superclass "StepRiders$Child" "StepRiders$Trunk") ∈ lw_all := lw_g (lw_at lw_m3 187 rfl) rfl
theorem q750 : (Jvm.Cond.selects "StepRiders$Child" ({ cls := "java/lang/Object", name := "getClass", desc := "()Ljava/lang/Class;" } : Jvm.MethodName) ({ cls := "java/lang/Object", name := "getClass", desc := "()Ljava/lang/Class;" } : Jvm.MethodName)) ∈ lw_all := lw_g (lw_at lw_m3 224 rfl) rfl
theorem q851 : (Jvm.Cond.selects "StepRiders$Child" ({ cls := "StepRiders$Rider", name := "goes", desc := "(LStepRiders$Stair;)V" } : Jvm.MethodName) ({ cls := "StepRiders$Child", name := "goes", desc := "(LStepRiders$Stair;)V" } : Jvm.MethodName)) ∈ lw_all := lw_g (lw_at lw_m4 85 rfl) rfl
theorem q852 : (Jvm.Cond.instanceMethod ({ cls := "StepRiders$Child", name := "goes", desc := "(LStepRiders$Stair;)V" } : Jvm.MethodName)) ∈ lw_all := lw_g (lw_at lw_m4 86 rfl) rfl
theorem q853 : (Jvm.Cond.code ({ cls := "StepRiders$Child", name := "goes", desc := "(LStepRiders$Stair;)V" } : Jvm.MethodName) prog_3_method_3_code (2 : Nat) (Option.none : Option Jvm.ClassFile.FieldType)) ∈ lw_all := lw_g (lw_at lw_m4 87 rfl) rfl
theorem q854 : (Jvm.Cond.methodLink "StepRiders$Child" (9 : Nat) ({ cls := "StepRiders$Trunk", name := "goes", desc := "(LStepRiders$Stair;)V" } : Jvm.MethodName)) ∈ lw_all := lw_g (lw_at lw_m4 88 rfl) rfl
theorem q857 : (Jvm.Cond.methodLink "StepRiders$Child" (19 : Nat) ({ cls := "StepRiders$Child", name := "number", desc := "()I" } : Jvm.MethodName)) ∈ lw_all := lw_g (lw_at lw_m4 91 rfl) rfl
theorem q858 : (Jvm.Cond.sameMethod "StepRiders$Child" "StepRiders$Rider" "number" "()I") ∈ lw_all := lw_g (lw_at lw_m4 92 rfl) rfl
theorem q860 : (Jvm.Cond.selects "StepRiders$Child" ({ cls := "StepRiders$Child", name := "number", desc := "()I" } : Jvm.MethodName) ({ cls := "StepRiders$Rider", name := "number", desc := "()I" } : Jvm.MethodName)) ∈ lw_all := lw_g (lw_at lw_m4 94 rfl) rfl
theorem q863 : (Jvm.Cond.methodLink "StepRiders$Child" (25 : Nat) ({ cls := "StepRiders$Stair", name := "climbs", desc := "(II)V" } : Jvm.MethodName)) ∈ lw_all := lw_g (lw_at lw_m4 97 rfl) rfl
theorem q883 : (Jvm.Cond.selects "StepRiders$Child" ({ cls := "StepRiders$Rider", name := "isWide", desc := "()Z" } : Jvm.MethodName) ({ cls := "StepRiders$Trunk", name := "isWide", desc := "()Z" } : Jvm.MethodName)) ∈ lw_all := lw_g (lw_at lw_m4 117 rfl) rfl
theorem q1218 : (Jvm.Cond.selects "StepRiders$Child" ({ cls := "StepRiders$Rider", name := "kind", desc := "()I" } : Jvm.MethodName) ({ cls := "StepRiders$Child", name := "kind", desc := "()I" } : Jvm.MethodName)) ∈ lw_all := lw_g (lw_at lw_m5 212 rfl) rfl
theorem q1219 : (Jvm.Cond.instanceMethod ({ cls := "StepRiders$Child", name := "kind", desc := "()I" } : Jvm.MethodName)) ∈ lw_all := lw_g (lw_at lw_m5 213 rfl) rfl
theorem q1220 : (Jvm.Cond.code ({ cls := "StepRiders$Child", name := "kind", desc := "()I" } : Jvm.MethodName) prog_3_method_2_code (1 : Nat) (Option.some Jvm.ClassFile.FieldType.int)) ∈ lw_all := lw_g (lw_at lw_m5 214 rfl) rfl
theorem q1275 : (Jvm.Cond.selects "StepRiders$Child" ({ cls := "StepRiders$Marked", name := "size", desc := "(LStepRiders$Trail;LStepRiders$Held;)I" } : Jvm.MethodName) ({ cls := "StepRiders$Child", name := "size", desc := "(LStepRiders$Trail;LStepRiders$Held;)I" } : Jvm.MethodName)) ∈ lw_all := lw_g (lw_at lw_m6 29 rfl) rfl
theorem q1276 : (Jvm.Cond.instanceMethod ({ cls := "StepRiders$Child", name := "size", desc := "(LStepRiders$Trail;LStepRiders$Held;)I" } : Jvm.MethodName)) ∈ lw_all := lw_g (lw_at lw_m6 30 rfl) rfl
theorem q1277 : (Jvm.Cond.code ({ cls := "StepRiders$Child", name := "size", desc := "(LStepRiders$Trail;LStepRiders$Held;)I" } : Jvm.MethodName) prog_3_method_4_code (3 : Nat) (Option.some Jvm.ClassFile.FieldType.int)) ∈ lw_all := lw_g (lw_at lw_m6 31 rfl) rfl
theorem q1278 : (Jvm.Cond.methodLink "StepRiders$Child" (29 : Nat) ({ cls := "StepRiders$Trail", name := "begins", desc := "(I)V" } : Jvm.MethodName)) ∈ lw_all := lw_g (lw_at lw_m6 32 rfl) rfl
theorem q1282 : (Jvm.Cond.methodLink "StepRiders$Child" (34 : Nat) ({ cls := "StepRiders$Trunk", name := "size", desc := "(LStepRiders$Trail;LStepRiders$Held;)I" } : Jvm.MethodName)) ∈ lw_all := lw_g (lw_at lw_m6 36 rfl) rfl
theorem q1325 : (Jvm.Cond.castable "StepRiders$Child" "StepRiders$Marked") ∈ lw_tbl := lw_at lw_m6 79 rfl
theorem q1326 : (Jvm.Cond.selects "StepRiders$Child" ({ cls := "StepRiders$Marked", name := "number", desc := "()I" } : Jvm.MethodName) ({ cls := "StepRiders$Rider", name := "number", desc := "()I" } : Jvm.MethodName)) ∈ lw_all := lw_g (lw_at lw_m6 80 rfl) rfl
theorem q1327 : (Jvm.Cond.unhidden "StepRiders$Child" "number" "()I") ∈ lw_tbl := lw_at lw_m6 81 rfl
theorem q1356 : (Jvm.Cond.selects "StepRiders$Child" ({ cls := "StepRiders$Marked", name := "mark", desc := "(LStepRiders$Trail;LStepRiders$Held;)I" } : Jvm.MethodName) ({ cls := "StepRiders$Trunk", name := "mark", desc := "(LStepRiders$Trail;LStepRiders$Held;)I" } : Jvm.MethodName)) ∈ lw_all := lw_g (lw_at lw_m6 110 rfl) rfl
theorem q1702 : (Jvm.Cond.selects "StepRiders$Child" ({ cls := "StepRiders$Rider", name := "number", desc := "()I" } : Jvm.MethodName) ({ cls := "StepRiders$Rider", name := "number", desc := "()I" } : Jvm.MethodName)) ∈ lw_all := lw_g (lw_at lw_m7 216 rfl) rfl
theorem q1709 : (Jvm.Cond.selects "StepRiders$Child" ({ cls := "StepRiders$Trunk", name := "size", desc := "(LStepRiders$Trail;LStepRiders$Held;)I" } : Jvm.MethodName) ({ cls := "StepRiders$Child", name := "size", desc := "(LStepRiders$Trail;LStepRiders$Held;)I" } : Jvm.MethodName)) ∈ lw_all := lw_g (lw_at lw_m7 223 rfl) rfl
theorem q1712 : (Jvm.Cond.castable "StepRiders$Child" "StepRiders$Rider") ∈ lw_tbl := lw_at lw_m7 226 rfl
theorem q1719 : (Jvm.Cond.castable "StepRiders$Child" "StepRiders$Trunk") ∈ lw_tbl := lw_at lw_m7 233 rfl
theorem q1736 : (Jvm.Cond.castable "StepRiders$Child" "java/lang/Object") ∈ lw_tbl := lw_at lw_m8 10 rfl
theorem in_X12 : ∀ w ∈ wsX120, w ∈ lw_all := lw_in wsX120 [712] (by decide +kernel) (by decide +kernel)

/-! StepRiders$Sorts -/
set_option maxRecDepth 100000
def RX13 : String := "StepRiders$Sorts"
def TX13 : u_T := fun k => match k with
  | _ => ("StepRiders$Sorts", "rider", "I", true)
def tyX13 : Nat → FieldType := fun k => match k with
  | _ => .int
abbrev wsX130 : List Cond := u_ws RX13 TX13 1
theorem nmX13 : ∀ a, a < 1 → ∀ b, b < 1 → a ≠ b → (TX13 a).2.1 ≠ (TX13 b).2.1 := by decide +kernel
theorem tyX13_ok : ∀ k, k < 1 → parseFieldDescriptor (TX13 k).2.2.1 = some (tyX13 k) := by decide +kernel
abbrev cX13_init : ByteArray := prog_13_method_1_code
def yX13_init : MethodName := ⟨RX13, "<init>", "(I)V"⟩
def dkwX13_init_0 : List UInt8 := [42, 183, 0, 3, 42, 27, 181, 0, 9, 177]
abbrev dktX13_init_0 : List UInt8 := dkwX13_init_0 ++ []
theorem dksX13_init_0 : cX13_init.data.toList.drop 0 = dktX13_init_0 := by decide +kernel
theorem dX13_init_0 : decode cX13_init 0 = .ok (.aload_n 0, 1) := dk_42 (dk_at dksX13_init_0 0 rfl rfl)
theorem dX13_init_1 : decode cX13_init 1 = .ok (.invokespecial 3, 3) := dk_183 0 3 (dk_at dksX13_init_0 1 rfl rfl)
theorem dX13_init_4 : decode cX13_init 4 = .ok (.aload_n 0, 1) := dk_42 (dk_at dksX13_init_0 4 rfl rfl)
theorem dX13_init_5 : decode cX13_init 5 = .ok (.iload_n 1, 1) := dk_27 (dk_at dksX13_init_0 5 rfl rfl)
theorem dX13_init_6 : decode cX13_init 6 = .ok (.putfield 9, 3) := dk_181 0 9 (dk_at dksX13_init_0 6 rfl rfl)
theorem dX13_init_9 : decode cX13_init 9 = .ok (.return_, 1) := dk_177 (dk_at dksX13_init_0 9 rfl rfl)
abbrev cX13_low : ByteArray := prog_13_method_3_code
def yX13_low : MethodName := ⟨RX13, "low", "()I"⟩
def dkwX13_low_0 : List UInt8 := [42, 183, 0, 31, 4, 96, 172]
abbrev dktX13_low_0 : List UInt8 := dkwX13_low_0 ++ []
theorem dksX13_low_0 : cX13_low.data.toList.drop 0 = dktX13_low_0 := by decide +kernel
theorem dX13_low_0 : decode cX13_low 0 = .ok (.aload_n 0, 1) := dk_42 (dk_at dksX13_low_0 0 rfl rfl)
theorem dX13_low_1 : decode cX13_low 1 = .ok (.invokespecial 31, 3) := dk_183 0 31 (dk_at dksX13_low_0 1 rfl rfl)
theorem dX13_low_4 : decode cX13_low 4 = .ok (.iconst 1, 1) := dk_4 (dk_at dksX13_low_0 4 rfl rfl)
theorem dX13_low_5 : decode cX13_low 5 = .ok (.iadd, 1) := dk_96 (dk_at dksX13_low_0 5 rfl rfl)
theorem dX13_low_6 : decode cX13_low 6 = .ok (.ireturn, 1) := dk_172 (dk_at dksX13_low_0 6 rfl rfl)
abbrev cX13_high : ByteArray := prog_13_method_4_code
def yX13_high : MethodName := ⟨RX13, "high", "()I"⟩
theorem dX13_high_0 : decode cX13_high 0 = .ok (.iconst 5, 1) := by decide +kernel
theorem dX13_high_1 : decode cX13_high 1 = .ok (.ireturn, 1) := by decide +kernel
abbrev cX13_lay : ByteArray := prog_13_method_2_code
def yX13_lay : MethodName := ⟨RX13, "lay", "(LStepRiders$Stair;I)Z"⟩
def dkwX13_lay_0 : List UInt8 := [43, 180, 0, 15, 42, 180, 0, 9, 28, 42, 180, 0, 9, 184, 0, 21, 185, 0, 25, 3, 0, 87, 4, 172]
abbrev dktX13_lay_0 : List UInt8 := dkwX13_lay_0 ++ []
theorem dksX13_lay_0 : cX13_lay.data.toList.drop 0 = dktX13_lay_0 := by decide +kernel
theorem dX13_lay_0 : decode cX13_lay 0 = .ok (.aload_n 1, 1) := dk_43 (dk_at dksX13_lay_0 0 rfl rfl)
theorem dX13_lay_1 : decode cX13_lay 1 = .ok (.getfield 15, 3) := dk_180 0 15 (dk_at dksX13_lay_0 1 rfl rfl)
theorem dX13_lay_4 : decode cX13_lay 4 = .ok (.aload_n 0, 1) := dk_42 (dk_at dksX13_lay_0 4 rfl rfl)
theorem dX13_lay_5 : decode cX13_lay 5 = .ok (.getfield 9, 3) := dk_180 0 9 (dk_at dksX13_lay_0 5 rfl rfl)
theorem dX13_lay_8 : decode cX13_lay 8 = .ok (.iload_n 2, 1) := dk_28 (dk_at dksX13_lay_0 8 rfl rfl)
theorem dX13_lay_9 : decode cX13_lay 9 = .ok (.aload_n 0, 1) := dk_42 (dk_at dksX13_lay_0 9 rfl rfl)
theorem dX13_lay_10 : decode cX13_lay 10 = .ok (.getfield 9, 3) := dk_180 0 9 (dk_at dksX13_lay_0 10 rfl rfl)
theorem dX13_lay_13 : decode cX13_lay 13 = .ok (.invokestatic 21, 3) := dk_184 0 21 (dk_at dksX13_lay_0 13 rfl rfl)
theorem dX13_lay_16 : decode cX13_lay 16 = .ok (.invokeinterface 25 3, 5) := by decide +kernel
theorem dX13_lay_21 : decode cX13_lay 21 = .ok (.pop, 1) := dk_87 (dk_at dksX13_lay_0 21 rfl rfl)
theorem dX13_lay_22 : decode cX13_lay 22 = .ok (.iconst 1, 1) := dk_4 (dk_at dksX13_lay_0 22 rfl rfl)
theorem dX13_lay_23 : decode cX13_lay 23 = .ok (.ireturn, 1) := dk_172 (dk_at dksX13_lay_0 23 rfl rfl)
theorem q82 : (Jvm.Cond.initialized "StepRiders$Sorts") ∈ lw_all := lw_g (lw_at lw_m1 36 rfl) rfl
theorem q158 : (Jvm.Cond.fieldLink "StepRiders$Sorts" (15 : Nat) "StepRiders$Stair" "riders" "Ljava/util/List;") ∈ lw_all := lw_g (lw_at lw_m1 112 rfl) rfl
theorem q757 : (Jvm.Cond.selects "StepRiders$Sorts" ({ cls := "java/lang/Object", name := "getClass", desc := "()Ljava/lang/Class;" } : Jvm.MethodName) ({ cls := "java/lang/Object", name := "getClass", desc := "()Ljava/lang/Class;" } : Jvm.MethodName)) ∈ lw_all := lw_g (lw_at lw_m3 231 rfl) rfl
theorem q1046 : (Jvm.Cond.instantiable "StepRiders$Sorts" (1 : Nat)) ∈ lw_all := lw_g (lw_at lw_m5 40 rfl) rfl
theorem q1048 : (Jvm.Cond.instanceMethod ({ cls := "StepRiders$Sorts", name := "<init>", desc := "(I)V" } : Jvm.MethodName)) ∈ lw_all := lw_g (lw_at lw_m5 42 rfl) rfl
theorem q1049 : (Jvm.Cond.code ({ cls := "StepRiders$Sorts", name := "<init>", desc := "(I)V" } : Jvm.MethodName) prog_13_method_1_code (2 : Nat) (Option.none : Option Jvm.ClassFile.FieldType)) ∈ lw_all := lw_g (lw_at lw_m5 43 rfl) rfl
theorem q1050 : (Jvm.Cond.methodLink "StepRiders$Sorts" (3 : Nat) ({ cls := "java/lang/Object", name := "<init>", desc := "()V" } : Jvm.MethodName)) ∈ lw_all := lw_g (lw_at lw_m5 44 rfl) rfl
theorem q1051 : (Jvm.Cond.fieldLink "StepRiders$Sorts" (9 : Nat) "StepRiders$Sorts" "rider" "I") ∈ lw_all := lw_g (lw_at lw_m5 45 rfl) rfl
theorem q1052 : (Jvm.Cond.laysFinal "StepRiders$Sorts" "StepRiders$Sorts" "rider" "I") ∈ lw_all := lw_g (lw_at lw_m5 46 rfl) rfl
theorem q1053 : (Jvm.Cond.soleField "StepRiders$Sorts" "rider") ∈ lw_all := lw_g (lw_at lw_m5 47 rfl) rfl
theorem q1054 : (Jvm.Cond.superclass "StepRiders$Sorts" "java/lang/Object") ∈ lw_all := lw_g (lw_at lw_m5 48 rfl) rfl
theorem q1110 : (Jvm.Cond.castable "StepRiders$Sorts" "StepRiders$But") ∈ lw_tbl := lw_at lw_m5 104 rfl
theorem q1111 : (Jvm.Cond.selects "StepRiders$Sorts" ({ cls := "StepRiders$But", name := "low", desc := "()I" } : Jvm.MethodName) ({ cls := "StepRiders$Sorts", name := "low", desc := "()I" } : Jvm.MethodName)) ∈ lw_all := lw_g (lw_at lw_m5 105 rfl) rfl
theorem q1112 : (Jvm.Cond.unhidden "StepRiders$Sorts" "low" "()I") ∈ lw_tbl := lw_at lw_m5 106 rfl
theorem q1113 : (Jvm.Cond.instanceMethod ({ cls := "StepRiders$Sorts", name := "low", desc := "()I" } : Jvm.MethodName)) ∈ lw_all := lw_g (lw_at lw_m5 107 rfl) rfl
theorem q1114 : (Jvm.Cond.publicMethod ({ cls := "StepRiders$Sorts", name := "low", desc := "()I" } : Jvm.MethodName)) ∈ lw_tbl := lw_at lw_m5 108 rfl
theorem q1115 : (Jvm.Cond.code ({ cls := "StepRiders$Sorts", name := "low", desc := "()I" } : Jvm.MethodName) prog_13_method_3_code (1 : Nat) (Option.some Jvm.ClassFile.FieldType.int)) ∈ lw_all := lw_g (lw_at lw_m5 109 rfl) rfl
theorem q1116 : (Jvm.Cond.methodLink "StepRiders$Sorts" (31 : Nat) ({ cls := "StepRiders$But", name := "low", desc := "()I" } : Jvm.MethodName)) ∈ lw_all := lw_g (lw_at lw_m5 110 rfl) rfl
theorem q1130 : (Jvm.Cond.selects "StepRiders$Sorts" ({ cls := "StepRiders$But", name := "high", desc := "()I" } : Jvm.MethodName) ({ cls := "StepRiders$Sorts", name := "high", desc := "()I" } : Jvm.MethodName)) ∈ lw_all := lw_g (lw_at lw_m5 124 rfl) rfl
theorem q1131 : (Jvm.Cond.unhidden "StepRiders$Sorts" "high" "()I") ∈ lw_tbl := lw_at lw_m5 125 rfl
theorem q1132 : (Jvm.Cond.instanceMethod ({ cls := "StepRiders$Sorts", name := "high", desc := "()I" } : Jvm.MethodName)) ∈ lw_all := lw_g (lw_at lw_m5 126 rfl) rfl
theorem q1133 : (Jvm.Cond.publicMethod ({ cls := "StepRiders$Sorts", name := "high", desc := "()I" } : Jvm.MethodName)) ∈ lw_tbl := lw_at lw_m5 127 rfl
theorem q1134 : (Jvm.Cond.code ({ cls := "StepRiders$Sorts", name := "high", desc := "()I" } : Jvm.MethodName) prog_13_method_4_code (1 : Nat) (Option.some Jvm.ClassFile.FieldType.int)) ∈ lw_all := lw_g (lw_at lw_m5 128 rfl) rfl
theorem q1154 : (Jvm.Cond.selects "StepRiders$Sorts" ({ cls := "StepRiders$But", name := "lay", desc := "(LStepRiders$Stair;I)Z" } : Jvm.MethodName) ({ cls := "StepRiders$Sorts", name := "lay", desc := "(LStepRiders$Stair;I)Z" } : Jvm.MethodName)) ∈ lw_all := lw_g (lw_at lw_m5 148 rfl) rfl
theorem q1155 : (Jvm.Cond.unhidden "StepRiders$Sorts" "lay" "(LStepRiders$Stair;I)Z") ∈ lw_tbl := lw_at lw_m5 149 rfl
theorem q1156 : (Jvm.Cond.instanceMethod ({ cls := "StepRiders$Sorts", name := "lay", desc := "(LStepRiders$Stair;I)Z" } : Jvm.MethodName)) ∈ lw_all := lw_g (lw_at lw_m5 150 rfl) rfl
theorem q1157 : (Jvm.Cond.publicMethod ({ cls := "StepRiders$Sorts", name := "lay", desc := "(LStepRiders$Stair;I)Z" } : Jvm.MethodName)) ∈ lw_tbl := lw_at lw_m5 151 rfl
theorem q1158 : (Jvm.Cond.code ({ cls := "StepRiders$Sorts", name := "lay", desc := "(LStepRiders$Stair;I)Z" } : Jvm.MethodName) prog_13_method_2_code (3 : Nat) (Option.some Jvm.ClassFile.FieldType.boolean)) ∈ lw_all := lw_g (lw_at lw_m5 152 rfl) rfl
theorem q1159 : (Jvm.Cond.methodLinkNest "StepRiders$Sorts" (21 : Nat) ({ cls := "StepRiders", name := "riderBy", desc := "(II)LStepRiders$Rider;" } : Jvm.MethodName) "StepRiders") ∈ lw_tbl := lw_at lw_m5 153 rfl
theorem q1160 : (Jvm.Cond.interfaceEntry "StepRiders$Sorts" (25 : Nat)) ∈ lw_tbl := lw_at lw_m5 154 rfl
theorem q1161 : (Jvm.Cond.methodLink "StepRiders$Sorts" (25 : Nat) ({ cls := "java/util/List", name := "set", desc := "(ILjava/lang/Object;)Ljava/lang/Object;" } : Jvm.MethodName)) ∈ lw_all := lw_g (lw_at lw_m5 155 rfl) rfl
theorem q1737 : (Jvm.Cond.castable "StepRiders$Sorts" "java/lang/Object") ∈ lw_tbl := lw_at lw_m8 11 rfl
theorem in_X13 : ∀ w ∈ wsX130, w ∈ lw_all := lw_in wsX130 [1052] (by decide +kernel) (by decide +kernel)

/-! StepRiders$Sides -/
set_option maxRecDepth 100000
def RX14 : String := "StepRiders$Sides"
def TX14 : u_T := fun k => match k with
  | _ => ("StepRiders$Sides", "rider", "I", true)
def tyX14 : Nat → FieldType := fun k => match k with
  | _ => .int
abbrev wsX140 : List Cond := u_ws RX14 TX14 1
theorem nmX14 : ∀ a, a < 1 → ∀ b, b < 1 → a ≠ b → (TX14 a).2.1 ≠ (TX14 b).2.1 := by decide +kernel
theorem tyX14_ok : ∀ k, k < 1 → parseFieldDescriptor (TX14 k).2.2.1 = some (tyX14 k) := by decide +kernel
abbrev cX14_init : ByteArray := prog_12_method_1_code
def yX14_init : MethodName := ⟨RX14, "<init>", "(I)V"⟩
def dkwX14_init_0 : List UInt8 := [42, 183, 0, 1, 42, 27, 181, 0, 7, 177]
abbrev dktX14_init_0 : List UInt8 := dkwX14_init_0 ++ []
theorem dksX14_init_0 : cX14_init.data.toList.drop 0 = dktX14_init_0 := by decide +kernel
theorem dX14_init_0 : decode cX14_init 0 = .ok (.aload_n 0, 1) := dk_42 (dk_at dksX14_init_0 0 rfl rfl)
theorem dX14_init_1 : decode cX14_init 1 = .ok (.invokespecial 1, 3) := dk_183 0 1 (dk_at dksX14_init_0 1 rfl rfl)
theorem dX14_init_4 : decode cX14_init 4 = .ok (.aload_n 0, 1) := dk_42 (dk_at dksX14_init_0 4 rfl rfl)
theorem dX14_init_5 : decode cX14_init 5 = .ok (.iload_n 1, 1) := dk_27 (dk_at dksX14_init_0 5 rfl rfl)
theorem dX14_init_6 : decode cX14_init 6 = .ok (.putfield 7, 3) := dk_181 0 7 (dk_at dksX14_init_0 6 rfl rfl)
theorem dX14_init_9 : decode cX14_init 9 = .ok (.return_, 1) := dk_177 (dk_at dksX14_init_0 9 rfl rfl)
abbrev cX14_high : ByteArray := prog_12_method_3_code
def yX14_high : MethodName := ⟨RX14, "high", "()I"⟩
theorem dX14_high_0 : decode cX14_high 0 = .ok (.iconst 1, 1) := by decide +kernel
theorem dX14_high_1 : decode cX14_high 1 = .ok (.ireturn, 1) := by decide +kernel
abbrev cX14_lay : ByteArray := prog_12_method_2_code
def yX14_lay : MethodName := ⟨RX14, "lay", "(LStepRiders$Stair;I)Z"⟩
def dkwX14_lay_0 : List UInt8 := [43, 180, 0, 13, 42, 180, 0, 7, 28, 79, 4, 172]
abbrev dktX14_lay_0 : List UInt8 := dkwX14_lay_0 ++ []
theorem dksX14_lay_0 : cX14_lay.data.toList.drop 0 = dktX14_lay_0 := by decide +kernel
theorem dX14_lay_0 : decode cX14_lay 0 = .ok (.aload_n 1, 1) := dk_43 (dk_at dksX14_lay_0 0 rfl rfl)
theorem dX14_lay_1 : decode cX14_lay 1 = .ok (.getfield 13, 3) := dk_180 0 13 (dk_at dksX14_lay_0 1 rfl rfl)
theorem dX14_lay_4 : decode cX14_lay 4 = .ok (.aload_n 0, 1) := dk_42 (dk_at dksX14_lay_0 4 rfl rfl)
theorem dX14_lay_5 : decode cX14_lay 5 = .ok (.getfield 7, 3) := dk_180 0 7 (dk_at dksX14_lay_0 5 rfl rfl)
theorem dX14_lay_8 : decode cX14_lay 8 = .ok (.iload_n 2, 1) := dk_28 (dk_at dksX14_lay_0 8 rfl rfl)
theorem dX14_lay_9 : decode cX14_lay 9 = .ok (.iastore, 1) := dk_79 (dk_at dksX14_lay_0 9 rfl rfl)
theorem dX14_lay_10 : decode cX14_lay 10 = .ok (.iconst 1, 1) := dk_4 (dk_at dksX14_lay_0 10 rfl rfl)
theorem dX14_lay_11 : decode cX14_lay 11 = .ok (.ireturn, 1) := dk_172 (dk_at dksX14_lay_0 11 rfl rfl)
theorem q83 : (Jvm.Cond.initialized "StepRiders$Sides") ∈ lw_all := lw_g (lw_at lw_m1 37 rfl) rfl
theorem q162 : (Jvm.Cond.fieldLink "StepRiders$Sides" (13 : Nat) "StepRiders$Stair" "lane" "[I") ∈ lw_all := lw_g (lw_at lw_m1 116 rfl) rfl
theorem q756 : (Jvm.Cond.selects "StepRiders$Sides" ({ cls := "java/lang/Object", name := "getClass", desc := "()Ljava/lang/Class;" } : Jvm.MethodName) ({ cls := "java/lang/Object", name := "getClass", desc := "()Ljava/lang/Class;" } : Jvm.MethodName)) ∈ lw_all := lw_g (lw_at lw_m3 230 rfl) rfl
theorem q1056 : (Jvm.Cond.instantiable "StepRiders$Sides" (1 : Nat)) ∈ lw_all := lw_g (lw_at lw_m5 50 rfl) rfl
theorem q1058 : (Jvm.Cond.instanceMethod ({ cls := "StepRiders$Sides", name := "<init>", desc := "(I)V" } : Jvm.MethodName)) ∈ lw_all := lw_g (lw_at lw_m5 52 rfl) rfl
theorem q1059 : (Jvm.Cond.code ({ cls := "StepRiders$Sides", name := "<init>", desc := "(I)V" } : Jvm.MethodName) prog_12_method_1_code (2 : Nat) (Option.none : Option Jvm.ClassFile.FieldType)) ∈ lw_all := lw_g (lw_at lw_m5 53 rfl) rfl
theorem q1060 : (Jvm.Cond.methodLink "StepRiders$Sides" (1 : Nat) ({ cls := "java/lang/Object", name := "<init>", desc := "()V" } : Jvm.MethodName)) ∈ lw_all := lw_g (lw_at lw_m5 54 rfl) rfl
theorem q1061 : (Jvm.Cond.fieldLink "StepRiders$Sides" (7 : Nat) "StepRiders$Sides" "rider" "I") ∈ lw_all := lw_g (lw_at lw_m5 55 rfl) rfl
theorem q1062 : (Jvm.Cond.laysFinal "StepRiders$Sides" "StepRiders$Sides" "rider" "I") ∈ lw_all := lw_g (lw_at lw_m5 56 rfl) rfl
theorem q1063 : (Jvm.Cond.soleField "StepRiders$Sides" "rider") ∈ lw_all := lw_g (lw_at lw_m5 57 rfl) rfl
theorem q1064 : (Jvm.Cond.superclass "StepRiders$Sides" "java/lang/Object") ∈ lw_all := lw_g (lw_at lw_m5 58 rfl) rfl
theorem q1105 : (Jvm.Cond.castable "StepRiders$Sides" "StepRiders$But") ∈ lw_tbl := lw_at lw_m5 99 rfl
theorem q1106 : (Jvm.Cond.unhidden "StepRiders$Sides" "low" "()I") ∈ lw_tbl := lw_at lw_m5 100 rfl
theorem q1125 : (Jvm.Cond.selects "StepRiders$Sides" ({ cls := "StepRiders$But", name := "high", desc := "()I" } : Jvm.MethodName) ({ cls := "StepRiders$Sides", name := "high", desc := "()I" } : Jvm.MethodName)) ∈ lw_all := lw_g (lw_at lw_m5 119 rfl) rfl
theorem q1126 : (Jvm.Cond.unhidden "StepRiders$Sides" "high" "()I") ∈ lw_tbl := lw_at lw_m5 120 rfl
theorem q1127 : (Jvm.Cond.instanceMethod ({ cls := "StepRiders$Sides", name := "high", desc := "()I" } : Jvm.MethodName)) ∈ lw_all := lw_g (lw_at lw_m5 121 rfl) rfl
theorem q1128 : (Jvm.Cond.publicMethod ({ cls := "StepRiders$Sides", name := "high", desc := "()I" } : Jvm.MethodName)) ∈ lw_tbl := lw_at lw_m5 122 rfl
theorem q1129 : (Jvm.Cond.code ({ cls := "StepRiders$Sides", name := "high", desc := "()I" } : Jvm.MethodName) prog_12_method_3_code (1 : Nat) (Option.some Jvm.ClassFile.FieldType.int)) ∈ lw_all := lw_g (lw_at lw_m5 123 rfl) rfl
theorem q1149 : (Jvm.Cond.selects "StepRiders$Sides" ({ cls := "StepRiders$But", name := "lay", desc := "(LStepRiders$Stair;I)Z" } : Jvm.MethodName) ({ cls := "StepRiders$Sides", name := "lay", desc := "(LStepRiders$Stair;I)Z" } : Jvm.MethodName)) ∈ lw_all := lw_g (lw_at lw_m5 143 rfl) rfl
theorem q1150 : (Jvm.Cond.unhidden "StepRiders$Sides" "lay" "(LStepRiders$Stair;I)Z") ∈ lw_tbl := lw_at lw_m5 144 rfl
theorem q1151 : (Jvm.Cond.instanceMethod ({ cls := "StepRiders$Sides", name := "lay", desc := "(LStepRiders$Stair;I)Z" } : Jvm.MethodName)) ∈ lw_all := lw_g (lw_at lw_m5 145 rfl) rfl
theorem q1152 : (Jvm.Cond.publicMethod ({ cls := "StepRiders$Sides", name := "lay", desc := "(LStepRiders$Stair;I)Z" } : Jvm.MethodName)) ∈ lw_tbl := lw_at lw_m5 146 rfl
theorem q1153 : (Jvm.Cond.code ({ cls := "StepRiders$Sides", name := "lay", desc := "(LStepRiders$Stair;I)Z" } : Jvm.MethodName) prog_12_method_2_code (3 : Nat) (Option.some Jvm.ClassFile.FieldType.boolean)) ∈ lw_all := lw_g (lw_at lw_m5 147 rfl) rfl
theorem q1738 : (Jvm.Cond.castable "StepRiders$Sides" "java/lang/Object") ∈ lw_tbl := lw_at lw_m8 12 rfl
theorem in_X14 : ∀ w ∈ wsX140, w ∈ lw_all := lw_in wsX140 [1062] (by decide +kernel) (by decide +kernel)

/-! StepRiders$Speeds -/
set_option maxRecDepth 100000
def RX15 : String := "StepRiders$Speeds"
abbrev cX15_init : ByteArray := prog_14_method_1_code
def yX15_init : MethodName := ⟨RX15, "<init>", "()V"⟩
theorem dX15_init_0 : decode cX15_init 0 = .ok (.aload_n 0, 1) := by decide +kernel
theorem dX15_init_1 : decode cX15_init 1 = .ok (.invokespecial 3, 3) := by decide +kernel
theorem dX15_init_4 : decode cX15_init 4 = .ok (.return_, 1) := by decide +kernel
abbrev cX15_high : ByteArray := prog_14_method_3_code
def yX15_high : MethodName := ⟨RX15, "high", "()I"⟩
theorem dX15_high_0 : decode cX15_high 0 = .ok (.iconst 2, 1) := by decide +kernel
theorem dX15_high_1 : decode cX15_high 1 = .ok (.ireturn, 1) := by decide +kernel
abbrev cX15_lay : ByteArray := prog_14_method_2_code
def yX15_lay : MethodName := ⟨RX15, "lay", "(LStepRiders$Stair;I)Z"⟩
def dkwX15_lay_0 : List UInt8 := [43, 28, 181, 0, 9, 4, 172]
abbrev dktX15_lay_0 : List UInt8 := dkwX15_lay_0 ++ []
theorem dksX15_lay_0 : cX15_lay.data.toList.drop 0 = dktX15_lay_0 := by decide +kernel
theorem dX15_lay_0 : decode cX15_lay 0 = .ok (.aload_n 1, 1) := dk_43 (dk_at dksX15_lay_0 0 rfl rfl)
theorem dX15_lay_1 : decode cX15_lay 1 = .ok (.iload_n 2, 1) := dk_28 (dk_at dksX15_lay_0 1 rfl rfl)
theorem dX15_lay_2 : decode cX15_lay 2 = .ok (.putfield 9, 3) := dk_181 0 9 (dk_at dksX15_lay_0 2 rfl rfl)
theorem dX15_lay_5 : decode cX15_lay 5 = .ok (.iconst 1, 1) := dk_4 (dk_at dksX15_lay_0 5 rfl rfl)
theorem dX15_lay_6 : decode cX15_lay 6 = .ok (.ireturn, 1) := dk_172 (dk_at dksX15_lay_0 6 rfl rfl)
theorem q84 : (Jvm.Cond.initialized "StepRiders$Speeds") ∈ lw_all := lw_g (lw_at lw_m1 38 rfl) rfl
theorem q148 : (Jvm.Cond.fieldLink "StepRiders$Speeds" (9 : Nat) "StepRiders$Stair" "speed" "I") ∈ lw_all := lw_g (lw_at lw_m1 102 rfl) rfl
theorem q758 : (Jvm.Cond.selects "StepRiders$Speeds" ({ cls := "java/lang/Object", name := "getClass", desc := "()Ljava/lang/Class;" } : Jvm.MethodName) ({ cls := "java/lang/Object", name := "getClass", desc := "()Ljava/lang/Class;" } : Jvm.MethodName)) ∈ lw_all := lw_g (lw_at lw_m3 232 rfl) rfl
theorem q1066 : (Jvm.Cond.instantiable "StepRiders$Speeds" (0 : Nat)) ∈ lw_all := lw_g (lw_at lw_m5 60 rfl) rfl
theorem q1068 : (Jvm.Cond.instanceMethod ({ cls := "StepRiders$Speeds", name := "<init>", desc := "()V" } : Jvm.MethodName)) ∈ lw_all := lw_g (lw_at lw_m5 62 rfl) rfl
theorem q1069 : (Jvm.Cond.code ({ cls := "StepRiders$Speeds", name := "<init>", desc := "()V" } : Jvm.MethodName) prog_14_method_1_code (1 : Nat) (Option.none : Option Jvm.ClassFile.FieldType)) ∈ lw_all := lw_g (lw_at lw_m5 63 rfl) rfl
theorem q1070 : (Jvm.Cond.methodLink "StepRiders$Speeds" (3 : Nat) ({ cls := "java/lang/Object", name := "<init>", desc := "()V" } : Jvm.MethodName)) ∈ lw_all := lw_g (lw_at lw_m5 64 rfl) rfl
theorem q1071 : (Jvm.Cond.superclass "StepRiders$Speeds" "java/lang/Object") ∈ lw_all := lw_g (lw_at lw_m5 65 rfl) rfl
theorem q1117 : (Jvm.Cond.castable "StepRiders$Speeds" "StepRiders$But") ∈ lw_tbl := lw_at lw_m5 111 rfl
theorem q1118 : (Jvm.Cond.unhidden "StepRiders$Speeds" "low" "()I") ∈ lw_tbl := lw_at lw_m5 112 rfl
theorem q1135 : (Jvm.Cond.selects "StepRiders$Speeds" ({ cls := "StepRiders$But", name := "high", desc := "()I" } : Jvm.MethodName) ({ cls := "StepRiders$Speeds", name := "high", desc := "()I" } : Jvm.MethodName)) ∈ lw_all := lw_g (lw_at lw_m5 129 rfl) rfl
theorem q1136 : (Jvm.Cond.unhidden "StepRiders$Speeds" "high" "()I") ∈ lw_tbl := lw_at lw_m5 130 rfl
theorem q1137 : (Jvm.Cond.instanceMethod ({ cls := "StepRiders$Speeds", name := "high", desc := "()I" } : Jvm.MethodName)) ∈ lw_all := lw_g (lw_at lw_m5 131 rfl) rfl
theorem q1138 : (Jvm.Cond.publicMethod ({ cls := "StepRiders$Speeds", name := "high", desc := "()I" } : Jvm.MethodName)) ∈ lw_tbl := lw_at lw_m5 132 rfl
theorem q1139 : (Jvm.Cond.code ({ cls := "StepRiders$Speeds", name := "high", desc := "()I" } : Jvm.MethodName) prog_14_method_3_code (1 : Nat) (Option.some Jvm.ClassFile.FieldType.int)) ∈ lw_all := lw_g (lw_at lw_m5 133 rfl) rfl
theorem q1169 : (Jvm.Cond.selects "StepRiders$Speeds" ({ cls := "StepRiders$But", name := "lay", desc := "(LStepRiders$Stair;I)Z" } : Jvm.MethodName) ({ cls := "StepRiders$Speeds", name := "lay", desc := "(LStepRiders$Stair;I)Z" } : Jvm.MethodName)) ∈ lw_all := lw_g (lw_at lw_m5 163 rfl) rfl
theorem q1170 : (Jvm.Cond.unhidden "StepRiders$Speeds" "lay" "(LStepRiders$Stair;I)Z") ∈ lw_tbl := lw_at lw_m5 164 rfl
theorem q1171 : (Jvm.Cond.instanceMethod ({ cls := "StepRiders$Speeds", name := "lay", desc := "(LStepRiders$Stair;I)Z" } : Jvm.MethodName)) ∈ lw_all := lw_g (lw_at lw_m5 165 rfl) rfl
theorem q1172 : (Jvm.Cond.publicMethod ({ cls := "StepRiders$Speeds", name := "lay", desc := "(LStepRiders$Stair;I)Z" } : Jvm.MethodName)) ∈ lw_tbl := lw_at lw_m5 166 rfl
theorem q1173 : (Jvm.Cond.code ({ cls := "StepRiders$Speeds", name := "lay", desc := "(LStepRiders$Stair;I)Z" } : Jvm.MethodName) prog_14_method_2_code (3 : Nat) (Option.some Jvm.ClassFile.FieldType.boolean)) ∈ lw_all := lw_g (lw_at lw_m5 167 rfl) rfl
theorem q1739 : (Jvm.Cond.castable "StepRiders$Speeds" "java/lang/Object") ∈ lw_tbl := lw_at lw_m8 13 rfl

/-! StepRiders$Starts -/
set_option maxRecDepth 100000
def RX16 : String := "StepRiders$Starts"
def TX16 : u_T := fun k => match k with
  | 0 => ("StepRiders$Starts", "rider", "I", true)
  | _ => ("StepRiders$Starts", "this$0", "LStepRiders;", true)
def tyX16 : Nat → FieldType := fun k => match k with
  | 0 => .int
  | _ => .object "StepRiders"
abbrev wsX160 : List Cond := u_ws RX16 TX16 2
theorem nmX16 : ∀ a, a < 2 → ∀ b, b < 2 → a ≠ b → (TX16 a).2.1 ≠ (TX16 b).2.1 := by decide +kernel
theorem tyX16_ok : ∀ k, k < 2 → parseFieldDescriptor (TX16 k).2.2.1 = some (tyX16 k) := by decide +kernel
abbrev cX16_init : ByteArray := prog_17_method_1_code
def yX16_init : MethodName := ⟨RX16, "<init>", "(LStepRiders;I)V"⟩
def dkwX16_init_0 : List UInt8 := [42, 43, 181, 0, 1, 42, 183, 0, 7, 42, 28, 181, 0, 13, 177]
abbrev dktX16_init_0 : List UInt8 := dkwX16_init_0 ++ []
theorem dksX16_init_0 : cX16_init.data.toList.drop 0 = dktX16_init_0 := by decide +kernel
theorem dX16_init_0 : decode cX16_init 0 = .ok (.aload_n 0, 1) := dk_42 (dk_at dksX16_init_0 0 rfl rfl)
theorem dX16_init_1 : decode cX16_init 1 = .ok (.aload_n 1, 1) := dk_43 (dk_at dksX16_init_0 1 rfl rfl)
theorem dX16_init_2 : decode cX16_init 2 = .ok (.putfield 1, 3) := dk_181 0 1 (dk_at dksX16_init_0 2 rfl rfl)
theorem dX16_init_5 : decode cX16_init 5 = .ok (.aload_n 0, 1) := dk_42 (dk_at dksX16_init_0 5 rfl rfl)
theorem dX16_init_6 : decode cX16_init 6 = .ok (.invokespecial 7, 3) := dk_183 0 7 (dk_at dksX16_init_0 6 rfl rfl)
theorem dX16_init_9 : decode cX16_init 9 = .ok (.aload_n 0, 1) := dk_42 (dk_at dksX16_init_0 9 rfl rfl)
theorem dX16_init_10 : decode cX16_init 10 = .ok (.iload_n 2, 1) := dk_28 (dk_at dksX16_init_0 10 rfl rfl)
theorem dX16_init_11 : decode cX16_init 11 = .ok (.putfield 13, 3) := dk_181 0 13 (dk_at dksX16_init_0 11 rfl rfl)
theorem dX16_init_14 : decode cX16_init 14 = .ok (.return_, 1) := dk_177 (dk_at dksX16_init_0 14 rfl rfl)
abbrev cX16_high : ByteArray := prog_17_method_3_code
def yX16_high : MethodName := ⟨RX16, "high", "()I"⟩
def dkwX16_high_0 : List UInt8 := [42, 180, 0, 1, 180, 0, 34, 180, 0, 40, 4, 100, 172]
abbrev dktX16_high_0 : List UInt8 := dkwX16_high_0 ++ []
theorem dksX16_high_0 : cX16_high.data.toList.drop 0 = dktX16_high_0 := by decide +kernel
theorem dX16_high_0 : decode cX16_high 0 = .ok (.aload_n 0, 1) := dk_42 (dk_at dksX16_high_0 0 rfl rfl)
theorem dX16_high_1 : decode cX16_high 1 = .ok (.getfield 1, 3) := dk_180 0 1 (dk_at dksX16_high_0 1 rfl rfl)
theorem dX16_high_4 : decode cX16_high 4 = .ok (.getfield 34, 3) := dk_180 0 34 (dk_at dksX16_high_0 4 rfl rfl)
theorem dX16_high_7 : decode cX16_high 7 = .ok (.getfield 40, 3) := dk_180 0 40 (dk_at dksX16_high_0 7 rfl rfl)
theorem dX16_high_10 : decode cX16_high 10 = .ok (.iconst 1, 1) := dk_4 (dk_at dksX16_high_0 10 rfl rfl)
theorem dX16_high_11 : decode cX16_high 11 = .ok (.isub, 1) := dk_100 (dk_at dksX16_high_0 11 rfl rfl)
theorem dX16_high_12 : decode cX16_high 12 = .ok (.ireturn, 1) := dk_172 (dk_at dksX16_high_0 12 rfl rfl)
abbrev cX16_lay : ByteArray := prog_17_method_2_code
def yX16_lay : MethodName := ⟨RX16, "lay", "(LStepRiders$Stair;I)Z"⟩
def dkwX16_lay_2 : List UInt8 := [28, 79, 29, 172]
abbrev dktX16_lay_2 : List UInt8 := dkwX16_lay_2 ++ []
def dkwX16_lay_1 : List UInt8 := [180, 0, 13, 46, 182, 0, 27, 153, 0, 7, 4, 167, 0, 4, 3, 62, 43, 180, 0, 31, 42, 180, 0, 13]
abbrev dktX16_lay_1 : List UInt8 := dkwX16_lay_1 ++ dktX16_lay_2
def dkwX16_lay_0 : List UInt8 := [43, 42, 180, 0, 13, 182, 0, 17, 153, 0, 28, 43, 42, 180, 0, 13, 28, 43, 180, 0, 23, 42]
abbrev dktX16_lay_0 : List UInt8 := dkwX16_lay_0 ++ dktX16_lay_1
theorem dksX16_lay_0 : cX16_lay.data.toList.drop 0 = dktX16_lay_0 := by decide +kernel
theorem dksX16_lay_1 : cX16_lay.data.toList.drop 22 = dktX16_lay_1 := dk_seg dksX16_lay_0 22 rfl rfl
theorem dksX16_lay_2 : cX16_lay.data.toList.drop 46 = dktX16_lay_2 := dk_seg dksX16_lay_1 24 rfl rfl
theorem dX16_lay_0 : decode cX16_lay 0 = .ok (.aload_n 1, 1) := dk_43 (dk_at dksX16_lay_0 0 rfl rfl)
theorem dX16_lay_1 : decode cX16_lay 1 = .ok (.aload_n 0, 1) := dk_42 (dk_at dksX16_lay_0 1 rfl rfl)
theorem dX16_lay_2 : decode cX16_lay 2 = .ok (.getfield 13, 3) := dk_180 0 13 (dk_at dksX16_lay_0 2 rfl rfl)
theorem dX16_lay_5 : decode cX16_lay 5 = .ok (.invokevirtual 17, 3) := dk_182 0 17 (dk_at dksX16_lay_0 5 rfl rfl)
theorem dX16_lay_8 : decode cX16_lay 8 = .ok (.ifCond .eq 28, 3) := dk_153 0 28 (dk_at dksX16_lay_0 8 rfl rfl)
theorem dX16_lay_11 : decode cX16_lay 11 = .ok (.aload_n 1, 1) := dk_43 (dk_at dksX16_lay_0 11 rfl rfl)
theorem dX16_lay_12 : decode cX16_lay 12 = .ok (.aload_n 0, 1) := dk_42 (dk_at dksX16_lay_0 12 rfl rfl)
theorem dX16_lay_13 : decode cX16_lay 13 = .ok (.getfield 13, 3) := dk_180 0 13 (dk_at dksX16_lay_0 13 rfl rfl)
theorem dX16_lay_16 : decode cX16_lay 16 = .ok (.iload_n 2, 1) := dk_28 (dk_at dksX16_lay_0 16 rfl rfl)
theorem dX16_lay_17 : decode cX16_lay 17 = .ok (.aload_n 1, 1) := dk_43 (dk_at dksX16_lay_0 17 rfl rfl)
theorem dX16_lay_18 : decode cX16_lay 18 = .ok (.getfield 23, 3) := dk_180 0 23 (dk_at dksX16_lay_0 18 rfl rfl)
theorem dX16_lay_21 : decode cX16_lay 21 = .ok (.aload_n 0, 1) := dk_42 (dk_at dksX16_lay_0 21 rfl rfl)
theorem dX16_lay_22 : decode cX16_lay 22 = .ok (.getfield 13, 3) := dk_180 0 13 (dk_at dksX16_lay_1 0 rfl rfl)
theorem dX16_lay_25 : decode cX16_lay 25 = .ok (.iaload, 1) := dk_46 (dk_at dksX16_lay_1 3 rfl rfl)
theorem dX16_lay_26 : decode cX16_lay 26 = .ok (.invokevirtual 27, 3) := dk_182 0 27 (dk_at dksX16_lay_1 4 rfl rfl)
theorem dX16_lay_29 : decode cX16_lay 29 = .ok (.ifCond .eq 7, 3) := dk_153 0 7 (dk_at dksX16_lay_1 7 rfl rfl)
theorem dX16_lay_32 : decode cX16_lay 32 = .ok (.iconst 1, 1) := dk_4 (dk_at dksX16_lay_1 10 rfl rfl)
theorem dX16_lay_33 : decode cX16_lay 33 = .ok (.goto 4, 3) := dk_167 0 4 (dk_at dksX16_lay_1 11 rfl rfl)
theorem dX16_lay_36 : decode cX16_lay 36 = .ok (.iconst 0, 1) := dk_3 (dk_at dksX16_lay_1 14 rfl rfl)
theorem dX16_lay_37 : decode cX16_lay 37 = .ok (.istore_n 3, 1) := dk_62 (dk_at dksX16_lay_1 15 rfl rfl)
theorem dX16_lay_38 : decode cX16_lay 38 = .ok (.aload_n 1, 1) := dk_43 (dk_at dksX16_lay_1 16 rfl rfl)
theorem dX16_lay_39 : decode cX16_lay 39 = .ok (.getfield 31, 3) := dk_180 0 31 (dk_at dksX16_lay_1 17 rfl rfl)
theorem dX16_lay_42 : decode cX16_lay 42 = .ok (.aload_n 0, 1) := dk_42 (dk_at dksX16_lay_1 20 rfl rfl)
theorem dX16_lay_43 : decode cX16_lay 43 = .ok (.getfield 13, 3) := dk_180 0 13 (dk_at dksX16_lay_1 21 rfl rfl)
theorem dX16_lay_46 : decode cX16_lay 46 = .ok (.iload_n 2, 1) := dk_28 (dk_at dksX16_lay_2 0 rfl rfl)
theorem dX16_lay_47 : decode cX16_lay 47 = .ok (.iastore, 1) := dk_79 (dk_at dksX16_lay_2 1 rfl rfl)
theorem dX16_lay_48 : decode cX16_lay 48 = .ok (.iload_n 3, 1) := dk_29 (dk_at dksX16_lay_2 2 rfl rfl)
theorem dX16_lay_49 : decode cX16_lay 49 = .ok (.ireturn, 1) := dk_172 (dk_at dksX16_lay_2 3 rfl rfl)
theorem q85 : (Jvm.Cond.initialized "StepRiders$Starts") ∈ lw_all := lw_g (lw_at lw_m1 39 rfl) rfl
theorem q145 : (Jvm.Cond.fieldLink "StepRiders$Starts" (40 : Nat) "StepRiders$Stair" "steps" "I") ∈ lw_all := lw_g (lw_at lw_m1 99 rfl) rfl
theorem q163 : (Jvm.Cond.fieldLink "StepRiders$Starts" (23 : Nat) "StepRiders$Stair" "lane" "[I") ∈ lw_all := lw_g (lw_at lw_m1 117 rfl) rfl
theorem q169 : (Jvm.Cond.fieldLink "StepRiders$Starts" (31 : Nat) "StepRiders$Stair" "where" "[I") ∈ lw_all := lw_g (lw_at lw_m1 123 rfl) rfl
theorem q212 : (Jvm.Cond.fieldLinkNest "StepRiders$Starts" (34 : Nat) "StepRiders" "stair" "LStepRiders$Stair;" "StepRiders") ∈ lw_tbl := lw_at lw_m1 166 rfl
theorem q761 : (Jvm.Cond.selects "StepRiders$Starts" ({ cls := "java/lang/Object", name := "getClass", desc := "()Ljava/lang/Class;" } : Jvm.MethodName) ({ cls := "java/lang/Object", name := "getClass", desc := "()Ljava/lang/Class;" } : Jvm.MethodName)) ∈ lw_all := lw_g (lw_at lw_m3 235 rfl) rfl
theorem q1073 : (Jvm.Cond.instantiable "StepRiders$Starts" (2 : Nat)) ∈ lw_all := lw_g (lw_at lw_m5 67 rfl) rfl
theorem q1075 : (Jvm.Cond.instanceMethod ({ cls := "StepRiders$Starts", name := "<init>", desc := "(LStepRiders;I)V" } : Jvm.MethodName)) ∈ lw_all := lw_g (lw_at lw_m5 69 rfl) rfl
theorem q1076 : (Jvm.Cond.code ({ cls := "StepRiders$Starts", name := "<init>", desc := "(LStepRiders;I)V" } : Jvm.MethodName) prog_17_method_1_code (3 : Nat) (Option.none : Option Jvm.ClassFile.FieldType)) ∈ lw_all := lw_g (lw_at lw_m5 70 rfl) rfl
theorem q1077 : (Jvm.Cond.methodLink "StepRiders$Starts" (7 : Nat) ({ cls := "java/lang/Object", name := "<init>", desc := "()V" } : Jvm.MethodName)) ∈ lw_all := lw_g (lw_at lw_m5 71 rfl) rfl
theorem q1078 : (Jvm.Cond.fieldLink "StepRiders$Starts" (13 : Nat) "StepRiders$Starts" "rider" "I") ∈ lw_all := lw_g (lw_at lw_m5 72 rfl) rfl
theorem q1079 : (Jvm.Cond.fieldLink "StepRiders$Starts" (1 : Nat) "StepRiders$Starts" "this$0" "LStepRiders;") ∈ lw_all := lw_g (lw_at lw_m5 73 rfl) rfl
theorem q1080 : (Jvm.Cond.laysFinal "StepRiders$Starts" "StepRiders$Starts" "rider" "I") ∈ lw_all := lw_g (lw_at lw_m5 74 rfl) rfl
theorem q1081 : (Jvm.Cond.soleField "StepRiders$Starts" "rider") ∈ lw_all := lw_g (lw_at lw_m5 75 rfl) rfl
theorem q1082 : (Jvm.Cond.laysFinal "StepRiders$Starts" "StepRiders$Starts" "this$0" "LStepRiders;") ∈ lw_all := lw_g (lw_at lw_m5 76 rfl) rfl
theorem q1083 : (Jvm.Cond.soleField "StepRiders$Starts" "this$0") ∈ lw_all := lw_g (lw_at lw_m5 77 rfl) rfl
theorem q1084 : (Jvm.Cond.superclass "StepRiders$Starts" "java/lang/Object") ∈ lw_all := lw_g (lw_at lw_m5 78 rfl) rfl
theorem q1119 : (Jvm.Cond.castable "StepRiders$Starts" "StepRiders$But") ∈ lw_tbl := lw_at lw_m5 113 rfl
theorem q1120 : (Jvm.Cond.unhidden "StepRiders$Starts" "low" "()I") ∈ lw_tbl := lw_at lw_m5 114 rfl
theorem q1140 : (Jvm.Cond.selects "StepRiders$Starts" ({ cls := "StepRiders$But", name := "high", desc := "()I" } : Jvm.MethodName) ({ cls := "StepRiders$Starts", name := "high", desc := "()I" } : Jvm.MethodName)) ∈ lw_all := lw_g (lw_at lw_m5 134 rfl) rfl
theorem q1141 : (Jvm.Cond.unhidden "StepRiders$Starts" "high" "()I") ∈ lw_tbl := lw_at lw_m5 135 rfl
theorem q1142 : (Jvm.Cond.instanceMethod ({ cls := "StepRiders$Starts", name := "high", desc := "()I" } : Jvm.MethodName)) ∈ lw_all := lw_g (lw_at lw_m5 136 rfl) rfl
theorem q1143 : (Jvm.Cond.publicMethod ({ cls := "StepRiders$Starts", name := "high", desc := "()I" } : Jvm.MethodName)) ∈ lw_tbl := lw_at lw_m5 137 rfl
theorem q1144 : (Jvm.Cond.code ({ cls := "StepRiders$Starts", name := "high", desc := "()I" } : Jvm.MethodName) prog_17_method_3_code (1 : Nat) (Option.some Jvm.ClassFile.FieldType.int)) ∈ lw_all := lw_g (lw_at lw_m5 138 rfl) rfl
theorem q1174 : (Jvm.Cond.selects "StepRiders$Starts" ({ cls := "StepRiders$But", name := "lay", desc := "(LStepRiders$Stair;I)Z" } : Jvm.MethodName) ({ cls := "StepRiders$Starts", name := "lay", desc := "(LStepRiders$Stair;I)Z" } : Jvm.MethodName)) ∈ lw_all := lw_g (lw_at lw_m5 168 rfl) rfl
theorem q1175 : (Jvm.Cond.unhidden "StepRiders$Starts" "lay" "(LStepRiders$Stair;I)Z") ∈ lw_tbl := lw_at lw_m5 169 rfl
theorem q1176 : (Jvm.Cond.instanceMethod ({ cls := "StepRiders$Starts", name := "lay", desc := "(LStepRiders$Stair;I)Z" } : Jvm.MethodName)) ∈ lw_all := lw_g (lw_at lw_m5 170 rfl) rfl
theorem q1177 : (Jvm.Cond.publicMethod ({ cls := "StepRiders$Starts", name := "lay", desc := "(LStepRiders$Stair;I)Z" } : Jvm.MethodName)) ∈ lw_tbl := lw_at lw_m5 171 rfl
theorem q1178 : (Jvm.Cond.code ({ cls := "StepRiders$Starts", name := "lay", desc := "(LStepRiders$Stair;I)Z" } : Jvm.MethodName) prog_17_method_2_code (4 : Nat) (Option.some Jvm.ClassFile.FieldType.boolean)) ∈ lw_all := lw_g (lw_at lw_m5 172 rfl) rfl
theorem q1179 : (Jvm.Cond.methodLink "StepRiders$Starts" (17 : Nat) ({ cls := "StepRiders$Stair", name := "isOn", desc := "(I)Z" } : Jvm.MethodName)) ∈ lw_all := lw_g (lw_at lw_m5 173 rfl) rfl
theorem q1180 : (Jvm.Cond.methodLink "StepRiders$Starts" (27 : Nat) ({ cls := "StepRiders$Stair", name := "isFree", desc := "(III)Z" } : Jvm.MethodName)) ∈ lw_all := lw_g (lw_at lw_m5 174 rfl) rfl
theorem q1740 : (Jvm.Cond.castable "StepRiders$Starts" "java/lang/Object") ∈ lw_tbl := lw_at lw_m8 14 rfl
theorem in_X16 : ∀ w ∈ wsX160, w ∈ lw_all := lw_in wsX160 [1080, 1082] (by decide +kernel) (by decide +kernel)

/-! StepRiders$Has -/
set_option maxRecDepth 100000
def RX17 : String := "StepRiders$Has"
def TX17 : u_T := fun k => match k with
  | 0 => ("StepRiders$Has", "rider", "I", true)
  | _ => ("StepRiders$Has", "this$0", "LStepRiders;", true)
def tyX17 : Nat → FieldType := fun k => match k with
  | 0 => .int
  | _ => .object "StepRiders"
abbrev wsX170 : List Cond := u_ws RX17 TX17 2
theorem nmX17 : ∀ a, a < 2 → ∀ b, b < 2 → a ≠ b → (TX17 a).2.1 ≠ (TX17 b).2.1 := by decide +kernel
theorem tyX17_ok : ∀ k, k < 2 → parseFieldDescriptor (TX17 k).2.2.1 = some (tyX17 k) := by decide +kernel
abbrev cX17_init : ByteArray := prog_5_method_1_code
def yX17_init : MethodName := ⟨RX17, "<init>", "(LStepRiders;I)V"⟩
def dkwX17_init_0 : List UInt8 := [42, 43, 181, 0, 1, 42, 183, 0, 7, 42, 28, 181, 0, 13, 177]
abbrev dktX17_init_0 : List UInt8 := dkwX17_init_0 ++ []
theorem dksX17_init_0 : cX17_init.data.toList.drop 0 = dktX17_init_0 := by decide +kernel
theorem dX17_init_0 : decode cX17_init 0 = .ok (.aload_n 0, 1) := dk_42 (dk_at dksX17_init_0 0 rfl rfl)
theorem dX17_init_1 : decode cX17_init 1 = .ok (.aload_n 1, 1) := dk_43 (dk_at dksX17_init_0 1 rfl rfl)
theorem dX17_init_2 : decode cX17_init 2 = .ok (.putfield 1, 3) := dk_181 0 1 (dk_at dksX17_init_0 2 rfl rfl)
theorem dX17_init_5 : decode cX17_init 5 = .ok (.aload_n 0, 1) := dk_42 (dk_at dksX17_init_0 5 rfl rfl)
theorem dX17_init_6 : decode cX17_init 6 = .ok (.invokespecial 7, 3) := dk_183 0 7 (dk_at dksX17_init_0 6 rfl rfl)
theorem dX17_init_9 : decode cX17_init 9 = .ok (.aload_n 0, 1) := dk_42 (dk_at dksX17_init_0 9 rfl rfl)
theorem dX17_init_10 : decode cX17_init 10 = .ok (.iload_n 2, 1) := dk_28 (dk_at dksX17_init_0 10 rfl rfl)
theorem dX17_init_11 : decode cX17_init 11 = .ok (.putfield 13, 3) := dk_181 0 13 (dk_at dksX17_init_0 11 rfl rfl)
theorem dX17_init_14 : decode cX17_init 14 = .ok (.return_, 1) := dk_177 (dk_at dksX17_init_0 14 rfl rfl)
abbrev cX17_where : ByteArray := prog_5_method_2_code
def yX17_where : MethodName := ⟨RX17, "where", "()I"⟩
def dkwX17_where_0 : List UInt8 := [42, 180, 0, 1, 180, 0, 17, 180, 0, 23, 42, 180, 0, 13, 46, 172]
abbrev dktX17_where_0 : List UInt8 := dkwX17_where_0 ++ []
theorem dksX17_where_0 : cX17_where.data.toList.drop 0 = dktX17_where_0 := by decide +kernel
theorem dX17_where_0 : decode cX17_where 0 = .ok (.aload_n 0, 1) := dk_42 (dk_at dksX17_where_0 0 rfl rfl)
theorem dX17_where_1 : decode cX17_where 1 = .ok (.getfield 1, 3) := dk_180 0 1 (dk_at dksX17_where_0 1 rfl rfl)
theorem dX17_where_4 : decode cX17_where 4 = .ok (.getfield 17, 3) := dk_180 0 17 (dk_at dksX17_where_0 4 rfl rfl)
theorem dX17_where_7 : decode cX17_where 7 = .ok (.getfield 23, 3) := dk_180 0 23 (dk_at dksX17_where_0 7 rfl rfl)
theorem dX17_where_10 : decode cX17_where 10 = .ok (.aload_n 0, 1) := dk_42 (dk_at dksX17_where_0 10 rfl rfl)
theorem dX17_where_11 : decode cX17_where 11 = .ok (.getfield 13, 3) := dk_180 0 13 (dk_at dksX17_where_0 11 rfl rfl)
theorem dX17_where_14 : decode cX17_where 14 = .ok (.iaload, 1) := dk_46 (dk_at dksX17_where_0 14 rfl rfl)
theorem dX17_where_15 : decode cX17_where 15 = .ok (.ireturn, 1) := dk_172 (dk_at dksX17_where_0 15 rfl rfl)
abbrev cX17_lane : ByteArray := prog_5_method_3_code
def yX17_lane : MethodName := ⟨RX17, "lane", "()I"⟩
def dkwX17_lane_0 : List UInt8 := [42, 180, 0, 1, 180, 0, 17, 180, 0, 29, 42, 180, 0, 13, 46, 172]
abbrev dktX17_lane_0 : List UInt8 := dkwX17_lane_0 ++ []
theorem dksX17_lane_0 : cX17_lane.data.toList.drop 0 = dktX17_lane_0 := by decide +kernel
theorem dX17_lane_0 : decode cX17_lane 0 = .ok (.aload_n 0, 1) := dk_42 (dk_at dksX17_lane_0 0 rfl rfl)
theorem dX17_lane_1 : decode cX17_lane 1 = .ok (.getfield 1, 3) := dk_180 0 1 (dk_at dksX17_lane_0 1 rfl rfl)
theorem dX17_lane_4 : decode cX17_lane 4 = .ok (.getfield 17, 3) := dk_180 0 17 (dk_at dksX17_lane_0 4 rfl rfl)
theorem dX17_lane_7 : decode cX17_lane 7 = .ok (.getfield 29, 3) := dk_180 0 29 (dk_at dksX17_lane_0 7 rfl rfl)
theorem dX17_lane_10 : decode cX17_lane 10 = .ok (.aload_n 0, 1) := dk_42 (dk_at dksX17_lane_0 10 rfl rfl)
theorem dX17_lane_11 : decode cX17_lane 11 = .ok (.getfield 13, 3) := dk_180 0 13 (dk_at dksX17_lane_0 11 rfl rfl)
theorem dX17_lane_14 : decode cX17_lane 14 = .ok (.iaload, 1) := dk_46 (dk_at dksX17_lane_0 14 rfl rfl)
theorem dX17_lane_15 : decode cX17_lane 15 = .ok (.ireturn, 1) := dk_172 (dk_at dksX17_lane_0 15 rfl rfl)
theorem q87 : (Jvm.Cond.initialized "StepRiders$Has") ∈ lw_all := lw_g (lw_at lw_m1 41 rfl) rfl
theorem q164 : (Jvm.Cond.fieldLink "StepRiders$Has" (29 : Nat) "StepRiders$Stair" "lane" "[I") ∈ lw_all := lw_g (lw_at lw_m1 118 rfl) rfl
theorem q168 : (Jvm.Cond.fieldLink "StepRiders$Has" (23 : Nat) "StepRiders$Stair" "where" "[I") ∈ lw_all := lw_g (lw_at lw_m1 122 rfl) rfl
theorem q211 : (Jvm.Cond.fieldLinkNest "StepRiders$Has" (17 : Nat) "StepRiders" "stair" "LStepRiders$Stair;" "StepRiders") ∈ lw_tbl := lw_at lw_m1 165 rfl
theorem q752 : (Jvm.Cond.selects "StepRiders$Has" ({ cls := "java/lang/Object", name := "getClass", desc := "()Ljava/lang/Class;" } : Jvm.MethodName) ({ cls := "java/lang/Object", name := "getClass", desc := "()Ljava/lang/Class;" } : Jvm.MethodName)) ∈ lw_all := lw_g (lw_at lw_m3 226 rfl) rfl
theorem q1261 : (Jvm.Cond.instantiable "StepRiders$Has" (2 : Nat)) ∈ lw_all := lw_g (lw_at lw_m6 15 rfl) rfl
theorem q1263 : (Jvm.Cond.instanceMethod ({ cls := "StepRiders$Has", name := "<init>", desc := "(LStepRiders;I)V" } : Jvm.MethodName)) ∈ lw_all := lw_g (lw_at lw_m6 17 rfl) rfl
theorem q1264 : (Jvm.Cond.code ({ cls := "StepRiders$Has", name := "<init>", desc := "(LStepRiders;I)V" } : Jvm.MethodName) prog_5_method_1_code (3 : Nat) (Option.none : Option Jvm.ClassFile.FieldType)) ∈ lw_all := lw_g (lw_at lw_m6 18 rfl) rfl
theorem q1265 : (Jvm.Cond.methodLink "StepRiders$Has" (7 : Nat) ({ cls := "java/lang/Object", name := "<init>", desc := "()V" } : Jvm.MethodName)) ∈ lw_all := lw_g (lw_at lw_m6 19 rfl) rfl
theorem q1266 : (Jvm.Cond.fieldLink "StepRiders$Has" (13 : Nat) "StepRiders$Has" "rider" "I") ∈ lw_all := lw_g (lw_at lw_m6 20 rfl) rfl
theorem q1267 : (Jvm.Cond.fieldLink "StepRiders$Has" (1 : Nat) "StepRiders$Has" "this$0" "LStepRiders;") ∈ lw_all := lw_g (lw_at lw_m6 21 rfl) rfl
theorem q1268 : (Jvm.Cond.laysFinal "StepRiders$Has" "StepRiders$Has" "rider" "I") ∈ lw_all := lw_g (lw_at lw_m6 22 rfl) rfl
theorem q1269 : (Jvm.Cond.soleField "StepRiders$Has" "rider") ∈ lw_all := lw_g (lw_at lw_m6 23 rfl) rfl
theorem q1270 : (Jvm.Cond.laysFinal "StepRiders$Has" "StepRiders$Has" "this$0" "LStepRiders;") ∈ lw_all := lw_g (lw_at lw_m6 24 rfl) rfl
theorem q1271 : (Jvm.Cond.soleField "StepRiders$Has" "this$0") ∈ lw_all := lw_g (lw_at lw_m6 25 rfl) rfl
theorem q1272 : (Jvm.Cond.superclass "StepRiders$Has" "java/lang/Object") ∈ lw_all := lw_g (lw_at lw_m6 26 rfl) rfl
theorem q1293 : (Jvm.Cond.castable "StepRiders$Has" "StepRiders$Held") ∈ lw_tbl := lw_at lw_m6 47 rfl
theorem q1294 : (Jvm.Cond.selects "StepRiders$Has" ({ cls := "StepRiders$Held", name := "where", desc := "()I" } : Jvm.MethodName) ({ cls := "StepRiders$Has", name := "where", desc := "()I" } : Jvm.MethodName)) ∈ lw_all := lw_g (lw_at lw_m6 48 rfl) rfl
theorem q1295 : (Jvm.Cond.unhidden "StepRiders$Has" "where" "()I") ∈ lw_tbl := lw_at lw_m6 49 rfl
theorem q1296 : (Jvm.Cond.instanceMethod ({ cls := "StepRiders$Has", name := "where", desc := "()I" } : Jvm.MethodName)) ∈ lw_all := lw_g (lw_at lw_m6 50 rfl) rfl
theorem q1297 : (Jvm.Cond.publicMethod ({ cls := "StepRiders$Has", name := "where", desc := "()I" } : Jvm.MethodName)) ∈ lw_tbl := lw_at lw_m6 51 rfl
theorem q1298 : (Jvm.Cond.code ({ cls := "StepRiders$Has", name := "where", desc := "()I" } : Jvm.MethodName) prog_5_method_2_code (1 : Nat) (Option.some Jvm.ClassFile.FieldType.int)) ∈ lw_all := lw_g (lw_at lw_m6 52 rfl) rfl
theorem q1345 : (Jvm.Cond.selects "StepRiders$Has" ({ cls := "StepRiders$Held", name := "lane", desc := "()I" } : Jvm.MethodName) ({ cls := "StepRiders$Has", name := "lane", desc := "()I" } : Jvm.MethodName)) ∈ lw_all := lw_g (lw_at lw_m6 99 rfl) rfl
theorem q1346 : (Jvm.Cond.unhidden "StepRiders$Has" "lane" "()I") ∈ lw_tbl := lw_at lw_m6 100 rfl
theorem q1347 : (Jvm.Cond.instanceMethod ({ cls := "StepRiders$Has", name := "lane", desc := "()I" } : Jvm.MethodName)) ∈ lw_all := lw_g (lw_at lw_m6 101 rfl) rfl
theorem q1348 : (Jvm.Cond.publicMethod ({ cls := "StepRiders$Has", name := "lane", desc := "()I" } : Jvm.MethodName)) ∈ lw_tbl := lw_at lw_m6 102 rfl
theorem q1349 : (Jvm.Cond.code ({ cls := "StepRiders$Has", name := "lane", desc := "()I" } : Jvm.MethodName) prog_5_method_3_code (1 : Nat) (Option.some Jvm.ClassFile.FieldType.int)) ∈ lw_all := lw_g (lw_at lw_m6 103 rfl) rfl
theorem q1742 : (Jvm.Cond.castable "StepRiders$Has" "java/lang/Object") ∈ lw_tbl := lw_at lw_m8 16 rfl
theorem in_X17 : ∀ w ∈ wsX170, w ∈ lw_all := lw_in wsX170 [1268, 1270] (by decide +kernel) (by decide +kernel)

/-! StepRiders$But -/
set_option maxRecDepth 100000
def RX18 : String := "StepRiders$But"
abbrev cX18_low : ByteArray := prog_2_method_2_code
def yX18_low : MethodName := ⟨RX18, "low", "()I"⟩
theorem dX18_low_0 : decode cX18_low 0 = .ok (.iconst 0, 1) := by decide +kernel
theorem dX18_low_1 : decode cX18_low 1 = .ok (.ireturn, 1) := by decide +kernel
theorem q1103 : (Jvm.Cond.interfaceMethod "StepRiders$But" "StepRiders$But" "low" "()I") ∈ lw_tbl := lw_at lw_m5 97 rfl
theorem q1104 : (Jvm.Cond.declares ({ cls := "StepRiders$But", name := "low", desc := "()I" } : Jvm.MethodName)) ∈ lw_tbl := lw_at lw_m5 98 rfl
theorem q1107 : (Jvm.Cond.instanceMethod ({ cls := "StepRiders$But", name := "low", desc := "()I" } : Jvm.MethodName)) ∈ lw_all := lw_g (lw_at lw_m5 101 rfl) rfl
theorem q1108 : (Jvm.Cond.publicMethod ({ cls := "StepRiders$But", name := "low", desc := "()I" } : Jvm.MethodName)) ∈ lw_tbl := lw_at lw_m5 102 rfl
theorem q1109 : (Jvm.Cond.code ({ cls := "StepRiders$But", name := "low", desc := "()I" } : Jvm.MethodName) prog_2_method_2_code (1 : Nat) (Option.some Jvm.ClassFile.FieldType.int)) ∈ lw_all := lw_g (lw_at lw_m5 103 rfl) rfl
theorem q1123 : (Jvm.Cond.interfaceMethod "StepRiders$But" "StepRiders$But" "high" "()I") ∈ lw_tbl := lw_at lw_m5 117 rfl
theorem q1124 : (Jvm.Cond.declares ({ cls := "StepRiders$But", name := "high", desc := "()I" } : Jvm.MethodName)) ∈ lw_tbl := lw_at lw_m5 118 rfl
theorem q1147 : (Jvm.Cond.interfaceMethod "StepRiders$But" "StepRiders$But" "lay" "(LStepRiders$Stair;I)Z") ∈ lw_tbl := lw_at lw_m5 141 rfl
theorem q1148 : (Jvm.Cond.declares ({ cls := "StepRiders$But", name := "lay", desc := "(LStepRiders$Stair;I)Z" } : Jvm.MethodName)) ∈ lw_tbl := lw_at lw_m5 142 rfl

/-! StepRiders$Marked -/
set_option maxRecDepth 100000
def RX19 : String := "StepRiders$Marked"
abbrev cX19_size : ByteArray := prog_7_method_2_code
def yX19_size : MethodName := ⟨RX19, "size", "(LStepRiders$Trail;LStepRiders$Held;)I"⟩
def dkwX19_size_0 : List UInt8 := [43, 16, 10, 182, 0, 1, 44, 185, 0, 7, 1, 0, 172]
abbrev dktX19_size_0 : List UInt8 := dkwX19_size_0 ++ []
theorem dksX19_size_0 : cX19_size.data.toList.drop 0 = dktX19_size_0 := by decide +kernel
theorem dX19_size_0 : decode cX19_size 0 = .ok (.aload_n 1, 1) := dk_43 (dk_at dksX19_size_0 0 rfl rfl)
theorem dX19_size_1 : decode cX19_size 1 = .ok (.bipush 10, 2) := dk_16 10 (dk_at dksX19_size_0 1 rfl rfl)
theorem dX19_size_3 : decode cX19_size 3 = .ok (.invokevirtual 1, 3) := dk_182 0 1 (dk_at dksX19_size_0 3 rfl rfl)
theorem dX19_size_6 : decode cX19_size 6 = .ok (.aload_n 2, 1) := dk_44 (dk_at dksX19_size_0 6 rfl rfl)
theorem dX19_size_7 : decode cX19_size 7 = .ok (.invokeinterface 7 1, 5) := by decide +kernel
theorem dX19_size_12 : decode cX19_size 12 = .ok (.ireturn, 1) := dk_172 (dk_at dksX19_size_0 12 rfl rfl)
abbrev cX19_mark : ByteArray := prog_7_method_3_code
def yX19_mark : MethodName := ⟨RX19, "mark", "(LStepRiders$Trail;LStepRiders$Held;)I"⟩
def dkwX19_mark_0 : List UInt8 := [43, 16, 20, 182, 0, 1, 42, 185, 0, 13, 1, 0, 172]
abbrev dktX19_mark_0 : List UInt8 := dkwX19_mark_0 ++ []
theorem dksX19_mark_0 : cX19_mark.data.toList.drop 0 = dktX19_mark_0 := by decide +kernel
theorem dX19_mark_0 : decode cX19_mark 0 = .ok (.aload_n 1, 1) := dk_43 (dk_at dksX19_mark_0 0 rfl rfl)
theorem dX19_mark_1 : decode cX19_mark 1 = .ok (.bipush 20, 2) := dk_16 20 (dk_at dksX19_mark_0 1 rfl rfl)
theorem dX19_mark_3 : decode cX19_mark 3 = .ok (.invokevirtual 1, 3) := dk_182 0 1 (dk_at dksX19_mark_0 3 rfl rfl)
theorem dX19_mark_6 : decode cX19_mark 6 = .ok (.aload_n 0, 1) := dk_42 (dk_at dksX19_mark_0 6 rfl rfl)
theorem dX19_mark_7 : decode cX19_mark 7 = .ok (.invokeinterface 13 1, 5) := by decide +kernel
theorem dX19_mark_12 : decode cX19_mark 12 = .ok (.ireturn, 1) := dk_172 (dk_at dksX19_mark_0 12 rfl rfl)
theorem q1274 : (Jvm.Cond.declares ({ cls := "StepRiders$Marked", name := "size", desc := "(LStepRiders$Trail;LStepRiders$Held;)I" } : Jvm.MethodName)) ∈ lw_tbl := lw_at lw_m6 28 rfl
theorem q1286 : (Jvm.Cond.instanceMethod ({ cls := "StepRiders$Marked", name := "size", desc := "(LStepRiders$Trail;LStepRiders$Held;)I" } : Jvm.MethodName)) ∈ lw_all := lw_g (lw_at lw_m6 40 rfl) rfl
theorem q1287 : (Jvm.Cond.code ({ cls := "StepRiders$Marked", name := "size", desc := "(LStepRiders$Trail;LStepRiders$Held;)I" } : Jvm.MethodName) prog_7_method_2_code (3 : Nat) (Option.some Jvm.ClassFile.FieldType.int)) ∈ lw_all := lw_g (lw_at lw_m6 41 rfl) rfl
theorem q1288 : (Jvm.Cond.methodLink "StepRiders$Marked" (1 : Nat) ({ cls := "StepRiders$Trail", name := "begins", desc := "(I)V" } : Jvm.MethodName)) ∈ lw_all := lw_g (lw_at lw_m6 42 rfl) rfl
theorem q1289 : (Jvm.Cond.interfaceEntry "StepRiders$Marked" (7 : Nat)) ∈ lw_tbl := lw_at lw_m6 43 rfl
theorem q1290 : (Jvm.Cond.methodLink "StepRiders$Marked" (7 : Nat) ({ cls := "StepRiders$Held", name := "where", desc := "()I" } : Jvm.MethodName)) ∈ lw_all := lw_g (lw_at lw_m6 44 rfl) rfl
theorem q1318 : (Jvm.Cond.declares ({ cls := "StepRiders$Marked", name := "mark", desc := "(LStepRiders$Trail;LStepRiders$Held;)I" } : Jvm.MethodName)) ∈ lw_tbl := lw_at lw_m6 72 rfl
theorem q1319 : (Jvm.Cond.instanceMethod ({ cls := "StepRiders$Marked", name := "mark", desc := "(LStepRiders$Trail;LStepRiders$Held;)I" } : Jvm.MethodName)) ∈ lw_all := lw_g (lw_at lw_m6 73 rfl) rfl
theorem q1320 : (Jvm.Cond.code ({ cls := "StepRiders$Marked", name := "mark", desc := "(LStepRiders$Trail;LStepRiders$Held;)I" } : Jvm.MethodName) prog_7_method_3_code (3 : Nat) (Option.some Jvm.ClassFile.FieldType.int)) ∈ lw_all := lw_g (lw_at lw_m6 74 rfl) rfl
theorem q1321 : (Jvm.Cond.interfaceEntry "StepRiders$Marked" (13 : Nat)) ∈ lw_tbl := lw_at lw_m6 75 rfl
theorem q1322 : (Jvm.Cond.methodLink "StepRiders$Marked" (13 : Nat) ({ cls := "StepRiders$Marked", name := "number", desc := "()I" } : Jvm.MethodName)) ∈ lw_all := lw_g (lw_at lw_m6 76 rfl) rfl
theorem q1323 : (Jvm.Cond.interfaceMethod "StepRiders$Marked" "StepRiders$Marked" "number" "()I") ∈ lw_tbl := lw_at lw_m6 77 rfl
theorem q1324 : (Jvm.Cond.declares ({ cls := "StepRiders$Marked", name := "number", desc := "()I" } : Jvm.MethodName)) ∈ lw_tbl := lw_at lw_m6 78 rfl

theorem q46 : (Jvm.Cond.initialized "StepRidersLaw") ∈ lw_all := lw_g (lw_at lw_m1 0 rfl) rfl
set_option maxRecDepth 100000
theorem q88 : (Jvm.Cond.classLink "StepRidersLaw" (7 : Nat) "StepRiders") ∈ lw_all := lw_g (lw_at lw_m1 42 rfl) rfl
theorem q90 : (Jvm.Cond.methodLink "StepRidersLaw" (9 : Nat) ({ cls := "StepRiders", name := "<init>", desc := "()V" } : Jvm.MethodName)) ∈ lw_all := lw_g (lw_at lw_m1 44 rfl) rfl
theorem q252 : (Jvm.Cond.methodLink "StepRidersLaw" (13 : Nat) ({ cls := "StepRiders", name := "row", desc := "(III)I" } : Jvm.MethodName)) ∈ lw_all := lw_g (lw_at lw_m1 206 rfl) rfl
theorem q364 : (Jvm.Cond.methodLink "StepRidersLaw" (18 : Nat) ({ cls := "StepRiders", name := "set", desc := "(III)I" } : Jvm.MethodName)) ∈ lw_all := lw_g (lw_at lw_m2 78 rfl) rfl
theorem q423 : (Jvm.Cond.methodLink "StepRidersLaw" (22 : Nat) ({ cls := "StepRiders", name := "copy", desc := "(IIIII)I" } : Jvm.MethodName)) ∈ lw_all := lw_g (lw_at lw_m2 137 rfl) rfl
theorem q445 : (Jvm.Cond.methodLink "StepRidersLaw" (27 : Nat) ({ cls := "StepRiders", name := "drop", desc := "(I)I" } : Jvm.MethodName)) ∈ lw_all := lw_g (lw_at lw_m2 159 rfl) rfl
theorem q453 : (Jvm.Cond.methodLink "StepRidersLaw" (32 : Nat) ({ cls := "StepRiders", name := "feed", desc := "(I)I" } : Jvm.MethodName)) ∈ lw_all := lw_g (lw_at lw_m2 167 rfl) rfl
theorem q459 : (Jvm.Cond.methodLink "StepRidersLaw" (36 : Nat) ({ cls := "StepRiders", name := "stair", desc := "()I" } : Jvm.MethodName)) ∈ lw_all := lw_g (lw_at lw_m2 173 rfl) rfl
theorem q821 : (Jvm.Cond.methodLink "StepRidersLaw" (41 : Nat) ({ cls := "StepRiders", name := "fault", desc := "()I" } : Jvm.MethodName)) ∈ lw_all := lw_g (lw_at lw_m4 55 rfl) rfl
theorem q825 : (Jvm.Cond.methodLink "StepRidersLaw" (45 : Nat) ({ cls := "StepRiders", name := "ticks", desc := "(I)I" } : Jvm.MethodName)) ∈ lw_all := lw_g (lw_at lw_m4 59 rfl) rfl
theorem q939 : (Jvm.Cond.methodLink "StepRidersLaw" (49 : Nat) ({ cls := "StepRiders", name := "speed", desc := "(I)I" } : Jvm.MethodName)) ∈ lw_all := lw_g (lw_at lw_m4 173 rfl) rfl
theorem q943 : (Jvm.Cond.methodLink "StepRidersLaw" (53 : Nat) ({ cls := "StepRiders", name := "cross", desc := "(I)I" } : Jvm.MethodName)) ∈ lw_all := lw_g (lw_at lw_m4 177 rfl) rfl
theorem q953 : (Jvm.Cond.methodLink "StepRidersLaw" (57 : Nat) ({ cls := "StepRiders", name := "take", desc := "(I)I" } : Jvm.MethodName)) ∈ lw_all := lw_g (lw_at lw_m4 187 rfl) rfl
theorem q957 : (Jvm.Cond.methodLink "StepRidersLaw" (61 : Nat) ({ cls := "StepRiders", name := "again", desc := "(II)I" } : Jvm.MethodName)) ∈ lw_all := lw_g (lw_at lw_m4 191 rfl) rfl
theorem q964 : (Jvm.Cond.methodLink "StepRidersLaw" (66 : Nat) ({ cls := "StepRiders", name := "undo", desc := "()I" } : Jvm.MethodName)) ∈ lw_all := lw_g (lw_at lw_m4 198 rfl) rfl
theorem q968 : (Jvm.Cond.methodLink "StepRidersLaw" (70 : Nat) ({ cls := "StepRiders", name := "rider", desc := "(II)I" } : Jvm.MethodName)) ∈ lw_all := lw_g (lw_at lw_m4 202 rfl) rfl
theorem q973 : (Jvm.Cond.methodLink "StepRidersLaw" (74 : Nat) ({ cls := "StepRiders", name := "step", desc := "(II)I" } : Jvm.MethodName)) ∈ lw_all := lw_g (lw_at lw_m4 207 rfl) rfl
theorem q978 : (Jvm.Cond.methodLink "StepRidersLaw" (78 : Nat) ({ cls := "StepRiders", name := "ahead", desc := "(II)I" } : Jvm.MethodName)) ∈ lw_all := lw_g (lw_at lw_m4 212 rfl) rfl
theorem q995 : (Jvm.Cond.methodLink "StepRidersLaw" (82 : Nat) ({ cls := "StepRiders", name := "later", desc := "(II)I" } : Jvm.MethodName)) ∈ lw_all := lw_g (lw_at lw_m4 229 rfl) rfl
theorem q999 : (Jvm.Cond.methodLink "StepRidersLaw" (86 : Nat) ({ cls := "StepRiders", name := "off", desc := "(I)I" } : Jvm.MethodName)) ∈ lw_all := lw_g (lw_at lw_m4 233 rfl) rfl
theorem q1004 : (Jvm.Cond.methodLink "StepRidersLaw" (90 : Nat) ({ cls := "StepRiders", name := "clear", desc := "()I" } : Jvm.MethodName)) ∈ lw_all := lw_g (lw_at lw_m4 238 rfl) rfl
theorem q1013 : (Jvm.Cond.methodLink "StepRidersLaw" (94 : Nat) ({ cls := "StepRiders", name := "sorting", desc := "(I)I" } : Jvm.MethodName)) ∈ lw_all := lw_g (lw_at lw_m5 7 rfl) rfl
theorem q1022 : (Jvm.Cond.methodLink "StepRidersLaw" (98 : Nat) ({ cls := "StepRiders", name := "taken", desc := "(I)I" } : Jvm.MethodName)) ∈ lw_all := lw_g (lw_at lw_m5 16 rfl) rfl
theorem q1026 : (Jvm.Cond.methodLink "StepRidersLaw" (102 : Nat) ({ cls := "StepRiders", name := "pace", desc := "(III)I" } : Jvm.MethodName)) ∈ lw_all := lw_g (lw_at lw_m5 20 rfl) rfl
theorem q1035 : (Jvm.Cond.methodLink "StepRidersLaw" (106 : Nat) ({ cls := "StepRiders", name := "fits", desc := "(IIIII)I" } : Jvm.MethodName)) ∈ lw_all := lw_g (lw_at lw_m5 29 rfl) rfl
theorem q1184 : (Jvm.Cond.methodLink "StepRidersLaw" (110 : Nat) ({ cls := "StepRiders", name := "absent", desc := "(IIII)I" } : Jvm.MethodName)) ∈ lw_all := lw_g (lw_at lw_m5 178 rfl) rfl
theorem q1192 : (Jvm.Cond.methodLink "StepRidersLaw" (115 : Nat) ({ cls := "StepRiders", name := "drawn", desc := "(III)I" } : Jvm.MethodName)) ∈ lw_all := lw_g (lw_at lw_m5 186 rfl) rfl
theorem q1200 : (Jvm.Cond.methodLink "StepRidersLaw" (119 : Nat) ({ cls := "StepRiders", name := "image", desc := "(I)I" } : Jvm.MethodName)) ∈ lw_all := lw_g (lw_at lw_m5 194 rfl) rfl
theorem q1204 : (Jvm.Cond.methodLink "StepRidersLaw" (123 : Nat) ({ cls := "StepRiders", name := "restore", desc := "(I)I" } : Jvm.MethodName)) ∈ lw_all := lw_g (lw_at lw_m5 198 rfl) rfl
theorem q1208 : (Jvm.Cond.methodLink "StepRidersLaw" (127 : Nat) ({ cls := "StepRiders", name := "kind", desc := "(I)I" } : Jvm.MethodName)) ∈ lw_all := lw_g (lw_at lw_m5 202 rfl) rfl
theorem q1233 : (Jvm.Cond.methodLink "StepRidersLaw" (131 : Nat) ({ cls := "StepRiders", name := "as", desc := "(II)I" } : Jvm.MethodName)) ∈ lw_all := lw_g (lw_at lw_m5 227 rfl) rfl
theorem q1256 : (Jvm.Cond.methodLink "StepRidersLaw" (135 : Nat) ({ cls := "StepRiders", name := "ask", desc := "(II)I" } : Jvm.MethodName)) ∈ lw_all := lw_g (lw_at lw_m6 10 rfl) rfl
theorem q1364 : (Jvm.Cond.methodLink "StepRidersLaw" (139 : Nat) ({ cls := "StepRiders", name := "trace", desc := "(I)I" } : Jvm.MethodName)) ∈ lw_all := lw_g (lw_at lw_m6 118 rfl) rfl
theorem q1368 : (Jvm.Cond.methodLink "StepRidersLaw" (143 : Nat) ({ cls := "StepRiders", name := "count", desc := "(I)I" } : Jvm.MethodName)) ∈ lw_all := lw_g (lw_at lw_m6 122 rfl) rfl
theorem q1373 : (Jvm.Cond.methodLink "StepRidersLaw" (147 : Nat) ({ cls := "StepRiders", name := "status", desc := "()I" } : Jvm.MethodName)) ∈ lw_all := lw_g (lw_at lw_m6 127 rfl) rfl
theorem q1377 : (Jvm.Cond.classLink "StepRidersLaw" (10 : Nat) "StepRidersModel") ∈ lw_all := lw_g (lw_at lw_m6 131 rfl) rfl
theorem q1379 : (Jvm.Cond.methodLink "StepRidersLaw" (12 : Nat) ({ cls := "StepRidersModel", name := "<init>", desc := "()V" } : Jvm.MethodName)) ∈ lw_all := lw_g (lw_at lw_m6 133 rfl) rfl
theorem q1445 : (Jvm.Cond.methodLink "StepRidersLaw" (17 : Nat) ({ cls := "StepRidersModel", name := "row", desc := "(III)I" } : Jvm.MethodName)) ∈ lw_all := lw_g (lw_at lw_m6 199 rfl) rfl
theorem q1464 : (Jvm.Cond.methodLink "StepRidersLaw" (21 : Nat) ({ cls := "StepRidersModel", name := "set", desc := "(III)I" } : Jvm.MethodName)) ∈ lw_all := lw_g (lw_at lw_m6 218 rfl) rfl
theorem q1476 : (Jvm.Cond.methodLink "StepRidersLaw" (26 : Nat) ({ cls := "StepRidersModel", name := "copy", desc := "(IIIII)I" } : Jvm.MethodName)) ∈ lw_all := lw_g (lw_at lw_m6 230 rfl) rfl
theorem q1480 : (Jvm.Cond.methodLink "StepRidersLaw" (31 : Nat) ({ cls := "StepRidersModel", name := "drop", desc := "(I)I" } : Jvm.MethodName)) ∈ lw_all := lw_g (lw_at lw_m6 234 rfl) rfl
theorem q1484 : (Jvm.Cond.methodLink "StepRidersLaw" (35 : Nat) ({ cls := "StepRidersModel", name := "feed", desc := "(I)I" } : Jvm.MethodName)) ∈ lw_all := lw_g (lw_at lw_m6 238 rfl) rfl
theorem q1489 : (Jvm.Cond.methodLink "StepRidersLaw" (40 : Nat) ({ cls := "StepRidersModel", name := "stair", desc := "()I" } : Jvm.MethodName)) ∈ lw_all := lw_g (lw_at lw_m7 3 rfl) rfl
theorem q1520 : (Jvm.Cond.methodLink "StepRidersLaw" (44 : Nat) ({ cls := "StepRidersModel", name := "fault", desc := "()I" } : Jvm.MethodName)) ∈ lw_all := lw_g (lw_at lw_m7 34 rfl) rfl
theorem q1524 : (Jvm.Cond.methodLink "StepRidersLaw" (48 : Nat) ({ cls := "StepRidersModel", name := "ticks", desc := "(I)I" } : Jvm.MethodName)) ∈ lw_all := lw_g (lw_at lw_m7 38 rfl) rfl
theorem q1556 : (Jvm.Cond.methodLink "StepRidersLaw" (52 : Nat) ({ cls := "StepRidersModel", name := "speed", desc := "(I)I" } : Jvm.MethodName)) ∈ lw_all := lw_g (lw_at lw_m7 70 rfl) rfl
theorem q1560 : (Jvm.Cond.methodLink "StepRidersLaw" (56 : Nat) ({ cls := "StepRidersModel", name := "cross", desc := "(I)I" } : Jvm.MethodName)) ∈ lw_all := lw_g (lw_at lw_m7 74 rfl) rfl
theorem q1568 : (Jvm.Cond.methodLink "StepRidersLaw" (60 : Nat) ({ cls := "StepRidersModel", name := "take", desc := "(I)I" } : Jvm.MethodName)) ∈ lw_all := lw_g (lw_at lw_m7 82 rfl) rfl
theorem q1572 : (Jvm.Cond.methodLink "StepRidersLaw" (65 : Nat) ({ cls := "StepRidersModel", name := "again", desc := "(II)I" } : Jvm.MethodName)) ∈ lw_all := lw_g (lw_at lw_m7 86 rfl) rfl
theorem q1576 : (Jvm.Cond.methodLink "StepRidersLaw" (69 : Nat) ({ cls := "StepRidersModel", name := "undo", desc := "()I" } : Jvm.MethodName)) ∈ lw_all := lw_g (lw_at lw_m7 90 rfl) rfl
theorem q1580 : (Jvm.Cond.methodLink "StepRidersLaw" (73 : Nat) ({ cls := "StepRidersModel", name := "rider", desc := "(II)I" } : Jvm.MethodName)) ∈ lw_all := lw_g (lw_at lw_m7 94 rfl) rfl
theorem q1584 : (Jvm.Cond.methodLink "StepRidersLaw" (77 : Nat) ({ cls := "StepRidersModel", name := "step", desc := "(II)I" } : Jvm.MethodName)) ∈ lw_all := lw_g (lw_at lw_m7 98 rfl) rfl
theorem q1588 : (Jvm.Cond.methodLink "StepRidersLaw" (81 : Nat) ({ cls := "StepRidersModel", name := "ahead", desc := "(II)I" } : Jvm.MethodName)) ∈ lw_all := lw_g (lw_at lw_m7 102 rfl) rfl
theorem q1596 : (Jvm.Cond.methodLink "StepRidersLaw" (85 : Nat) ({ cls := "StepRidersModel", name := "later", desc := "(II)I" } : Jvm.MethodName)) ∈ lw_all := lw_g (lw_at lw_m7 110 rfl) rfl
theorem q1600 : (Jvm.Cond.methodLink "StepRidersLaw" (89 : Nat) ({ cls := "StepRidersModel", name := "off", desc := "(I)I" } : Jvm.MethodName)) ∈ lw_all := lw_g (lw_at lw_m7 114 rfl) rfl
theorem q1605 : (Jvm.Cond.methodLink "StepRidersLaw" (93 : Nat) ({ cls := "StepRidersModel", name := "clear", desc := "()I" } : Jvm.MethodName)) ∈ lw_all := lw_g (lw_at lw_m7 119 rfl) rfl
theorem q1613 : (Jvm.Cond.methodLink "StepRidersLaw" (97 : Nat) ({ cls := "StepRidersModel", name := "sorting", desc := "(I)I" } : Jvm.MethodName)) ∈ lw_all := lw_g (lw_at lw_m7 127 rfl) rfl
theorem q1624 : (Jvm.Cond.methodLink "StepRidersLaw" (101 : Nat) ({ cls := "StepRidersModel", name := "taken", desc := "(I)I" } : Jvm.MethodName)) ∈ lw_all := lw_g (lw_at lw_m7 138 rfl) rfl
theorem q1628 : (Jvm.Cond.methodLink "StepRidersLaw" (105 : Nat) ({ cls := "StepRidersModel", name := "pace", desc := "(III)I" } : Jvm.MethodName)) ∈ lw_all := lw_g (lw_at lw_m7 142 rfl) rfl
theorem q1632 : (Jvm.Cond.methodLink "StepRidersLaw" (109 : Nat) ({ cls := "StepRidersModel", name := "fits", desc := "(IIIII)I" } : Jvm.MethodName)) ∈ lw_all := lw_g (lw_at lw_m7 146 rfl) rfl
theorem q1640 : (Jvm.Cond.methodLink "StepRidersLaw" (114 : Nat) ({ cls := "StepRidersModel", name := "absent", desc := "(IIII)I" } : Jvm.MethodName)) ∈ lw_all := lw_g (lw_at lw_m7 154 rfl) rfl
theorem q1644 : (Jvm.Cond.methodLink "StepRidersLaw" (118 : Nat) ({ cls := "StepRidersModel", name := "drawn", desc := "(III)I" } : Jvm.MethodName)) ∈ lw_all := lw_g (lw_at lw_m7 158 rfl) rfl
theorem q1654 : (Jvm.Cond.methodLink "StepRidersLaw" (122 : Nat) ({ cls := "StepRidersModel", name := "image", desc := "(I)I" } : Jvm.MethodName)) ∈ lw_all := lw_g (lw_at lw_m7 168 rfl) rfl
theorem q1658 : (Jvm.Cond.methodLink "StepRidersLaw" (126 : Nat) ({ cls := "StepRidersModel", name := "restore", desc := "(I)I" } : Jvm.MethodName)) ∈ lw_all := lw_g (lw_at lw_m7 172 rfl) rfl
theorem q1662 : (Jvm.Cond.methodLink "StepRidersLaw" (130 : Nat) ({ cls := "StepRidersModel", name := "kind", desc := "(I)I" } : Jvm.MethodName)) ∈ lw_all := lw_g (lw_at lw_m7 176 rfl) rfl
theorem q1666 : (Jvm.Cond.methodLink "StepRidersLaw" (134 : Nat) ({ cls := "StepRidersModel", name := "as", desc := "(II)I" } : Jvm.MethodName)) ∈ lw_all := lw_g (lw_at lw_m7 180 rfl) rfl
theorem q1671 : (Jvm.Cond.methodLink "StepRidersLaw" (138 : Nat) ({ cls := "StepRidersModel", name := "ask", desc := "(II)I" } : Jvm.MethodName)) ∈ lw_all := lw_g (lw_at lw_m7 185 rfl) rfl
theorem q1687 : (Jvm.Cond.methodLink "StepRidersLaw" (142 : Nat) ({ cls := "StepRidersModel", name := "trace", desc := "(I)I" } : Jvm.MethodName)) ∈ lw_all := lw_g (lw_at lw_m7 201 rfl) rfl
theorem q1691 : (Jvm.Cond.methodLink "StepRidersLaw" (146 : Nat) ({ cls := "StepRidersModel", name := "count", desc := "(I)I" } : Jvm.MethodName)) ∈ lw_all := lw_g (lw_at lw_m7 205 rfl) rfl
theorem q1695 : (Jvm.Cond.methodLink "StepRidersLaw" (150 : Nat) ({ cls := "StepRidersModel", name := "status", desc := "()I" } : Jvm.MethodName)) ∈ lw_all := lw_g (lw_at lw_m7 209 rfl) rfl

theorem q1291 : (Jvm.Cond.interfaceMethod "StepRiders$Held" "StepRiders$Held" "where" "()I") ∈ lw_tbl := lw_at lw_m6 45 rfl
set_option maxRecDepth 100000
theorem q1292 : (Jvm.Cond.declares ({ cls := "StepRiders$Held", name := "where", desc := "()I" } : Jvm.MethodName)) ∈ lw_tbl := lw_at lw_m6 46 rfl
theorem q1343 : (Jvm.Cond.interfaceMethod "StepRiders$Held" "StepRiders$Held" "lane" "()I") ∈ lw_tbl := lw_at lw_m6 97 rfl
theorem q1344 : (Jvm.Cond.declares ({ cls := "StepRiders$Held", name := "lane", desc := "()I" } : Jvm.MethodName)) ∈ lw_tbl := lw_at lw_m6 98 rfl

theorem q1749 : (Jvm.Cond.castable "[B" "java/lang/Object") ∈ lw_tbl := lw_at lw_m8 23 rfl
set_option maxRecDepth 100000

theorem q1750 : (Jvm.Cond.castable "[I" "java/lang/Object") ∈ lw_tbl := lw_at lw_m8 24 rfl
set_option maxRecDepth 100000

theorem q1748 : (Jvm.Cond.castable "[LStepRiders$Shelf;" "java/lang/Object") ∈ lw_tbl := lw_at lw_m8 22 rfl
set_option maxRecDepth 100000

theorem q1751 : (Jvm.Cond.castable "[LStepRiders$Stair;" "java/lang/Object") ∈ lw_tbl := lw_at lw_m8 25 rfl
set_option maxRecDepth 100000

theorem q1745 : (Jvm.Cond.sameMethod "[Ljava/lang/Object;" "java/lang/Object" "getClass" "()Ljava/lang/Class;") ∈ lw_all := lw_g (lw_at lw_m8 19 rfl) rfl
set_option maxRecDepth 100000
theorem q1746 : (Jvm.Cond.selects "[Ljava/lang/Object;" ({ cls := "java/lang/Object", name := "getClass", desc := "()Ljava/lang/Class;" } : Jvm.MethodName) ({ cls := "java/lang/Object", name := "getClass", desc := "()Ljava/lang/Class;" } : Jvm.MethodName)) ∈ lw_all := lw_g (lw_at lw_m8 20 rfl) rfl
theorem q1753 : (Jvm.Cond.castable "[Ljava/lang/Object;" "java/lang/Object") ∈ lw_tbl := lw_at lw_m8 27 rfl

theorem q1752 : (Jvm.Cond.castable "[S" "java/lang/Object") ∈ lw_tbl := lw_at lw_m8 26 rfl
set_option maxRecDepth 100000

theorem q1754 : (Jvm.Cond.castable "[Z" "java/lang/Object") ∈ lw_tbl := lw_at lw_m8 28 rfl
set_option maxRecDepth 100000

theorem q64 : (Jvm.Cond.initialized "java/lang/System") ∈ lw_all := lw_g (lw_at lw_m1 18 rfl) rfl
set_option maxRecDepth 100000
theorem q443 : (Jvm.Cond.static ({ cls := "java/lang/System", name := "arraycopy", desc := "(Ljava/lang/Object;ILjava/lang/Object;II)V" } : Jvm.MethodName)) ∈ lw_all := lw_g (lw_at lw_m2 157 rfl) rfl
theorem q444 : (Jvm.Cond.native ({ cls := "java/lang/System", name := "arraycopy", desc := "(Ljava/lang/Object;ILjava/lang/Object;II)V" } : Jvm.MethodName)) ∈ lw_all := lw_g (lw_at lw_m2 158 rfl) rfl

theorem q658 : (Jvm.Cond.interfaceMethod "java/util/List" "java/util/List" "size" "()I") ∈ lw_tbl := lw_at lw_m3 132 rfl
set_option maxRecDepth 100000
theorem q659 : (Jvm.Cond.declares ({ cls := "java/util/List", name := "size", desc := "()I" } : Jvm.MethodName)) ∈ lw_tbl := lw_at lw_m3 133 rfl
theorem q716 : (Jvm.Cond.interfaceMethod "java/util/List" "java/util/List" "add" "(Ljava/lang/Object;)Z") ∈ lw_tbl := lw_at lw_m3 190 rfl
theorem q717 : (Jvm.Cond.declares ({ cls := "java/util/List", name := "add", desc := "(Ljava/lang/Object;)Z" } : Jvm.MethodName)) ∈ lw_tbl := lw_at lw_m3 191 rfl
theorem q791 : (Jvm.Cond.interfaceMethod "java/util/List" "java/util/List" "clear" "()V") ∈ lw_tbl := lw_at lw_m4 25 rfl
theorem q792 : (Jvm.Cond.declares ({ cls := "java/util/List", name := "clear", desc := "()V" } : Jvm.MethodName)) ∈ lw_tbl := lw_at lw_m4 26 rfl
theorem q800 : (Jvm.Cond.interfaceMethod "java/util/List" "java/util/List" "get" "(I)Ljava/lang/Object;") ∈ lw_tbl := lw_at lw_m4 34 rfl
theorem q801 : (Jvm.Cond.declares ({ cls := "java/util/List", name := "get", desc := "(I)Ljava/lang/Object;" } : Jvm.MethodName)) ∈ lw_tbl := lw_at lw_m4 35 rfl
theorem q1162 : (Jvm.Cond.interfaceMethod "java/util/List" "java/util/List" "set" "(ILjava/lang/Object;)Ljava/lang/Object;") ∈ lw_tbl := lw_at lw_m5 156 rfl
theorem q1163 : (Jvm.Cond.declares ({ cls := "java/util/List", name := "set", desc := "(ILjava/lang/Object;)Ljava/lang/Object;" } : Jvm.MethodName)) ∈ lw_tbl := lw_at lw_m5 157 rfl

theorem q100 : (Jvm.Cond.arrayOver (Jvm.ClassFile.FieldType.object "StepRiders$Shelf")) ∈ lw_tbl := lw_at lw_m1 54 rfl
set_option maxRecDepth 100000
theorem q143 : (Jvm.Cond.arrayClass Jvm.ClassFile.FieldType.byte) ∈ lw_all := lw_g (lw_at lw_m1 97 rfl) rfl
theorem q190 : (Jvm.Cond.arrayClass Jvm.ClassFile.FieldType.int) ∈ lw_all := lw_g (lw_at lw_m1 144 rfl) rfl
theorem q191 : (Jvm.Cond.arrayOver (Jvm.ClassFile.FieldType.object "StepRiders$Stair")) ∈ lw_tbl := lw_at lw_m1 145 rfl
theorem q363 : (Jvm.Cond.arrayClass Jvm.ClassFile.FieldType.short) ∈ lw_all := lw_g (lw_at lw_m2 77 rfl) rfl
theorem q777 : (Jvm.Cond.arrayOver (Jvm.ClassFile.FieldType.object "java/lang/Object")) ∈ lw_tbl := lw_at lw_m4 11 rfl
theorem q1444 : (Jvm.Cond.arrayClass Jvm.ClassFile.FieldType.boolean) ∈ lw_all := lw_g (lw_at lw_m6 198 rfl) rfl
