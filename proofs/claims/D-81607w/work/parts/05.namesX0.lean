/-! StepRiders -/
set_option maxRecDepth 100000
def RX0 : String := "StepRiders"
def TX0 : u_T := fun k => match k with
  | 0 => ("StepRiders", "rows", "[LStepRiders$Shelf;", true)
  | 1 => ("StepRiders", "tape", "[B", true)
  | 2 => ("StepRiders", "taped", "I", false)
  | 3 => ("StepRiders", "faultKind", "I", false)
  | 4 => ("StepRiders", "stair", "LStepRiders$Stair;", true)
  | 5 => ("StepRiders", "then", "LStepRiders$Stair;", true)
  | 6 => ("StepRiders", "past", "[LStepRiders$Stair;", true)
  | 7 => ("StepRiders", "acts", "I", false)
  | 8 => ("StepRiders", "images", "[LStepRiders$Stair;", true)
  | 9 => ("StepRiders", "trail", "LStepRiders$Trail;", false)
  | 10 => ("StepRiders", "status", "I", false)
  | 11 => ("StepRiders", "tried", "[I", true)
  | 12 => ("StepRiders", "best", "[I", true)
  | _ => ("StepRiders", "least", "I", false)
def tyX0 : Nat → FieldType := fun k => match k with
  | 0 => .array (.object "StepRiders$Shelf")
  | 1 => .array .byte
  | 2 => .int
  | 3 => .int
  | 4 => .object "StepRiders$Stair"
  | 5 => .object "StepRiders$Stair"
  | 6 => .array (.object "StepRiders$Stair")
  | 7 => .int
  | 8 => .array (.object "StepRiders$Stair")
  | 9 => .object "StepRiders$Trail"
  | 10 => .int
  | 11 => .array .int
  | 12 => .array .int
  | _ => .int
abbrev wsX00 : List Cond := u_ws RX0 TX0 14
set_option maxRecDepth 100000 in
theorem nmX0 : ∀ a, a < 14 → ∀ b, b < 14 → a ≠ b → (TX0 a).2.1 ≠ (TX0 b).2.1 := by decide +kernel
set_option maxRecDepth 100000 in
theorem tyX0_ok : ∀ k, k < 14 → parseFieldDescriptor (TX0 k).2.2.1 = some (tyX0 k) := by decide +kernel
abbrev cX0_init : ByteArray := prog_1_method_6_code
def yX0_init : MethodName := ⟨RX0, "<init>", "()V"⟩
def dkwX0_init_3 : List UInt8 := [16, 6, 188, 10, 181, 0, 67, 42, 16, 6, 188, 10, 181, 0, 71, 177]
abbrev dktX0_init_3 : List UInt8 := dkwX0_init_3 ++ []
def dkwX0_init_2 : List UInt8 := [181, 0, 53, 42, 5, 189, 0, 43, 181, 0, 57, 42, 187, 0, 60, 89, 183, 0, 62, 181, 0, 63, 42]
abbrev dktX0_init_2 : List UInt8 := dkwX0_init_2 ++ dktX0_init_3
def dkwX0_init_1 : List UInt8 := [183, 0, 45, 181, 0, 46, 42, 187, 0, 43, 89, 183, 0, 45, 181, 0, 50, 42, 16, 24, 189, 0, 43]
abbrev dktX0_init_1 : List UInt8 := dkwX0_init_1 ++ dktX0_init_2
def dkwX0_init_0 : List UInt8 := [42, 183, 0, 28, 42, 184, 0, 31, 181, 0, 35, 42, 16, 90, 188, 8, 181, 0, 39, 42, 187, 0, 43, 89]
abbrev dktX0_init_0 : List UInt8 := dkwX0_init_0 ++ dktX0_init_1
theorem dksX0_init_0 : cX0_init.data.toList.drop 0 = dktX0_init_0 := by decide +kernel
theorem dksX0_init_1 : cX0_init.data.toList.drop 24 = dktX0_init_1 := dk_seg dksX0_init_0 24 rfl rfl
theorem dksX0_init_2 : cX0_init.data.toList.drop 47 = dktX0_init_2 := dk_seg dksX0_init_1 23 rfl rfl
theorem dksX0_init_3 : cX0_init.data.toList.drop 70 = dktX0_init_3 := dk_seg dksX0_init_2 23 rfl rfl
theorem dX0_init_0 : decode cX0_init 0 = .ok (.aload_n 0, 1) := dk_42 (dk_at dksX0_init_0 0 rfl rfl)
theorem dX0_init_1 : decode cX0_init 1 = .ok (.invokespecial 28, 3) := dk_183 0 28 (dk_at dksX0_init_0 1 rfl rfl)
theorem dX0_init_4 : decode cX0_init 4 = .ok (.aload_n 0, 1) := dk_42 (dk_at dksX0_init_0 4 rfl rfl)
theorem dX0_init_5 : decode cX0_init 5 = .ok (.invokestatic 31, 3) := dk_184 0 31 (dk_at dksX0_init_0 5 rfl rfl)
theorem dX0_init_8 : decode cX0_init 8 = .ok (.putfield 35, 3) := dk_181 0 35 (dk_at dksX0_init_0 8 rfl rfl)
theorem dX0_init_11 : decode cX0_init 11 = .ok (.aload_n 0, 1) := dk_42 (dk_at dksX0_init_0 11 rfl rfl)
theorem dX0_init_12 : decode cX0_init 12 = .ok (.bipush 90, 2) := dk_16 90 (dk_at dksX0_init_0 12 rfl rfl)
theorem dX0_init_14 : decode cX0_init 14 = .ok (.newarray .byte, 2) := dk_188_8 (dk_at dksX0_init_0 14 rfl rfl)
theorem dX0_init_16 : decode cX0_init 16 = .ok (.putfield 39, 3) := dk_181 0 39 (dk_at dksX0_init_0 16 rfl rfl)
theorem dX0_init_19 : decode cX0_init 19 = .ok (.aload_n 0, 1) := dk_42 (dk_at dksX0_init_0 19 rfl rfl)
theorem dX0_init_20 : decode cX0_init 20 = .ok (.new 43, 3) := dk_187 0 43 (dk_at dksX0_init_0 20 rfl rfl)
theorem dX0_init_23 : decode cX0_init 23 = .ok (.dup, 1) := dk_89 (dk_at dksX0_init_0 23 rfl rfl)
theorem dX0_init_24 : decode cX0_init 24 = .ok (.invokespecial 45, 3) := dk_183 0 45 (dk_at dksX0_init_1 0 rfl rfl)
theorem dX0_init_27 : decode cX0_init 27 = .ok (.putfield 46, 3) := dk_181 0 46 (dk_at dksX0_init_1 3 rfl rfl)
theorem dX0_init_30 : decode cX0_init 30 = .ok (.aload_n 0, 1) := dk_42 (dk_at dksX0_init_1 6 rfl rfl)
theorem dX0_init_31 : decode cX0_init 31 = .ok (.new 43, 3) := dk_187 0 43 (dk_at dksX0_init_1 7 rfl rfl)
theorem dX0_init_34 : decode cX0_init 34 = .ok (.dup, 1) := dk_89 (dk_at dksX0_init_1 10 rfl rfl)
theorem dX0_init_35 : decode cX0_init 35 = .ok (.invokespecial 45, 3) := dk_183 0 45 (dk_at dksX0_init_1 11 rfl rfl)
theorem dX0_init_38 : decode cX0_init 38 = .ok (.putfield 50, 3) := dk_181 0 50 (dk_at dksX0_init_1 14 rfl rfl)
theorem dX0_init_41 : decode cX0_init 41 = .ok (.aload_n 0, 1) := dk_42 (dk_at dksX0_init_1 17 rfl rfl)
theorem dX0_init_42 : decode cX0_init 42 = .ok (.bipush 24, 2) := dk_16 24 (dk_at dksX0_init_1 18 rfl rfl)
theorem dX0_init_44 : decode cX0_init 44 = .ok (.anewarray 43, 3) := dk_189 0 43 (dk_at dksX0_init_1 20 rfl rfl)
theorem dX0_init_47 : decode cX0_init 47 = .ok (.putfield 53, 3) := dk_181 0 53 (dk_at dksX0_init_2 0 rfl rfl)
theorem dX0_init_50 : decode cX0_init 50 = .ok (.aload_n 0, 1) := dk_42 (dk_at dksX0_init_2 3 rfl rfl)
theorem dX0_init_51 : decode cX0_init 51 = .ok (.iconst 2, 1) := dk_5 (dk_at dksX0_init_2 4 rfl rfl)
theorem dX0_init_52 : decode cX0_init 52 = .ok (.anewarray 43, 3) := dk_189 0 43 (dk_at dksX0_init_2 5 rfl rfl)
theorem dX0_init_55 : decode cX0_init 55 = .ok (.putfield 57, 3) := dk_181 0 57 (dk_at dksX0_init_2 8 rfl rfl)
theorem dX0_init_58 : decode cX0_init 58 = .ok (.aload_n 0, 1) := dk_42 (dk_at dksX0_init_2 11 rfl rfl)
theorem dX0_init_59 : decode cX0_init 59 = .ok (.new 60, 3) := dk_187 0 60 (dk_at dksX0_init_2 12 rfl rfl)
theorem dX0_init_62 : decode cX0_init 62 = .ok (.dup, 1) := dk_89 (dk_at dksX0_init_2 15 rfl rfl)
theorem dX0_init_63 : decode cX0_init 63 = .ok (.invokespecial 62, 3) := dk_183 0 62 (dk_at dksX0_init_2 16 rfl rfl)
theorem dX0_init_66 : decode cX0_init 66 = .ok (.putfield 63, 3) := dk_181 0 63 (dk_at dksX0_init_2 19 rfl rfl)
theorem dX0_init_69 : decode cX0_init 69 = .ok (.aload_n 0, 1) := dk_42 (dk_at dksX0_init_2 22 rfl rfl)
theorem dX0_init_70 : decode cX0_init 70 = .ok (.bipush 6, 2) := dk_16 6 (dk_at dksX0_init_3 0 rfl rfl)
theorem dX0_init_72 : decode cX0_init 72 = .ok (.newarray .int, 2) := dk_188_10 (dk_at dksX0_init_3 2 rfl rfl)
theorem dX0_init_74 : decode cX0_init 74 = .ok (.putfield 67, 3) := dk_181 0 67 (dk_at dksX0_init_3 4 rfl rfl)
theorem dX0_init_77 : decode cX0_init 77 = .ok (.aload_n 0, 1) := dk_42 (dk_at dksX0_init_3 7 rfl rfl)
theorem dX0_init_78 : decode cX0_init 78 = .ok (.bipush 6, 2) := dk_16 6 (dk_at dksX0_init_3 8 rfl rfl)
theorem dX0_init_80 : decode cX0_init 80 = .ok (.newarray .int, 2) := dk_188_10 (dk_at dksX0_init_3 10 rfl rfl)
theorem dX0_init_82 : decode cX0_init 82 = .ok (.putfield 71, 3) := dk_181 0 71 (dk_at dksX0_init_3 12 rfl rfl)
theorem dX0_init_85 : decode cX0_init 85 = .ok (.return_, 1) := dk_177 (dk_at dksX0_init_3 15 rfl rfl)
abbrev cX0_shelves : ByteArray := prog_1_method_5_code
def yX0_shelves : MethodName := ⟨RX0, "shelves", "()[LStepRiders$Shelf;"⟩
def dkwX0_shelves_1 : List UInt8 := [132, 1, 1, 167, 255, 237, 42, 176]
abbrev dktX0_shelves_1 : List UInt8 := dkwX0_shelves_1 ++ []
def dkwX0_shelves_0 : List UInt8 := [16, 8, 189, 0, 23, 75, 3, 60, 27, 16, 8, 162, 0, 19, 42, 27, 187, 0, 23, 89, 183, 0, 25, 83]
abbrev dktX0_shelves_0 : List UInt8 := dkwX0_shelves_0 ++ dktX0_shelves_1
theorem dksX0_shelves_0 : cX0_shelves.data.toList.drop 0 = dktX0_shelves_0 := by decide +kernel
theorem dksX0_shelves_1 : cX0_shelves.data.toList.drop 24 = dktX0_shelves_1 := dk_seg dksX0_shelves_0 24 rfl rfl
theorem dX0_shelves_0 : decode cX0_shelves 0 = .ok (.bipush 8, 2) := dk_16 8 (dk_at dksX0_shelves_0 0 rfl rfl)
theorem dX0_shelves_2 : decode cX0_shelves 2 = .ok (.anewarray 23, 3) := dk_189 0 23 (dk_at dksX0_shelves_0 2 rfl rfl)
theorem dX0_shelves_5 : decode cX0_shelves 5 = .ok (.astore_n 0, 1) := dk_75 (dk_at dksX0_shelves_0 5 rfl rfl)
theorem dX0_shelves_6 : decode cX0_shelves 6 = .ok (.iconst 0, 1) := dk_3 (dk_at dksX0_shelves_0 6 rfl rfl)
theorem dX0_shelves_7 : decode cX0_shelves 7 = .ok (.istore_n 1, 1) := dk_60 (dk_at dksX0_shelves_0 7 rfl rfl)
theorem dX0_shelves_8 : decode cX0_shelves 8 = .ok (.iload_n 1, 1) := dk_27 (dk_at dksX0_shelves_0 8 rfl rfl)
theorem dX0_shelves_9 : decode cX0_shelves 9 = .ok (.bipush 8, 2) := dk_16 8 (dk_at dksX0_shelves_0 9 rfl rfl)
theorem dX0_shelves_11 : decode cX0_shelves 11 = .ok (.if_icmp .ge 19, 3) := dk_162 0 19 (dk_at dksX0_shelves_0 11 rfl rfl)
theorem dX0_shelves_14 : decode cX0_shelves 14 = .ok (.aload_n 0, 1) := dk_42 (dk_at dksX0_shelves_0 14 rfl rfl)
theorem dX0_shelves_15 : decode cX0_shelves 15 = .ok (.iload_n 1, 1) := dk_27 (dk_at dksX0_shelves_0 15 rfl rfl)
theorem dX0_shelves_16 : decode cX0_shelves 16 = .ok (.new 23, 3) := dk_187 0 23 (dk_at dksX0_shelves_0 16 rfl rfl)
theorem dX0_shelves_19 : decode cX0_shelves 19 = .ok (.dup, 1) := dk_89 (dk_at dksX0_shelves_0 19 rfl rfl)
theorem dX0_shelves_20 : decode cX0_shelves 20 = .ok (.invokespecial 25, 3) := dk_183 0 25 (dk_at dksX0_shelves_0 20 rfl rfl)
theorem dX0_shelves_23 : decode cX0_shelves 23 = .ok (.aastore, 1) := dk_83 (dk_at dksX0_shelves_0 23 rfl rfl)
theorem dX0_shelves_24 : decode cX0_shelves 24 = .ok (.iinc 1 1, 3) := dk_132 1 1 (dk_at dksX0_shelves_1 0 rfl rfl)
theorem dX0_shelves_27 : decode cX0_shelves 27 = .ok (.goto (-19), 3) := dk_167 255 237 (dk_at dksX0_shelves_1 3 rfl rfl)
theorem dX0_shelves_30 : decode cX0_shelves 30 = .ok (.aload_n 0, 1) := dk_42 (dk_at dksX0_shelves_1 6 rfl rfl)
theorem dX0_shelves_31 : decode cX0_shelves 31 = .ok (.areturn, 1) := dk_176 (dk_at dksX0_shelves_1 7 rfl rfl)
abbrev cX0_row : ByteArray := prog_1_method_11_code
def yX0_row : MethodName := ⟨RX0, "row", "(III)I"⟩
def dkwX0_row_2 : List UInt8 := [182, 0, 100, 172, 58, 4, 42, 7, 182, 0, 106, 172]
abbrev dktX0_row_2 : List UInt8 := dkwX0_row_2 ++ []
def dkwX0_row_1 : List UInt8 := [164, 0, 6, 18, 91, 172, 42, 180, 0, 35, 27, 50, 28, 29, 184, 0, 92, 181, 0, 96, 42, 29]
abbrev dktX0_row_1 : List UInt8 := dkwX0_row_1 ++ dktX0_row_2
def dkwX0_row_0 : List UInt8 := [27, 184, 0, 85, 153, 0, 21, 28, 133, 9, 20, 0, 89, 184, 0, 81, 153, 0, 9, 29, 16, 40]
abbrev dktX0_row_0 : List UInt8 := dkwX0_row_0 ++ dktX0_row_1
theorem dksX0_row_0 : cX0_row.data.toList.drop 0 = dktX0_row_0 := by decide +kernel
theorem dksX0_row_1 : cX0_row.data.toList.drop 22 = dktX0_row_1 := dk_seg dksX0_row_0 22 rfl rfl
theorem dksX0_row_2 : cX0_row.data.toList.drop 44 = dktX0_row_2 := dk_seg dksX0_row_1 22 rfl rfl
theorem dX0_row_0 : decode cX0_row 0 = .ok (.iload_n 1, 1) := dk_27 (dk_at dksX0_row_0 0 rfl rfl)
theorem dX0_row_1 : decode cX0_row 1 = .ok (.invokestatic 85, 3) := dk_184 0 85 (dk_at dksX0_row_0 1 rfl rfl)
theorem dX0_row_4 : decode cX0_row 4 = .ok (.ifCond .eq 21, 3) := dk_153 0 21 (dk_at dksX0_row_0 4 rfl rfl)
theorem dX0_row_7 : decode cX0_row 7 = .ok (.iload_n 2, 1) := dk_28 (dk_at dksX0_row_0 7 rfl rfl)
theorem dX0_row_8 : decode cX0_row 8 = .ok (.i2l, 1) := dk_133 (dk_at dksX0_row_0 8 rfl rfl)
theorem dX0_row_9 : decode cX0_row 9 = .ok (.lconst 0, 1) := dk_9 (dk_at dksX0_row_0 9 rfl rfl)
theorem dX0_row_10 : decode cX0_row 10 = .ok (.ldc2_w 89, 3) := dk_20 0 89 (dk_at dksX0_row_0 10 rfl rfl)
theorem dX0_row_13 : decode cX0_row 13 = .ok (.invokestatic 81, 3) := dk_184 0 81 (dk_at dksX0_row_0 13 rfl rfl)
theorem dX0_row_16 : decode cX0_row 16 = .ok (.ifCond .eq 9, 3) := dk_153 0 9 (dk_at dksX0_row_0 16 rfl rfl)
theorem dX0_row_19 : decode cX0_row 19 = .ok (.iload_n 3, 1) := dk_29 (dk_at dksX0_row_0 19 rfl rfl)
theorem dX0_row_20 : decode cX0_row 20 = .ok (.bipush 40, 2) := dk_16 40 (dk_at dksX0_row_0 20 rfl rfl)
theorem dX0_row_22 : decode cX0_row 22 = .ok (.if_icmp .le 6, 3) := dk_164 0 6 (dk_at dksX0_row_1 0 rfl rfl)
theorem dX0_row_25 : decode cX0_row 25 = .ok (.ldc 91, 2) := dk_18 91 (dk_at dksX0_row_1 3 rfl rfl)
theorem dX0_row_27 : decode cX0_row 27 = .ok (.ireturn, 1) := dk_172 (dk_at dksX0_row_1 5 rfl rfl)
theorem dX0_row_28 : decode cX0_row 28 = .ok (.aload_n 0, 1) := dk_42 (dk_at dksX0_row_1 6 rfl rfl)
theorem dX0_row_29 : decode cX0_row 29 = .ok (.getfield 35, 3) := dk_180 0 35 (dk_at dksX0_row_1 7 rfl rfl)
theorem dX0_row_32 : decode cX0_row 32 = .ok (.iload_n 1, 1) := dk_27 (dk_at dksX0_row_1 10 rfl rfl)
theorem dX0_row_33 : decode cX0_row 33 = .ok (.aaload, 1) := dk_50 (dk_at dksX0_row_1 11 rfl rfl)
theorem dX0_row_34 : decode cX0_row 34 = .ok (.iload_n 2, 1) := dk_28 (dk_at dksX0_row_1 12 rfl rfl)
theorem dX0_row_35 : decode cX0_row 35 = .ok (.iload_n 3, 1) := dk_29 (dk_at dksX0_row_1 13 rfl rfl)
theorem dX0_row_36 : decode cX0_row 36 = .ok (.invokestatic 92, 3) := dk_184 0 92 (dk_at dksX0_row_1 14 rfl rfl)
theorem dX0_row_39 : decode cX0_row 39 = .ok (.putfield 96, 3) := dk_181 0 96 (dk_at dksX0_row_1 17 rfl rfl)
theorem dX0_row_42 : decode cX0_row 42 = .ok (.aload_n 0, 1) := dk_42 (dk_at dksX0_row_1 20 rfl rfl)
theorem dX0_row_43 : decode cX0_row 43 = .ok (.iload_n 3, 1) := dk_29 (dk_at dksX0_row_1 21 rfl rfl)
theorem dX0_row_44 : decode cX0_row 44 = .ok (.invokevirtual 100, 3) := dk_182 0 100 (dk_at dksX0_row_2 0 rfl rfl)
theorem dX0_row_47 : decode cX0_row 47 = .ok (.ireturn, 1) := dk_172 (dk_at dksX0_row_2 3 rfl rfl)
theorem dX0_row_48 : decode cX0_row 48 = .ok (.astore 4, 2) := dk_58 4 (dk_at dksX0_row_2 4 rfl rfl)
theorem dX0_row_50 : decode cX0_row 50 = .ok (.aload_n 0, 1) := dk_42 (dk_at dksX0_row_2 6 rfl rfl)
theorem dX0_row_51 : decode cX0_row 51 = .ok (.iconst 4, 1) := dk_7 (dk_at dksX0_row_2 7 rfl rfl)
theorem dX0_row_52 : decode cX0_row 52 = .ok (.invokevirtual 106, 3) := dk_182 0 106 (dk_at dksX0_row_2 8 rfl rfl)
theorem dX0_row_55 : decode cX0_row 55 = .ok (.ireturn, 1) := dk_172 (dk_at dksX0_row_2 11 rfl rfl)
abbrev cX0_isRow : ByteArray := prog_1_method_9_code
def yX0_isRow : MethodName := ⟨RX0, "isRow", "(I)Z"⟩
def dkwX0_isRow_0 : List UInt8 := [26, 133, 9, 20, 0, 79, 184, 0, 81, 172]
abbrev dktX0_isRow_0 : List UInt8 := dkwX0_isRow_0 ++ []
theorem dksX0_isRow_0 : cX0_isRow.data.toList.drop 0 = dktX0_isRow_0 := by decide +kernel
theorem dX0_isRow_0 : decode cX0_isRow 0 = .ok (.iload_n 0, 1) := dk_26 (dk_at dksX0_isRow_0 0 rfl rfl)
theorem dX0_isRow_1 : decode cX0_isRow 1 = .ok (.i2l, 1) := dk_133 (dk_at dksX0_isRow_0 1 rfl rfl)
theorem dX0_isRow_2 : decode cX0_isRow 2 = .ok (.lconst 0, 1) := dk_9 (dk_at dksX0_isRow_0 2 rfl rfl)
theorem dX0_isRow_3 : decode cX0_isRow 3 = .ok (.ldc2_w 79, 3) := dk_20 0 79 (dk_at dksX0_isRow_0 3 rfl rfl)
theorem dX0_isRow_6 : decode cX0_isRow 6 = .ok (.invokestatic 81, 3) := dk_184 0 81 (dk_at dksX0_isRow_0 6 rfl rfl)
theorem dX0_isRow_9 : decode cX0_isRow 9 = .ok (.ireturn, 1) := dk_172 (dk_at dksX0_isRow_0 9 rfl rfl)
abbrev cX0_isIn : ByteArray := prog_1_method_1_code
def yX0_isIn : MethodName := ⟨RX0, "isIn", "(JJJ)Z"⟩
def dkwX0_isIn_0 : List UInt8 := [30, 32, 148, 155, 0, 14, 30, 22, 4, 148, 157, 0, 7, 4, 167, 0, 4, 3, 172]
abbrev dktX0_isIn_0 : List UInt8 := dkwX0_isIn_0 ++ []
theorem dksX0_isIn_0 : cX0_isIn.data.toList.drop 0 = dktX0_isIn_0 := by decide +kernel
theorem dX0_isIn_0 : decode cX0_isIn 0 = .ok (.lload_n 0, 1) := dk_30 (dk_at dksX0_isIn_0 0 rfl rfl)
theorem dX0_isIn_1 : decode cX0_isIn 1 = .ok (.lload_n 2, 1) := dk_32 (dk_at dksX0_isIn_0 1 rfl rfl)
theorem dX0_isIn_2 : decode cX0_isIn 2 = .ok (.lcmp, 1) := dk_148 (dk_at dksX0_isIn_0 2 rfl rfl)
theorem dX0_isIn_3 : decode cX0_isIn 3 = .ok (.ifCond .lt 14, 3) := dk_155 0 14 (dk_at dksX0_isIn_0 3 rfl rfl)
theorem dX0_isIn_6 : decode cX0_isIn 6 = .ok (.lload_n 0, 1) := dk_30 (dk_at dksX0_isIn_0 6 rfl rfl)
theorem dX0_isIn_7 : decode cX0_isIn 7 = .ok (.lload 4, 2) := dk_22 4 (dk_at dksX0_isIn_0 7 rfl rfl)
theorem dX0_isIn_9 : decode cX0_isIn 9 = .ok (.lcmp, 1) := dk_148 (dk_at dksX0_isIn_0 9 rfl rfl)
theorem dX0_isIn_10 : decode cX0_isIn 10 = .ok (.ifCond .gt 7, 3) := dk_157 0 7 (dk_at dksX0_isIn_0 10 rfl rfl)
theorem dX0_isIn_13 : decode cX0_isIn 13 = .ok (.iconst 1, 1) := dk_4 (dk_at dksX0_isIn_0 13 rfl rfl)
theorem dX0_isIn_14 : decode cX0_isIn 14 = .ok (.goto 4, 3) := dk_167 0 4 (dk_at dksX0_isIn_0 14 rfl rfl)
theorem dX0_isIn_17 : decode cX0_isIn 17 = .ok (.iconst 0, 1) := dk_3 (dk_at dksX0_isIn_0 17 rfl rfl)
theorem dX0_isIn_18 : decode cX0_isIn 18 = .ok (.ireturn, 1) := dk_172 (dk_at dksX0_isIn_0 18 rfl rfl)
abbrev cX0_newLane : ByteArray := prog_1_method_10_code
def yX0_newLane : MethodName := ⟨RX0, "newLane", "(II)Ljava/lang/Object;"⟩
def dkwX0_newLane_1 : List UInt8 := [176]
abbrev dktX0_newLane_1 : List UInt8 := dkwX0_newLane_1 ++ []
def dkwX0_newLane_0 : List UInt8 := [26, 154, 0, 9, 27, 188, 8, 167, 0, 17, 26, 4, 160, 0, 9, 27, 188, 9, 167, 0, 6, 27, 188, 10]
abbrev dktX0_newLane_0 : List UInt8 := dkwX0_newLane_0 ++ dktX0_newLane_1
theorem dksX0_newLane_0 : cX0_newLane.data.toList.drop 0 = dktX0_newLane_0 := by decide +kernel
theorem dksX0_newLane_1 : cX0_newLane.data.toList.drop 24 = dktX0_newLane_1 := dk_seg dksX0_newLane_0 24 rfl rfl
theorem dX0_newLane_0 : decode cX0_newLane 0 = .ok (.iload_n 0, 1) := dk_26 (dk_at dksX0_newLane_0 0 rfl rfl)
theorem dX0_newLane_1 : decode cX0_newLane 1 = .ok (.ifCond .ne 9, 3) := dk_154 0 9 (dk_at dksX0_newLane_0 1 rfl rfl)
theorem dX0_newLane_4 : decode cX0_newLane 4 = .ok (.iload_n 1, 1) := dk_27 (dk_at dksX0_newLane_0 4 rfl rfl)
theorem dX0_newLane_5 : decode cX0_newLane 5 = .ok (.newarray .byte, 2) := dk_188_8 (dk_at dksX0_newLane_0 5 rfl rfl)
theorem dX0_newLane_7 : decode cX0_newLane 7 = .ok (.goto 17, 3) := dk_167 0 17 (dk_at dksX0_newLane_0 7 rfl rfl)
theorem dX0_newLane_10 : decode cX0_newLane 10 = .ok (.iload_n 0, 1) := dk_26 (dk_at dksX0_newLane_0 10 rfl rfl)
theorem dX0_newLane_11 : decode cX0_newLane 11 = .ok (.iconst 1, 1) := dk_4 (dk_at dksX0_newLane_0 11 rfl rfl)
theorem dX0_newLane_12 : decode cX0_newLane 12 = .ok (.if_icmp .ne 9, 3) := dk_160 0 9 (dk_at dksX0_newLane_0 12 rfl rfl)
theorem dX0_newLane_15 : decode cX0_newLane 15 = .ok (.iload_n 1, 1) := dk_27 (dk_at dksX0_newLane_0 15 rfl rfl)
theorem dX0_newLane_16 : decode cX0_newLane 16 = .ok (.newarray .short, 2) := dk_188_9 (dk_at dksX0_newLane_0 16 rfl rfl)
theorem dX0_newLane_18 : decode cX0_newLane 18 = .ok (.goto 6, 3) := dk_167 0 6 (dk_at dksX0_newLane_0 18 rfl rfl)
theorem dX0_newLane_21 : decode cX0_newLane 21 = .ok (.iload_n 1, 1) := dk_27 (dk_at dksX0_newLane_0 21 rfl rfl)
theorem dX0_newLane_22 : decode cX0_newLane 22 = .ok (.newarray .int, 2) := dk_188_10 (dk_at dksX0_newLane_0 22 rfl rfl)
theorem dX0_newLane_24 : decode cX0_newLane 24 = .ok (.areturn, 1) := dk_176 (dk_at dksX0_newLane_1 0 rfl rfl)
abbrev cX0_well : ByteArray := prog_1_method_8_code
def yX0_well : MethodName := ⟨RX0, "well", "(I)I"⟩
def dkwX0_well_0 : List UInt8 := [42, 3, 181, 0, 74, 27, 172]
abbrev dktX0_well_0 : List UInt8 := dkwX0_well_0 ++ []
theorem dksX0_well_0 : cX0_well.data.toList.drop 0 = dktX0_well_0 := by decide +kernel
theorem dX0_well_0 : decode cX0_well 0 = .ok (.aload_n 0, 1) := dk_42 (dk_at dksX0_well_0 0 rfl rfl)
theorem dX0_well_1 : decode cX0_well 1 = .ok (.iconst 0, 1) := dk_3 (dk_at dksX0_well_0 1 rfl rfl)
theorem dX0_well_2 : decode cX0_well 2 = .ok (.putfield 74, 3) := dk_181 0 74 (dk_at dksX0_well_0 2 rfl rfl)
theorem dX0_well_5 : decode cX0_well 5 = .ok (.iload_n 1, 1) := dk_27 (dk_at dksX0_well_0 5 rfl rfl)
theorem dX0_well_6 : decode cX0_well 6 = .ok (.ireturn, 1) := dk_172 (dk_at dksX0_well_0 6 rfl rfl)
abbrev cX0_found : ByteArray := prog_1_method_7_code
def yX0_found : MethodName := ⟨RX0, "found", "(I)I"⟩
def dkwX0_found_0 : List UInt8 := [42, 27, 181, 0, 74, 18, 78, 27, 100, 172]
abbrev dktX0_found_0 : List UInt8 := dkwX0_found_0 ++ []
theorem dksX0_found_0 : cX0_found.data.toList.drop 0 = dktX0_found_0 := by decide +kernel
theorem dX0_found_0 : decode cX0_found 0 = .ok (.aload_n 0, 1) := dk_42 (dk_at dksX0_found_0 0 rfl rfl)
theorem dX0_found_1 : decode cX0_found 1 = .ok (.iload_n 1, 1) := dk_27 (dk_at dksX0_found_0 1 rfl rfl)
theorem dX0_found_2 : decode cX0_found 2 = .ok (.putfield 74, 3) := dk_181 0 74 (dk_at dksX0_found_0 2 rfl rfl)
theorem dX0_found_5 : decode cX0_found 5 = .ok (.ldc 78, 2) := dk_18 78 (dk_at dksX0_found_0 5 rfl rfl)
theorem dX0_found_7 : decode cX0_found 7 = .ok (.iload_n 1, 1) := dk_27 (dk_at dksX0_found_0 7 rfl rfl)
theorem dX0_found_8 : decode cX0_found 8 = .ok (.isub, 1) := dk_100 (dk_at dksX0_found_0 8 rfl rfl)
theorem dX0_found_9 : decode cX0_found 9 = .ok (.ireturn, 1) := dk_172 (dk_at dksX0_found_0 9 rfl rfl)
abbrev cX0_set : ByteArray := prog_1_method_12_code
def yX0_set : MethodName := ⟨RX0, "set", "(III)I"⟩
def dkwX0_set_1 : List UInt8 := [182, 0, 100, 172, 58, 4, 42, 4, 182, 0, 106, 172, 58, 4, 42, 5, 182, 0, 106, 172]
abbrev dktX0_set_1 : List UInt8 := dkwX0_set_1 ++ []
def dkwX0_set_0 : List UInt8 := [27, 184, 0, 85, 154, 0, 6, 18, 91, 172, 42, 42, 180, 0, 35, 27, 50, 28, 29, 182, 0, 109]
abbrev dktX0_set_0 : List UInt8 := dkwX0_set_0 ++ dktX0_set_1
theorem dksX0_set_0 : cX0_set.data.toList.drop 0 = dktX0_set_0 := by decide +kernel
theorem dksX0_set_1 : cX0_set.data.toList.drop 22 = dktX0_set_1 := dk_seg dksX0_set_0 22 rfl rfl
theorem dX0_set_0 : decode cX0_set 0 = .ok (.iload_n 1, 1) := dk_27 (dk_at dksX0_set_0 0 rfl rfl)
theorem dX0_set_1 : decode cX0_set 1 = .ok (.invokestatic 85, 3) := dk_184 0 85 (dk_at dksX0_set_0 1 rfl rfl)
theorem dX0_set_4 : decode cX0_set 4 = .ok (.ifCond .ne 6, 3) := dk_154 0 6 (dk_at dksX0_set_0 4 rfl rfl)
theorem dX0_set_7 : decode cX0_set 7 = .ok (.ldc 91, 2) := dk_18 91 (dk_at dksX0_set_0 7 rfl rfl)
theorem dX0_set_9 : decode cX0_set 9 = .ok (.ireturn, 1) := dk_172 (dk_at dksX0_set_0 9 rfl rfl)
theorem dX0_set_10 : decode cX0_set 10 = .ok (.aload_n 0, 1) := dk_42 (dk_at dksX0_set_0 10 rfl rfl)
theorem dX0_set_11 : decode cX0_set 11 = .ok (.aload_n 0, 1) := dk_42 (dk_at dksX0_set_0 11 rfl rfl)
theorem dX0_set_12 : decode cX0_set 12 = .ok (.getfield 35, 3) := dk_180 0 35 (dk_at dksX0_set_0 12 rfl rfl)
theorem dX0_set_15 : decode cX0_set 15 = .ok (.iload_n 1, 1) := dk_27 (dk_at dksX0_set_0 15 rfl rfl)
theorem dX0_set_16 : decode cX0_set 16 = .ok (.aaload, 1) := dk_50 (dk_at dksX0_set_0 16 rfl rfl)
theorem dX0_set_17 : decode cX0_set 17 = .ok (.iload_n 2, 1) := dk_28 (dk_at dksX0_set_0 17 rfl rfl)
theorem dX0_set_18 : decode cX0_set 18 = .ok (.iload_n 3, 1) := dk_29 (dk_at dksX0_set_0 18 rfl rfl)
theorem dX0_set_19 : decode cX0_set 19 = .ok (.invokevirtual 109, 3) := dk_182 0 109 (dk_at dksX0_set_0 19 rfl rfl)
theorem dX0_set_22 : decode cX0_set 22 = .ok (.invokevirtual 100, 3) := dk_182 0 100 (dk_at dksX0_set_1 0 rfl rfl)
theorem dX0_set_25 : decode cX0_set 25 = .ok (.ireturn, 1) := dk_172 (dk_at dksX0_set_1 3 rfl rfl)
theorem dX0_set_26 : decode cX0_set 26 = .ok (.astore 4, 2) := dk_58 4 (dk_at dksX0_set_1 4 rfl rfl)
theorem dX0_set_28 : decode cX0_set 28 = .ok (.aload_n 0, 1) := dk_42 (dk_at dksX0_set_1 6 rfl rfl)
theorem dX0_set_29 : decode cX0_set 29 = .ok (.iconst 1, 1) := dk_4 (dk_at dksX0_set_1 7 rfl rfl)
theorem dX0_set_30 : decode cX0_set 30 = .ok (.invokevirtual 106, 3) := dk_182 0 106 (dk_at dksX0_set_1 8 rfl rfl)
theorem dX0_set_33 : decode cX0_set 33 = .ok (.ireturn, 1) := dk_172 (dk_at dksX0_set_1 11 rfl rfl)
theorem dX0_set_34 : decode cX0_set 34 = .ok (.astore 4, 2) := dk_58 4 (dk_at dksX0_set_1 12 rfl rfl)
theorem dX0_set_36 : decode cX0_set 36 = .ok (.aload_n 0, 1) := dk_42 (dk_at dksX0_set_1 14 rfl rfl)
theorem dX0_set_37 : decode cX0_set 37 = .ok (.iconst 2, 1) := dk_5 (dk_at dksX0_set_1 15 rfl rfl)
theorem dX0_set_38 : decode cX0_set 38 = .ok (.invokevirtual 106, 3) := dk_182 0 106 (dk_at dksX0_set_1 16 rfl rfl)
theorem dX0_set_41 : decode cX0_set 41 = .ok (.ireturn, 1) := dk_172 (dk_at dksX0_set_1 19 rfl rfl)
abbrev cX0_copy : ByteArray := prog_1_method_13_code
def yX0_copy : MethodName := ⟨RX0, "copy", "(IIIII)I"⟩
def dkwX0_copy_3 : List UInt8 := [182, 0, 106, 172]
abbrev dktX0_copy_3 : List UInt8 := dkwX0_copy_3 ++ []
def dkwX0_copy_2 : List UInt8 := [182, 0, 100, 172, 58, 6, 42, 4, 182, 0, 106, 172, 58, 6, 42, 8, 182, 0, 106, 172, 58, 6, 42, 5]
abbrev dktX0_copy_2 : List UInt8 := dkwX0_copy_2 ++ dktX0_copy_3
def dkwX0_copy_1 : List UInt8 := [180, 0, 96, 28, 42, 180, 0, 35, 29, 50, 180, 0, 96, 21, 4, 21, 5, 184, 0, 117, 42, 21, 5]
abbrev dktX0_copy_1 : List UInt8 := dkwX0_copy_1 ++ dktX0_copy_2
def dkwX0_copy_0 : List UInt8 := [27, 184, 0, 85, 153, 0, 10, 29, 184, 0, 85, 154, 0, 6, 18, 91, 172, 42, 180, 0, 35, 27, 50]
abbrev dktX0_copy_0 : List UInt8 := dkwX0_copy_0 ++ dktX0_copy_1
theorem dksX0_copy_0 : cX0_copy.data.toList.drop 0 = dktX0_copy_0 := by decide +kernel
theorem dksX0_copy_1 : cX0_copy.data.toList.drop 23 = dktX0_copy_1 := dk_seg dksX0_copy_0 23 rfl rfl
theorem dksX0_copy_2 : cX0_copy.data.toList.drop 46 = dktX0_copy_2 := dk_seg dksX0_copy_1 23 rfl rfl
theorem dksX0_copy_3 : cX0_copy.data.toList.drop 70 = dktX0_copy_3 := dk_seg dksX0_copy_2 24 rfl rfl
theorem dX0_copy_0 : decode cX0_copy 0 = .ok (.iload_n 1, 1) := dk_27 (dk_at dksX0_copy_0 0 rfl rfl)
theorem dX0_copy_1 : decode cX0_copy 1 = .ok (.invokestatic 85, 3) := dk_184 0 85 (dk_at dksX0_copy_0 1 rfl rfl)
theorem dX0_copy_4 : decode cX0_copy 4 = .ok (.ifCond .eq 10, 3) := dk_153 0 10 (dk_at dksX0_copy_0 4 rfl rfl)
theorem dX0_copy_7 : decode cX0_copy 7 = .ok (.iload_n 3, 1) := dk_29 (dk_at dksX0_copy_0 7 rfl rfl)
theorem dX0_copy_8 : decode cX0_copy 8 = .ok (.invokestatic 85, 3) := dk_184 0 85 (dk_at dksX0_copy_0 8 rfl rfl)
theorem dX0_copy_11 : decode cX0_copy 11 = .ok (.ifCond .ne 6, 3) := dk_154 0 6 (dk_at dksX0_copy_0 11 rfl rfl)
theorem dX0_copy_14 : decode cX0_copy 14 = .ok (.ldc 91, 2) := dk_18 91 (dk_at dksX0_copy_0 14 rfl rfl)
theorem dX0_copy_16 : decode cX0_copy 16 = .ok (.ireturn, 1) := dk_172 (dk_at dksX0_copy_0 16 rfl rfl)
theorem dX0_copy_17 : decode cX0_copy 17 = .ok (.aload_n 0, 1) := dk_42 (dk_at dksX0_copy_0 17 rfl rfl)
theorem dX0_copy_18 : decode cX0_copy 18 = .ok (.getfield 35, 3) := dk_180 0 35 (dk_at dksX0_copy_0 18 rfl rfl)
theorem dX0_copy_21 : decode cX0_copy 21 = .ok (.iload_n 1, 1) := dk_27 (dk_at dksX0_copy_0 21 rfl rfl)
theorem dX0_copy_22 : decode cX0_copy 22 = .ok (.aaload, 1) := dk_50 (dk_at dksX0_copy_0 22 rfl rfl)
theorem dX0_copy_23 : decode cX0_copy 23 = .ok (.getfield 96, 3) := dk_180 0 96 (dk_at dksX0_copy_1 0 rfl rfl)
theorem dX0_copy_26 : decode cX0_copy 26 = .ok (.iload_n 2, 1) := dk_28 (dk_at dksX0_copy_1 3 rfl rfl)
theorem dX0_copy_27 : decode cX0_copy 27 = .ok (.aload_n 0, 1) := dk_42 (dk_at dksX0_copy_1 4 rfl rfl)
theorem dX0_copy_28 : decode cX0_copy 28 = .ok (.getfield 35, 3) := dk_180 0 35 (dk_at dksX0_copy_1 5 rfl rfl)
theorem dX0_copy_31 : decode cX0_copy 31 = .ok (.iload_n 3, 1) := dk_29 (dk_at dksX0_copy_1 8 rfl rfl)
theorem dX0_copy_32 : decode cX0_copy 32 = .ok (.aaload, 1) := dk_50 (dk_at dksX0_copy_1 9 rfl rfl)
theorem dX0_copy_33 : decode cX0_copy 33 = .ok (.getfield 96, 3) := dk_180 0 96 (dk_at dksX0_copy_1 10 rfl rfl)
theorem dX0_copy_36 : decode cX0_copy 36 = .ok (.iload 4, 2) := dk_21 4 (dk_at dksX0_copy_1 13 rfl rfl)
theorem dX0_copy_38 : decode cX0_copy 38 = .ok (.iload 5, 2) := dk_21 5 (dk_at dksX0_copy_1 15 rfl rfl)
theorem dX0_copy_40 : decode cX0_copy 40 = .ok (.invokestatic 117, 3) := dk_184 0 117 (dk_at dksX0_copy_1 17 rfl rfl)
theorem dX0_copy_43 : decode cX0_copy 43 = .ok (.aload_n 0, 1) := dk_42 (dk_at dksX0_copy_1 20 rfl rfl)
theorem dX0_copy_44 : decode cX0_copy 44 = .ok (.iload 5, 2) := dk_21 5 (dk_at dksX0_copy_1 21 rfl rfl)
theorem dX0_copy_46 : decode cX0_copy 46 = .ok (.invokevirtual 100, 3) := dk_182 0 100 (dk_at dksX0_copy_2 0 rfl rfl)
theorem dX0_copy_49 : decode cX0_copy 49 = .ok (.ireturn, 1) := dk_172 (dk_at dksX0_copy_2 3 rfl rfl)
theorem dX0_copy_50 : decode cX0_copy 50 = .ok (.astore 6, 2) := dk_58 6 (dk_at dksX0_copy_2 4 rfl rfl)
theorem dX0_copy_52 : decode cX0_copy 52 = .ok (.aload_n 0, 1) := dk_42 (dk_at dksX0_copy_2 6 rfl rfl)
theorem dX0_copy_53 : decode cX0_copy 53 = .ok (.iconst 1, 1) := dk_4 (dk_at dksX0_copy_2 7 rfl rfl)
theorem dX0_copy_54 : decode cX0_copy 54 = .ok (.invokevirtual 106, 3) := dk_182 0 106 (dk_at dksX0_copy_2 8 rfl rfl)
theorem dX0_copy_57 : decode cX0_copy 57 = .ok (.ireturn, 1) := dk_172 (dk_at dksX0_copy_2 11 rfl rfl)
theorem dX0_copy_58 : decode cX0_copy 58 = .ok (.astore 6, 2) := dk_58 6 (dk_at dksX0_copy_2 12 rfl rfl)
theorem dX0_copy_60 : decode cX0_copy 60 = .ok (.aload_n 0, 1) := dk_42 (dk_at dksX0_copy_2 14 rfl rfl)
theorem dX0_copy_61 : decode cX0_copy 61 = .ok (.iconst 5, 1) := dk_8 (dk_at dksX0_copy_2 15 rfl rfl)
theorem dX0_copy_62 : decode cX0_copy 62 = .ok (.invokevirtual 106, 3) := dk_182 0 106 (dk_at dksX0_copy_2 16 rfl rfl)
theorem dX0_copy_65 : decode cX0_copy 65 = .ok (.ireturn, 1) := dk_172 (dk_at dksX0_copy_2 19 rfl rfl)
theorem dX0_copy_66 : decode cX0_copy 66 = .ok (.astore 6, 2) := dk_58 6 (dk_at dksX0_copy_2 20 rfl rfl)
theorem dX0_copy_68 : decode cX0_copy 68 = .ok (.aload_n 0, 1) := dk_42 (dk_at dksX0_copy_2 22 rfl rfl)
theorem dX0_copy_69 : decode cX0_copy 69 = .ok (.iconst 2, 1) := dk_5 (dk_at dksX0_copy_2 23 rfl rfl)
theorem dX0_copy_70 : decode cX0_copy 70 = .ok (.invokevirtual 106, 3) := dk_182 0 106 (dk_at dksX0_copy_3 0 rfl rfl)
theorem dX0_copy_73 : decode cX0_copy 73 = .ok (.ireturn, 1) := dk_172 (dk_at dksX0_copy_3 3 rfl rfl)
abbrev cX0_drop : ByteArray := prog_1_method_14_code
def yX0_drop : MethodName := ⟨RX0, "drop", "(I)I"⟩
def dkwX0_drop_2 : List UInt8 := [50, 1, 181, 0, 96, 29, 172, 58, 4, 42, 180, 0, 35, 27, 50, 1, 181, 0, 96, 25, 4, 191]
abbrev dktX0_drop_2 : List UInt8 := dkwX0_drop_2 ++ []
def dkwX0_drop_1 : List UInt8 := [42, 180, 0, 35, 27, 50, 1, 181, 0, 96, 28, 172, 77, 42, 4, 182, 0, 106, 62, 42, 180, 0, 35, 27]
abbrev dktX0_drop_1 : List UInt8 := dkwX0_drop_1 ++ dktX0_drop_2
def dkwX0_drop_0 : List UInt8 := [27, 184, 0, 85, 154, 0, 6, 18, 91, 172, 42, 42, 180, 0, 35, 27, 50, 182, 0, 127, 182, 0, 100, 61]
abbrev dktX0_drop_0 : List UInt8 := dkwX0_drop_0 ++ dktX0_drop_1
theorem dksX0_drop_0 : cX0_drop.data.toList.drop 0 = dktX0_drop_0 := by decide +kernel
theorem dksX0_drop_1 : cX0_drop.data.toList.drop 24 = dktX0_drop_1 := dk_seg dksX0_drop_0 24 rfl rfl
theorem dksX0_drop_2 : cX0_drop.data.toList.drop 48 = dktX0_drop_2 := dk_seg dksX0_drop_1 24 rfl rfl
theorem dX0_drop_0 : decode cX0_drop 0 = .ok (.iload_n 1, 1) := dk_27 (dk_at dksX0_drop_0 0 rfl rfl)
theorem dX0_drop_1 : decode cX0_drop 1 = .ok (.invokestatic 85, 3) := dk_184 0 85 (dk_at dksX0_drop_0 1 rfl rfl)
theorem dX0_drop_4 : decode cX0_drop 4 = .ok (.ifCond .ne 6, 3) := dk_154 0 6 (dk_at dksX0_drop_0 4 rfl rfl)
theorem dX0_drop_7 : decode cX0_drop 7 = .ok (.ldc 91, 2) := dk_18 91 (dk_at dksX0_drop_0 7 rfl rfl)
theorem dX0_drop_9 : decode cX0_drop 9 = .ok (.ireturn, 1) := dk_172 (dk_at dksX0_drop_0 9 rfl rfl)
theorem dX0_drop_10 : decode cX0_drop 10 = .ok (.aload_n 0, 1) := dk_42 (dk_at dksX0_drop_0 10 rfl rfl)
theorem dX0_drop_11 : decode cX0_drop 11 = .ok (.aload_n 0, 1) := dk_42 (dk_at dksX0_drop_0 11 rfl rfl)
theorem dX0_drop_12 : decode cX0_drop 12 = .ok (.getfield 35, 3) := dk_180 0 35 (dk_at dksX0_drop_0 12 rfl rfl)
theorem dX0_drop_15 : decode cX0_drop 15 = .ok (.iload_n 1, 1) := dk_27 (dk_at dksX0_drop_0 15 rfl rfl)
theorem dX0_drop_16 : decode cX0_drop 16 = .ok (.aaload, 1) := dk_50 (dk_at dksX0_drop_0 16 rfl rfl)
theorem dX0_drop_17 : decode cX0_drop 17 = .ok (.invokevirtual 127, 3) := dk_182 0 127 (dk_at dksX0_drop_0 17 rfl rfl)
theorem dX0_drop_20 : decode cX0_drop 20 = .ok (.invokevirtual 100, 3) := dk_182 0 100 (dk_at dksX0_drop_0 20 rfl rfl)
theorem dX0_drop_23 : decode cX0_drop 23 = .ok (.istore_n 2, 1) := dk_61 (dk_at dksX0_drop_0 23 rfl rfl)
theorem dX0_drop_24 : decode cX0_drop 24 = .ok (.aload_n 0, 1) := dk_42 (dk_at dksX0_drop_1 0 rfl rfl)
theorem dX0_drop_25 : decode cX0_drop 25 = .ok (.getfield 35, 3) := dk_180 0 35 (dk_at dksX0_drop_1 1 rfl rfl)
theorem dX0_drop_28 : decode cX0_drop 28 = .ok (.iload_n 1, 1) := dk_27 (dk_at dksX0_drop_1 4 rfl rfl)
theorem dX0_drop_29 : decode cX0_drop 29 = .ok (.aaload, 1) := dk_50 (dk_at dksX0_drop_1 5 rfl rfl)
theorem dX0_drop_30 : decode cX0_drop 30 = .ok (.aconst_null, 1) := dk_1 (dk_at dksX0_drop_1 6 rfl rfl)
theorem dX0_drop_31 : decode cX0_drop 31 = .ok (.putfield 96, 3) := dk_181 0 96 (dk_at dksX0_drop_1 7 rfl rfl)
theorem dX0_drop_34 : decode cX0_drop 34 = .ok (.iload_n 2, 1) := dk_28 (dk_at dksX0_drop_1 10 rfl rfl)
theorem dX0_drop_35 : decode cX0_drop 35 = .ok (.ireturn, 1) := dk_172 (dk_at dksX0_drop_1 11 rfl rfl)
theorem dX0_drop_36 : decode cX0_drop 36 = .ok (.astore_n 2, 1) := dk_77 (dk_at dksX0_drop_1 12 rfl rfl)
theorem dX0_drop_37 : decode cX0_drop 37 = .ok (.aload_n 0, 1) := dk_42 (dk_at dksX0_drop_1 13 rfl rfl)
theorem dX0_drop_38 : decode cX0_drop 38 = .ok (.iconst 1, 1) := dk_4 (dk_at dksX0_drop_1 14 rfl rfl)
theorem dX0_drop_39 : decode cX0_drop 39 = .ok (.invokevirtual 106, 3) := dk_182 0 106 (dk_at dksX0_drop_1 15 rfl rfl)
theorem dX0_drop_42 : decode cX0_drop 42 = .ok (.istore_n 3, 1) := dk_62 (dk_at dksX0_drop_1 18 rfl rfl)
theorem dX0_drop_43 : decode cX0_drop 43 = .ok (.aload_n 0, 1) := dk_42 (dk_at dksX0_drop_1 19 rfl rfl)
theorem dX0_drop_44 : decode cX0_drop 44 = .ok (.getfield 35, 3) := dk_180 0 35 (dk_at dksX0_drop_1 20 rfl rfl)
theorem dX0_drop_47 : decode cX0_drop 47 = .ok (.iload_n 1, 1) := dk_27 (dk_at dksX0_drop_1 23 rfl rfl)
theorem dX0_drop_48 : decode cX0_drop 48 = .ok (.aaload, 1) := dk_50 (dk_at dksX0_drop_2 0 rfl rfl)
theorem dX0_drop_49 : decode cX0_drop 49 = .ok (.aconst_null, 1) := dk_1 (dk_at dksX0_drop_2 1 rfl rfl)
theorem dX0_drop_50 : decode cX0_drop 50 = .ok (.putfield 96, 3) := dk_181 0 96 (dk_at dksX0_drop_2 2 rfl rfl)
theorem dX0_drop_53 : decode cX0_drop 53 = .ok (.iload_n 3, 1) := dk_29 (dk_at dksX0_drop_2 5 rfl rfl)
theorem dX0_drop_54 : decode cX0_drop 54 = .ok (.ireturn, 1) := dk_172 (dk_at dksX0_drop_2 6 rfl rfl)
theorem dX0_drop_55 : decode cX0_drop 55 = .ok (.astore 4, 2) := dk_58 4 (dk_at dksX0_drop_2 7 rfl rfl)
theorem dX0_drop_57 : decode cX0_drop 57 = .ok (.aload_n 0, 1) := dk_42 (dk_at dksX0_drop_2 9 rfl rfl)
theorem dX0_drop_58 : decode cX0_drop 58 = .ok (.getfield 35, 3) := dk_180 0 35 (dk_at dksX0_drop_2 10 rfl rfl)
theorem dX0_drop_61 : decode cX0_drop 61 = .ok (.iload_n 1, 1) := dk_27 (dk_at dksX0_drop_2 13 rfl rfl)
theorem dX0_drop_62 : decode cX0_drop 62 = .ok (.aaload, 1) := dk_50 (dk_at dksX0_drop_2 14 rfl rfl)
theorem dX0_drop_63 : decode cX0_drop 63 = .ok (.aconst_null, 1) := dk_1 (dk_at dksX0_drop_2 15 rfl rfl)
theorem dX0_drop_64 : decode cX0_drop 64 = .ok (.putfield 96, 3) := dk_181 0 96 (dk_at dksX0_drop_2 16 rfl rfl)
theorem dX0_drop_67 : decode cX0_drop 67 = .ok (.aload 4, 2) := dk_25 4 (dk_at dksX0_drop_2 19 rfl rfl)
theorem dX0_drop_69 : decode cX0_drop 69 = .ok (.athrow, 1) := dk_191 (dk_at dksX0_drop_2 21 rfl rfl)
abbrev cX0_feed : ByteArray := prog_1_method_16_code
def yX0_feed : MethodName := ⟨RX0, "feed", "(I)I"⟩
def dkwX0_feed_2 : List UInt8 := [180, 0, 137, 172]
abbrev dktX0_feed_2 : List UInt8 := dkwX0_feed_2 ++ []
def dkwX0_feed_1 : List UInt8 := [18, 140, 172, 42, 180, 0, 39, 42, 89, 180, 0, 137, 90, 4, 96, 181, 0, 137, 27, 145, 84, 42]
abbrev dktX0_feed_1 : List UInt8 := dkwX0_feed_1 ++ dktX0_feed_2
def dkwX0_feed_0 : List UInt8 := [27, 133, 9, 20, 0, 135, 184, 0, 81, 154, 0, 6, 18, 91, 172, 42, 180, 0, 137, 16, 90, 160, 0, 6]
abbrev dktX0_feed_0 : List UInt8 := dkwX0_feed_0 ++ dktX0_feed_1
theorem dksX0_feed_0 : cX0_feed.data.toList.drop 0 = dktX0_feed_0 := by decide +kernel
theorem dksX0_feed_1 : cX0_feed.data.toList.drop 24 = dktX0_feed_1 := dk_seg dksX0_feed_0 24 rfl rfl
theorem dksX0_feed_2 : cX0_feed.data.toList.drop 46 = dktX0_feed_2 := dk_seg dksX0_feed_1 22 rfl rfl
theorem dX0_feed_0 : decode cX0_feed 0 = .ok (.iload_n 1, 1) := dk_27 (dk_at dksX0_feed_0 0 rfl rfl)
theorem dX0_feed_1 : decode cX0_feed 1 = .ok (.i2l, 1) := dk_133 (dk_at dksX0_feed_0 1 rfl rfl)
theorem dX0_feed_2 : decode cX0_feed 2 = .ok (.lconst 0, 1) := dk_9 (dk_at dksX0_feed_0 2 rfl rfl)
theorem dX0_feed_3 : decode cX0_feed 3 = .ok (.ldc2_w 135, 3) := dk_20 0 135 (dk_at dksX0_feed_0 3 rfl rfl)
theorem dX0_feed_6 : decode cX0_feed 6 = .ok (.invokestatic 81, 3) := dk_184 0 81 (dk_at dksX0_feed_0 6 rfl rfl)
theorem dX0_feed_9 : decode cX0_feed 9 = .ok (.ifCond .ne 6, 3) := dk_154 0 6 (dk_at dksX0_feed_0 9 rfl rfl)
theorem dX0_feed_12 : decode cX0_feed 12 = .ok (.ldc 91, 2) := dk_18 91 (dk_at dksX0_feed_0 12 rfl rfl)
theorem dX0_feed_14 : decode cX0_feed 14 = .ok (.ireturn, 1) := dk_172 (dk_at dksX0_feed_0 14 rfl rfl)
theorem dX0_feed_15 : decode cX0_feed 15 = .ok (.aload_n 0, 1) := dk_42 (dk_at dksX0_feed_0 15 rfl rfl)
theorem dX0_feed_16 : decode cX0_feed 16 = .ok (.getfield 137, 3) := dk_180 0 137 (dk_at dksX0_feed_0 16 rfl rfl)
theorem dX0_feed_19 : decode cX0_feed 19 = .ok (.bipush 90, 2) := dk_16 90 (dk_at dksX0_feed_0 19 rfl rfl)
theorem dX0_feed_21 : decode cX0_feed 21 = .ok (.if_icmp .ne 6, 3) := dk_160 0 6 (dk_at dksX0_feed_0 21 rfl rfl)
theorem dX0_feed_24 : decode cX0_feed 24 = .ok (.ldc 140, 2) := dk_18 140 (dk_at dksX0_feed_1 0 rfl rfl)
theorem dX0_feed_26 : decode cX0_feed 26 = .ok (.ireturn, 1) := dk_172 (dk_at dksX0_feed_1 2 rfl rfl)
theorem dX0_feed_27 : decode cX0_feed 27 = .ok (.aload_n 0, 1) := dk_42 (dk_at dksX0_feed_1 3 rfl rfl)
theorem dX0_feed_28 : decode cX0_feed 28 = .ok (.getfield 39, 3) := dk_180 0 39 (dk_at dksX0_feed_1 4 rfl rfl)
theorem dX0_feed_31 : decode cX0_feed 31 = .ok (.aload_n 0, 1) := dk_42 (dk_at dksX0_feed_1 7 rfl rfl)
theorem dX0_feed_32 : decode cX0_feed 32 = .ok (.dup, 1) := dk_89 (dk_at dksX0_feed_1 8 rfl rfl)
theorem dX0_feed_33 : decode cX0_feed 33 = .ok (.getfield 137, 3) := dk_180 0 137 (dk_at dksX0_feed_1 9 rfl rfl)
theorem dX0_feed_36 : decode cX0_feed 36 = .ok (.dup_x1, 1) := dk_90 (dk_at dksX0_feed_1 12 rfl rfl)
theorem dX0_feed_37 : decode cX0_feed 37 = .ok (.iconst 1, 1) := dk_4 (dk_at dksX0_feed_1 13 rfl rfl)
theorem dX0_feed_38 : decode cX0_feed 38 = .ok (.iadd, 1) := dk_96 (dk_at dksX0_feed_1 14 rfl rfl)
theorem dX0_feed_39 : decode cX0_feed 39 = .ok (.putfield 137, 3) := dk_181 0 137 (dk_at dksX0_feed_1 15 rfl rfl)
theorem dX0_feed_42 : decode cX0_feed 42 = .ok (.iload_n 1, 1) := dk_27 (dk_at dksX0_feed_1 18 rfl rfl)
theorem dX0_feed_43 : decode cX0_feed 43 = .ok (.i2b, 1) := dk_145 (dk_at dksX0_feed_1 19 rfl rfl)
theorem dX0_feed_44 : decode cX0_feed 44 = .ok (.bastore, 1) := dk_84 (dk_at dksX0_feed_1 20 rfl rfl)
theorem dX0_feed_45 : decode cX0_feed 45 = .ok (.aload_n 0, 1) := dk_42 (dk_at dksX0_feed_1 21 rfl rfl)
theorem dX0_feed_46 : decode cX0_feed 46 = .ok (.getfield 137, 3) := dk_180 0 137 (dk_at dksX0_feed_2 0 rfl rfl)
theorem dX0_feed_49 : decode cX0_feed 49 = .ok (.ireturn, 1) := dk_172 (dk_at dksX0_feed_2 3 rfl rfl)
abbrev cX0_stair : ByteArray := prog_1_method_17_code
def yX0_stair : MethodName := ⟨RX0, "stair", "()I"⟩
def dkwX0_stair_3 : List UInt8 := [182, 0, 164, 87, 42, 3, 181, 0, 168, 42, 180, 0, 46, 182, 0, 171, 172]
abbrev dktX0_stair_3 : List UInt8 := dkwX0_stair_3 ++ []
def dkwX0_stair_2 : List UInt8 := [3, 181, 0, 137, 29, 172, 58, 4, 42, 3, 181, 0, 137, 25, 4, 191, 42, 180, 0, 46, 43, 180, 0, 161]
abbrev dktX0_stair_2 : List UInt8 := dkwX0_stair_2 ++ dktX0_stair_3
def dkwX0_stair_1 : List UInt8 := [181, 0, 137, 167, 0, 37, 77, 42, 44, 180, 0, 151, 181, 0, 154, 18, 157, 44, 180, 0, 158, 100, 62, 42]
abbrev dktX0_stair_1 : List UInt8 := dkwX0_stair_1 ++ dktX0_stair_2
def dkwX0_stair_0 : List UInt8 := [187, 0, 141, 89, 42, 180, 0, 39, 42, 180, 0, 137, 183, 0, 143, 76, 43, 182, 0, 146, 42, 3]
abbrev dktX0_stair_0 : List UInt8 := dkwX0_stair_0 ++ dktX0_stair_1
theorem dksX0_stair_0 : cX0_stair.data.toList.drop 0 = dktX0_stair_0 := by decide +kernel
theorem dksX0_stair_1 : cX0_stair.data.toList.drop 22 = dktX0_stair_1 := dk_seg dksX0_stair_0 22 rfl rfl
theorem dksX0_stair_2 : cX0_stair.data.toList.drop 46 = dktX0_stair_2 := dk_seg dksX0_stair_1 24 rfl rfl
theorem dksX0_stair_3 : cX0_stair.data.toList.drop 70 = dktX0_stair_3 := dk_seg dksX0_stair_2 24 rfl rfl
theorem dX0_stair_0 : decode cX0_stair 0 = .ok (.new 141, 3) := dk_187 0 141 (dk_at dksX0_stair_0 0 rfl rfl)
theorem dX0_stair_3 : decode cX0_stair 3 = .ok (.dup, 1) := dk_89 (dk_at dksX0_stair_0 3 rfl rfl)
theorem dX0_stair_4 : decode cX0_stair 4 = .ok (.aload_n 0, 1) := dk_42 (dk_at dksX0_stair_0 4 rfl rfl)
theorem dX0_stair_5 : decode cX0_stair 5 = .ok (.getfield 39, 3) := dk_180 0 39 (dk_at dksX0_stair_0 5 rfl rfl)
theorem dX0_stair_8 : decode cX0_stair 8 = .ok (.aload_n 0, 1) := dk_42 (dk_at dksX0_stair_0 8 rfl rfl)
theorem dX0_stair_9 : decode cX0_stair 9 = .ok (.getfield 137, 3) := dk_180 0 137 (dk_at dksX0_stair_0 9 rfl rfl)
theorem dX0_stair_12 : decode cX0_stair 12 = .ok (.invokespecial 143, 3) := dk_183 0 143 (dk_at dksX0_stair_0 12 rfl rfl)
theorem dX0_stair_15 : decode cX0_stair 15 = .ok (.astore_n 1, 1) := dk_76 (dk_at dksX0_stair_0 15 rfl rfl)
theorem dX0_stair_16 : decode cX0_stair 16 = .ok (.aload_n 1, 1) := dk_43 (dk_at dksX0_stair_0 16 rfl rfl)
theorem dX0_stair_17 : decode cX0_stair 17 = .ok (.invokevirtual 146, 3) := dk_182 0 146 (dk_at dksX0_stair_0 17 rfl rfl)
theorem dX0_stair_20 : decode cX0_stair 20 = .ok (.aload_n 0, 1) := dk_42 (dk_at dksX0_stair_0 20 rfl rfl)
theorem dX0_stair_21 : decode cX0_stair 21 = .ok (.iconst 0, 1) := dk_3 (dk_at dksX0_stair_0 21 rfl rfl)
theorem dX0_stair_22 : decode cX0_stair 22 = .ok (.putfield 137, 3) := dk_181 0 137 (dk_at dksX0_stair_1 0 rfl rfl)
theorem dX0_stair_25 : decode cX0_stair 25 = .ok (.goto 37, 3) := dk_167 0 37 (dk_at dksX0_stair_1 3 rfl rfl)
theorem dX0_stair_28 : decode cX0_stair 28 = .ok (.astore_n 2, 1) := dk_77 (dk_at dksX0_stair_1 6 rfl rfl)
theorem dX0_stair_29 : decode cX0_stair 29 = .ok (.aload_n 0, 1) := dk_42 (dk_at dksX0_stair_1 7 rfl rfl)
theorem dX0_stair_30 : decode cX0_stair 30 = .ok (.aload_n 2, 1) := dk_44 (dk_at dksX0_stair_1 8 rfl rfl)
theorem dX0_stair_31 : decode cX0_stair 31 = .ok (.getfield 151, 3) := dk_180 0 151 (dk_at dksX0_stair_1 9 rfl rfl)
theorem dX0_stair_34 : decode cX0_stair 34 = .ok (.putfield 154, 3) := dk_181 0 154 (dk_at dksX0_stair_1 12 rfl rfl)
theorem dX0_stair_37 : decode cX0_stair 37 = .ok (.ldc 157, 2) := dk_18 157 (dk_at dksX0_stair_1 15 rfl rfl)
theorem dX0_stair_39 : decode cX0_stair 39 = .ok (.aload_n 2, 1) := dk_44 (dk_at dksX0_stair_1 17 rfl rfl)
theorem dX0_stair_40 : decode cX0_stair 40 = .ok (.getfield 158, 3) := dk_180 0 158 (dk_at dksX0_stair_1 18 rfl rfl)
theorem dX0_stair_43 : decode cX0_stair 43 = .ok (.isub, 1) := dk_100 (dk_at dksX0_stair_1 21 rfl rfl)
theorem dX0_stair_44 : decode cX0_stair 44 = .ok (.istore_n 3, 1) := dk_62 (dk_at dksX0_stair_1 22 rfl rfl)
theorem dX0_stair_45 : decode cX0_stair 45 = .ok (.aload_n 0, 1) := dk_42 (dk_at dksX0_stair_1 23 rfl rfl)
theorem dX0_stair_46 : decode cX0_stair 46 = .ok (.iconst 0, 1) := dk_3 (dk_at dksX0_stair_2 0 rfl rfl)
theorem dX0_stair_47 : decode cX0_stair 47 = .ok (.putfield 137, 3) := dk_181 0 137 (dk_at dksX0_stair_2 1 rfl rfl)
theorem dX0_stair_50 : decode cX0_stair 50 = .ok (.iload_n 3, 1) := dk_29 (dk_at dksX0_stair_2 4 rfl rfl)
theorem dX0_stair_51 : decode cX0_stair 51 = .ok (.ireturn, 1) := dk_172 (dk_at dksX0_stair_2 5 rfl rfl)
theorem dX0_stair_52 : decode cX0_stair 52 = .ok (.astore 4, 2) := dk_58 4 (dk_at dksX0_stair_2 6 rfl rfl)
theorem dX0_stair_54 : decode cX0_stair 54 = .ok (.aload_n 0, 1) := dk_42 (dk_at dksX0_stair_2 8 rfl rfl)
theorem dX0_stair_55 : decode cX0_stair 55 = .ok (.iconst 0, 1) := dk_3 (dk_at dksX0_stair_2 9 rfl rfl)
theorem dX0_stair_56 : decode cX0_stair 56 = .ok (.putfield 137, 3) := dk_181 0 137 (dk_at dksX0_stair_2 10 rfl rfl)
theorem dX0_stair_59 : decode cX0_stair 59 = .ok (.aload 4, 2) := dk_25 4 (dk_at dksX0_stair_2 13 rfl rfl)
theorem dX0_stair_61 : decode cX0_stair 61 = .ok (.athrow, 1) := dk_191 (dk_at dksX0_stair_2 15 rfl rfl)
theorem dX0_stair_62 : decode cX0_stair 62 = .ok (.aload_n 0, 1) := dk_42 (dk_at dksX0_stair_2 16 rfl rfl)
theorem dX0_stair_63 : decode cX0_stair 63 = .ok (.getfield 46, 3) := dk_180 0 46 (dk_at dksX0_stair_2 17 rfl rfl)
theorem dX0_stair_66 : decode cX0_stair 66 = .ok (.aload_n 1, 1) := dk_43 (dk_at dksX0_stair_2 20 rfl rfl)
theorem dX0_stair_67 : decode cX0_stair 67 = .ok (.getfield 161, 3) := dk_180 0 161 (dk_at dksX0_stair_2 21 rfl rfl)
theorem dX0_stair_70 : decode cX0_stair 70 = .ok (.invokevirtual 164, 3) := dk_182 0 164 (dk_at dksX0_stair_3 0 rfl rfl)
theorem dX0_stair_73 : decode cX0_stair 73 = .ok (.pop, 1) := dk_87 (dk_at dksX0_stair_3 3 rfl rfl)
theorem dX0_stair_74 : decode cX0_stair 74 = .ok (.aload_n 0, 1) := dk_42 (dk_at dksX0_stair_3 4 rfl rfl)
theorem dX0_stair_75 : decode cX0_stair 75 = .ok (.iconst 0, 1) := dk_3 (dk_at dksX0_stair_3 5 rfl rfl)
theorem dX0_stair_76 : decode cX0_stair 76 = .ok (.putfield 168, 3) := dk_181 0 168 (dk_at dksX0_stair_3 6 rfl rfl)
theorem dX0_stair_79 : decode cX0_stair 79 = .ok (.aload_n 0, 1) := dk_42 (dk_at dksX0_stair_3 9 rfl rfl)
theorem dX0_stair_80 : decode cX0_stair 80 = .ok (.getfield 46, 3) := dk_180 0 46 (dk_at dksX0_stair_3 10 rfl rfl)
theorem dX0_stair_83 : decode cX0_stair 83 = .ok (.invokevirtual 171, 3) := dk_182 0 171 (dk_at dksX0_stair_3 13 rfl rfl)
theorem dX0_stair_86 : decode cX0_stair 86 = .ok (.ireturn, 1) := dk_172 (dk_at dksX0_stair_3 16 rfl rfl)
abbrev cX0_riderBy : ByteArray := prog_1_method_3_code
def yX0_riderBy : MethodName := ⟨RX0, "riderBy", "(II)LStepRiders$Rider;"⟩
def dkwX0_riderBy_3 : List UInt8 := [183, 0, 12, 176, 187, 0, 13, 89, 27, 183, 0, 15, 176, 187, 0, 16, 89, 27, 183, 0, 18, 176]
abbrev dktX0_riderBy_3 : List UInt8 := dkwX0_riderBy_3 ++ []
def dkwX0_riderBy_2 : List UInt8 := [187, 0, 1, 89, 27, 183, 0, 3, 176, 187, 0, 7, 89, 27, 183, 0, 9, 176, 187, 0, 10, 89, 27]
abbrev dktX0_riderBy_2 : List UInt8 := dkwX0_riderBy_2 ++ dktX0_riderBy_3
def dkwX0_riderBy_1 : List UInt8 := [170, 0, 0, 0, 0, 0, 67, 0, 0, 0, 1, 0, 0, 0, 4, 0, 0, 0, 31, 0, 0, 0, 40, 0, 0, 0, 49, 0, 0, 0, 58]
abbrev dktX0_riderBy_1 : List UInt8 := dkwX0_riderBy_1 ++ dktX0_riderBy_2
def dkwX0_riderBy_0 : List UInt8 := [26]
abbrev dktX0_riderBy_0 : List UInt8 := dkwX0_riderBy_0 ++ dktX0_riderBy_1
theorem dksX0_riderBy_0 : cX0_riderBy.data.toList.drop 0 = dktX0_riderBy_0 := by decide +kernel
theorem dksX0_riderBy_1 : cX0_riderBy.data.toList.drop 1 = dktX0_riderBy_1 := dk_seg dksX0_riderBy_0 1 rfl rfl
theorem dksX0_riderBy_2 : cX0_riderBy.data.toList.drop 32 = dktX0_riderBy_2 := dk_seg dksX0_riderBy_1 31 rfl rfl
theorem dksX0_riderBy_3 : cX0_riderBy.data.toList.drop 55 = dktX0_riderBy_3 := dk_seg dksX0_riderBy_2 23 rfl rfl
theorem dX0_riderBy_0 : decode cX0_riderBy 0 = .ok (.iload_n 0, 1) := dk_26 (dk_at dksX0_riderBy_0 0 rfl rfl)
theorem dX0_riderBy_1 : decode cX0_riderBy 1 = .ok (.tableswitch 67 1 4 #[31, 40, 49, 58], 31) := by decide +kernel
theorem dX0_riderBy_32 : decode cX0_riderBy 32 = .ok (.new 1, 3) := dk_187 0 1 (dk_at dksX0_riderBy_2 0 rfl rfl)
theorem dX0_riderBy_35 : decode cX0_riderBy 35 = .ok (.dup, 1) := dk_89 (dk_at dksX0_riderBy_2 3 rfl rfl)
theorem dX0_riderBy_36 : decode cX0_riderBy 36 = .ok (.iload_n 1, 1) := dk_27 (dk_at dksX0_riderBy_2 4 rfl rfl)
theorem dX0_riderBy_37 : decode cX0_riderBy 37 = .ok (.invokespecial 3, 3) := dk_183 0 3 (dk_at dksX0_riderBy_2 5 rfl rfl)
theorem dX0_riderBy_40 : decode cX0_riderBy 40 = .ok (.areturn, 1) := dk_176 (dk_at dksX0_riderBy_2 8 rfl rfl)
theorem dX0_riderBy_41 : decode cX0_riderBy 41 = .ok (.new 7, 3) := dk_187 0 7 (dk_at dksX0_riderBy_2 9 rfl rfl)
theorem dX0_riderBy_44 : decode cX0_riderBy 44 = .ok (.dup, 1) := dk_89 (dk_at dksX0_riderBy_2 12 rfl rfl)
theorem dX0_riderBy_45 : decode cX0_riderBy 45 = .ok (.iload_n 1, 1) := dk_27 (dk_at dksX0_riderBy_2 13 rfl rfl)
theorem dX0_riderBy_46 : decode cX0_riderBy 46 = .ok (.invokespecial 9, 3) := dk_183 0 9 (dk_at dksX0_riderBy_2 14 rfl rfl)
theorem dX0_riderBy_49 : decode cX0_riderBy 49 = .ok (.areturn, 1) := dk_176 (dk_at dksX0_riderBy_2 17 rfl rfl)
theorem dX0_riderBy_50 : decode cX0_riderBy 50 = .ok (.new 10, 3) := dk_187 0 10 (dk_at dksX0_riderBy_2 18 rfl rfl)
theorem dX0_riderBy_53 : decode cX0_riderBy 53 = .ok (.dup, 1) := dk_89 (dk_at dksX0_riderBy_2 21 rfl rfl)
theorem dX0_riderBy_54 : decode cX0_riderBy 54 = .ok (.iload_n 1, 1) := dk_27 (dk_at dksX0_riderBy_2 22 rfl rfl)
theorem dX0_riderBy_55 : decode cX0_riderBy 55 = .ok (.invokespecial 12, 3) := dk_183 0 12 (dk_at dksX0_riderBy_3 0 rfl rfl)
theorem dX0_riderBy_58 : decode cX0_riderBy 58 = .ok (.areturn, 1) := dk_176 (dk_at dksX0_riderBy_3 3 rfl rfl)
theorem dX0_riderBy_59 : decode cX0_riderBy 59 = .ok (.new 13, 3) := dk_187 0 13 (dk_at dksX0_riderBy_3 4 rfl rfl)
theorem dX0_riderBy_62 : decode cX0_riderBy 62 = .ok (.dup, 1) := dk_89 (dk_at dksX0_riderBy_3 7 rfl rfl)
theorem dX0_riderBy_63 : decode cX0_riderBy 63 = .ok (.iload_n 1, 1) := dk_27 (dk_at dksX0_riderBy_3 8 rfl rfl)
theorem dX0_riderBy_64 : decode cX0_riderBy 64 = .ok (.invokespecial 15, 3) := dk_183 0 15 (dk_at dksX0_riderBy_3 9 rfl rfl)
theorem dX0_riderBy_67 : decode cX0_riderBy 67 = .ok (.areturn, 1) := dk_176 (dk_at dksX0_riderBy_3 12 rfl rfl)
theorem dX0_riderBy_68 : decode cX0_riderBy 68 = .ok (.new 16, 3) := dk_187 0 16 (dk_at dksX0_riderBy_3 13 rfl rfl)
theorem dX0_riderBy_71 : decode cX0_riderBy 71 = .ok (.dup, 1) := dk_89 (dk_at dksX0_riderBy_3 16 rfl rfl)
theorem dX0_riderBy_72 : decode cX0_riderBy 72 = .ok (.iload_n 1, 1) := dk_27 (dk_at dksX0_riderBy_3 17 rfl rfl)
theorem dX0_riderBy_73 : decode cX0_riderBy 73 = .ok (.invokespecial 18, 3) := dk_183 0 18 (dk_at dksX0_riderBy_3 18 rfl rfl)
theorem dX0_riderBy_76 : decode cX0_riderBy 76 = .ok (.areturn, 1) := dk_176 (dk_at dksX0_riderBy_3 21 rfl rfl)
abbrev cX0_fault : ByteArray := prog_1_method_18_code
def yX0_fault : MethodName := ⟨RX0, "fault", "()I"⟩
theorem dX0_fault_0 : decode cX0_fault 0 = .ok (.aload_n 0, 1) := by decide +kernel
theorem dX0_fault_1 : decode cX0_fault 1 = .ok (.getfield 154, 3) := by decide +kernel
theorem dX0_fault_4 : decode cX0_fault 4 = .ok (.ireturn, 1) := by decide +kernel
abbrev cX0_ticks : ByteArray := prog_1_method_24_code
def yX0_ticks : MethodName := ⟨RX0, "ticks", "(I)I"⟩
def dkwX0_ticks_3 : List UInt8 := [180, 0, 46, 182, 0, 194, 172]
abbrev dktX0_ticks_3 : List UInt8 := dkwX0_ticks_3 ++ []
def dkwX0_ticks_2 : List UInt8 := [162, 0, 21, 42, 182, 0, 187, 42, 180, 0, 46, 182, 0, 190, 87, 132, 2, 1, 167, 255, 236, 42]
abbrev dktX0_ticks_2 : List UInt8 := dkwX0_ticks_2 ++ dktX0_ticks_3
def dkwX0_ticks_1 : List UInt8 := [172, 42, 180, 0, 46, 180, 0, 184, 27, 96, 17, 39, 15, 164, 0, 6, 18, 140, 172, 3, 61, 28, 27]
abbrev dktX0_ticks_1 : List UInt8 := dkwX0_ticks_1 ++ dktX0_ticks_2
def dkwX0_ticks_0 : List UInt8 := [42, 182, 0, 177, 154, 0, 6, 18, 181, 172, 27, 133, 10, 20, 0, 182, 184, 0, 81, 154, 0, 6, 18, 91]
abbrev dktX0_ticks_0 : List UInt8 := dkwX0_ticks_0 ++ dktX0_ticks_1
theorem dksX0_ticks_0 : cX0_ticks.data.toList.drop 0 = dktX0_ticks_0 := by decide +kernel
theorem dksX0_ticks_1 : cX0_ticks.data.toList.drop 24 = dktX0_ticks_1 := dk_seg dksX0_ticks_0 24 rfl rfl
theorem dksX0_ticks_2 : cX0_ticks.data.toList.drop 47 = dktX0_ticks_2 := dk_seg dksX0_ticks_1 23 rfl rfl
theorem dksX0_ticks_3 : cX0_ticks.data.toList.drop 69 = dktX0_ticks_3 := dk_seg dksX0_ticks_2 22 rfl rfl
theorem dX0_ticks_0 : decode cX0_ticks 0 = .ok (.aload_n 0, 1) := dk_42 (dk_at dksX0_ticks_0 0 rfl rfl)
theorem dX0_ticks_1 : decode cX0_ticks 1 = .ok (.invokevirtual 177, 3) := dk_182 0 177 (dk_at dksX0_ticks_0 1 rfl rfl)
theorem dX0_ticks_4 : decode cX0_ticks 4 = .ok (.ifCond .ne 6, 3) := dk_154 0 6 (dk_at dksX0_ticks_0 4 rfl rfl)
theorem dX0_ticks_7 : decode cX0_ticks 7 = .ok (.ldc 181, 2) := dk_18 181 (dk_at dksX0_ticks_0 7 rfl rfl)
theorem dX0_ticks_9 : decode cX0_ticks 9 = .ok (.ireturn, 1) := dk_172 (dk_at dksX0_ticks_0 9 rfl rfl)
theorem dX0_ticks_10 : decode cX0_ticks 10 = .ok (.iload_n 1, 1) := dk_27 (dk_at dksX0_ticks_0 10 rfl rfl)
theorem dX0_ticks_11 : decode cX0_ticks 11 = .ok (.i2l, 1) := dk_133 (dk_at dksX0_ticks_0 11 rfl rfl)
theorem dX0_ticks_12 : decode cX0_ticks 12 = .ok (.lconst 1, 1) := dk_10 (dk_at dksX0_ticks_0 12 rfl rfl)
theorem dX0_ticks_13 : decode cX0_ticks 13 = .ok (.ldc2_w 182, 3) := dk_20 0 182 (dk_at dksX0_ticks_0 13 rfl rfl)
theorem dX0_ticks_16 : decode cX0_ticks 16 = .ok (.invokestatic 81, 3) := dk_184 0 81 (dk_at dksX0_ticks_0 16 rfl rfl)
theorem dX0_ticks_19 : decode cX0_ticks 19 = .ok (.ifCond .ne 6, 3) := dk_154 0 6 (dk_at dksX0_ticks_0 19 rfl rfl)
theorem dX0_ticks_22 : decode cX0_ticks 22 = .ok (.ldc 91, 2) := dk_18 91 (dk_at dksX0_ticks_0 22 rfl rfl)
theorem dX0_ticks_24 : decode cX0_ticks 24 = .ok (.ireturn, 1) := dk_172 (dk_at dksX0_ticks_1 0 rfl rfl)
theorem dX0_ticks_25 : decode cX0_ticks 25 = .ok (.aload_n 0, 1) := dk_42 (dk_at dksX0_ticks_1 1 rfl rfl)
theorem dX0_ticks_26 : decode cX0_ticks 26 = .ok (.getfield 46, 3) := dk_180 0 46 (dk_at dksX0_ticks_1 2 rfl rfl)
theorem dX0_ticks_29 : decode cX0_ticks 29 = .ok (.getfield 184, 3) := dk_180 0 184 (dk_at dksX0_ticks_1 5 rfl rfl)
theorem dX0_ticks_32 : decode cX0_ticks 32 = .ok (.iload_n 1, 1) := dk_27 (dk_at dksX0_ticks_1 8 rfl rfl)
theorem dX0_ticks_33 : decode cX0_ticks 33 = .ok (.iadd, 1) := dk_96 (dk_at dksX0_ticks_1 9 rfl rfl)
theorem dX0_ticks_34 : decode cX0_ticks 34 = .ok (.sipush 9999, 3) := dk_17 39 15 (dk_at dksX0_ticks_1 10 rfl rfl)
theorem dX0_ticks_37 : decode cX0_ticks 37 = .ok (.if_icmp .le 6, 3) := dk_164 0 6 (dk_at dksX0_ticks_1 13 rfl rfl)
theorem dX0_ticks_40 : decode cX0_ticks 40 = .ok (.ldc 140, 2) := dk_18 140 (dk_at dksX0_ticks_1 16 rfl rfl)
theorem dX0_ticks_42 : decode cX0_ticks 42 = .ok (.ireturn, 1) := dk_172 (dk_at dksX0_ticks_1 18 rfl rfl)
theorem dX0_ticks_43 : decode cX0_ticks 43 = .ok (.iconst 0, 1) := dk_3 (dk_at dksX0_ticks_1 19 rfl rfl)
theorem dX0_ticks_44 : decode cX0_ticks 44 = .ok (.istore_n 2, 1) := dk_61 (dk_at dksX0_ticks_1 20 rfl rfl)
theorem dX0_ticks_45 : decode cX0_ticks 45 = .ok (.iload_n 2, 1) := dk_28 (dk_at dksX0_ticks_1 21 rfl rfl)
theorem dX0_ticks_46 : decode cX0_ticks 46 = .ok (.iload_n 1, 1) := dk_27 (dk_at dksX0_ticks_1 22 rfl rfl)
theorem dX0_ticks_47 : decode cX0_ticks 47 = .ok (.if_icmp .ge 21, 3) := dk_162 0 21 (dk_at dksX0_ticks_2 0 rfl rfl)
theorem dX0_ticks_50 : decode cX0_ticks 50 = .ok (.aload_n 0, 1) := dk_42 (dk_at dksX0_ticks_2 3 rfl rfl)
theorem dX0_ticks_51 : decode cX0_ticks 51 = .ok (.invokevirtual 187, 3) := dk_182 0 187 (dk_at dksX0_ticks_2 4 rfl rfl)
theorem dX0_ticks_54 : decode cX0_ticks 54 = .ok (.aload_n 0, 1) := dk_42 (dk_at dksX0_ticks_2 7 rfl rfl)
theorem dX0_ticks_55 : decode cX0_ticks 55 = .ok (.getfield 46, 3) := dk_180 0 46 (dk_at dksX0_ticks_2 8 rfl rfl)
theorem dX0_ticks_58 : decode cX0_ticks 58 = .ok (.invokevirtual 190, 3) := dk_182 0 190 (dk_at dksX0_ticks_2 11 rfl rfl)
theorem dX0_ticks_61 : decode cX0_ticks 61 = .ok (.pop, 1) := dk_87 (dk_at dksX0_ticks_2 14 rfl rfl)
theorem dX0_ticks_62 : decode cX0_ticks 62 = .ok (.iinc 2 1, 3) := dk_132 2 1 (dk_at dksX0_ticks_2 15 rfl rfl)
theorem dX0_ticks_65 : decode cX0_ticks 65 = .ok (.goto (-20), 3) := dk_167 255 236 (dk_at dksX0_ticks_2 18 rfl rfl)
theorem dX0_ticks_68 : decode cX0_ticks 68 = .ok (.aload_n 0, 1) := dk_42 (dk_at dksX0_ticks_2 21 rfl rfl)
theorem dX0_ticks_69 : decode cX0_ticks 69 = .ok (.getfield 46, 3) := dk_180 0 46 (dk_at dksX0_ticks_3 0 rfl rfl)
theorem dX0_ticks_72 : decode cX0_ticks 72 = .ok (.invokevirtual 194, 3) := dk_182 0 194 (dk_at dksX0_ticks_3 3 rfl rfl)
theorem dX0_ticks_75 : decode cX0_ticks 75 = .ok (.ireturn, 1) := dk_172 (dk_at dksX0_ticks_3 6 rfl rfl)
abbrev cX0_isThere : ByteArray := prog_1_method_19_code
def yX0_isThere : MethodName := ⟨RX0, "isThere", "()Z"⟩
def dkwX0_isThere_0 : List UInt8 := [42, 180, 0, 46, 180, 0, 172, 158, 0, 7, 4, 167, 0, 4, 3, 172]
abbrev dktX0_isThere_0 : List UInt8 := dkwX0_isThere_0 ++ []
theorem dksX0_isThere_0 : cX0_isThere.data.toList.drop 0 = dktX0_isThere_0 := by decide +kernel
theorem dX0_isThere_0 : decode cX0_isThere 0 = .ok (.aload_n 0, 1) := dk_42 (dk_at dksX0_isThere_0 0 rfl rfl)
theorem dX0_isThere_1 : decode cX0_isThere 1 = .ok (.getfield 46, 3) := dk_180 0 46 (dk_at dksX0_isThere_0 1 rfl rfl)
theorem dX0_isThere_4 : decode cX0_isThere 4 = .ok (.getfield 172, 3) := dk_180 0 172 (dk_at dksX0_isThere_0 4 rfl rfl)
theorem dX0_isThere_7 : decode cX0_isThere 7 = .ok (.ifCond .le 7, 3) := dk_158 0 7 (dk_at dksX0_isThere_0 7 rfl rfl)
theorem dX0_isThere_10 : decode cX0_isThere 10 = .ok (.iconst 1, 1) := dk_4 (dk_at dksX0_isThere_0 10 rfl rfl)
theorem dX0_isThere_11 : decode cX0_isThere 11 = .ok (.goto 4, 3) := dk_167 0 4 (dk_at dksX0_isThere_0 11 rfl rfl)
theorem dX0_isThere_14 : decode cX0_isThere 14 = .ok (.iconst 0, 1) := dk_3 (dk_at dksX0_isThere_0 14 rfl rfl)
theorem dX0_isThere_15 : decode cX0_isThere 15 = .ok (.ireturn, 1) := dk_172 (dk_at dksX0_isThere_0 15 rfl rfl)
abbrev cX0_keep : ByteArray := prog_1_method_23_code
def yX0_keep : MethodName := ⟨RX0, "keep", "()V"⟩
def dkwX0_keep_4 : List UInt8 := [180, 0, 168, 50, 42, 180, 0, 46, 182, 0, 164, 87, 42, 89, 180, 0, 168, 4, 96, 181, 0, 168, 177]
abbrev dktX0_keep_4 : List UInt8 := dkwX0_keep_4 ++ []
def dkwX0_keep_3 : List UInt8 := [199, 0, 19, 42, 180, 0, 53, 42, 180, 0, 168, 187, 0, 43, 89, 183, 0, 45, 83, 42, 180, 0, 53, 42]
abbrev dktX0_keep_3 : List UInt8 := dkwX0_keep_3 ++ dktX0_keep_4
def dkwX0_keep_2 : List UInt8 := [16, 23, 43, 83, 42, 89, 180, 0, 168, 4, 100, 181, 0, 168, 42, 180, 0, 53, 42, 180, 0, 168, 50]
abbrev dktX0_keep_2 : List UInt8 := dkwX0_keep_2 ++ dktX0_keep_3
def dkwX0_keep_1 : List UInt8 := [42, 180, 0, 53, 28, 4, 100, 42, 180, 0, 53, 28, 50, 83, 132, 2, 1, 167, 255, 233, 42, 180, 0, 53]
abbrev dktX0_keep_1 : List UInt8 := dkwX0_keep_1 ++ dktX0_keep_2
def dkwX0_keep_0 : List UInt8 := [42, 180, 0, 168, 16, 24, 160, 0, 56, 42, 180, 0, 53, 3, 50, 76, 4, 61, 28, 16, 24, 162, 0, 23]
abbrev dktX0_keep_0 : List UInt8 := dkwX0_keep_0 ++ dktX0_keep_1
theorem dksX0_keep_0 : cX0_keep.data.toList.drop 0 = dktX0_keep_0 := by decide +kernel
theorem dksX0_keep_1 : cX0_keep.data.toList.drop 24 = dktX0_keep_1 := dk_seg dksX0_keep_0 24 rfl rfl
theorem dksX0_keep_2 : cX0_keep.data.toList.drop 48 = dktX0_keep_2 := dk_seg dksX0_keep_1 24 rfl rfl
theorem dksX0_keep_3 : cX0_keep.data.toList.drop 71 = dktX0_keep_3 := dk_seg dksX0_keep_2 23 rfl rfl
theorem dksX0_keep_4 : cX0_keep.data.toList.drop 95 = dktX0_keep_4 := dk_seg dksX0_keep_3 24 rfl rfl
theorem dX0_keep_0 : decode cX0_keep 0 = .ok (.aload_n 0, 1) := dk_42 (dk_at dksX0_keep_0 0 rfl rfl)
theorem dX0_keep_1 : decode cX0_keep 1 = .ok (.getfield 168, 3) := dk_180 0 168 (dk_at dksX0_keep_0 1 rfl rfl)
theorem dX0_keep_4 : decode cX0_keep 4 = .ok (.bipush 24, 2) := dk_16 24 (dk_at dksX0_keep_0 4 rfl rfl)
theorem dX0_keep_6 : decode cX0_keep 6 = .ok (.if_icmp .ne 56, 3) := dk_160 0 56 (dk_at dksX0_keep_0 6 rfl rfl)
theorem dX0_keep_9 : decode cX0_keep 9 = .ok (.aload_n 0, 1) := dk_42 (dk_at dksX0_keep_0 9 rfl rfl)
theorem dX0_keep_10 : decode cX0_keep 10 = .ok (.getfield 53, 3) := dk_180 0 53 (dk_at dksX0_keep_0 10 rfl rfl)
theorem dX0_keep_13 : decode cX0_keep 13 = .ok (.iconst 0, 1) := dk_3 (dk_at dksX0_keep_0 13 rfl rfl)
theorem dX0_keep_14 : decode cX0_keep 14 = .ok (.aaload, 1) := dk_50 (dk_at dksX0_keep_0 14 rfl rfl)
theorem dX0_keep_15 : decode cX0_keep 15 = .ok (.astore_n 1, 1) := dk_76 (dk_at dksX0_keep_0 15 rfl rfl)
theorem dX0_keep_16 : decode cX0_keep 16 = .ok (.iconst 1, 1) := dk_4 (dk_at dksX0_keep_0 16 rfl rfl)
theorem dX0_keep_17 : decode cX0_keep 17 = .ok (.istore_n 2, 1) := dk_61 (dk_at dksX0_keep_0 17 rfl rfl)
theorem dX0_keep_18 : decode cX0_keep 18 = .ok (.iload_n 2, 1) := dk_28 (dk_at dksX0_keep_0 18 rfl rfl)
theorem dX0_keep_19 : decode cX0_keep 19 = .ok (.bipush 24, 2) := dk_16 24 (dk_at dksX0_keep_0 19 rfl rfl)
theorem dX0_keep_21 : decode cX0_keep 21 = .ok (.if_icmp .ge 23, 3) := dk_162 0 23 (dk_at dksX0_keep_0 21 rfl rfl)
theorem dX0_keep_24 : decode cX0_keep 24 = .ok (.aload_n 0, 1) := dk_42 (dk_at dksX0_keep_1 0 rfl rfl)
theorem dX0_keep_25 : decode cX0_keep 25 = .ok (.getfield 53, 3) := dk_180 0 53 (dk_at dksX0_keep_1 1 rfl rfl)
theorem dX0_keep_28 : decode cX0_keep 28 = .ok (.iload_n 2, 1) := dk_28 (dk_at dksX0_keep_1 4 rfl rfl)
theorem dX0_keep_29 : decode cX0_keep 29 = .ok (.iconst 1, 1) := dk_4 (dk_at dksX0_keep_1 5 rfl rfl)
theorem dX0_keep_30 : decode cX0_keep 30 = .ok (.isub, 1) := dk_100 (dk_at dksX0_keep_1 6 rfl rfl)
theorem dX0_keep_31 : decode cX0_keep 31 = .ok (.aload_n 0, 1) := dk_42 (dk_at dksX0_keep_1 7 rfl rfl)
theorem dX0_keep_32 : decode cX0_keep 32 = .ok (.getfield 53, 3) := dk_180 0 53 (dk_at dksX0_keep_1 8 rfl rfl)
theorem dX0_keep_35 : decode cX0_keep 35 = .ok (.iload_n 2, 1) := dk_28 (dk_at dksX0_keep_1 11 rfl rfl)
theorem dX0_keep_36 : decode cX0_keep 36 = .ok (.aaload, 1) := dk_50 (dk_at dksX0_keep_1 12 rfl rfl)
theorem dX0_keep_37 : decode cX0_keep 37 = .ok (.aastore, 1) := dk_83 (dk_at dksX0_keep_1 13 rfl rfl)
theorem dX0_keep_38 : decode cX0_keep 38 = .ok (.iinc 2 1, 3) := dk_132 2 1 (dk_at dksX0_keep_1 14 rfl rfl)
theorem dX0_keep_41 : decode cX0_keep 41 = .ok (.goto (-23), 3) := dk_167 255 233 (dk_at dksX0_keep_1 17 rfl rfl)
theorem dX0_keep_44 : decode cX0_keep 44 = .ok (.aload_n 0, 1) := dk_42 (dk_at dksX0_keep_1 20 rfl rfl)
theorem dX0_keep_45 : decode cX0_keep 45 = .ok (.getfield 53, 3) := dk_180 0 53 (dk_at dksX0_keep_1 21 rfl rfl)
theorem dX0_keep_48 : decode cX0_keep 48 = .ok (.bipush 23, 2) := dk_16 23 (dk_at dksX0_keep_2 0 rfl rfl)
theorem dX0_keep_50 : decode cX0_keep 50 = .ok (.aload_n 1, 1) := dk_43 (dk_at dksX0_keep_2 2 rfl rfl)
theorem dX0_keep_51 : decode cX0_keep 51 = .ok (.aastore, 1) := dk_83 (dk_at dksX0_keep_2 3 rfl rfl)
theorem dX0_keep_52 : decode cX0_keep 52 = .ok (.aload_n 0, 1) := dk_42 (dk_at dksX0_keep_2 4 rfl rfl)
theorem dX0_keep_53 : decode cX0_keep 53 = .ok (.dup, 1) := dk_89 (dk_at dksX0_keep_2 5 rfl rfl)
theorem dX0_keep_54 : decode cX0_keep 54 = .ok (.getfield 168, 3) := dk_180 0 168 (dk_at dksX0_keep_2 6 rfl rfl)
theorem dX0_keep_57 : decode cX0_keep 57 = .ok (.iconst 1, 1) := dk_4 (dk_at dksX0_keep_2 9 rfl rfl)
theorem dX0_keep_58 : decode cX0_keep 58 = .ok (.isub, 1) := dk_100 (dk_at dksX0_keep_2 10 rfl rfl)
theorem dX0_keep_59 : decode cX0_keep 59 = .ok (.putfield 168, 3) := dk_181 0 168 (dk_at dksX0_keep_2 11 rfl rfl)
theorem dX0_keep_62 : decode cX0_keep 62 = .ok (.aload_n 0, 1) := dk_42 (dk_at dksX0_keep_2 14 rfl rfl)
theorem dX0_keep_63 : decode cX0_keep 63 = .ok (.getfield 53, 3) := dk_180 0 53 (dk_at dksX0_keep_2 15 rfl rfl)
theorem dX0_keep_66 : decode cX0_keep 66 = .ok (.aload_n 0, 1) := dk_42 (dk_at dksX0_keep_2 18 rfl rfl)
theorem dX0_keep_67 : decode cX0_keep 67 = .ok (.getfield 168, 3) := dk_180 0 168 (dk_at dksX0_keep_2 19 rfl rfl)
theorem dX0_keep_70 : decode cX0_keep 70 = .ok (.aaload, 1) := dk_50 (dk_at dksX0_keep_2 22 rfl rfl)
theorem dX0_keep_71 : decode cX0_keep 71 = .ok (.ifnonnull 19, 3) := dk_199 0 19 (dk_at dksX0_keep_3 0 rfl rfl)
theorem dX0_keep_74 : decode cX0_keep 74 = .ok (.aload_n 0, 1) := dk_42 (dk_at dksX0_keep_3 3 rfl rfl)
theorem dX0_keep_75 : decode cX0_keep 75 = .ok (.getfield 53, 3) := dk_180 0 53 (dk_at dksX0_keep_3 4 rfl rfl)
theorem dX0_keep_78 : decode cX0_keep 78 = .ok (.aload_n 0, 1) := dk_42 (dk_at dksX0_keep_3 7 rfl rfl)
theorem dX0_keep_79 : decode cX0_keep 79 = .ok (.getfield 168, 3) := dk_180 0 168 (dk_at dksX0_keep_3 8 rfl rfl)
theorem dX0_keep_82 : decode cX0_keep 82 = .ok (.new 43, 3) := dk_187 0 43 (dk_at dksX0_keep_3 11 rfl rfl)
theorem dX0_keep_85 : decode cX0_keep 85 = .ok (.dup, 1) := dk_89 (dk_at dksX0_keep_3 14 rfl rfl)
theorem dX0_keep_86 : decode cX0_keep 86 = .ok (.invokespecial 45, 3) := dk_183 0 45 (dk_at dksX0_keep_3 15 rfl rfl)
theorem dX0_keep_89 : decode cX0_keep 89 = .ok (.aastore, 1) := dk_83 (dk_at dksX0_keep_3 18 rfl rfl)
theorem dX0_keep_90 : decode cX0_keep 90 = .ok (.aload_n 0, 1) := dk_42 (dk_at dksX0_keep_3 19 rfl rfl)
theorem dX0_keep_91 : decode cX0_keep 91 = .ok (.getfield 53, 3) := dk_180 0 53 (dk_at dksX0_keep_3 20 rfl rfl)
theorem dX0_keep_94 : decode cX0_keep 94 = .ok (.aload_n 0, 1) := dk_42 (dk_at dksX0_keep_3 23 rfl rfl)
theorem dX0_keep_95 : decode cX0_keep 95 = .ok (.getfield 168, 3) := dk_180 0 168 (dk_at dksX0_keep_4 0 rfl rfl)
theorem dX0_keep_98 : decode cX0_keep 98 = .ok (.aaload, 1) := dk_50 (dk_at dksX0_keep_4 3 rfl rfl)
theorem dX0_keep_99 : decode cX0_keep 99 = .ok (.aload_n 0, 1) := dk_42 (dk_at dksX0_keep_4 4 rfl rfl)
theorem dX0_keep_100 : decode cX0_keep 100 = .ok (.getfield 46, 3) := dk_180 0 46 (dk_at dksX0_keep_4 5 rfl rfl)
theorem dX0_keep_103 : decode cX0_keep 103 = .ok (.invokevirtual 164, 3) := dk_182 0 164 (dk_at dksX0_keep_4 8 rfl rfl)
theorem dX0_keep_106 : decode cX0_keep 106 = .ok (.pop, 1) := dk_87 (dk_at dksX0_keep_4 11 rfl rfl)
theorem dX0_keep_107 : decode cX0_keep 107 = .ok (.aload_n 0, 1) := dk_42 (dk_at dksX0_keep_4 12 rfl rfl)
theorem dX0_keep_108 : decode cX0_keep 108 = .ok (.dup, 1) := dk_89 (dk_at dksX0_keep_4 13 rfl rfl)
theorem dX0_keep_109 : decode cX0_keep 109 = .ok (.getfield 168, 3) := dk_180 0 168 (dk_at dksX0_keep_4 14 rfl rfl)
theorem dX0_keep_112 : decode cX0_keep 112 = .ok (.iconst 1, 1) := dk_4 (dk_at dksX0_keep_4 17 rfl rfl)
theorem dX0_keep_113 : decode cX0_keep 113 = .ok (.iadd, 1) := dk_96 (dk_at dksX0_keep_4 18 rfl rfl)
theorem dX0_keep_114 : decode cX0_keep 114 = .ok (.putfield 168, 3) := dk_181 0 168 (dk_at dksX0_keep_4 19 rfl rfl)
theorem dX0_keep_117 : decode cX0_keep 117 = .ok (.return_, 1) := dk_177 (dk_at dksX0_keep_4 22 rfl rfl)
abbrev cX0_speed : ByteArray := prog_1_method_25_code
def yX0_speed : MethodName := ⟨RX0, "speed", "(I)I"⟩
def dkwX0_speed_1 : List UInt8 := [172, 42, 182, 0, 187, 42, 180, 0, 46, 180, 0, 197, 61, 42, 180, 0, 46, 27, 181, 0, 197, 28, 172]
abbrev dktX0_speed_1 : List UInt8 := dkwX0_speed_1 ++ []
def dkwX0_speed_0 : List UInt8 := [42, 182, 0, 177, 154, 0, 6, 18, 181, 172, 27, 133, 9, 20, 0, 89, 184, 0, 81, 154, 0, 6, 18, 91]
abbrev dktX0_speed_0 : List UInt8 := dkwX0_speed_0 ++ dktX0_speed_1
theorem dksX0_speed_0 : cX0_speed.data.toList.drop 0 = dktX0_speed_0 := by decide +kernel
theorem dksX0_speed_1 : cX0_speed.data.toList.drop 24 = dktX0_speed_1 := dk_seg dksX0_speed_0 24 rfl rfl
theorem dX0_speed_0 : decode cX0_speed 0 = .ok (.aload_n 0, 1) := dk_42 (dk_at dksX0_speed_0 0 rfl rfl)
theorem dX0_speed_1 : decode cX0_speed 1 = .ok (.invokevirtual 177, 3) := dk_182 0 177 (dk_at dksX0_speed_0 1 rfl rfl)
theorem dX0_speed_4 : decode cX0_speed 4 = .ok (.ifCond .ne 6, 3) := dk_154 0 6 (dk_at dksX0_speed_0 4 rfl rfl)
theorem dX0_speed_7 : decode cX0_speed 7 = .ok (.ldc 181, 2) := dk_18 181 (dk_at dksX0_speed_0 7 rfl rfl)
theorem dX0_speed_9 : decode cX0_speed 9 = .ok (.ireturn, 1) := dk_172 (dk_at dksX0_speed_0 9 rfl rfl)
theorem dX0_speed_10 : decode cX0_speed 10 = .ok (.iload_n 1, 1) := dk_27 (dk_at dksX0_speed_0 10 rfl rfl)
theorem dX0_speed_11 : decode cX0_speed 11 = .ok (.i2l, 1) := dk_133 (dk_at dksX0_speed_0 11 rfl rfl)
theorem dX0_speed_12 : decode cX0_speed 12 = .ok (.lconst 0, 1) := dk_9 (dk_at dksX0_speed_0 12 rfl rfl)
theorem dX0_speed_13 : decode cX0_speed 13 = .ok (.ldc2_w 89, 3) := dk_20 0 89 (dk_at dksX0_speed_0 13 rfl rfl)
theorem dX0_speed_16 : decode cX0_speed 16 = .ok (.invokestatic 81, 3) := dk_184 0 81 (dk_at dksX0_speed_0 16 rfl rfl)
theorem dX0_speed_19 : decode cX0_speed 19 = .ok (.ifCond .ne 6, 3) := dk_154 0 6 (dk_at dksX0_speed_0 19 rfl rfl)
theorem dX0_speed_22 : decode cX0_speed 22 = .ok (.ldc 91, 2) := dk_18 91 (dk_at dksX0_speed_0 22 rfl rfl)
theorem dX0_speed_24 : decode cX0_speed 24 = .ok (.ireturn, 1) := dk_172 (dk_at dksX0_speed_1 0 rfl rfl)
theorem dX0_speed_25 : decode cX0_speed 25 = .ok (.aload_n 0, 1) := dk_42 (dk_at dksX0_speed_1 1 rfl rfl)
theorem dX0_speed_26 : decode cX0_speed 26 = .ok (.invokevirtual 187, 3) := dk_182 0 187 (dk_at dksX0_speed_1 2 rfl rfl)
theorem dX0_speed_29 : decode cX0_speed 29 = .ok (.aload_n 0, 1) := dk_42 (dk_at dksX0_speed_1 5 rfl rfl)
theorem dX0_speed_30 : decode cX0_speed 30 = .ok (.getfield 46, 3) := dk_180 0 46 (dk_at dksX0_speed_1 6 rfl rfl)
theorem dX0_speed_33 : decode cX0_speed 33 = .ok (.getfield 197, 3) := dk_180 0 197 (dk_at dksX0_speed_1 9 rfl rfl)
theorem dX0_speed_36 : decode cX0_speed 36 = .ok (.istore_n 2, 1) := dk_61 (dk_at dksX0_speed_1 12 rfl rfl)
theorem dX0_speed_37 : decode cX0_speed 37 = .ok (.aload_n 0, 1) := dk_42 (dk_at dksX0_speed_1 13 rfl rfl)
theorem dX0_speed_38 : decode cX0_speed 38 = .ok (.getfield 46, 3) := dk_180 0 46 (dk_at dksX0_speed_1 14 rfl rfl)
theorem dX0_speed_41 : decode cX0_speed 41 = .ok (.iload_n 1, 1) := dk_27 (dk_at dksX0_speed_1 17 rfl rfl)
theorem dX0_speed_42 : decode cX0_speed 42 = .ok (.putfield 197, 3) := dk_181 0 197 (dk_at dksX0_speed_1 18 rfl rfl)
theorem dX0_speed_45 : decode cX0_speed 45 = .ok (.iload_n 2, 1) := dk_28 (dk_at dksX0_speed_1 21 rfl rfl)
theorem dX0_speed_46 : decode cX0_speed 46 = .ok (.ireturn, 1) := dk_172 (dk_at dksX0_speed_1 22 rfl rfl)
abbrev cX0_cross : ByteArray := prog_1_method_26_code
def yX0_cross : MethodName := ⟨RX0, "cross", "(I)I"⟩
def dkwX0_cross_3 : List UInt8 := [42, 182, 0, 187, 42, 180, 0, 46, 180, 0, 203, 27, 28, 79, 28, 172]
abbrev dktX0_cross_3 : List UInt8 := dkwX0_cross_3 ++ []
def dkwX0_cross_2 : List UInt8 := [42, 180, 0, 46, 27, 42, 180, 0, 46, 180, 0, 206, 27, 46, 28, 182, 0, 212, 154, 0, 6, 18, 181, 172]
abbrev dktX0_cross_2 : List UInt8 := dkwX0_cross_2 ++ dktX0_cross_3
def dkwX0_cross_1 : List UInt8 := [180, 0, 46, 180, 0, 206, 27, 46, 16, 99, 159, 0, 35, 42, 180, 0, 46, 27, 182, 0, 209, 153, 0, 27]
abbrev dktX0_cross_1 : List UInt8 := dkwX0_cross_1 ++ dktX0_cross_2
def dkwX0_cross_0 : List UInt8 := [42, 27, 182, 0, 200, 154, 0, 6, 18, 91, 172, 4, 42, 180, 0, 46, 180, 0, 203, 27, 46, 100, 61, 42]
abbrev dktX0_cross_0 : List UInt8 := dkwX0_cross_0 ++ dktX0_cross_1
theorem dksX0_cross_0 : cX0_cross.data.toList.drop 0 = dktX0_cross_0 := by decide +kernel
theorem dksX0_cross_1 : cX0_cross.data.toList.drop 24 = dktX0_cross_1 := dk_seg dksX0_cross_0 24 rfl rfl
theorem dksX0_cross_2 : cX0_cross.data.toList.drop 48 = dktX0_cross_2 := dk_seg dksX0_cross_1 24 rfl rfl
theorem dksX0_cross_3 : cX0_cross.data.toList.drop 72 = dktX0_cross_3 := dk_seg dksX0_cross_2 24 rfl rfl
theorem dX0_cross_0 : decode cX0_cross 0 = .ok (.aload_n 0, 1) := dk_42 (dk_at dksX0_cross_0 0 rfl rfl)
theorem dX0_cross_1 : decode cX0_cross 1 = .ok (.iload_n 1, 1) := dk_27 (dk_at dksX0_cross_0 1 rfl rfl)
theorem dX0_cross_2 : decode cX0_cross 2 = .ok (.invokevirtual 200, 3) := dk_182 0 200 (dk_at dksX0_cross_0 2 rfl rfl)
theorem dX0_cross_5 : decode cX0_cross 5 = .ok (.ifCond .ne 6, 3) := dk_154 0 6 (dk_at dksX0_cross_0 5 rfl rfl)
theorem dX0_cross_8 : decode cX0_cross 8 = .ok (.ldc 91, 2) := dk_18 91 (dk_at dksX0_cross_0 8 rfl rfl)
theorem dX0_cross_10 : decode cX0_cross 10 = .ok (.ireturn, 1) := dk_172 (dk_at dksX0_cross_0 10 rfl rfl)
theorem dX0_cross_11 : decode cX0_cross 11 = .ok (.iconst 1, 1) := dk_4 (dk_at dksX0_cross_0 11 rfl rfl)
theorem dX0_cross_12 : decode cX0_cross 12 = .ok (.aload_n 0, 1) := dk_42 (dk_at dksX0_cross_0 12 rfl rfl)
theorem dX0_cross_13 : decode cX0_cross 13 = .ok (.getfield 46, 3) := dk_180 0 46 (dk_at dksX0_cross_0 13 rfl rfl)
theorem dX0_cross_16 : decode cX0_cross 16 = .ok (.getfield 203, 3) := dk_180 0 203 (dk_at dksX0_cross_0 16 rfl rfl)
theorem dX0_cross_19 : decode cX0_cross 19 = .ok (.iload_n 1, 1) := dk_27 (dk_at dksX0_cross_0 19 rfl rfl)
theorem dX0_cross_20 : decode cX0_cross 20 = .ok (.iaload, 1) := dk_46 (dk_at dksX0_cross_0 20 rfl rfl)
theorem dX0_cross_21 : decode cX0_cross 21 = .ok (.isub, 1) := dk_100 (dk_at dksX0_cross_0 21 rfl rfl)
theorem dX0_cross_22 : decode cX0_cross 22 = .ok (.istore_n 2, 1) := dk_61 (dk_at dksX0_cross_0 22 rfl rfl)
theorem dX0_cross_23 : decode cX0_cross 23 = .ok (.aload_n 0, 1) := dk_42 (dk_at dksX0_cross_0 23 rfl rfl)
theorem dX0_cross_24 : decode cX0_cross 24 = .ok (.getfield 46, 3) := dk_180 0 46 (dk_at dksX0_cross_1 0 rfl rfl)
theorem dX0_cross_27 : decode cX0_cross 27 = .ok (.getfield 206, 3) := dk_180 0 206 (dk_at dksX0_cross_1 3 rfl rfl)
theorem dX0_cross_30 : decode cX0_cross 30 = .ok (.iload_n 1, 1) := dk_27 (dk_at dksX0_cross_1 6 rfl rfl)
theorem dX0_cross_31 : decode cX0_cross 31 = .ok (.iaload, 1) := dk_46 (dk_at dksX0_cross_1 7 rfl rfl)
theorem dX0_cross_32 : decode cX0_cross 32 = .ok (.bipush 99, 2) := dk_16 99 (dk_at dksX0_cross_1 8 rfl rfl)
theorem dX0_cross_34 : decode cX0_cross 34 = .ok (.if_icmp .eq 35, 3) := dk_159 0 35 (dk_at dksX0_cross_1 10 rfl rfl)
theorem dX0_cross_37 : decode cX0_cross 37 = .ok (.aload_n 0, 1) := dk_42 (dk_at dksX0_cross_1 13 rfl rfl)
theorem dX0_cross_38 : decode cX0_cross 38 = .ok (.getfield 46, 3) := dk_180 0 46 (dk_at dksX0_cross_1 14 rfl rfl)
theorem dX0_cross_41 : decode cX0_cross 41 = .ok (.iload_n 1, 1) := dk_27 (dk_at dksX0_cross_1 17 rfl rfl)
theorem dX0_cross_42 : decode cX0_cross 42 = .ok (.invokevirtual 209, 3) := dk_182 0 209 (dk_at dksX0_cross_1 18 rfl rfl)
theorem dX0_cross_45 : decode cX0_cross 45 = .ok (.ifCond .eq 27, 3) := dk_153 0 27 (dk_at dksX0_cross_1 21 rfl rfl)
theorem dX0_cross_48 : decode cX0_cross 48 = .ok (.aload_n 0, 1) := dk_42 (dk_at dksX0_cross_2 0 rfl rfl)
theorem dX0_cross_49 : decode cX0_cross 49 = .ok (.getfield 46, 3) := dk_180 0 46 (dk_at dksX0_cross_2 1 rfl rfl)
theorem dX0_cross_52 : decode cX0_cross 52 = .ok (.iload_n 1, 1) := dk_27 (dk_at dksX0_cross_2 4 rfl rfl)
theorem dX0_cross_53 : decode cX0_cross 53 = .ok (.aload_n 0, 1) := dk_42 (dk_at dksX0_cross_2 5 rfl rfl)
theorem dX0_cross_54 : decode cX0_cross 54 = .ok (.getfield 46, 3) := dk_180 0 46 (dk_at dksX0_cross_2 6 rfl rfl)
theorem dX0_cross_57 : decode cX0_cross 57 = .ok (.getfield 206, 3) := dk_180 0 206 (dk_at dksX0_cross_2 9 rfl rfl)
theorem dX0_cross_60 : decode cX0_cross 60 = .ok (.iload_n 1, 1) := dk_27 (dk_at dksX0_cross_2 12 rfl rfl)
theorem dX0_cross_61 : decode cX0_cross 61 = .ok (.iaload, 1) := dk_46 (dk_at dksX0_cross_2 13 rfl rfl)
theorem dX0_cross_62 : decode cX0_cross 62 = .ok (.iload_n 2, 1) := dk_28 (dk_at dksX0_cross_2 14 rfl rfl)
theorem dX0_cross_63 : decode cX0_cross 63 = .ok (.invokevirtual 212, 3) := dk_182 0 212 (dk_at dksX0_cross_2 15 rfl rfl)
theorem dX0_cross_66 : decode cX0_cross 66 = .ok (.ifCond .ne 6, 3) := dk_154 0 6 (dk_at dksX0_cross_2 18 rfl rfl)
theorem dX0_cross_69 : decode cX0_cross 69 = .ok (.ldc 181, 2) := dk_18 181 (dk_at dksX0_cross_2 21 rfl rfl)
theorem dX0_cross_71 : decode cX0_cross 71 = .ok (.ireturn, 1) := dk_172 (dk_at dksX0_cross_2 23 rfl rfl)
theorem dX0_cross_72 : decode cX0_cross 72 = .ok (.aload_n 0, 1) := dk_42 (dk_at dksX0_cross_3 0 rfl rfl)
theorem dX0_cross_73 : decode cX0_cross 73 = .ok (.invokevirtual 187, 3) := dk_182 0 187 (dk_at dksX0_cross_3 1 rfl rfl)
theorem dX0_cross_76 : decode cX0_cross 76 = .ok (.aload_n 0, 1) := dk_42 (dk_at dksX0_cross_3 4 rfl rfl)
theorem dX0_cross_77 : decode cX0_cross 77 = .ok (.getfield 46, 3) := dk_180 0 46 (dk_at dksX0_cross_3 5 rfl rfl)
theorem dX0_cross_80 : decode cX0_cross 80 = .ok (.getfield 203, 3) := dk_180 0 203 (dk_at dksX0_cross_3 8 rfl rfl)
theorem dX0_cross_83 : decode cX0_cross 83 = .ok (.iload_n 1, 1) := dk_27 (dk_at dksX0_cross_3 11 rfl rfl)
theorem dX0_cross_84 : decode cX0_cross 84 = .ok (.iload_n 2, 1) := dk_28 (dk_at dksX0_cross_3 12 rfl rfl)
theorem dX0_cross_85 : decode cX0_cross 85 = .ok (.iastore, 1) := dk_79 (dk_at dksX0_cross_3 13 rfl rfl)
theorem dX0_cross_86 : decode cX0_cross 86 = .ok (.iload_n 2, 1) := dk_28 (dk_at dksX0_cross_3 14 rfl rfl)
theorem dX0_cross_87 : decode cX0_cross 87 = .ok (.ireturn, 1) := dk_172 (dk_at dksX0_cross_3 15 rfl rfl)
abbrev cX0_isRider : ByteArray := prog_1_method_20_code
def yX0_isRider : MethodName := ⟨RX0, "isRider", "(I)Z"⟩
def dkwX0_isRider_0 : List UInt8 := [27, 133, 9, 42, 180, 0, 46, 182, 0, 171, 4, 100, 133, 184, 0, 81, 172]
abbrev dktX0_isRider_0 : List UInt8 := dkwX0_isRider_0 ++ []
theorem dksX0_isRider_0 : cX0_isRider.data.toList.drop 0 = dktX0_isRider_0 := by decide +kernel
theorem dX0_isRider_0 : decode cX0_isRider 0 = .ok (.iload_n 1, 1) := dk_27 (dk_at dksX0_isRider_0 0 rfl rfl)
theorem dX0_isRider_1 : decode cX0_isRider 1 = .ok (.i2l, 1) := dk_133 (dk_at dksX0_isRider_0 1 rfl rfl)
theorem dX0_isRider_2 : decode cX0_isRider 2 = .ok (.lconst 0, 1) := dk_9 (dk_at dksX0_isRider_0 2 rfl rfl)
theorem dX0_isRider_3 : decode cX0_isRider 3 = .ok (.aload_n 0, 1) := dk_42 (dk_at dksX0_isRider_0 3 rfl rfl)
theorem dX0_isRider_4 : decode cX0_isRider 4 = .ok (.getfield 46, 3) := dk_180 0 46 (dk_at dksX0_isRider_0 4 rfl rfl)
theorem dX0_isRider_7 : decode cX0_isRider 7 = .ok (.invokevirtual 171, 3) := dk_182 0 171 (dk_at dksX0_isRider_0 7 rfl rfl)
theorem dX0_isRider_10 : decode cX0_isRider 10 = .ok (.iconst 1, 1) := dk_4 (dk_at dksX0_isRider_0 10 rfl rfl)
theorem dX0_isRider_11 : decode cX0_isRider 11 = .ok (.isub, 1) := dk_100 (dk_at dksX0_isRider_0 11 rfl rfl)
theorem dX0_isRider_12 : decode cX0_isRider 12 = .ok (.i2l, 1) := dk_133 (dk_at dksX0_isRider_0 12 rfl rfl)
theorem dX0_isRider_13 : decode cX0_isRider 13 = .ok (.invokestatic 81, 3) := dk_184 0 81 (dk_at dksX0_isRider_0 13 rfl rfl)
theorem dX0_isRider_16 : decode cX0_isRider 16 = .ok (.ireturn, 1) := dk_172 (dk_at dksX0_isRider_0 16 rfl rfl)
abbrev cX0_take : ByteArray := prog_1_method_27_code
def yX0_take : MethodName := ⟨RX0, "take", "(I)I"⟩
def dkwX0_take_1 : List UInt8 := [160, 0, 6, 18, 181, 172, 42, 182, 0, 187, 42, 180, 0, 46, 180, 0, 206, 27, 16, 99, 79, 28, 172]
abbrev dktX0_take_1 : List UInt8 := dkwX0_take_1 ++ []
def dkwX0_take_0 : List UInt8 := [42, 27, 182, 0, 200, 154, 0, 6, 18, 91, 172, 42, 180, 0, 46, 180, 0, 206, 27, 46, 61, 28, 16, 99]
abbrev dktX0_take_0 : List UInt8 := dkwX0_take_0 ++ dktX0_take_1
theorem dksX0_take_0 : cX0_take.data.toList.drop 0 = dktX0_take_0 := by decide +kernel
theorem dksX0_take_1 : cX0_take.data.toList.drop 24 = dktX0_take_1 := dk_seg dksX0_take_0 24 rfl rfl
theorem dX0_take_0 : decode cX0_take 0 = .ok (.aload_n 0, 1) := dk_42 (dk_at dksX0_take_0 0 rfl rfl)
theorem dX0_take_1 : decode cX0_take 1 = .ok (.iload_n 1, 1) := dk_27 (dk_at dksX0_take_0 1 rfl rfl)
theorem dX0_take_2 : decode cX0_take 2 = .ok (.invokevirtual 200, 3) := dk_182 0 200 (dk_at dksX0_take_0 2 rfl rfl)
theorem dX0_take_5 : decode cX0_take 5 = .ok (.ifCond .ne 6, 3) := dk_154 0 6 (dk_at dksX0_take_0 5 rfl rfl)
theorem dX0_take_8 : decode cX0_take 8 = .ok (.ldc 91, 2) := dk_18 91 (dk_at dksX0_take_0 8 rfl rfl)
theorem dX0_take_10 : decode cX0_take 10 = .ok (.ireturn, 1) := dk_172 (dk_at dksX0_take_0 10 rfl rfl)
theorem dX0_take_11 : decode cX0_take 11 = .ok (.aload_n 0, 1) := dk_42 (dk_at dksX0_take_0 11 rfl rfl)
theorem dX0_take_12 : decode cX0_take 12 = .ok (.getfield 46, 3) := dk_180 0 46 (dk_at dksX0_take_0 12 rfl rfl)
theorem dX0_take_15 : decode cX0_take 15 = .ok (.getfield 206, 3) := dk_180 0 206 (dk_at dksX0_take_0 15 rfl rfl)
theorem dX0_take_18 : decode cX0_take 18 = .ok (.iload_n 1, 1) := dk_27 (dk_at dksX0_take_0 18 rfl rfl)
theorem dX0_take_19 : decode cX0_take 19 = .ok (.iaload, 1) := dk_46 (dk_at dksX0_take_0 19 rfl rfl)
theorem dX0_take_20 : decode cX0_take 20 = .ok (.istore_n 2, 1) := dk_61 (dk_at dksX0_take_0 20 rfl rfl)
theorem dX0_take_21 : decode cX0_take 21 = .ok (.iload_n 2, 1) := dk_28 (dk_at dksX0_take_0 21 rfl rfl)
theorem dX0_take_22 : decode cX0_take 22 = .ok (.bipush 99, 2) := dk_16 99 (dk_at dksX0_take_0 22 rfl rfl)
theorem dX0_take_24 : decode cX0_take 24 = .ok (.if_icmp .ne 6, 3) := dk_160 0 6 (dk_at dksX0_take_1 0 rfl rfl)
theorem dX0_take_27 : decode cX0_take 27 = .ok (.ldc 181, 2) := dk_18 181 (dk_at dksX0_take_1 3 rfl rfl)
theorem dX0_take_29 : decode cX0_take 29 = .ok (.ireturn, 1) := dk_172 (dk_at dksX0_take_1 5 rfl rfl)
theorem dX0_take_30 : decode cX0_take 30 = .ok (.aload_n 0, 1) := dk_42 (dk_at dksX0_take_1 6 rfl rfl)
theorem dX0_take_31 : decode cX0_take 31 = .ok (.invokevirtual 187, 3) := dk_182 0 187 (dk_at dksX0_take_1 7 rfl rfl)
theorem dX0_take_34 : decode cX0_take 34 = .ok (.aload_n 0, 1) := dk_42 (dk_at dksX0_take_1 10 rfl rfl)
theorem dX0_take_35 : decode cX0_take 35 = .ok (.getfield 46, 3) := dk_180 0 46 (dk_at dksX0_take_1 11 rfl rfl)
theorem dX0_take_38 : decode cX0_take 38 = .ok (.getfield 206, 3) := dk_180 0 206 (dk_at dksX0_take_1 14 rfl rfl)
theorem dX0_take_41 : decode cX0_take 41 = .ok (.iload_n 1, 1) := dk_27 (dk_at dksX0_take_1 17 rfl rfl)
theorem dX0_take_42 : decode cX0_take 42 = .ok (.bipush 99, 2) := dk_16 99 (dk_at dksX0_take_1 18 rfl rfl)
theorem dX0_take_44 : decode cX0_take 44 = .ok (.iastore, 1) := dk_79 (dk_at dksX0_take_1 20 rfl rfl)
theorem dX0_take_45 : decode cX0_take 45 = .ok (.iload_n 2, 1) := dk_28 (dk_at dksX0_take_1 21 rfl rfl)
theorem dX0_take_46 : decode cX0_take 46 = .ok (.ireturn, 1) := dk_172 (dk_at dksX0_take_1 22 rfl rfl)
abbrev cX0_again : ByteArray := prog_1_method_28_code
def yX0_again : MethodName := ⟨RX0, "again", "(II)I"⟩
def dkwX0_again_2 : List UInt8 := [27, 2, 79, 42, 180, 0, 46, 180, 0, 203, 27, 28, 79, 42, 180, 0, 46, 182, 0, 194, 172]
abbrev dktX0_again_2 : List UInt8 := dkwX0_again_2 ++ []
def dkwX0_again_1 : List UInt8 := [180, 0, 206, 27, 46, 16, 99, 159, 0, 6, 18, 181, 172, 42, 182, 0, 187, 42, 180, 0, 46, 180, 0, 206]
abbrev dktX0_again_1 : List UInt8 := dkwX0_again_1 ++ dktX0_again_2
def dkwX0_again_0 : List UInt8 := [42, 27, 182, 0, 200, 153, 0, 10, 28, 184, 0, 216, 154, 0, 6, 18, 91, 172, 42, 180, 0, 46]
abbrev dktX0_again_0 : List UInt8 := dkwX0_again_0 ++ dktX0_again_1
theorem dksX0_again_0 : cX0_again.data.toList.drop 0 = dktX0_again_0 := by decide +kernel
theorem dksX0_again_1 : cX0_again.data.toList.drop 22 = dktX0_again_1 := dk_seg dksX0_again_0 22 rfl rfl
theorem dksX0_again_2 : cX0_again.data.toList.drop 46 = dktX0_again_2 := dk_seg dksX0_again_1 24 rfl rfl
theorem dX0_again_0 : decode cX0_again 0 = .ok (.aload_n 0, 1) := dk_42 (dk_at dksX0_again_0 0 rfl rfl)
theorem dX0_again_1 : decode cX0_again 1 = .ok (.iload_n 1, 1) := dk_27 (dk_at dksX0_again_0 1 rfl rfl)
theorem dX0_again_2 : decode cX0_again 2 = .ok (.invokevirtual 200, 3) := dk_182 0 200 (dk_at dksX0_again_0 2 rfl rfl)
theorem dX0_again_5 : decode cX0_again 5 = .ok (.ifCond .eq 10, 3) := dk_153 0 10 (dk_at dksX0_again_0 5 rfl rfl)
theorem dX0_again_8 : decode cX0_again 8 = .ok (.iload_n 2, 1) := dk_28 (dk_at dksX0_again_0 8 rfl rfl)
theorem dX0_again_9 : decode cX0_again 9 = .ok (.invokestatic 216, 3) := dk_184 0 216 (dk_at dksX0_again_0 9 rfl rfl)
theorem dX0_again_12 : decode cX0_again 12 = .ok (.ifCond .ne 6, 3) := dk_154 0 6 (dk_at dksX0_again_0 12 rfl rfl)
theorem dX0_again_15 : decode cX0_again 15 = .ok (.ldc 91, 2) := dk_18 91 (dk_at dksX0_again_0 15 rfl rfl)
theorem dX0_again_17 : decode cX0_again 17 = .ok (.ireturn, 1) := dk_172 (dk_at dksX0_again_0 17 rfl rfl)
theorem dX0_again_18 : decode cX0_again 18 = .ok (.aload_n 0, 1) := dk_42 (dk_at dksX0_again_0 18 rfl rfl)
theorem dX0_again_19 : decode cX0_again 19 = .ok (.getfield 46, 3) := dk_180 0 46 (dk_at dksX0_again_0 19 rfl rfl)
theorem dX0_again_22 : decode cX0_again 22 = .ok (.getfield 206, 3) := dk_180 0 206 (dk_at dksX0_again_1 0 rfl rfl)
theorem dX0_again_25 : decode cX0_again 25 = .ok (.iload_n 1, 1) := dk_27 (dk_at dksX0_again_1 3 rfl rfl)
theorem dX0_again_26 : decode cX0_again 26 = .ok (.iaload, 1) := dk_46 (dk_at dksX0_again_1 4 rfl rfl)
theorem dX0_again_27 : decode cX0_again 27 = .ok (.bipush 99, 2) := dk_16 99 (dk_at dksX0_again_1 5 rfl rfl)
theorem dX0_again_29 : decode cX0_again 29 = .ok (.if_icmp .eq 6, 3) := dk_159 0 6 (dk_at dksX0_again_1 7 rfl rfl)
theorem dX0_again_32 : decode cX0_again 32 = .ok (.ldc 181, 2) := dk_18 181 (dk_at dksX0_again_1 10 rfl rfl)
theorem dX0_again_34 : decode cX0_again 34 = .ok (.ireturn, 1) := dk_172 (dk_at dksX0_again_1 12 rfl rfl)
theorem dX0_again_35 : decode cX0_again 35 = .ok (.aload_n 0, 1) := dk_42 (dk_at dksX0_again_1 13 rfl rfl)
theorem dX0_again_36 : decode cX0_again 36 = .ok (.invokevirtual 187, 3) := dk_182 0 187 (dk_at dksX0_again_1 14 rfl rfl)
theorem dX0_again_39 : decode cX0_again 39 = .ok (.aload_n 0, 1) := dk_42 (dk_at dksX0_again_1 17 rfl rfl)
theorem dX0_again_40 : decode cX0_again 40 = .ok (.getfield 46, 3) := dk_180 0 46 (dk_at dksX0_again_1 18 rfl rfl)
theorem dX0_again_43 : decode cX0_again 43 = .ok (.getfield 206, 3) := dk_180 0 206 (dk_at dksX0_again_1 21 rfl rfl)
theorem dX0_again_46 : decode cX0_again 46 = .ok (.iload_n 1, 1) := dk_27 (dk_at dksX0_again_2 0 rfl rfl)
theorem dX0_again_47 : decode cX0_again 47 = .ok (.iconst (-1), 1) := dk_2 (dk_at dksX0_again_2 1 rfl rfl)
theorem dX0_again_48 : decode cX0_again 48 = .ok (.iastore, 1) := dk_79 (dk_at dksX0_again_2 2 rfl rfl)
theorem dX0_again_49 : decode cX0_again 49 = .ok (.aload_n 0, 1) := dk_42 (dk_at dksX0_again_2 3 rfl rfl)
theorem dX0_again_50 : decode cX0_again 50 = .ok (.getfield 46, 3) := dk_180 0 46 (dk_at dksX0_again_2 4 rfl rfl)
theorem dX0_again_53 : decode cX0_again 53 = .ok (.getfield 203, 3) := dk_180 0 203 (dk_at dksX0_again_2 7 rfl rfl)
theorem dX0_again_56 : decode cX0_again 56 = .ok (.iload_n 1, 1) := dk_27 (dk_at dksX0_again_2 10 rfl rfl)
theorem dX0_again_57 : decode cX0_again 57 = .ok (.iload_n 2, 1) := dk_28 (dk_at dksX0_again_2 11 rfl rfl)
theorem dX0_again_58 : decode cX0_again 58 = .ok (.iastore, 1) := dk_79 (dk_at dksX0_again_2 12 rfl rfl)
theorem dX0_again_59 : decode cX0_again 59 = .ok (.aload_n 0, 1) := dk_42 (dk_at dksX0_again_2 13 rfl rfl)
theorem dX0_again_60 : decode cX0_again 60 = .ok (.getfield 46, 3) := dk_180 0 46 (dk_at dksX0_again_2 14 rfl rfl)
theorem dX0_again_63 : decode cX0_again 63 = .ok (.invokevirtual 194, 3) := dk_182 0 194 (dk_at dksX0_again_2 17 rfl rfl)
theorem dX0_again_66 : decode cX0_again 66 = .ok (.ireturn, 1) := dk_172 (dk_at dksX0_again_2 20 rfl rfl)
abbrev cX0_isHalf : ByteArray := prog_1_method_22_code
def yX0_isHalf : MethodName := ⟨RX0, "isHalf", "(I)Z"⟩
def dkwX0_isHalf_0 : List UInt8 := [26, 133, 9, 10, 184, 0, 81, 172]
abbrev dktX0_isHalf_0 : List UInt8 := dkwX0_isHalf_0 ++ []
theorem dksX0_isHalf_0 : cX0_isHalf.data.toList.drop 0 = dktX0_isHalf_0 := by decide +kernel
theorem dX0_isHalf_0 : decode cX0_isHalf 0 = .ok (.iload_n 0, 1) := dk_26 (dk_at dksX0_isHalf_0 0 rfl rfl)
theorem dX0_isHalf_1 : decode cX0_isHalf 1 = .ok (.i2l, 1) := dk_133 (dk_at dksX0_isHalf_0 1 rfl rfl)
theorem dX0_isHalf_2 : decode cX0_isHalf 2 = .ok (.lconst 0, 1) := dk_9 (dk_at dksX0_isHalf_0 2 rfl rfl)
theorem dX0_isHalf_3 : decode cX0_isHalf 3 = .ok (.lconst 1, 1) := dk_10 (dk_at dksX0_isHalf_0 3 rfl rfl)
theorem dX0_isHalf_4 : decode cX0_isHalf 4 = .ok (.invokestatic 81, 3) := dk_184 0 81 (dk_at dksX0_isHalf_0 4 rfl rfl)
theorem dX0_isHalf_7 : decode cX0_isHalf 7 = .ok (.ireturn, 1) := dk_172 (dk_at dksX0_isHalf_0 7 rfl rfl)
abbrev cX0_undo : ByteArray := prog_1_method_29_code
def yX0_undo : MethodName := ⟨RX0, "undo", "()I"⟩
def dkwX0_undo_1 : List UInt8 := [42, 180, 0, 53, 42, 180, 0, 168, 50, 182, 0, 164, 87, 42, 180, 0, 168, 172]
abbrev dktX0_undo_1 : List UInt8 := dkwX0_undo_1 ++ []
def dkwX0_undo_0 : List UInt8 := [42, 180, 0, 168, 154, 0, 6, 18, 181, 172, 42, 89, 180, 0, 168, 4, 100, 181, 0, 168, 42, 180, 0, 46]
abbrev dktX0_undo_0 : List UInt8 := dkwX0_undo_0 ++ dktX0_undo_1
theorem dksX0_undo_0 : cX0_undo.data.toList.drop 0 = dktX0_undo_0 := by decide +kernel
theorem dksX0_undo_1 : cX0_undo.data.toList.drop 24 = dktX0_undo_1 := dk_seg dksX0_undo_0 24 rfl rfl
theorem dX0_undo_0 : decode cX0_undo 0 = .ok (.aload_n 0, 1) := dk_42 (dk_at dksX0_undo_0 0 rfl rfl)
theorem dX0_undo_1 : decode cX0_undo 1 = .ok (.getfield 168, 3) := dk_180 0 168 (dk_at dksX0_undo_0 1 rfl rfl)
theorem dX0_undo_4 : decode cX0_undo 4 = .ok (.ifCond .ne 6, 3) := dk_154 0 6 (dk_at dksX0_undo_0 4 rfl rfl)
theorem dX0_undo_7 : decode cX0_undo 7 = .ok (.ldc 181, 2) := dk_18 181 (dk_at dksX0_undo_0 7 rfl rfl)
theorem dX0_undo_9 : decode cX0_undo 9 = .ok (.ireturn, 1) := dk_172 (dk_at dksX0_undo_0 9 rfl rfl)
theorem dX0_undo_10 : decode cX0_undo 10 = .ok (.aload_n 0, 1) := dk_42 (dk_at dksX0_undo_0 10 rfl rfl)
theorem dX0_undo_11 : decode cX0_undo 11 = .ok (.dup, 1) := dk_89 (dk_at dksX0_undo_0 11 rfl rfl)
theorem dX0_undo_12 : decode cX0_undo 12 = .ok (.getfield 168, 3) := dk_180 0 168 (dk_at dksX0_undo_0 12 rfl rfl)
theorem dX0_undo_15 : decode cX0_undo 15 = .ok (.iconst 1, 1) := dk_4 (dk_at dksX0_undo_0 15 rfl rfl)
theorem dX0_undo_16 : decode cX0_undo 16 = .ok (.isub, 1) := dk_100 (dk_at dksX0_undo_0 16 rfl rfl)
theorem dX0_undo_17 : decode cX0_undo 17 = .ok (.putfield 168, 3) := dk_181 0 168 (dk_at dksX0_undo_0 17 rfl rfl)
theorem dX0_undo_20 : decode cX0_undo 20 = .ok (.aload_n 0, 1) := dk_42 (dk_at dksX0_undo_0 20 rfl rfl)
theorem dX0_undo_21 : decode cX0_undo 21 = .ok (.getfield 46, 3) := dk_180 0 46 (dk_at dksX0_undo_0 21 rfl rfl)
theorem dX0_undo_24 : decode cX0_undo 24 = .ok (.aload_n 0, 1) := dk_42 (dk_at dksX0_undo_1 0 rfl rfl)
theorem dX0_undo_25 : decode cX0_undo 25 = .ok (.getfield 53, 3) := dk_180 0 53 (dk_at dksX0_undo_1 1 rfl rfl)
theorem dX0_undo_28 : decode cX0_undo 28 = .ok (.aload_n 0, 1) := dk_42 (dk_at dksX0_undo_1 4 rfl rfl)
theorem dX0_undo_29 : decode cX0_undo 29 = .ok (.getfield 168, 3) := dk_180 0 168 (dk_at dksX0_undo_1 5 rfl rfl)
theorem dX0_undo_32 : decode cX0_undo 32 = .ok (.aaload, 1) := dk_50 (dk_at dksX0_undo_1 8 rfl rfl)
theorem dX0_undo_33 : decode cX0_undo 33 = .ok (.invokevirtual 164, 3) := dk_182 0 164 (dk_at dksX0_undo_1 9 rfl rfl)
theorem dX0_undo_36 : decode cX0_undo 36 = .ok (.pop, 1) := dk_87 (dk_at dksX0_undo_1 12 rfl rfl)
theorem dX0_undo_37 : decode cX0_undo 37 = .ok (.aload_n 0, 1) := dk_42 (dk_at dksX0_undo_1 13 rfl rfl)
theorem dX0_undo_38 : decode cX0_undo 38 = .ok (.getfield 168, 3) := dk_180 0 168 (dk_at dksX0_undo_1 14 rfl rfl)
theorem dX0_undo_41 : decode cX0_undo 41 = .ok (.ireturn, 1) := dk_172 (dk_at dksX0_undo_1 17 rfl rfl)
abbrev cX0_rider : ByteArray := prog_1_method_30_code
def yX0_rider : MethodName := ⟨RX0, "rider", "(II)I"⟩
def dkwX0_rider_5 : List UInt8 := [167, 0, 4, 3, 172, 18, 91, 172]
abbrev dktX0_rider_5 : List UInt8 := dkwX0_rider_5 ++ []
def dkwX0_rider_4 : List UInt8 := [42, 180, 0, 46, 27, 29, 4, 96, 42, 180, 0, 46, 180, 0, 203, 27, 46, 182, 0, 212, 153, 0, 7, 4]
abbrev dktX0_rider_4 : List UInt8 := dkwX0_rider_4 ++ dktX0_rider_5
def dkwX0_rider_3 : List UInt8 := [167, 0, 4, 3, 172, 29, 133, 9, 42, 180, 0, 46, 180, 0, 172, 5, 100, 133, 184, 0, 81, 153, 0, 30]
abbrev dktX0_rider_3 : List UInt8 := dkwX0_rider_3 ++ dktX0_rider_4
def dkwX0_rider_2 : List UInt8 := [29, 172, 42, 180, 0, 46, 180, 0, 203, 27, 46, 172, 42, 180, 0, 46, 27, 182, 0, 219, 153, 0, 7, 4]
abbrev dktX0_rider_2 : List UInt8 := dkwX0_rider_2 ++ dktX0_rider_3
def dkwX0_rider_1 : List UInt8 := [170, 0, 0, 0, 0, 107, 0, 0, 0, 0, 0, 0, 0, 3, 0, 0, 0, 30, 0, 0, 0, 32, 0, 0, 0, 42, 0, 0, 0, 59]
abbrev dktX0_rider_1 : List UInt8 := dkwX0_rider_1 ++ dktX0_rider_2
def dkwX0_rider_0 : List UInt8 := [42, 27, 182, 0, 200, 154, 0, 6, 18, 91, 172, 42, 180, 0, 46, 180, 0, 206, 27, 46, 62, 28]
abbrev dktX0_rider_0 : List UInt8 := dkwX0_rider_0 ++ dktX0_rider_1
theorem dksX0_rider_0 : cX0_rider.data.toList.drop 0 = dktX0_rider_0 := by decide +kernel
theorem dksX0_rider_1 : cX0_rider.data.toList.drop 22 = dktX0_rider_1 := dk_seg dksX0_rider_0 22 rfl rfl
theorem dksX0_rider_2 : cX0_rider.data.toList.drop 52 = dktX0_rider_2 := dk_seg dksX0_rider_1 30 rfl rfl
theorem dksX0_rider_3 : cX0_rider.data.toList.drop 76 = dktX0_rider_3 := dk_seg dksX0_rider_2 24 rfl rfl
theorem dksX0_rider_4 : cX0_rider.data.toList.drop 100 = dktX0_rider_4 := dk_seg dksX0_rider_3 24 rfl rfl
theorem dksX0_rider_5 : cX0_rider.data.toList.drop 124 = dktX0_rider_5 := dk_seg dksX0_rider_4 24 rfl rfl
theorem dX0_rider_0 : decode cX0_rider 0 = .ok (.aload_n 0, 1) := dk_42 (dk_at dksX0_rider_0 0 rfl rfl)
theorem dX0_rider_1 : decode cX0_rider 1 = .ok (.iload_n 1, 1) := dk_27 (dk_at dksX0_rider_0 1 rfl rfl)
theorem dX0_rider_2 : decode cX0_rider 2 = .ok (.invokevirtual 200, 3) := dk_182 0 200 (dk_at dksX0_rider_0 2 rfl rfl)
theorem dX0_rider_5 : decode cX0_rider 5 = .ok (.ifCond .ne 6, 3) := dk_154 0 6 (dk_at dksX0_rider_0 5 rfl rfl)
theorem dX0_rider_8 : decode cX0_rider 8 = .ok (.ldc 91, 2) := dk_18 91 (dk_at dksX0_rider_0 8 rfl rfl)
theorem dX0_rider_10 : decode cX0_rider 10 = .ok (.ireturn, 1) := dk_172 (dk_at dksX0_rider_0 10 rfl rfl)
theorem dX0_rider_11 : decode cX0_rider 11 = .ok (.aload_n 0, 1) := dk_42 (dk_at dksX0_rider_0 11 rfl rfl)
theorem dX0_rider_12 : decode cX0_rider 12 = .ok (.getfield 46, 3) := dk_180 0 46 (dk_at dksX0_rider_0 12 rfl rfl)
theorem dX0_rider_15 : decode cX0_rider 15 = .ok (.getfield 206, 3) := dk_180 0 206 (dk_at dksX0_rider_0 15 rfl rfl)
theorem dX0_rider_18 : decode cX0_rider 18 = .ok (.iload_n 1, 1) := dk_27 (dk_at dksX0_rider_0 18 rfl rfl)
theorem dX0_rider_19 : decode cX0_rider 19 = .ok (.iaload, 1) := dk_46 (dk_at dksX0_rider_0 19 rfl rfl)
theorem dX0_rider_20 : decode cX0_rider 20 = .ok (.istore_n 3, 1) := dk_62 (dk_at dksX0_rider_0 20 rfl rfl)
theorem dX0_rider_21 : decode cX0_rider 21 = .ok (.iload_n 2, 1) := dk_28 (dk_at dksX0_rider_0 21 rfl rfl)
theorem dX0_rider_22 : decode cX0_rider 22 = .ok (.tableswitch 107 0 3 #[30, 32, 42, 59], 30) := by decide +kernel
theorem dX0_rider_52 : decode cX0_rider 52 = .ok (.iload_n 3, 1) := dk_29 (dk_at dksX0_rider_2 0 rfl rfl)
theorem dX0_rider_53 : decode cX0_rider 53 = .ok (.ireturn, 1) := dk_172 (dk_at dksX0_rider_2 1 rfl rfl)
theorem dX0_rider_54 : decode cX0_rider 54 = .ok (.aload_n 0, 1) := dk_42 (dk_at dksX0_rider_2 2 rfl rfl)
theorem dX0_rider_55 : decode cX0_rider 55 = .ok (.getfield 46, 3) := dk_180 0 46 (dk_at dksX0_rider_2 3 rfl rfl)
theorem dX0_rider_58 : decode cX0_rider 58 = .ok (.getfield 203, 3) := dk_180 0 203 (dk_at dksX0_rider_2 6 rfl rfl)
theorem dX0_rider_61 : decode cX0_rider 61 = .ok (.iload_n 1, 1) := dk_27 (dk_at dksX0_rider_2 9 rfl rfl)
theorem dX0_rider_62 : decode cX0_rider 62 = .ok (.iaload, 1) := dk_46 (dk_at dksX0_rider_2 10 rfl rfl)
theorem dX0_rider_63 : decode cX0_rider 63 = .ok (.ireturn, 1) := dk_172 (dk_at dksX0_rider_2 11 rfl rfl)
theorem dX0_rider_64 : decode cX0_rider 64 = .ok (.aload_n 0, 1) := dk_42 (dk_at dksX0_rider_2 12 rfl rfl)
theorem dX0_rider_65 : decode cX0_rider 65 = .ok (.getfield 46, 3) := dk_180 0 46 (dk_at dksX0_rider_2 13 rfl rfl)
theorem dX0_rider_68 : decode cX0_rider 68 = .ok (.iload_n 1, 1) := dk_27 (dk_at dksX0_rider_2 16 rfl rfl)
theorem dX0_rider_69 : decode cX0_rider 69 = .ok (.invokevirtual 219, 3) := dk_182 0 219 (dk_at dksX0_rider_2 17 rfl rfl)
theorem dX0_rider_72 : decode cX0_rider 72 = .ok (.ifCond .eq 7, 3) := dk_153 0 7 (dk_at dksX0_rider_2 20 rfl rfl)
theorem dX0_rider_75 : decode cX0_rider 75 = .ok (.iconst 1, 1) := dk_4 (dk_at dksX0_rider_2 23 rfl rfl)
theorem dX0_rider_76 : decode cX0_rider 76 = .ok (.goto 4, 3) := dk_167 0 4 (dk_at dksX0_rider_3 0 rfl rfl)
theorem dX0_rider_79 : decode cX0_rider 79 = .ok (.iconst 0, 1) := dk_3 (dk_at dksX0_rider_3 3 rfl rfl)
theorem dX0_rider_80 : decode cX0_rider 80 = .ok (.ireturn, 1) := dk_172 (dk_at dksX0_rider_3 4 rfl rfl)
theorem dX0_rider_81 : decode cX0_rider 81 = .ok (.iload_n 3, 1) := dk_29 (dk_at dksX0_rider_3 5 rfl rfl)
theorem dX0_rider_82 : decode cX0_rider 82 = .ok (.i2l, 1) := dk_133 (dk_at dksX0_rider_3 6 rfl rfl)
theorem dX0_rider_83 : decode cX0_rider 83 = .ok (.lconst 0, 1) := dk_9 (dk_at dksX0_rider_3 7 rfl rfl)
theorem dX0_rider_84 : decode cX0_rider 84 = .ok (.aload_n 0, 1) := dk_42 (dk_at dksX0_rider_3 8 rfl rfl)
theorem dX0_rider_85 : decode cX0_rider 85 = .ok (.getfield 46, 3) := dk_180 0 46 (dk_at dksX0_rider_3 9 rfl rfl)
theorem dX0_rider_88 : decode cX0_rider 88 = .ok (.getfield 172, 3) := dk_180 0 172 (dk_at dksX0_rider_3 12 rfl rfl)
theorem dX0_rider_91 : decode cX0_rider 91 = .ok (.iconst 2, 1) := dk_5 (dk_at dksX0_rider_3 15 rfl rfl)
theorem dX0_rider_92 : decode cX0_rider 92 = .ok (.isub, 1) := dk_100 (dk_at dksX0_rider_3 16 rfl rfl)
theorem dX0_rider_93 : decode cX0_rider 93 = .ok (.i2l, 1) := dk_133 (dk_at dksX0_rider_3 17 rfl rfl)
theorem dX0_rider_94 : decode cX0_rider 94 = .ok (.invokestatic 81, 3) := dk_184 0 81 (dk_at dksX0_rider_3 18 rfl rfl)
theorem dX0_rider_97 : decode cX0_rider 97 = .ok (.ifCond .eq 30, 3) := dk_153 0 30 (dk_at dksX0_rider_3 21 rfl rfl)
theorem dX0_rider_100 : decode cX0_rider 100 = .ok (.aload_n 0, 1) := dk_42 (dk_at dksX0_rider_4 0 rfl rfl)
theorem dX0_rider_101 : decode cX0_rider 101 = .ok (.getfield 46, 3) := dk_180 0 46 (dk_at dksX0_rider_4 1 rfl rfl)
theorem dX0_rider_104 : decode cX0_rider 104 = .ok (.iload_n 1, 1) := dk_27 (dk_at dksX0_rider_4 4 rfl rfl)
theorem dX0_rider_105 : decode cX0_rider 105 = .ok (.iload_n 3, 1) := dk_29 (dk_at dksX0_rider_4 5 rfl rfl)
theorem dX0_rider_106 : decode cX0_rider 106 = .ok (.iconst 1, 1) := dk_4 (dk_at dksX0_rider_4 6 rfl rfl)
theorem dX0_rider_107 : decode cX0_rider 107 = .ok (.iadd, 1) := dk_96 (dk_at dksX0_rider_4 7 rfl rfl)
theorem dX0_rider_108 : decode cX0_rider 108 = .ok (.aload_n 0, 1) := dk_42 (dk_at dksX0_rider_4 8 rfl rfl)
theorem dX0_rider_109 : decode cX0_rider 109 = .ok (.getfield 46, 3) := dk_180 0 46 (dk_at dksX0_rider_4 9 rfl rfl)
theorem dX0_rider_112 : decode cX0_rider 112 = .ok (.getfield 203, 3) := dk_180 0 203 (dk_at dksX0_rider_4 12 rfl rfl)
theorem dX0_rider_115 : decode cX0_rider 115 = .ok (.iload_n 1, 1) := dk_27 (dk_at dksX0_rider_4 15 rfl rfl)
theorem dX0_rider_116 : decode cX0_rider 116 = .ok (.iaload, 1) := dk_46 (dk_at dksX0_rider_4 16 rfl rfl)
theorem dX0_rider_117 : decode cX0_rider 117 = .ok (.invokevirtual 212, 3) := dk_182 0 212 (dk_at dksX0_rider_4 17 rfl rfl)
theorem dX0_rider_120 : decode cX0_rider 120 = .ok (.ifCond .eq 7, 3) := dk_153 0 7 (dk_at dksX0_rider_4 20 rfl rfl)
theorem dX0_rider_123 : decode cX0_rider 123 = .ok (.iconst 1, 1) := dk_4 (dk_at dksX0_rider_4 23 rfl rfl)
theorem dX0_rider_124 : decode cX0_rider 124 = .ok (.goto 4, 3) := dk_167 0 4 (dk_at dksX0_rider_5 0 rfl rfl)
theorem dX0_rider_127 : decode cX0_rider 127 = .ok (.iconst 0, 1) := dk_3 (dk_at dksX0_rider_5 3 rfl rfl)
theorem dX0_rider_128 : decode cX0_rider 128 = .ok (.ireturn, 1) := dk_172 (dk_at dksX0_rider_5 4 rfl rfl)
theorem dX0_rider_129 : decode cX0_rider 129 = .ok (.ldc 91, 2) := dk_18 91 (dk_at dksX0_rider_5 5 rfl rfl)
theorem dX0_rider_131 : decode cX0_rider 131 = .ok (.ireturn, 1) := dk_172 (dk_at dksX0_rider_5 7 rfl rfl)
abbrev cX0_step : ByteArray := prog_1_method_31_code
def yX0_step : MethodName := ⟨RX0, "step", "(II)I"⟩
def dkwX0_step_3 : List UInt8 := [132, 4, 1, 167, 255, 216, 29, 172]
abbrev dktX0_step_3 : List UInt8 := dkwX0_step_3 ++ []
def dkwX0_step_2 : List UInt8 := [42, 180, 0, 46, 21, 4, 27, 28, 182, 0, 222, 153, 0, 10, 4, 21, 4, 120, 167, 0, 4, 3, 128, 62]
abbrev dktX0_step_2 : List UInt8 := dkwX0_step_2 ++ dktX0_step_3
def dkwX0_step_1 : List UInt8 := [154, 0, 6, 18, 91, 172, 3, 62, 3, 54, 4, 21, 4, 42, 180, 0, 46, 182, 0, 171, 162, 0, 34, 29]
abbrev dktX0_step_1 : List UInt8 := dkwX0_step_1 ++ dktX0_step_2
def dkwX0_step_0 : List UInt8 := [27, 133, 9, 42, 180, 0, 46, 180, 0, 172, 4, 100, 133, 184, 0, 81, 153, 0, 10, 28, 184, 0, 216]
abbrev dktX0_step_0 : List UInt8 := dkwX0_step_0 ++ dktX0_step_1
theorem dksX0_step_0 : cX0_step.data.toList.drop 0 = dktX0_step_0 := by decide +kernel
theorem dksX0_step_1 : cX0_step.data.toList.drop 23 = dktX0_step_1 := dk_seg dksX0_step_0 23 rfl rfl
theorem dksX0_step_2 : cX0_step.data.toList.drop 47 = dktX0_step_2 := dk_seg dksX0_step_1 24 rfl rfl
theorem dksX0_step_3 : cX0_step.data.toList.drop 71 = dktX0_step_3 := dk_seg dksX0_step_2 24 rfl rfl
theorem dX0_step_0 : decode cX0_step 0 = .ok (.iload_n 1, 1) := dk_27 (dk_at dksX0_step_0 0 rfl rfl)
theorem dX0_step_1 : decode cX0_step 1 = .ok (.i2l, 1) := dk_133 (dk_at dksX0_step_0 1 rfl rfl)
theorem dX0_step_2 : decode cX0_step 2 = .ok (.lconst 0, 1) := dk_9 (dk_at dksX0_step_0 2 rfl rfl)
theorem dX0_step_3 : decode cX0_step 3 = .ok (.aload_n 0, 1) := dk_42 (dk_at dksX0_step_0 3 rfl rfl)
theorem dX0_step_4 : decode cX0_step 4 = .ok (.getfield 46, 3) := dk_180 0 46 (dk_at dksX0_step_0 4 rfl rfl)
theorem dX0_step_7 : decode cX0_step 7 = .ok (.getfield 172, 3) := dk_180 0 172 (dk_at dksX0_step_0 7 rfl rfl)
theorem dX0_step_10 : decode cX0_step 10 = .ok (.iconst 1, 1) := dk_4 (dk_at dksX0_step_0 10 rfl rfl)
theorem dX0_step_11 : decode cX0_step 11 = .ok (.isub, 1) := dk_100 (dk_at dksX0_step_0 11 rfl rfl)
theorem dX0_step_12 : decode cX0_step 12 = .ok (.i2l, 1) := dk_133 (dk_at dksX0_step_0 12 rfl rfl)
theorem dX0_step_13 : decode cX0_step 13 = .ok (.invokestatic 81, 3) := dk_184 0 81 (dk_at dksX0_step_0 13 rfl rfl)
theorem dX0_step_16 : decode cX0_step 16 = .ok (.ifCond .eq 10, 3) := dk_153 0 10 (dk_at dksX0_step_0 16 rfl rfl)
theorem dX0_step_19 : decode cX0_step 19 = .ok (.iload_n 2, 1) := dk_28 (dk_at dksX0_step_0 19 rfl rfl)
theorem dX0_step_20 : decode cX0_step 20 = .ok (.invokestatic 216, 3) := dk_184 0 216 (dk_at dksX0_step_0 20 rfl rfl)
theorem dX0_step_23 : decode cX0_step 23 = .ok (.ifCond .ne 6, 3) := dk_154 0 6 (dk_at dksX0_step_1 0 rfl rfl)
theorem dX0_step_26 : decode cX0_step 26 = .ok (.ldc 91, 2) := dk_18 91 (dk_at dksX0_step_1 3 rfl rfl)
theorem dX0_step_28 : decode cX0_step 28 = .ok (.ireturn, 1) := dk_172 (dk_at dksX0_step_1 5 rfl rfl)
theorem dX0_step_29 : decode cX0_step 29 = .ok (.iconst 0, 1) := dk_3 (dk_at dksX0_step_1 6 rfl rfl)
theorem dX0_step_30 : decode cX0_step 30 = .ok (.istore_n 3, 1) := dk_62 (dk_at dksX0_step_1 7 rfl rfl)
theorem dX0_step_31 : decode cX0_step 31 = .ok (.iconst 0, 1) := dk_3 (dk_at dksX0_step_1 8 rfl rfl)
theorem dX0_step_32 : decode cX0_step 32 = .ok (.istore 4, 2) := dk_54 4 (dk_at dksX0_step_1 9 rfl rfl)
theorem dX0_step_34 : decode cX0_step 34 = .ok (.iload 4, 2) := dk_21 4 (dk_at dksX0_step_1 11 rfl rfl)
theorem dX0_step_36 : decode cX0_step 36 = .ok (.aload_n 0, 1) := dk_42 (dk_at dksX0_step_1 13 rfl rfl)
theorem dX0_step_37 : decode cX0_step 37 = .ok (.getfield 46, 3) := dk_180 0 46 (dk_at dksX0_step_1 14 rfl rfl)
theorem dX0_step_40 : decode cX0_step 40 = .ok (.invokevirtual 171, 3) := dk_182 0 171 (dk_at dksX0_step_1 17 rfl rfl)
theorem dX0_step_43 : decode cX0_step 43 = .ok (.if_icmp .ge 34, 3) := dk_162 0 34 (dk_at dksX0_step_1 20 rfl rfl)
theorem dX0_step_46 : decode cX0_step 46 = .ok (.iload_n 3, 1) := dk_29 (dk_at dksX0_step_1 23 rfl rfl)
theorem dX0_step_47 : decode cX0_step 47 = .ok (.aload_n 0, 1) := dk_42 (dk_at dksX0_step_2 0 rfl rfl)
theorem dX0_step_48 : decode cX0_step 48 = .ok (.getfield 46, 3) := dk_180 0 46 (dk_at dksX0_step_2 1 rfl rfl)
theorem dX0_step_51 : decode cX0_step 51 = .ok (.iload 4, 2) := dk_21 4 (dk_at dksX0_step_2 4 rfl rfl)
theorem dX0_step_53 : decode cX0_step 53 = .ok (.iload_n 1, 1) := dk_27 (dk_at dksX0_step_2 6 rfl rfl)
theorem dX0_step_54 : decode cX0_step 54 = .ok (.iload_n 2, 1) := dk_28 (dk_at dksX0_step_2 7 rfl rfl)
theorem dX0_step_55 : decode cX0_step 55 = .ok (.invokevirtual 222, 3) := dk_182 0 222 (dk_at dksX0_step_2 8 rfl rfl)
theorem dX0_step_58 : decode cX0_step 58 = .ok (.ifCond .eq 10, 3) := dk_153 0 10 (dk_at dksX0_step_2 11 rfl rfl)
theorem dX0_step_61 : decode cX0_step 61 = .ok (.iconst 1, 1) := dk_4 (dk_at dksX0_step_2 14 rfl rfl)
theorem dX0_step_62 : decode cX0_step 62 = .ok (.iload 4, 2) := dk_21 4 (dk_at dksX0_step_2 15 rfl rfl)
theorem dX0_step_64 : decode cX0_step 64 = .ok (.ishl, 1) := dk_120 (dk_at dksX0_step_2 17 rfl rfl)
theorem dX0_step_65 : decode cX0_step 65 = .ok (.goto 4, 3) := dk_167 0 4 (dk_at dksX0_step_2 18 rfl rfl)
theorem dX0_step_68 : decode cX0_step 68 = .ok (.iconst 0, 1) := dk_3 (dk_at dksX0_step_2 21 rfl rfl)
theorem dX0_step_69 : decode cX0_step 69 = .ok (.ior, 1) := dk_128 (dk_at dksX0_step_2 22 rfl rfl)
theorem dX0_step_70 : decode cX0_step 70 = .ok (.istore_n 3, 1) := dk_62 (dk_at dksX0_step_2 23 rfl rfl)
theorem dX0_step_71 : decode cX0_step 71 = .ok (.iinc 4 1, 3) := dk_132 4 1 (dk_at dksX0_step_3 0 rfl rfl)
theorem dX0_step_74 : decode cX0_step 74 = .ok (.goto (-40), 3) := dk_167 255 216 (dk_at dksX0_step_3 3 rfl rfl)
theorem dX0_step_77 : decode cX0_step 77 = .ok (.iload_n 3, 1) := dk_29 (dk_at dksX0_step_3 6 rfl rfl)
theorem dX0_step_78 : decode cX0_step 78 = .ok (.ireturn, 1) := dk_172 (dk_at dksX0_step_3 7 rfl rfl)
abbrev cX0_ahead : ByteArray := prog_1_method_33_code
def yX0_ahead : MethodName := ⟨RX0, "ahead", "(II)I"⟩
def dkwX0_ahead_1 : List UInt8 := [180, 0, 206, 27, 46, 167, 0, 5, 18, 91, 172]
abbrev dktX0_ahead_1 : List UInt8 := dkwX0_ahead_1 ++ []
def dkwX0_ahead_0 : List UInt8 := [42, 27, 182, 0, 200, 153, 0, 26, 28, 184, 0, 225, 153, 0, 19, 42, 182, 0, 228, 28, 182, 0, 231]
abbrev dktX0_ahead_0 : List UInt8 := dkwX0_ahead_0 ++ dktX0_ahead_1
theorem dksX0_ahead_0 : cX0_ahead.data.toList.drop 0 = dktX0_ahead_0 := by decide +kernel
theorem dksX0_ahead_1 : cX0_ahead.data.toList.drop 23 = dktX0_ahead_1 := dk_seg dksX0_ahead_0 23 rfl rfl
theorem dX0_ahead_0 : decode cX0_ahead 0 = .ok (.aload_n 0, 1) := dk_42 (dk_at dksX0_ahead_0 0 rfl rfl)
theorem dX0_ahead_1 : decode cX0_ahead 1 = .ok (.iload_n 1, 1) := dk_27 (dk_at dksX0_ahead_0 1 rfl rfl)
theorem dX0_ahead_2 : decode cX0_ahead 2 = .ok (.invokevirtual 200, 3) := dk_182 0 200 (dk_at dksX0_ahead_0 2 rfl rfl)
theorem dX0_ahead_5 : decode cX0_ahead 5 = .ok (.ifCond .eq 26, 3) := dk_153 0 26 (dk_at dksX0_ahead_0 5 rfl rfl)
theorem dX0_ahead_8 : decode cX0_ahead 8 = .ok (.iload_n 2, 1) := dk_28 (dk_at dksX0_ahead_0 8 rfl rfl)
theorem dX0_ahead_9 : decode cX0_ahead 9 = .ok (.invokestatic 225, 3) := dk_184 0 225 (dk_at dksX0_ahead_0 9 rfl rfl)
theorem dX0_ahead_12 : decode cX0_ahead 12 = .ok (.ifCond .eq 19, 3) := dk_153 0 19 (dk_at dksX0_ahead_0 12 rfl rfl)
theorem dX0_ahead_15 : decode cX0_ahead 15 = .ok (.aload_n 0, 1) := dk_42 (dk_at dksX0_ahead_0 15 rfl rfl)
theorem dX0_ahead_16 : decode cX0_ahead 16 = .ok (.invokevirtual 228, 3) := dk_182 0 228 (dk_at dksX0_ahead_0 16 rfl rfl)
theorem dX0_ahead_19 : decode cX0_ahead 19 = .ok (.iload_n 2, 1) := dk_28 (dk_at dksX0_ahead_0 19 rfl rfl)
theorem dX0_ahead_20 : decode cX0_ahead 20 = .ok (.invokevirtual 231, 3) := dk_182 0 231 (dk_at dksX0_ahead_0 20 rfl rfl)
theorem dX0_ahead_23 : decode cX0_ahead 23 = .ok (.getfield 206, 3) := dk_180 0 206 (dk_at dksX0_ahead_1 0 rfl rfl)
theorem dX0_ahead_26 : decode cX0_ahead 26 = .ok (.iload_n 1, 1) := dk_27 (dk_at dksX0_ahead_1 3 rfl rfl)
theorem dX0_ahead_27 : decode cX0_ahead 27 = .ok (.iaload, 1) := dk_46 (dk_at dksX0_ahead_1 4 rfl rfl)
theorem dX0_ahead_28 : decode cX0_ahead 28 = .ok (.goto 5, 3) := dk_167 0 5 (dk_at dksX0_ahead_1 5 rfl rfl)
theorem dX0_ahead_31 : decode cX0_ahead 31 = .ok (.ldc 91, 2) := dk_18 91 (dk_at dksX0_ahead_1 8 rfl rfl)
theorem dX0_ahead_33 : decode cX0_ahead 33 = .ok (.ireturn, 1) := dk_172 (dk_at dksX0_ahead_1 10 rfl rfl)
abbrev cX0_isFar : ByteArray := prog_1_method_21_code
def yX0_isFar : MethodName := ⟨RX0, "isFar", "(I)Z"⟩
def dkwX0_isFar_0 : List UInt8 := [26, 133, 9, 20, 0, 175, 184, 0, 81, 172]
abbrev dktX0_isFar_0 : List UInt8 := dkwX0_isFar_0 ++ []
theorem dksX0_isFar_0 : cX0_isFar.data.toList.drop 0 = dktX0_isFar_0 := by decide +kernel
theorem dX0_isFar_0 : decode cX0_isFar 0 = .ok (.iload_n 0, 1) := dk_26 (dk_at dksX0_isFar_0 0 rfl rfl)
theorem dX0_isFar_1 : decode cX0_isFar 1 = .ok (.i2l, 1) := dk_133 (dk_at dksX0_isFar_0 1 rfl rfl)
theorem dX0_isFar_2 : decode cX0_isFar 2 = .ok (.lconst 0, 1) := dk_9 (dk_at dksX0_isFar_0 2 rfl rfl)
theorem dX0_isFar_3 : decode cX0_isFar 3 = .ok (.ldc2_w 175, 3) := dk_20 0 175 (dk_at dksX0_isFar_0 3 rfl rfl)
theorem dX0_isFar_6 : decode cX0_isFar 6 = .ok (.invokestatic 81, 3) := dk_184 0 81 (dk_at dksX0_isFar_0 6 rfl rfl)
theorem dX0_isFar_9 : decode cX0_isFar 9 = .ok (.ireturn, 1) := dk_172 (dk_at dksX0_isFar_0 9 rfl rfl)
abbrev cX0_asNow : ByteArray := prog_1_method_32_code
def yX0_asNow : MethodName := ⟨RX0, "asNow", "()LStepRiders$Stair;"⟩
def dkwX0_asNow_0 : List UInt8 := [42, 180, 0, 50, 42, 180, 0, 46, 182, 0, 164, 176]
abbrev dktX0_asNow_0 : List UInt8 := dkwX0_asNow_0 ++ []
theorem dksX0_asNow_0 : cX0_asNow.data.toList.drop 0 = dktX0_asNow_0 := by decide +kernel
theorem dX0_asNow_0 : decode cX0_asNow 0 = .ok (.aload_n 0, 1) := dk_42 (dk_at dksX0_asNow_0 0 rfl rfl)
theorem dX0_asNow_1 : decode cX0_asNow 1 = .ok (.getfield 50, 3) := dk_180 0 50 (dk_at dksX0_asNow_0 1 rfl rfl)
theorem dX0_asNow_4 : decode cX0_asNow 4 = .ok (.aload_n 0, 1) := dk_42 (dk_at dksX0_asNow_0 4 rfl rfl)
theorem dX0_asNow_5 : decode cX0_asNow 5 = .ok (.getfield 46, 3) := dk_180 0 46 (dk_at dksX0_asNow_0 5 rfl rfl)
theorem dX0_asNow_8 : decode cX0_asNow 8 = .ok (.invokevirtual 164, 3) := dk_182 0 164 (dk_at dksX0_asNow_0 8 rfl rfl)
theorem dX0_asNow_11 : decode cX0_asNow 11 = .ok (.areturn, 1) := dk_176 (dk_at dksX0_asNow_0 11 rfl rfl)
abbrev cX0_later : ByteArray := prog_1_method_34_code
def yX0_later : MethodName := ⟨RX0, "later", "(II)I"⟩
def dkwX0_later_3 : List UInt8 := [45, 180, 0, 206, 21, 5, 46, 120, 167, 0, 4, 3, 128, 54, 4, 132, 5, 1, 167, 255, 217, 21, 4, 172]
abbrev dktX0_later_3 : List UInt8 := dkwX0_later_3 ++ []
def dkwX0_later_2 : List UInt8 := [3, 54, 5, 21, 5, 45, 182, 0, 171, 162, 0, 36, 21, 4, 45, 21, 5, 182, 0, 209, 153, 0, 15, 4]
abbrev dktX0_later_2 : List UInt8 := dkwX0_later_2 ++ dktX0_later_3
def dkwX0_later_1 : List UInt8 := [18, 91, 172, 42, 182, 0, 228, 27, 182, 0, 231, 78, 28, 154, 0, 8, 45, 182, 0, 194, 172, 3, 54, 4]
abbrev dktX0_later_1 : List UInt8 := dkwX0_later_1 ++ dktX0_later_2
def dkwX0_later_0 : List UInt8 := [42, 182, 0, 177, 154, 0, 6, 18, 181, 172, 27, 184, 0, 225, 153, 0, 10, 28, 184, 0, 216, 154, 0, 6]
abbrev dktX0_later_0 : List UInt8 := dkwX0_later_0 ++ dktX0_later_1
theorem dksX0_later_0 : cX0_later.data.toList.drop 0 = dktX0_later_0 := by decide +kernel
theorem dksX0_later_1 : cX0_later.data.toList.drop 24 = dktX0_later_1 := dk_seg dksX0_later_0 24 rfl rfl
theorem dksX0_later_2 : cX0_later.data.toList.drop 48 = dktX0_later_2 := dk_seg dksX0_later_1 24 rfl rfl
theorem dksX0_later_3 : cX0_later.data.toList.drop 72 = dktX0_later_3 := dk_seg dksX0_later_2 24 rfl rfl
theorem dX0_later_0 : decode cX0_later 0 = .ok (.aload_n 0, 1) := dk_42 (dk_at dksX0_later_0 0 rfl rfl)
theorem dX0_later_1 : decode cX0_later 1 = .ok (.invokevirtual 177, 3) := dk_182 0 177 (dk_at dksX0_later_0 1 rfl rfl)
theorem dX0_later_4 : decode cX0_later 4 = .ok (.ifCond .ne 6, 3) := dk_154 0 6 (dk_at dksX0_later_0 4 rfl rfl)
theorem dX0_later_7 : decode cX0_later 7 = .ok (.ldc 181, 2) := dk_18 181 (dk_at dksX0_later_0 7 rfl rfl)
theorem dX0_later_9 : decode cX0_later 9 = .ok (.ireturn, 1) := dk_172 (dk_at dksX0_later_0 9 rfl rfl)
theorem dX0_later_10 : decode cX0_later 10 = .ok (.iload_n 1, 1) := dk_27 (dk_at dksX0_later_0 10 rfl rfl)
theorem dX0_later_11 : decode cX0_later 11 = .ok (.invokestatic 225, 3) := dk_184 0 225 (dk_at dksX0_later_0 11 rfl rfl)
theorem dX0_later_14 : decode cX0_later 14 = .ok (.ifCond .eq 10, 3) := dk_153 0 10 (dk_at dksX0_later_0 14 rfl rfl)
theorem dX0_later_17 : decode cX0_later 17 = .ok (.iload_n 2, 1) := dk_28 (dk_at dksX0_later_0 17 rfl rfl)
theorem dX0_later_18 : decode cX0_later 18 = .ok (.invokestatic 216, 3) := dk_184 0 216 (dk_at dksX0_later_0 18 rfl rfl)
theorem dX0_later_21 : decode cX0_later 21 = .ok (.ifCond .ne 6, 3) := dk_154 0 6 (dk_at dksX0_later_0 21 rfl rfl)
theorem dX0_later_24 : decode cX0_later 24 = .ok (.ldc 91, 2) := dk_18 91 (dk_at dksX0_later_1 0 rfl rfl)
theorem dX0_later_26 : decode cX0_later 26 = .ok (.ireturn, 1) := dk_172 (dk_at dksX0_later_1 2 rfl rfl)
theorem dX0_later_27 : decode cX0_later 27 = .ok (.aload_n 0, 1) := dk_42 (dk_at dksX0_later_1 3 rfl rfl)
theorem dX0_later_28 : decode cX0_later 28 = .ok (.invokevirtual 228, 3) := dk_182 0 228 (dk_at dksX0_later_1 4 rfl rfl)
theorem dX0_later_31 : decode cX0_later 31 = .ok (.iload_n 1, 1) := dk_27 (dk_at dksX0_later_1 7 rfl rfl)
theorem dX0_later_32 : decode cX0_later 32 = .ok (.invokevirtual 231, 3) := dk_182 0 231 (dk_at dksX0_later_1 8 rfl rfl)
theorem dX0_later_35 : decode cX0_later 35 = .ok (.astore_n 3, 1) := dk_78 (dk_at dksX0_later_1 11 rfl rfl)
theorem dX0_later_36 : decode cX0_later 36 = .ok (.iload_n 2, 1) := dk_28 (dk_at dksX0_later_1 12 rfl rfl)
theorem dX0_later_37 : decode cX0_later 37 = .ok (.ifCond .ne 8, 3) := dk_154 0 8 (dk_at dksX0_later_1 13 rfl rfl)
theorem dX0_later_40 : decode cX0_later 40 = .ok (.aload_n 3, 1) := dk_45 (dk_at dksX0_later_1 16 rfl rfl)
theorem dX0_later_41 : decode cX0_later 41 = .ok (.invokevirtual 194, 3) := dk_182 0 194 (dk_at dksX0_later_1 17 rfl rfl)
theorem dX0_later_44 : decode cX0_later 44 = .ok (.ireturn, 1) := dk_172 (dk_at dksX0_later_1 20 rfl rfl)
theorem dX0_later_45 : decode cX0_later 45 = .ok (.iconst 0, 1) := dk_3 (dk_at dksX0_later_1 21 rfl rfl)
theorem dX0_later_46 : decode cX0_later 46 = .ok (.istore 4, 2) := dk_54 4 (dk_at dksX0_later_1 22 rfl rfl)
theorem dX0_later_48 : decode cX0_later 48 = .ok (.iconst 0, 1) := dk_3 (dk_at dksX0_later_2 0 rfl rfl)
theorem dX0_later_49 : decode cX0_later 49 = .ok (.istore 5, 2) := dk_54 5 (dk_at dksX0_later_2 1 rfl rfl)
theorem dX0_later_51 : decode cX0_later 51 = .ok (.iload 5, 2) := dk_21 5 (dk_at dksX0_later_2 3 rfl rfl)
theorem dX0_later_53 : decode cX0_later 53 = .ok (.aload_n 3, 1) := dk_45 (dk_at dksX0_later_2 5 rfl rfl)
theorem dX0_later_54 : decode cX0_later 54 = .ok (.invokevirtual 171, 3) := dk_182 0 171 (dk_at dksX0_later_2 6 rfl rfl)
theorem dX0_later_57 : decode cX0_later 57 = .ok (.if_icmp .ge 36, 3) := dk_162 0 36 (dk_at dksX0_later_2 9 rfl rfl)
theorem dX0_later_60 : decode cX0_later 60 = .ok (.iload 4, 2) := dk_21 4 (dk_at dksX0_later_2 12 rfl rfl)
theorem dX0_later_62 : decode cX0_later 62 = .ok (.aload_n 3, 1) := dk_45 (dk_at dksX0_later_2 14 rfl rfl)
theorem dX0_later_63 : decode cX0_later 63 = .ok (.iload 5, 2) := dk_21 5 (dk_at dksX0_later_2 15 rfl rfl)
theorem dX0_later_65 : decode cX0_later 65 = .ok (.invokevirtual 209, 3) := dk_182 0 209 (dk_at dksX0_later_2 17 rfl rfl)
theorem dX0_later_68 : decode cX0_later 68 = .ok (.ifCond .eq 15, 3) := dk_153 0 15 (dk_at dksX0_later_2 20 rfl rfl)
theorem dX0_later_71 : decode cX0_later 71 = .ok (.iconst 1, 1) := dk_4 (dk_at dksX0_later_2 23 rfl rfl)
theorem dX0_later_72 : decode cX0_later 72 = .ok (.aload_n 3, 1) := dk_45 (dk_at dksX0_later_3 0 rfl rfl)
theorem dX0_later_73 : decode cX0_later 73 = .ok (.getfield 206, 3) := dk_180 0 206 (dk_at dksX0_later_3 1 rfl rfl)
theorem dX0_later_76 : decode cX0_later 76 = .ok (.iload 5, 2) := dk_21 5 (dk_at dksX0_later_3 4 rfl rfl)
theorem dX0_later_78 : decode cX0_later 78 = .ok (.iaload, 1) := dk_46 (dk_at dksX0_later_3 6 rfl rfl)
theorem dX0_later_79 : decode cX0_later 79 = .ok (.ishl, 1) := dk_120 (dk_at dksX0_later_3 7 rfl rfl)
theorem dX0_later_80 : decode cX0_later 80 = .ok (.goto 4, 3) := dk_167 0 4 (dk_at dksX0_later_3 8 rfl rfl)
theorem dX0_later_83 : decode cX0_later 83 = .ok (.iconst 0, 1) := dk_3 (dk_at dksX0_later_3 11 rfl rfl)
theorem dX0_later_84 : decode cX0_later 84 = .ok (.ior, 1) := dk_128 (dk_at dksX0_later_3 12 rfl rfl)
theorem dX0_later_85 : decode cX0_later 85 = .ok (.istore 4, 2) := dk_54 4 (dk_at dksX0_later_3 13 rfl rfl)
theorem dX0_later_87 : decode cX0_later 87 = .ok (.iinc 5 1, 3) := dk_132 5 1 (dk_at dksX0_later_3 15 rfl rfl)
theorem dX0_later_90 : decode cX0_later 90 = .ok (.goto (-39), 3) := dk_167 255 217 (dk_at dksX0_later_3 18 rfl rfl)
theorem dX0_later_93 : decode cX0_later 93 = .ok (.iload 4, 2) := dk_21 4 (dk_at dksX0_later_3 21 rfl rfl)
theorem dX0_later_95 : decode cX0_later 95 = .ok (.ireturn, 1) := dk_172 (dk_at dksX0_later_3 23 rfl rfl)
abbrev cX0_off : ByteArray := prog_1_method_35_code
def yX0_off : MethodName := ⟨RX0, "off", "(I)I"⟩
def dkwX0_off_2 : List UInt8 := [132, 2, 1, 167, 255, 223, 18, 234, 172]
abbrev dktX0_off_2 : List UInt8 := dkwX0_off_2 ++ []
def dkwX0_off_1 : List UInt8 := [42, 180, 0, 50, 180, 0, 206, 27, 46, 16, 99, 160, 0, 5, 28, 172, 42, 180, 0, 50, 182, 0, 190, 87]
abbrev dktX0_off_1 : List UInt8 := dkwX0_off_1 ++ dktX0_off_2
def dkwX0_off_0 : List UInt8 := [42, 27, 182, 0, 200, 154, 0, 6, 18, 91, 172, 42, 182, 0, 228, 87, 3, 61, 28, 16, 60, 163, 0, 33]
abbrev dktX0_off_0 : List UInt8 := dkwX0_off_0 ++ dktX0_off_1
theorem dksX0_off_0 : cX0_off.data.toList.drop 0 = dktX0_off_0 := by decide +kernel
theorem dksX0_off_1 : cX0_off.data.toList.drop 24 = dktX0_off_1 := dk_seg dksX0_off_0 24 rfl rfl
theorem dksX0_off_2 : cX0_off.data.toList.drop 48 = dktX0_off_2 := dk_seg dksX0_off_1 24 rfl rfl
theorem dX0_off_0 : decode cX0_off 0 = .ok (.aload_n 0, 1) := dk_42 (dk_at dksX0_off_0 0 rfl rfl)
theorem dX0_off_1 : decode cX0_off 1 = .ok (.iload_n 1, 1) := dk_27 (dk_at dksX0_off_0 1 rfl rfl)
theorem dX0_off_2 : decode cX0_off 2 = .ok (.invokevirtual 200, 3) := dk_182 0 200 (dk_at dksX0_off_0 2 rfl rfl)
theorem dX0_off_5 : decode cX0_off 5 = .ok (.ifCond .ne 6, 3) := dk_154 0 6 (dk_at dksX0_off_0 5 rfl rfl)
theorem dX0_off_8 : decode cX0_off 8 = .ok (.ldc 91, 2) := dk_18 91 (dk_at dksX0_off_0 8 rfl rfl)
theorem dX0_off_10 : decode cX0_off 10 = .ok (.ireturn, 1) := dk_172 (dk_at dksX0_off_0 10 rfl rfl)
theorem dX0_off_11 : decode cX0_off 11 = .ok (.aload_n 0, 1) := dk_42 (dk_at dksX0_off_0 11 rfl rfl)
theorem dX0_off_12 : decode cX0_off 12 = .ok (.invokevirtual 228, 3) := dk_182 0 228 (dk_at dksX0_off_0 12 rfl rfl)
theorem dX0_off_15 : decode cX0_off 15 = .ok (.pop, 1) := dk_87 (dk_at dksX0_off_0 15 rfl rfl)
theorem dX0_off_16 : decode cX0_off 16 = .ok (.iconst 0, 1) := dk_3 (dk_at dksX0_off_0 16 rfl rfl)
theorem dX0_off_17 : decode cX0_off 17 = .ok (.istore_n 2, 1) := dk_61 (dk_at dksX0_off_0 17 rfl rfl)
theorem dX0_off_18 : decode cX0_off 18 = .ok (.iload_n 2, 1) := dk_28 (dk_at dksX0_off_0 18 rfl rfl)
theorem dX0_off_19 : decode cX0_off 19 = .ok (.bipush 60, 2) := dk_16 60 (dk_at dksX0_off_0 19 rfl rfl)
theorem dX0_off_21 : decode cX0_off 21 = .ok (.if_icmp .gt 33, 3) := dk_163 0 33 (dk_at dksX0_off_0 21 rfl rfl)
theorem dX0_off_24 : decode cX0_off 24 = .ok (.aload_n 0, 1) := dk_42 (dk_at dksX0_off_1 0 rfl rfl)
theorem dX0_off_25 : decode cX0_off 25 = .ok (.getfield 50, 3) := dk_180 0 50 (dk_at dksX0_off_1 1 rfl rfl)
theorem dX0_off_28 : decode cX0_off 28 = .ok (.getfield 206, 3) := dk_180 0 206 (dk_at dksX0_off_1 4 rfl rfl)
theorem dX0_off_31 : decode cX0_off 31 = .ok (.iload_n 1, 1) := dk_27 (dk_at dksX0_off_1 7 rfl rfl)
theorem dX0_off_32 : decode cX0_off 32 = .ok (.iaload, 1) := dk_46 (dk_at dksX0_off_1 8 rfl rfl)
theorem dX0_off_33 : decode cX0_off 33 = .ok (.bipush 99, 2) := dk_16 99 (dk_at dksX0_off_1 9 rfl rfl)
theorem dX0_off_35 : decode cX0_off 35 = .ok (.if_icmp .ne 5, 3) := dk_160 0 5 (dk_at dksX0_off_1 11 rfl rfl)
theorem dX0_off_38 : decode cX0_off 38 = .ok (.iload_n 2, 1) := dk_28 (dk_at dksX0_off_1 14 rfl rfl)
theorem dX0_off_39 : decode cX0_off 39 = .ok (.ireturn, 1) := dk_172 (dk_at dksX0_off_1 15 rfl rfl)
theorem dX0_off_40 : decode cX0_off 40 = .ok (.aload_n 0, 1) := dk_42 (dk_at dksX0_off_1 16 rfl rfl)
theorem dX0_off_41 : decode cX0_off 41 = .ok (.getfield 50, 3) := dk_180 0 50 (dk_at dksX0_off_1 17 rfl rfl)
theorem dX0_off_44 : decode cX0_off 44 = .ok (.invokevirtual 190, 3) := dk_182 0 190 (dk_at dksX0_off_1 20 rfl rfl)
theorem dX0_off_47 : decode cX0_off 47 = .ok (.pop, 1) := dk_87 (dk_at dksX0_off_1 23 rfl rfl)
theorem dX0_off_48 : decode cX0_off 48 = .ok (.iinc 2 1, 3) := dk_132 2 1 (dk_at dksX0_off_2 0 rfl rfl)
theorem dX0_off_51 : decode cX0_off 51 = .ok (.goto (-33), 3) := dk_167 255 223 (dk_at dksX0_off_2 3 rfl rfl)
theorem dX0_off_54 : decode cX0_off 54 = .ok (.ldc 234, 2) := dk_18 234 (dk_at dksX0_off_2 6 rfl rfl)
theorem dX0_off_56 : decode cX0_off 56 = .ok (.ireturn, 1) := dk_172 (dk_at dksX0_off_2 8 rfl rfl)
abbrev cX0_clear : ByteArray := prog_1_method_36_code
def yX0_clear : MethodName := ⟨RX0, "clear", "()I"⟩
def dkwX0_clear_1 : List UInt8 := [18, 234, 167, 0, 4, 27, 172]
abbrev dktX0_clear_1 : List UInt8 := dkwX0_clear_1 ++ []
def dkwX0_clear_0 : List UInt8 := [42, 182, 0, 177, 154, 0, 6, 18, 181, 172, 42, 182, 0, 228, 182, 0, 235, 60, 27, 16, 60, 164, 0, 8]
abbrev dktX0_clear_0 : List UInt8 := dkwX0_clear_0 ++ dktX0_clear_1
theorem dksX0_clear_0 : cX0_clear.data.toList.drop 0 = dktX0_clear_0 := by decide +kernel
theorem dksX0_clear_1 : cX0_clear.data.toList.drop 24 = dktX0_clear_1 := dk_seg dksX0_clear_0 24 rfl rfl
theorem dX0_clear_0 : decode cX0_clear 0 = .ok (.aload_n 0, 1) := dk_42 (dk_at dksX0_clear_0 0 rfl rfl)
theorem dX0_clear_1 : decode cX0_clear 1 = .ok (.invokevirtual 177, 3) := dk_182 0 177 (dk_at dksX0_clear_0 1 rfl rfl)
theorem dX0_clear_4 : decode cX0_clear 4 = .ok (.ifCond .ne 6, 3) := dk_154 0 6 (dk_at dksX0_clear_0 4 rfl rfl)
theorem dX0_clear_7 : decode cX0_clear 7 = .ok (.ldc 181, 2) := dk_18 181 (dk_at dksX0_clear_0 7 rfl rfl)
theorem dX0_clear_9 : decode cX0_clear 9 = .ok (.ireturn, 1) := dk_172 (dk_at dksX0_clear_0 9 rfl rfl)
theorem dX0_clear_10 : decode cX0_clear 10 = .ok (.aload_n 0, 1) := dk_42 (dk_at dksX0_clear_0 10 rfl rfl)
theorem dX0_clear_11 : decode cX0_clear 11 = .ok (.invokevirtual 228, 3) := dk_182 0 228 (dk_at dksX0_clear_0 11 rfl rfl)
theorem dX0_clear_14 : decode cX0_clear 14 = .ok (.invokevirtual 235, 3) := dk_182 0 235 (dk_at dksX0_clear_0 14 rfl rfl)
theorem dX0_clear_17 : decode cX0_clear 17 = .ok (.istore_n 1, 1) := dk_60 (dk_at dksX0_clear_0 17 rfl rfl)
theorem dX0_clear_18 : decode cX0_clear 18 = .ok (.iload_n 1, 1) := dk_27 (dk_at dksX0_clear_0 18 rfl rfl)
theorem dX0_clear_19 : decode cX0_clear 19 = .ok (.bipush 60, 2) := dk_16 60 (dk_at dksX0_clear_0 19 rfl rfl)
theorem dX0_clear_21 : decode cX0_clear 21 = .ok (.if_icmp .le 8, 3) := dk_164 0 8 (dk_at dksX0_clear_0 21 rfl rfl)
theorem dX0_clear_24 : decode cX0_clear 24 = .ok (.ldc 234, 2) := dk_18 234 (dk_at dksX0_clear_1 0 rfl rfl)
theorem dX0_clear_26 : decode cX0_clear 26 = .ok (.goto 4, 3) := dk_167 0 4 (dk_at dksX0_clear_1 2 rfl rfl)
theorem dX0_clear_29 : decode cX0_clear 29 = .ok (.iload_n 1, 1) := dk_27 (dk_at dksX0_clear_1 5 rfl rfl)
theorem dX0_clear_30 : decode cX0_clear 30 = .ok (.ireturn, 1) := dk_172 (dk_at dksX0_clear_1 6 rfl rfl)
abbrev cX0_sorting : ByteArray := prog_1_method_37_code
def yX0_sorting : MethodName := ⟨RX0, "sorting", "(I)I"⟩
def dkwX0_sorting_7 : List UInt8 := [21, 4, 167, 0, 4, 29, 172]
abbrev dktX0_sorting_7 : List UInt8 := dkwX0_sorting_7 ++ []
def dkwX0_sorting_6 : List UInt8 := [21, 6, 184, 0, 245, 62, 132, 5, 1, 167, 255, 144, 21, 4, 18, 234, 159, 0, 8, 27, 4, 160, 0, 8]
abbrev dktX0_sorting_6 : List UInt8 := dkwX0_sorting_6 ++ dktX0_sorting_7
def dkwX0_sorting_5 : List UInt8 := [180, 0, 50, 182, 0, 235, 54, 6, 21, 6, 29, 162, 0, 8, 21, 5, 167, 0, 5, 21, 4, 54, 4, 29]
abbrev dktX0_sorting_5 : List UInt8 := dkwX0_sorting_5 ++ dktX0_sorting_6
def dkwX0_sorting_4 : List UInt8 := [21, 5, 21, 6, 184, 0, 241, 153, 0, 7, 4, 167, 0, 4, 3, 79, 132, 6, 1, 167, 255, 207, 42]
abbrev dktX0_sorting_4 : List UInt8 := dkwX0_sorting_4 ++ dktX0_sorting_5
def dkwX0_sorting_3 : List UInt8 := [182, 0, 171, 162, 0, 43, 28, 21, 6, 184, 0, 241, 153, 0, 28, 42, 180, 0, 50, 180, 0, 203, 21, 6]
abbrev dktX0_sorting_3 : List UInt8 := dkwX0_sorting_3 ++ dktX0_sorting_4
def dkwX0_sorting_2 : List UInt8 := [2, 130, 126, 153, 0, 6, 167, 0, 94, 42, 182, 0, 228, 87, 3, 54, 6, 21, 6, 42, 180, 0, 46]
abbrev dktX0_sorting_2 : List UInt8 := dkwX0_sorting_2 ++ dktX0_sorting_3
def dkwX0_sorting_1 : List UInt8 := [2, 182, 0, 238, 61, 16, 61, 62, 18, 234, 54, 4, 3, 54, 5, 21, 5, 28, 163, 0, 112, 21, 5, 28]
abbrev dktX0_sorting_1 : List UInt8 := dkwX0_sorting_1 ++ dktX0_sorting_2
def dkwX0_sorting_0 : List UInt8 := [42, 182, 0, 177, 154, 0, 6, 18, 181, 172, 27, 184, 0, 216, 154, 0, 6, 18, 91, 172, 42, 180, 0, 46]
abbrev dktX0_sorting_0 : List UInt8 := dkwX0_sorting_0 ++ dktX0_sorting_1
theorem dksX0_sorting_0 : cX0_sorting.data.toList.drop 0 = dktX0_sorting_0 := by decide +kernel
theorem dksX0_sorting_1 : cX0_sorting.data.toList.drop 24 = dktX0_sorting_1 := dk_seg dksX0_sorting_0 24 rfl rfl
theorem dksX0_sorting_2 : cX0_sorting.data.toList.drop 48 = dktX0_sorting_2 := dk_seg dksX0_sorting_1 24 rfl rfl
theorem dksX0_sorting_3 : cX0_sorting.data.toList.drop 71 = dktX0_sorting_3 := dk_seg dksX0_sorting_2 23 rfl rfl
theorem dksX0_sorting_4 : cX0_sorting.data.toList.drop 95 = dktX0_sorting_4 := dk_seg dksX0_sorting_3 24 rfl rfl
theorem dksX0_sorting_5 : cX0_sorting.data.toList.drop 118 = dktX0_sorting_5 := dk_seg dksX0_sorting_4 23 rfl rfl
theorem dksX0_sorting_6 : cX0_sorting.data.toList.drop 142 = dktX0_sorting_6 := dk_seg dksX0_sorting_5 24 rfl rfl
theorem dksX0_sorting_7 : cX0_sorting.data.toList.drop 166 = dktX0_sorting_7 := dk_seg dksX0_sorting_6 24 rfl rfl
theorem dX0_sorting_0 : decode cX0_sorting 0 = .ok (.aload_n 0, 1) := dk_42 (dk_at dksX0_sorting_0 0 rfl rfl)
theorem dX0_sorting_1 : decode cX0_sorting 1 = .ok (.invokevirtual 177, 3) := dk_182 0 177 (dk_at dksX0_sorting_0 1 rfl rfl)
theorem dX0_sorting_4 : decode cX0_sorting 4 = .ok (.ifCond .ne 6, 3) := dk_154 0 6 (dk_at dksX0_sorting_0 4 rfl rfl)
theorem dX0_sorting_7 : decode cX0_sorting 7 = .ok (.ldc 181, 2) := dk_18 181 (dk_at dksX0_sorting_0 7 rfl rfl)
theorem dX0_sorting_9 : decode cX0_sorting 9 = .ok (.ireturn, 1) := dk_172 (dk_at dksX0_sorting_0 9 rfl rfl)
theorem dX0_sorting_10 : decode cX0_sorting 10 = .ok (.iload_n 1, 1) := dk_27 (dk_at dksX0_sorting_0 10 rfl rfl)
theorem dX0_sorting_11 : decode cX0_sorting 11 = .ok (.invokestatic 216, 3) := dk_184 0 216 (dk_at dksX0_sorting_0 11 rfl rfl)
theorem dX0_sorting_14 : decode cX0_sorting 14 = .ok (.ifCond .ne 6, 3) := dk_154 0 6 (dk_at dksX0_sorting_0 14 rfl rfl)
theorem dX0_sorting_17 : decode cX0_sorting 17 = .ok (.ldc 91, 2) := dk_18 91 (dk_at dksX0_sorting_0 17 rfl rfl)
theorem dX0_sorting_19 : decode cX0_sorting 19 = .ok (.ireturn, 1) := dk_172 (dk_at dksX0_sorting_0 19 rfl rfl)
theorem dX0_sorting_20 : decode cX0_sorting 20 = .ok (.aload_n 0, 1) := dk_42 (dk_at dksX0_sorting_0 20 rfl rfl)
theorem dX0_sorting_21 : decode cX0_sorting 21 = .ok (.getfield 46, 3) := dk_180 0 46 (dk_at dksX0_sorting_0 21 rfl rfl)
theorem dX0_sorting_24 : decode cX0_sorting 24 = .ok (.iconst (-1), 1) := dk_2 (dk_at dksX0_sorting_1 0 rfl rfl)
theorem dX0_sorting_25 : decode cX0_sorting 25 = .ok (.invokevirtual 238, 3) := dk_182 0 238 (dk_at dksX0_sorting_1 1 rfl rfl)
theorem dX0_sorting_28 : decode cX0_sorting 28 = .ok (.istore_n 2, 1) := dk_61 (dk_at dksX0_sorting_1 4 rfl rfl)
theorem dX0_sorting_29 : decode cX0_sorting 29 = .ok (.bipush 61, 2) := dk_16 61 (dk_at dksX0_sorting_1 5 rfl rfl)
theorem dX0_sorting_31 : decode cX0_sorting 31 = .ok (.istore_n 3, 1) := dk_62 (dk_at dksX0_sorting_1 7 rfl rfl)
theorem dX0_sorting_32 : decode cX0_sorting 32 = .ok (.ldc 234, 2) := dk_18 234 (dk_at dksX0_sorting_1 8 rfl rfl)
theorem dX0_sorting_34 : decode cX0_sorting 34 = .ok (.istore 4, 2) := dk_54 4 (dk_at dksX0_sorting_1 10 rfl rfl)
theorem dX0_sorting_36 : decode cX0_sorting 36 = .ok (.iconst 0, 1) := dk_3 (dk_at dksX0_sorting_1 12 rfl rfl)
theorem dX0_sorting_37 : decode cX0_sorting 37 = .ok (.istore 5, 2) := dk_54 5 (dk_at dksX0_sorting_1 13 rfl rfl)
theorem dX0_sorting_39 : decode cX0_sorting 39 = .ok (.iload 5, 2) := dk_21 5 (dk_at dksX0_sorting_1 15 rfl rfl)
theorem dX0_sorting_41 : decode cX0_sorting 41 = .ok (.iload_n 2, 1) := dk_28 (dk_at dksX0_sorting_1 17 rfl rfl)
theorem dX0_sorting_42 : decode cX0_sorting 42 = .ok (.if_icmp .gt 112, 3) := dk_163 0 112 (dk_at dksX0_sorting_1 18 rfl rfl)
theorem dX0_sorting_45 : decode cX0_sorting 45 = .ok (.iload 5, 2) := dk_21 5 (dk_at dksX0_sorting_1 21 rfl rfl)
theorem dX0_sorting_47 : decode cX0_sorting 47 = .ok (.iload_n 2, 1) := dk_28 (dk_at dksX0_sorting_1 23 rfl rfl)
theorem dX0_sorting_48 : decode cX0_sorting 48 = .ok (.iconst (-1), 1) := dk_2 (dk_at dksX0_sorting_2 0 rfl rfl)
theorem dX0_sorting_49 : decode cX0_sorting 49 = .ok (.ixor, 1) := dk_130 (dk_at dksX0_sorting_2 1 rfl rfl)
theorem dX0_sorting_50 : decode cX0_sorting 50 = .ok (.iand, 1) := dk_126 (dk_at dksX0_sorting_2 2 rfl rfl)
theorem dX0_sorting_51 : decode cX0_sorting 51 = .ok (.ifCond .eq 6, 3) := dk_153 0 6 (dk_at dksX0_sorting_2 3 rfl rfl)
theorem dX0_sorting_54 : decode cX0_sorting 54 = .ok (.goto 94, 3) := dk_167 0 94 (dk_at dksX0_sorting_2 6 rfl rfl)
theorem dX0_sorting_57 : decode cX0_sorting 57 = .ok (.aload_n 0, 1) := dk_42 (dk_at dksX0_sorting_2 9 rfl rfl)
theorem dX0_sorting_58 : decode cX0_sorting 58 = .ok (.invokevirtual 228, 3) := dk_182 0 228 (dk_at dksX0_sorting_2 10 rfl rfl)
theorem dX0_sorting_61 : decode cX0_sorting 61 = .ok (.pop, 1) := dk_87 (dk_at dksX0_sorting_2 13 rfl rfl)
theorem dX0_sorting_62 : decode cX0_sorting 62 = .ok (.iconst 0, 1) := dk_3 (dk_at dksX0_sorting_2 14 rfl rfl)
theorem dX0_sorting_63 : decode cX0_sorting 63 = .ok (.istore 6, 2) := dk_54 6 (dk_at dksX0_sorting_2 15 rfl rfl)
theorem dX0_sorting_65 : decode cX0_sorting 65 = .ok (.iload 6, 2) := dk_21 6 (dk_at dksX0_sorting_2 17 rfl rfl)
theorem dX0_sorting_67 : decode cX0_sorting 67 = .ok (.aload_n 0, 1) := dk_42 (dk_at dksX0_sorting_2 19 rfl rfl)
theorem dX0_sorting_68 : decode cX0_sorting 68 = .ok (.getfield 46, 3) := dk_180 0 46 (dk_at dksX0_sorting_2 20 rfl rfl)
theorem dX0_sorting_71 : decode cX0_sorting 71 = .ok (.invokevirtual 171, 3) := dk_182 0 171 (dk_at dksX0_sorting_3 0 rfl rfl)
theorem dX0_sorting_74 : decode cX0_sorting 74 = .ok (.if_icmp .ge 43, 3) := dk_162 0 43 (dk_at dksX0_sorting_3 3 rfl rfl)
theorem dX0_sorting_77 : decode cX0_sorting 77 = .ok (.iload_n 2, 1) := dk_28 (dk_at dksX0_sorting_3 6 rfl rfl)
theorem dX0_sorting_78 : decode cX0_sorting 78 = .ok (.iload 6, 2) := dk_21 6 (dk_at dksX0_sorting_3 7 rfl rfl)
theorem dX0_sorting_80 : decode cX0_sorting 80 = .ok (.invokestatic 241, 3) := dk_184 0 241 (dk_at dksX0_sorting_3 9 rfl rfl)
theorem dX0_sorting_83 : decode cX0_sorting 83 = .ok (.ifCond .eq 28, 3) := dk_153 0 28 (dk_at dksX0_sorting_3 12 rfl rfl)
theorem dX0_sorting_86 : decode cX0_sorting 86 = .ok (.aload_n 0, 1) := dk_42 (dk_at dksX0_sorting_3 15 rfl rfl)
theorem dX0_sorting_87 : decode cX0_sorting 87 = .ok (.getfield 50, 3) := dk_180 0 50 (dk_at dksX0_sorting_3 16 rfl rfl)
theorem dX0_sorting_90 : decode cX0_sorting 90 = .ok (.getfield 203, 3) := dk_180 0 203 (dk_at dksX0_sorting_3 19 rfl rfl)
theorem dX0_sorting_93 : decode cX0_sorting 93 = .ok (.iload 6, 2) := dk_21 6 (dk_at dksX0_sorting_3 22 rfl rfl)
theorem dX0_sorting_95 : decode cX0_sorting 95 = .ok (.iload 5, 2) := dk_21 5 (dk_at dksX0_sorting_4 0 rfl rfl)
theorem dX0_sorting_97 : decode cX0_sorting 97 = .ok (.iload 6, 2) := dk_21 6 (dk_at dksX0_sorting_4 2 rfl rfl)
theorem dX0_sorting_99 : decode cX0_sorting 99 = .ok (.invokestatic 241, 3) := dk_184 0 241 (dk_at dksX0_sorting_4 4 rfl rfl)
theorem dX0_sorting_102 : decode cX0_sorting 102 = .ok (.ifCond .eq 7, 3) := dk_153 0 7 (dk_at dksX0_sorting_4 7 rfl rfl)
theorem dX0_sorting_105 : decode cX0_sorting 105 = .ok (.iconst 1, 1) := dk_4 (dk_at dksX0_sorting_4 10 rfl rfl)
theorem dX0_sorting_106 : decode cX0_sorting 106 = .ok (.goto 4, 3) := dk_167 0 4 (dk_at dksX0_sorting_4 11 rfl rfl)
theorem dX0_sorting_109 : decode cX0_sorting 109 = .ok (.iconst 0, 1) := dk_3 (dk_at dksX0_sorting_4 14 rfl rfl)
theorem dX0_sorting_110 : decode cX0_sorting 110 = .ok (.iastore, 1) := dk_79 (dk_at dksX0_sorting_4 15 rfl rfl)
theorem dX0_sorting_111 : decode cX0_sorting 111 = .ok (.iinc 6 1, 3) := dk_132 6 1 (dk_at dksX0_sorting_4 16 rfl rfl)
theorem dX0_sorting_114 : decode cX0_sorting 114 = .ok (.goto (-49), 3) := dk_167 255 207 (dk_at dksX0_sorting_4 19 rfl rfl)
theorem dX0_sorting_117 : decode cX0_sorting 117 = .ok (.aload_n 0, 1) := dk_42 (dk_at dksX0_sorting_4 22 rfl rfl)
theorem dX0_sorting_118 : decode cX0_sorting 118 = .ok (.getfield 50, 3) := dk_180 0 50 (dk_at dksX0_sorting_5 0 rfl rfl)
theorem dX0_sorting_121 : decode cX0_sorting 121 = .ok (.invokevirtual 235, 3) := dk_182 0 235 (dk_at dksX0_sorting_5 3 rfl rfl)
theorem dX0_sorting_124 : decode cX0_sorting 124 = .ok (.istore 6, 2) := dk_54 6 (dk_at dksX0_sorting_5 6 rfl rfl)
theorem dX0_sorting_126 : decode cX0_sorting 126 = .ok (.iload 6, 2) := dk_21 6 (dk_at dksX0_sorting_5 8 rfl rfl)
theorem dX0_sorting_128 : decode cX0_sorting 128 = .ok (.iload_n 3, 1) := dk_29 (dk_at dksX0_sorting_5 10 rfl rfl)
theorem dX0_sorting_129 : decode cX0_sorting 129 = .ok (.if_icmp .ge 8, 3) := dk_162 0 8 (dk_at dksX0_sorting_5 11 rfl rfl)
theorem dX0_sorting_132 : decode cX0_sorting 132 = .ok (.iload 5, 2) := dk_21 5 (dk_at dksX0_sorting_5 14 rfl rfl)
theorem dX0_sorting_134 : decode cX0_sorting 134 = .ok (.goto 5, 3) := dk_167 0 5 (dk_at dksX0_sorting_5 16 rfl rfl)
theorem dX0_sorting_137 : decode cX0_sorting 137 = .ok (.iload 4, 2) := dk_21 4 (dk_at dksX0_sorting_5 19 rfl rfl)
theorem dX0_sorting_139 : decode cX0_sorting 139 = .ok (.istore 4, 2) := dk_54 4 (dk_at dksX0_sorting_5 21 rfl rfl)
theorem dX0_sorting_141 : decode cX0_sorting 141 = .ok (.iload_n 3, 1) := dk_29 (dk_at dksX0_sorting_5 23 rfl rfl)
theorem dX0_sorting_142 : decode cX0_sorting 142 = .ok (.iload 6, 2) := dk_21 6 (dk_at dksX0_sorting_6 0 rfl rfl)
theorem dX0_sorting_144 : decode cX0_sorting 144 = .ok (.invokestatic 245, 3) := dk_184 0 245 (dk_at dksX0_sorting_6 2 rfl rfl)
theorem dX0_sorting_147 : decode cX0_sorting 147 = .ok (.istore_n 3, 1) := dk_62 (dk_at dksX0_sorting_6 5 rfl rfl)
theorem dX0_sorting_148 : decode cX0_sorting 148 = .ok (.iinc 5 1, 3) := dk_132 5 1 (dk_at dksX0_sorting_6 6 rfl rfl)
theorem dX0_sorting_151 : decode cX0_sorting 151 = .ok (.goto (-112), 3) := dk_167 255 144 (dk_at dksX0_sorting_6 9 rfl rfl)
theorem dX0_sorting_154 : decode cX0_sorting 154 = .ok (.iload 4, 2) := dk_21 4 (dk_at dksX0_sorting_6 12 rfl rfl)
theorem dX0_sorting_156 : decode cX0_sorting 156 = .ok (.ldc 234, 2) := dk_18 234 (dk_at dksX0_sorting_6 14 rfl rfl)
theorem dX0_sorting_158 : decode cX0_sorting 158 = .ok (.if_icmp .eq 8, 3) := dk_159 0 8 (dk_at dksX0_sorting_6 16 rfl rfl)
theorem dX0_sorting_161 : decode cX0_sorting 161 = .ok (.iload_n 1, 1) := dk_27 (dk_at dksX0_sorting_6 19 rfl rfl)
theorem dX0_sorting_162 : decode cX0_sorting 162 = .ok (.iconst 1, 1) := dk_4 (dk_at dksX0_sorting_6 20 rfl rfl)
theorem dX0_sorting_163 : decode cX0_sorting 163 = .ok (.if_icmp .ne 8, 3) := dk_160 0 8 (dk_at dksX0_sorting_6 21 rfl rfl)
theorem dX0_sorting_166 : decode cX0_sorting 166 = .ok (.iload 4, 2) := dk_21 4 (dk_at dksX0_sorting_7 0 rfl rfl)
theorem dX0_sorting_168 : decode cX0_sorting 168 = .ok (.goto 4, 3) := dk_167 0 4 (dk_at dksX0_sorting_7 2 rfl rfl)
theorem dX0_sorting_171 : decode cX0_sorting 171 = .ok (.iload_n 3, 1) := dk_29 (dk_at dksX0_sorting_7 5 rfl rfl)
theorem dX0_sorting_172 : decode cX0_sorting 172 = .ok (.ireturn, 1) := dk_172 (dk_at dksX0_sorting_7 6 rfl rfl)
abbrev cX0_has : ByteArray := prog_1_method_2_code
def yX0_has : MethodName := ⟨RX0, "has", "(II)Z"⟩
def dkwX0_has_0 : List UInt8 := [26, 27, 122, 4, 126, 4, 160, 0, 7, 4, 167, 0, 4, 3, 172]
abbrev dktX0_has_0 : List UInt8 := dkwX0_has_0 ++ []
theorem dksX0_has_0 : cX0_has.data.toList.drop 0 = dktX0_has_0 := by decide +kernel
theorem dX0_has_0 : decode cX0_has 0 = .ok (.iload_n 0, 1) := dk_26 (dk_at dksX0_has_0 0 rfl rfl)
theorem dX0_has_1 : decode cX0_has 1 = .ok (.iload_n 1, 1) := dk_27 (dk_at dksX0_has_0 1 rfl rfl)
theorem dX0_has_2 : decode cX0_has 2 = .ok (.ishr, 1) := dk_122 (dk_at dksX0_has_0 2 rfl rfl)
theorem dX0_has_3 : decode cX0_has 3 = .ok (.iconst 1, 1) := dk_4 (dk_at dksX0_has_0 3 rfl rfl)
theorem dX0_has_4 : decode cX0_has 4 = .ok (.iand, 1) := dk_126 (dk_at dksX0_has_0 4 rfl rfl)
theorem dX0_has_5 : decode cX0_has 5 = .ok (.iconst 1, 1) := dk_4 (dk_at dksX0_has_0 5 rfl rfl)
theorem dX0_has_6 : decode cX0_has 6 = .ok (.if_icmp .ne 7, 3) := dk_160 0 7 (dk_at dksX0_has_0 6 rfl rfl)
theorem dX0_has_9 : decode cX0_has 9 = .ok (.iconst 1, 1) := dk_4 (dk_at dksX0_has_0 9 rfl rfl)
theorem dX0_has_10 : decode cX0_has 10 = .ok (.goto 4, 3) := dk_167 0 4 (dk_at dksX0_has_0 10 rfl rfl)
theorem dX0_has_13 : decode cX0_has 13 = .ok (.iconst 0, 1) := dk_3 (dk_at dksX0_has_0 13 rfl rfl)
theorem dX0_has_14 : decode cX0_has 14 = .ok (.ireturn, 1) := dk_172 (dk_at dksX0_has_0 14 rfl rfl)
abbrev cX0_taken : ByteArray := prog_1_method_38_code
def yX0_taken : MethodName := ⟨RX0, "taken", "(I)I"⟩
def dkwX0_taken_5 : List UInt8 := [27, 154, 0, 7, 29, 167, 0, 4, 28, 172]
abbrev dktX0_taken_5 : List UInt8 := dkwX0_taken_5 ++ []
def dkwX0_taken_4 : List UInt8 := [167, 0, 4, 29, 62, 28, 21, 5, 184, 0, 245, 61, 132, 4, 1, 167, 255, 182, 29, 18, 234, 159, 0, 7]
abbrev dktX0_taken_4 : List UInt8 := dkwX0_taken_4 ++ dktX0_taken_5
def dkwX0_taken_3 : List UInt8 := [21, 4, 16, 99, 79, 42, 180, 0, 50, 182, 0, 235, 54, 5, 21, 5, 28, 162, 0, 8, 21, 4]
abbrev dktX0_taken_3 : List UInt8 := dkwX0_taken_3 ++ dktX0_taken_4
def dkwX0_taken_2 : List UInt8 := [180, 0, 46, 180, 0, 206, 21, 4, 46, 16, 99, 160, 0, 6, 167, 0, 44, 42, 182, 0, 228, 180, 0, 206]
abbrev dktX0_taken_2 : List UInt8 := dkwX0_taken_2 ++ dktX0_taken_3
def dkwX0_taken_1 : List UInt8 := [182, 0, 235, 61, 18, 234, 62, 3, 54, 4, 21, 4, 42, 180, 0, 46, 182, 0, 171, 162, 0, 68, 42]
abbrev dktX0_taken_1 : List UInt8 := dkwX0_taken_1 ++ dktX0_taken_2
def dkwX0_taken_0 : List UInt8 := [42, 182, 0, 177, 154, 0, 6, 18, 181, 172, 27, 184, 0, 216, 154, 0, 6, 18, 91, 172, 42, 182, 0, 228]
abbrev dktX0_taken_0 : List UInt8 := dkwX0_taken_0 ++ dktX0_taken_1
theorem dksX0_taken_0 : cX0_taken.data.toList.drop 0 = dktX0_taken_0 := by decide +kernel
theorem dksX0_taken_1 : cX0_taken.data.toList.drop 24 = dktX0_taken_1 := dk_seg dksX0_taken_0 24 rfl rfl
theorem dksX0_taken_2 : cX0_taken.data.toList.drop 47 = dktX0_taken_2 := dk_seg dksX0_taken_1 23 rfl rfl
theorem dksX0_taken_3 : cX0_taken.data.toList.drop 71 = dktX0_taken_3 := dk_seg dksX0_taken_2 24 rfl rfl
theorem dksX0_taken_4 : cX0_taken.data.toList.drop 93 = dktX0_taken_4 := dk_seg dksX0_taken_3 22 rfl rfl
theorem dksX0_taken_5 : cX0_taken.data.toList.drop 117 = dktX0_taken_5 := dk_seg dksX0_taken_4 24 rfl rfl
theorem dX0_taken_0 : decode cX0_taken 0 = .ok (.aload_n 0, 1) := dk_42 (dk_at dksX0_taken_0 0 rfl rfl)
theorem dX0_taken_1 : decode cX0_taken 1 = .ok (.invokevirtual 177, 3) := dk_182 0 177 (dk_at dksX0_taken_0 1 rfl rfl)
theorem dX0_taken_4 : decode cX0_taken 4 = .ok (.ifCond .ne 6, 3) := dk_154 0 6 (dk_at dksX0_taken_0 4 rfl rfl)
theorem dX0_taken_7 : decode cX0_taken 7 = .ok (.ldc 181, 2) := dk_18 181 (dk_at dksX0_taken_0 7 rfl rfl)
theorem dX0_taken_9 : decode cX0_taken 9 = .ok (.ireturn, 1) := dk_172 (dk_at dksX0_taken_0 9 rfl rfl)
theorem dX0_taken_10 : decode cX0_taken 10 = .ok (.iload_n 1, 1) := dk_27 (dk_at dksX0_taken_0 10 rfl rfl)
theorem dX0_taken_11 : decode cX0_taken 11 = .ok (.invokestatic 216, 3) := dk_184 0 216 (dk_at dksX0_taken_0 11 rfl rfl)
theorem dX0_taken_14 : decode cX0_taken 14 = .ok (.ifCond .ne 6, 3) := dk_154 0 6 (dk_at dksX0_taken_0 14 rfl rfl)
theorem dX0_taken_17 : decode cX0_taken 17 = .ok (.ldc 91, 2) := dk_18 91 (dk_at dksX0_taken_0 17 rfl rfl)
theorem dX0_taken_19 : decode cX0_taken 19 = .ok (.ireturn, 1) := dk_172 (dk_at dksX0_taken_0 19 rfl rfl)
theorem dX0_taken_20 : decode cX0_taken 20 = .ok (.aload_n 0, 1) := dk_42 (dk_at dksX0_taken_0 20 rfl rfl)
theorem dX0_taken_21 : decode cX0_taken 21 = .ok (.invokevirtual 228, 3) := dk_182 0 228 (dk_at dksX0_taken_0 21 rfl rfl)
theorem dX0_taken_24 : decode cX0_taken 24 = .ok (.invokevirtual 235, 3) := dk_182 0 235 (dk_at dksX0_taken_1 0 rfl rfl)
theorem dX0_taken_27 : decode cX0_taken 27 = .ok (.istore_n 2, 1) := dk_61 (dk_at dksX0_taken_1 3 rfl rfl)
theorem dX0_taken_28 : decode cX0_taken 28 = .ok (.ldc 234, 2) := dk_18 234 (dk_at dksX0_taken_1 4 rfl rfl)
theorem dX0_taken_30 : decode cX0_taken 30 = .ok (.istore_n 3, 1) := dk_62 (dk_at dksX0_taken_1 6 rfl rfl)
theorem dX0_taken_31 : decode cX0_taken 31 = .ok (.iconst 0, 1) := dk_3 (dk_at dksX0_taken_1 7 rfl rfl)
theorem dX0_taken_32 : decode cX0_taken 32 = .ok (.istore 4, 2) := dk_54 4 (dk_at dksX0_taken_1 8 rfl rfl)
theorem dX0_taken_34 : decode cX0_taken 34 = .ok (.iload 4, 2) := dk_21 4 (dk_at dksX0_taken_1 10 rfl rfl)
theorem dX0_taken_36 : decode cX0_taken 36 = .ok (.aload_n 0, 1) := dk_42 (dk_at dksX0_taken_1 12 rfl rfl)
theorem dX0_taken_37 : decode cX0_taken 37 = .ok (.getfield 46, 3) := dk_180 0 46 (dk_at dksX0_taken_1 13 rfl rfl)
theorem dX0_taken_40 : decode cX0_taken 40 = .ok (.invokevirtual 171, 3) := dk_182 0 171 (dk_at dksX0_taken_1 16 rfl rfl)
theorem dX0_taken_43 : decode cX0_taken 43 = .ok (.if_icmp .ge 68, 3) := dk_162 0 68 (dk_at dksX0_taken_1 19 rfl rfl)
theorem dX0_taken_46 : decode cX0_taken 46 = .ok (.aload_n 0, 1) := dk_42 (dk_at dksX0_taken_1 22 rfl rfl)
theorem dX0_taken_47 : decode cX0_taken 47 = .ok (.getfield 46, 3) := dk_180 0 46 (dk_at dksX0_taken_2 0 rfl rfl)
theorem dX0_taken_50 : decode cX0_taken 50 = .ok (.getfield 206, 3) := dk_180 0 206 (dk_at dksX0_taken_2 3 rfl rfl)
theorem dX0_taken_53 : decode cX0_taken 53 = .ok (.iload 4, 2) := dk_21 4 (dk_at dksX0_taken_2 6 rfl rfl)
theorem dX0_taken_55 : decode cX0_taken 55 = .ok (.iaload, 1) := dk_46 (dk_at dksX0_taken_2 8 rfl rfl)
theorem dX0_taken_56 : decode cX0_taken 56 = .ok (.bipush 99, 2) := dk_16 99 (dk_at dksX0_taken_2 9 rfl rfl)
theorem dX0_taken_58 : decode cX0_taken 58 = .ok (.if_icmp .ne 6, 3) := dk_160 0 6 (dk_at dksX0_taken_2 11 rfl rfl)
theorem dX0_taken_61 : decode cX0_taken 61 = .ok (.goto 44, 3) := dk_167 0 44 (dk_at dksX0_taken_2 14 rfl rfl)
theorem dX0_taken_64 : decode cX0_taken 64 = .ok (.aload_n 0, 1) := dk_42 (dk_at dksX0_taken_2 17 rfl rfl)
theorem dX0_taken_65 : decode cX0_taken 65 = .ok (.invokevirtual 228, 3) := dk_182 0 228 (dk_at dksX0_taken_2 18 rfl rfl)
theorem dX0_taken_68 : decode cX0_taken 68 = .ok (.getfield 206, 3) := dk_180 0 206 (dk_at dksX0_taken_2 21 rfl rfl)
theorem dX0_taken_71 : decode cX0_taken 71 = .ok (.iload 4, 2) := dk_21 4 (dk_at dksX0_taken_3 0 rfl rfl)
theorem dX0_taken_73 : decode cX0_taken 73 = .ok (.bipush 99, 2) := dk_16 99 (dk_at dksX0_taken_3 2 rfl rfl)
theorem dX0_taken_75 : decode cX0_taken 75 = .ok (.iastore, 1) := dk_79 (dk_at dksX0_taken_3 4 rfl rfl)
theorem dX0_taken_76 : decode cX0_taken 76 = .ok (.aload_n 0, 1) := dk_42 (dk_at dksX0_taken_3 5 rfl rfl)
theorem dX0_taken_77 : decode cX0_taken 77 = .ok (.getfield 50, 3) := dk_180 0 50 (dk_at dksX0_taken_3 6 rfl rfl)
theorem dX0_taken_80 : decode cX0_taken 80 = .ok (.invokevirtual 235, 3) := dk_182 0 235 (dk_at dksX0_taken_3 9 rfl rfl)
theorem dX0_taken_83 : decode cX0_taken 83 = .ok (.istore 5, 2) := dk_54 5 (dk_at dksX0_taken_3 12 rfl rfl)
theorem dX0_taken_85 : decode cX0_taken 85 = .ok (.iload 5, 2) := dk_21 5 (dk_at dksX0_taken_3 14 rfl rfl)
theorem dX0_taken_87 : decode cX0_taken 87 = .ok (.iload_n 2, 1) := dk_28 (dk_at dksX0_taken_3 16 rfl rfl)
theorem dX0_taken_88 : decode cX0_taken 88 = .ok (.if_icmp .ge 8, 3) := dk_162 0 8 (dk_at dksX0_taken_3 17 rfl rfl)
theorem dX0_taken_91 : decode cX0_taken 91 = .ok (.iload 4, 2) := dk_21 4 (dk_at dksX0_taken_3 20 rfl rfl)
theorem dX0_taken_93 : decode cX0_taken 93 = .ok (.goto 4, 3) := dk_167 0 4 (dk_at dksX0_taken_4 0 rfl rfl)
theorem dX0_taken_96 : decode cX0_taken 96 = .ok (.iload_n 3, 1) := dk_29 (dk_at dksX0_taken_4 3 rfl rfl)
theorem dX0_taken_97 : decode cX0_taken 97 = .ok (.istore_n 3, 1) := dk_62 (dk_at dksX0_taken_4 4 rfl rfl)
theorem dX0_taken_98 : decode cX0_taken 98 = .ok (.iload_n 2, 1) := dk_28 (dk_at dksX0_taken_4 5 rfl rfl)
theorem dX0_taken_99 : decode cX0_taken 99 = .ok (.iload 5, 2) := dk_21 5 (dk_at dksX0_taken_4 6 rfl rfl)
theorem dX0_taken_101 : decode cX0_taken 101 = .ok (.invokestatic 245, 3) := dk_184 0 245 (dk_at dksX0_taken_4 8 rfl rfl)
theorem dX0_taken_104 : decode cX0_taken 104 = .ok (.istore_n 2, 1) := dk_61 (dk_at dksX0_taken_4 11 rfl rfl)
theorem dX0_taken_105 : decode cX0_taken 105 = .ok (.iinc 4 1, 3) := dk_132 4 1 (dk_at dksX0_taken_4 12 rfl rfl)
theorem dX0_taken_108 : decode cX0_taken 108 = .ok (.goto (-74), 3) := dk_167 255 182 (dk_at dksX0_taken_4 15 rfl rfl)
theorem dX0_taken_111 : decode cX0_taken 111 = .ok (.iload_n 3, 1) := dk_29 (dk_at dksX0_taken_4 18 rfl rfl)
theorem dX0_taken_112 : decode cX0_taken 112 = .ok (.ldc 234, 2) := dk_18 234 (dk_at dksX0_taken_4 19 rfl rfl)
theorem dX0_taken_114 : decode cX0_taken 114 = .ok (.if_icmp .eq 7, 3) := dk_159 0 7 (dk_at dksX0_taken_4 21 rfl rfl)
theorem dX0_taken_117 : decode cX0_taken 117 = .ok (.iload_n 1, 1) := dk_27 (dk_at dksX0_taken_5 0 rfl rfl)
theorem dX0_taken_118 : decode cX0_taken 118 = .ok (.ifCond .ne 7, 3) := dk_154 0 7 (dk_at dksX0_taken_5 1 rfl rfl)
theorem dX0_taken_121 : decode cX0_taken 121 = .ok (.iload_n 3, 1) := dk_29 (dk_at dksX0_taken_5 4 rfl rfl)
theorem dX0_taken_122 : decode cX0_taken 122 = .ok (.goto 4, 3) := dk_167 0 4 (dk_at dksX0_taken_5 5 rfl rfl)
theorem dX0_taken_125 : decode cX0_taken 125 = .ok (.iload_n 2, 1) := dk_28 (dk_at dksX0_taken_5 8 rfl rfl)
theorem dX0_taken_126 : decode cX0_taken 126 = .ok (.ireturn, 1) := dk_172 (dk_at dksX0_taken_5 9 rfl rfl)
abbrev cX0_pace : ByteArray := prog_1_method_40_code
def yX0_pace : MethodName := ⟨RX0, "pace", "(III)I"⟩
def dkwX0_pace_3 : List UInt8 := [167, 0, 9, 42, 180, 0, 71, 29, 46, 172]
abbrev dktX0_pace_3 : List UInt8 := dkwX0_pace_3 ++ []
def dkwX0_pace_2 : List UInt8 := [18, 234, 159, 0, 8, 29, 28, 161, 0, 6, 18, 234, 172, 29, 2, 160, 0, 10, 42, 180, 0, 250]
abbrev dktX0_pace_2 : List UInt8 := dkwX0_pace_2 ++ dktX0_pace_3
def dkwX0_pace_1 : List UInt8 := [162, 0, 6, 18, 91, 172, 42, 18, 234, 181, 0, 250, 42, 3, 3, 27, 28, 182, 0, 253, 42, 180, 0, 250]
abbrev dktX0_pace_1 : List UInt8 := dkwX0_pace_1 ++ dktX0_pace_2
def dkwX0_pace_0 : List UInt8 := [42, 27, 182, 0, 200, 153, 0, 20, 28, 133, 10, 20, 1, 1, 184, 0, 81, 153, 0, 8, 29, 2]
abbrev dktX0_pace_0 : List UInt8 := dkwX0_pace_0 ++ dktX0_pace_1
theorem dksX0_pace_0 : cX0_pace.data.toList.drop 0 = dktX0_pace_0 := by decide +kernel
theorem dksX0_pace_1 : cX0_pace.data.toList.drop 22 = dktX0_pace_1 := dk_seg dksX0_pace_0 22 rfl rfl
theorem dksX0_pace_2 : cX0_pace.data.toList.drop 46 = dktX0_pace_2 := dk_seg dksX0_pace_1 24 rfl rfl
theorem dksX0_pace_3 : cX0_pace.data.toList.drop 68 = dktX0_pace_3 := dk_seg dksX0_pace_2 22 rfl rfl
theorem dX0_pace_0 : decode cX0_pace 0 = .ok (.aload_n 0, 1) := dk_42 (dk_at dksX0_pace_0 0 rfl rfl)
theorem dX0_pace_1 : decode cX0_pace 1 = .ok (.iload_n 1, 1) := dk_27 (dk_at dksX0_pace_0 1 rfl rfl)
theorem dX0_pace_2 : decode cX0_pace 2 = .ok (.invokevirtual 200, 3) := dk_182 0 200 (dk_at dksX0_pace_0 2 rfl rfl)
theorem dX0_pace_5 : decode cX0_pace 5 = .ok (.ifCond .eq 20, 3) := dk_153 0 20 (dk_at dksX0_pace_0 5 rfl rfl)
theorem dX0_pace_8 : decode cX0_pace 8 = .ok (.iload_n 2, 1) := dk_28 (dk_at dksX0_pace_0 8 rfl rfl)
theorem dX0_pace_9 : decode cX0_pace 9 = .ok (.i2l, 1) := dk_133 (dk_at dksX0_pace_0 9 rfl rfl)
theorem dX0_pace_10 : decode cX0_pace 10 = .ok (.lconst 1, 1) := dk_10 (dk_at dksX0_pace_0 10 rfl rfl)
theorem dX0_pace_11 : decode cX0_pace 11 = .ok (.ldc2_w 257, 3) := dk_20 1 1 (dk_at dksX0_pace_0 11 rfl rfl)
theorem dX0_pace_14 : decode cX0_pace 14 = .ok (.invokestatic 81, 3) := dk_184 0 81 (dk_at dksX0_pace_0 14 rfl rfl)
theorem dX0_pace_17 : decode cX0_pace 17 = .ok (.ifCond .eq 8, 3) := dk_153 0 8 (dk_at dksX0_pace_0 17 rfl rfl)
theorem dX0_pace_20 : decode cX0_pace 20 = .ok (.iload_n 3, 1) := dk_29 (dk_at dksX0_pace_0 20 rfl rfl)
theorem dX0_pace_21 : decode cX0_pace 21 = .ok (.iconst (-1), 1) := dk_2 (dk_at dksX0_pace_0 21 rfl rfl)
theorem dX0_pace_22 : decode cX0_pace 22 = .ok (.if_icmp .ge 6, 3) := dk_162 0 6 (dk_at dksX0_pace_1 0 rfl rfl)
theorem dX0_pace_25 : decode cX0_pace 25 = .ok (.ldc 91, 2) := dk_18 91 (dk_at dksX0_pace_1 3 rfl rfl)
theorem dX0_pace_27 : decode cX0_pace 27 = .ok (.ireturn, 1) := dk_172 (dk_at dksX0_pace_1 5 rfl rfl)
theorem dX0_pace_28 : decode cX0_pace 28 = .ok (.aload_n 0, 1) := dk_42 (dk_at dksX0_pace_1 6 rfl rfl)
theorem dX0_pace_29 : decode cX0_pace 29 = .ok (.ldc 234, 2) := dk_18 234 (dk_at dksX0_pace_1 7 rfl rfl)
theorem dX0_pace_31 : decode cX0_pace 31 = .ok (.putfield 250, 3) := dk_181 0 250 (dk_at dksX0_pace_1 9 rfl rfl)
theorem dX0_pace_34 : decode cX0_pace 34 = .ok (.aload_n 0, 1) := dk_42 (dk_at dksX0_pace_1 12 rfl rfl)
theorem dX0_pace_35 : decode cX0_pace 35 = .ok (.iconst 0, 1) := dk_3 (dk_at dksX0_pace_1 13 rfl rfl)
theorem dX0_pace_36 : decode cX0_pace 36 = .ok (.iconst 0, 1) := dk_3 (dk_at dksX0_pace_1 14 rfl rfl)
theorem dX0_pace_37 : decode cX0_pace 37 = .ok (.iload_n 1, 1) := dk_27 (dk_at dksX0_pace_1 15 rfl rfl)
theorem dX0_pace_38 : decode cX0_pace 38 = .ok (.iload_n 2, 1) := dk_28 (dk_at dksX0_pace_1 16 rfl rfl)
theorem dX0_pace_39 : decode cX0_pace 39 = .ok (.invokevirtual 253, 3) := dk_182 0 253 (dk_at dksX0_pace_1 17 rfl rfl)
theorem dX0_pace_42 : decode cX0_pace 42 = .ok (.aload_n 0, 1) := dk_42 (dk_at dksX0_pace_1 20 rfl rfl)
theorem dX0_pace_43 : decode cX0_pace 43 = .ok (.getfield 250, 3) := dk_180 0 250 (dk_at dksX0_pace_1 21 rfl rfl)
theorem dX0_pace_46 : decode cX0_pace 46 = .ok (.ldc 234, 2) := dk_18 234 (dk_at dksX0_pace_2 0 rfl rfl)
theorem dX0_pace_48 : decode cX0_pace 48 = .ok (.if_icmp .eq 8, 3) := dk_159 0 8 (dk_at dksX0_pace_2 2 rfl rfl)
theorem dX0_pace_51 : decode cX0_pace 51 = .ok (.iload_n 3, 1) := dk_29 (dk_at dksX0_pace_2 5 rfl rfl)
theorem dX0_pace_52 : decode cX0_pace 52 = .ok (.iload_n 2, 1) := dk_28 (dk_at dksX0_pace_2 6 rfl rfl)
theorem dX0_pace_53 : decode cX0_pace 53 = .ok (.if_icmp .lt 6, 3) := dk_161 0 6 (dk_at dksX0_pace_2 7 rfl rfl)
theorem dX0_pace_56 : decode cX0_pace 56 = .ok (.ldc 234, 2) := dk_18 234 (dk_at dksX0_pace_2 10 rfl rfl)
theorem dX0_pace_58 : decode cX0_pace 58 = .ok (.ireturn, 1) := dk_172 (dk_at dksX0_pace_2 12 rfl rfl)
theorem dX0_pace_59 : decode cX0_pace 59 = .ok (.iload_n 3, 1) := dk_29 (dk_at dksX0_pace_2 13 rfl rfl)
theorem dX0_pace_60 : decode cX0_pace 60 = .ok (.iconst (-1), 1) := dk_2 (dk_at dksX0_pace_2 14 rfl rfl)
theorem dX0_pace_61 : decode cX0_pace 61 = .ok (.if_icmp .ne 10, 3) := dk_160 0 10 (dk_at dksX0_pace_2 15 rfl rfl)
theorem dX0_pace_64 : decode cX0_pace 64 = .ok (.aload_n 0, 1) := dk_42 (dk_at dksX0_pace_2 18 rfl rfl)
theorem dX0_pace_65 : decode cX0_pace 65 = .ok (.getfield 250, 3) := dk_180 0 250 (dk_at dksX0_pace_2 19 rfl rfl)
theorem dX0_pace_68 : decode cX0_pace 68 = .ok (.goto 9, 3) := dk_167 0 9 (dk_at dksX0_pace_3 0 rfl rfl)
theorem dX0_pace_71 : decode cX0_pace 71 = .ok (.aload_n 0, 1) := dk_42 (dk_at dksX0_pace_3 3 rfl rfl)
theorem dX0_pace_72 : decode cX0_pace 72 = .ok (.getfield 71, 3) := dk_180 0 71 (dk_at dksX0_pace_3 4 rfl rfl)
theorem dX0_pace_75 : decode cX0_pace 75 = .ok (.iload_n 3, 1) := dk_29 (dk_at dksX0_pace_3 7 rfl rfl)
theorem dX0_pace_76 : decode cX0_pace 76 = .ok (.iaload, 1) := dk_46 (dk_at dksX0_pace_3 8 rfl rfl)
theorem dX0_pace_77 : decode cX0_pace 77 = .ok (.ireturn, 1) := dk_172 (dk_at dksX0_pace_3 9 rfl rfl)
abbrev cX0_pacesFrom : ByteArray := prog_1_method_39_code
def yX0_pacesFrom : MethodName := ⟨RX0, "pacesFrom", "(IIII)V"⟩
def dkwX0_pacesFrom_5 : List UInt8 := [177, 42, 28, 181, 0, 250, 42, 180, 0, 67, 3, 42, 180, 0, 71, 3, 21, 4, 184, 0, 117, 177]
abbrev dktX0_pacesFrom_5 : List UInt8 := dkwX0_pacesFrom_5 ++ []
def dkwX0_pacesFrom_4 : List UInt8 := [182, 0, 190, 87, 132, 5, 1, 167, 255, 224, 42, 180, 0, 50, 180, 0, 206, 29, 46, 16, 99, 159, 0, 4]
abbrev dktX0_pacesFrom_4 : List UInt8 := dkwX0_pacesFrom_4 ++ dktX0_pacesFrom_5
def dkwX0_pacesFrom_3 : List UInt8 := [21, 4, 162, 0, 31, 42, 180, 0, 50, 42, 180, 0, 67, 21, 5, 46, 181, 0, 197, 42, 180, 0, 50]
abbrev dktX0_pacesFrom_3 : List UInt8 := dkwX0_pacesFrom_3 ++ dktX0_pacesFrom_4
def dkwX0_pacesFrom_2 : List UInt8 := [96, 29, 21, 4, 182, 0, 253, 132, 5, 1, 167, 255, 225, 177, 42, 182, 0, 228, 87, 3, 54, 5, 21, 5]
abbrev dktX0_pacesFrom_2 : List UInt8 := dkwX0_pacesFrom_2 ++ dktX0_pacesFrom_3
def dkwX0_pacesFrom_1 : List UInt8 := [3, 54, 5, 21, 5, 5, 163, 0, 31, 42, 180, 0, 67, 27, 21, 5, 79, 42, 27, 4, 96, 28, 21, 5]
abbrev dktX0_pacesFrom_1 : List UInt8 := dkwX0_pacesFrom_1 ++ dktX0_pacesFrom_2
def dkwX0_pacesFrom_0 : List UInt8 := [42, 180, 0, 250, 18, 234, 159, 0, 12, 28, 42, 180, 0, 250, 161, 0, 4, 177, 27, 21, 4, 162, 0, 41]
abbrev dktX0_pacesFrom_0 : List UInt8 := dkwX0_pacesFrom_0 ++ dktX0_pacesFrom_1
theorem dksX0_pacesFrom_0 : cX0_pacesFrom.data.toList.drop 0 = dktX0_pacesFrom_0 := by decide +kernel
theorem dksX0_pacesFrom_1 : cX0_pacesFrom.data.toList.drop 24 = dktX0_pacesFrom_1 := dk_seg dksX0_pacesFrom_0 24 rfl rfl
theorem dksX0_pacesFrom_2 : cX0_pacesFrom.data.toList.drop 48 = dktX0_pacesFrom_2 := dk_seg dksX0_pacesFrom_1 24 rfl rfl
theorem dksX0_pacesFrom_3 : cX0_pacesFrom.data.toList.drop 72 = dktX0_pacesFrom_3 := dk_seg dksX0_pacesFrom_2 24 rfl rfl
theorem dksX0_pacesFrom_4 : cX0_pacesFrom.data.toList.drop 95 = dktX0_pacesFrom_4 := dk_seg dksX0_pacesFrom_3 23 rfl rfl
theorem dksX0_pacesFrom_5 : cX0_pacesFrom.data.toList.drop 119 = dktX0_pacesFrom_5 := dk_seg dksX0_pacesFrom_4 24 rfl rfl
theorem dX0_pacesFrom_0 : decode cX0_pacesFrom 0 = .ok (.aload_n 0, 1) := dk_42 (dk_at dksX0_pacesFrom_0 0 rfl rfl)
theorem dX0_pacesFrom_1 : decode cX0_pacesFrom 1 = .ok (.getfield 250, 3) := dk_180 0 250 (dk_at dksX0_pacesFrom_0 1 rfl rfl)
theorem dX0_pacesFrom_4 : decode cX0_pacesFrom 4 = .ok (.ldc 234, 2) := dk_18 234 (dk_at dksX0_pacesFrom_0 4 rfl rfl)
theorem dX0_pacesFrom_6 : decode cX0_pacesFrom 6 = .ok (.if_icmp .eq 12, 3) := dk_159 0 12 (dk_at dksX0_pacesFrom_0 6 rfl rfl)
theorem dX0_pacesFrom_9 : decode cX0_pacesFrom 9 = .ok (.iload_n 2, 1) := dk_28 (dk_at dksX0_pacesFrom_0 9 rfl rfl)
theorem dX0_pacesFrom_10 : decode cX0_pacesFrom 10 = .ok (.aload_n 0, 1) := dk_42 (dk_at dksX0_pacesFrom_0 10 rfl rfl)
theorem dX0_pacesFrom_11 : decode cX0_pacesFrom 11 = .ok (.getfield 250, 3) := dk_180 0 250 (dk_at dksX0_pacesFrom_0 11 rfl rfl)
theorem dX0_pacesFrom_14 : decode cX0_pacesFrom 14 = .ok (.if_icmp .lt 4, 3) := dk_161 0 4 (dk_at dksX0_pacesFrom_0 14 rfl rfl)
theorem dX0_pacesFrom_17 : decode cX0_pacesFrom 17 = .ok (.return_, 1) := dk_177 (dk_at dksX0_pacesFrom_0 17 rfl rfl)
theorem dX0_pacesFrom_18 : decode cX0_pacesFrom 18 = .ok (.iload_n 1, 1) := dk_27 (dk_at dksX0_pacesFrom_0 18 rfl rfl)
theorem dX0_pacesFrom_19 : decode cX0_pacesFrom 19 = .ok (.iload 4, 2) := dk_21 4 (dk_at dksX0_pacesFrom_0 19 rfl rfl)
theorem dX0_pacesFrom_21 : decode cX0_pacesFrom 21 = .ok (.if_icmp .ge 41, 3) := dk_162 0 41 (dk_at dksX0_pacesFrom_0 21 rfl rfl)
theorem dX0_pacesFrom_24 : decode cX0_pacesFrom 24 = .ok (.iconst 0, 1) := dk_3 (dk_at dksX0_pacesFrom_1 0 rfl rfl)
theorem dX0_pacesFrom_25 : decode cX0_pacesFrom 25 = .ok (.istore 5, 2) := dk_54 5 (dk_at dksX0_pacesFrom_1 1 rfl rfl)
theorem dX0_pacesFrom_27 : decode cX0_pacesFrom 27 = .ok (.iload 5, 2) := dk_21 5 (dk_at dksX0_pacesFrom_1 3 rfl rfl)
theorem dX0_pacesFrom_29 : decode cX0_pacesFrom 29 = .ok (.iconst 2, 1) := dk_5 (dk_at dksX0_pacesFrom_1 5 rfl rfl)
theorem dX0_pacesFrom_30 : decode cX0_pacesFrom 30 = .ok (.if_icmp .gt 31, 3) := dk_163 0 31 (dk_at dksX0_pacesFrom_1 6 rfl rfl)
theorem dX0_pacesFrom_33 : decode cX0_pacesFrom 33 = .ok (.aload_n 0, 1) := dk_42 (dk_at dksX0_pacesFrom_1 9 rfl rfl)
theorem dX0_pacesFrom_34 : decode cX0_pacesFrom 34 = .ok (.getfield 67, 3) := dk_180 0 67 (dk_at dksX0_pacesFrom_1 10 rfl rfl)
theorem dX0_pacesFrom_37 : decode cX0_pacesFrom 37 = .ok (.iload_n 1, 1) := dk_27 (dk_at dksX0_pacesFrom_1 13 rfl rfl)
theorem dX0_pacesFrom_38 : decode cX0_pacesFrom 38 = .ok (.iload 5, 2) := dk_21 5 (dk_at dksX0_pacesFrom_1 14 rfl rfl)
theorem dX0_pacesFrom_40 : decode cX0_pacesFrom 40 = .ok (.iastore, 1) := dk_79 (dk_at dksX0_pacesFrom_1 16 rfl rfl)
theorem dX0_pacesFrom_41 : decode cX0_pacesFrom 41 = .ok (.aload_n 0, 1) := dk_42 (dk_at dksX0_pacesFrom_1 17 rfl rfl)
theorem dX0_pacesFrom_42 : decode cX0_pacesFrom 42 = .ok (.iload_n 1, 1) := dk_27 (dk_at dksX0_pacesFrom_1 18 rfl rfl)
theorem dX0_pacesFrom_43 : decode cX0_pacesFrom 43 = .ok (.iconst 1, 1) := dk_4 (dk_at dksX0_pacesFrom_1 19 rfl rfl)
theorem dX0_pacesFrom_44 : decode cX0_pacesFrom 44 = .ok (.iadd, 1) := dk_96 (dk_at dksX0_pacesFrom_1 20 rfl rfl)
theorem dX0_pacesFrom_45 : decode cX0_pacesFrom 45 = .ok (.iload_n 2, 1) := dk_28 (dk_at dksX0_pacesFrom_1 21 rfl rfl)
theorem dX0_pacesFrom_46 : decode cX0_pacesFrom 46 = .ok (.iload 5, 2) := dk_21 5 (dk_at dksX0_pacesFrom_1 22 rfl rfl)
theorem dX0_pacesFrom_48 : decode cX0_pacesFrom 48 = .ok (.iadd, 1) := dk_96 (dk_at dksX0_pacesFrom_2 0 rfl rfl)
theorem dX0_pacesFrom_49 : decode cX0_pacesFrom 49 = .ok (.iload_n 3, 1) := dk_29 (dk_at dksX0_pacesFrom_2 1 rfl rfl)
theorem dX0_pacesFrom_50 : decode cX0_pacesFrom 50 = .ok (.iload 4, 2) := dk_21 4 (dk_at dksX0_pacesFrom_2 2 rfl rfl)
theorem dX0_pacesFrom_52 : decode cX0_pacesFrom 52 = .ok (.invokevirtual 253, 3) := dk_182 0 253 (dk_at dksX0_pacesFrom_2 4 rfl rfl)
theorem dX0_pacesFrom_55 : decode cX0_pacesFrom 55 = .ok (.iinc 5 1, 3) := dk_132 5 1 (dk_at dksX0_pacesFrom_2 7 rfl rfl)
theorem dX0_pacesFrom_58 : decode cX0_pacesFrom 58 = .ok (.goto (-31), 3) := dk_167 255 225 (dk_at dksX0_pacesFrom_2 10 rfl rfl)
theorem dX0_pacesFrom_61 : decode cX0_pacesFrom 61 = .ok (.return_, 1) := dk_177 (dk_at dksX0_pacesFrom_2 13 rfl rfl)
theorem dX0_pacesFrom_62 : decode cX0_pacesFrom 62 = .ok (.aload_n 0, 1) := dk_42 (dk_at dksX0_pacesFrom_2 14 rfl rfl)
theorem dX0_pacesFrom_63 : decode cX0_pacesFrom 63 = .ok (.invokevirtual 228, 3) := dk_182 0 228 (dk_at dksX0_pacesFrom_2 15 rfl rfl)
theorem dX0_pacesFrom_66 : decode cX0_pacesFrom 66 = .ok (.pop, 1) := dk_87 (dk_at dksX0_pacesFrom_2 18 rfl rfl)
theorem dX0_pacesFrom_67 : decode cX0_pacesFrom 67 = .ok (.iconst 0, 1) := dk_3 (dk_at dksX0_pacesFrom_2 19 rfl rfl)
theorem dX0_pacesFrom_68 : decode cX0_pacesFrom 68 = .ok (.istore 5, 2) := dk_54 5 (dk_at dksX0_pacesFrom_2 20 rfl rfl)
theorem dX0_pacesFrom_70 : decode cX0_pacesFrom 70 = .ok (.iload 5, 2) := dk_21 5 (dk_at dksX0_pacesFrom_2 22 rfl rfl)
theorem dX0_pacesFrom_72 : decode cX0_pacesFrom 72 = .ok (.iload 4, 2) := dk_21 4 (dk_at dksX0_pacesFrom_3 0 rfl rfl)
theorem dX0_pacesFrom_74 : decode cX0_pacesFrom 74 = .ok (.if_icmp .ge 31, 3) := dk_162 0 31 (dk_at dksX0_pacesFrom_3 2 rfl rfl)
theorem dX0_pacesFrom_77 : decode cX0_pacesFrom 77 = .ok (.aload_n 0, 1) := dk_42 (dk_at dksX0_pacesFrom_3 5 rfl rfl)
theorem dX0_pacesFrom_78 : decode cX0_pacesFrom 78 = .ok (.getfield 50, 3) := dk_180 0 50 (dk_at dksX0_pacesFrom_3 6 rfl rfl)
theorem dX0_pacesFrom_81 : decode cX0_pacesFrom 81 = .ok (.aload_n 0, 1) := dk_42 (dk_at dksX0_pacesFrom_3 9 rfl rfl)
theorem dX0_pacesFrom_82 : decode cX0_pacesFrom 82 = .ok (.getfield 67, 3) := dk_180 0 67 (dk_at dksX0_pacesFrom_3 10 rfl rfl)
theorem dX0_pacesFrom_85 : decode cX0_pacesFrom 85 = .ok (.iload 5, 2) := dk_21 5 (dk_at dksX0_pacesFrom_3 13 rfl rfl)
theorem dX0_pacesFrom_87 : decode cX0_pacesFrom 87 = .ok (.iaload, 1) := dk_46 (dk_at dksX0_pacesFrom_3 15 rfl rfl)
theorem dX0_pacesFrom_88 : decode cX0_pacesFrom 88 = .ok (.putfield 197, 3) := dk_181 0 197 (dk_at dksX0_pacesFrom_3 16 rfl rfl)
theorem dX0_pacesFrom_91 : decode cX0_pacesFrom 91 = .ok (.aload_n 0, 1) := dk_42 (dk_at dksX0_pacesFrom_3 19 rfl rfl)
theorem dX0_pacesFrom_92 : decode cX0_pacesFrom 92 = .ok (.getfield 50, 3) := dk_180 0 50 (dk_at dksX0_pacesFrom_3 20 rfl rfl)
theorem dX0_pacesFrom_95 : decode cX0_pacesFrom 95 = .ok (.invokevirtual 190, 3) := dk_182 0 190 (dk_at dksX0_pacesFrom_4 0 rfl rfl)
theorem dX0_pacesFrom_98 : decode cX0_pacesFrom 98 = .ok (.pop, 1) := dk_87 (dk_at dksX0_pacesFrom_4 3 rfl rfl)
theorem dX0_pacesFrom_99 : decode cX0_pacesFrom 99 = .ok (.iinc 5 1, 3) := dk_132 5 1 (dk_at dksX0_pacesFrom_4 4 rfl rfl)
theorem dX0_pacesFrom_102 : decode cX0_pacesFrom 102 = .ok (.goto (-32), 3) := dk_167 255 224 (dk_at dksX0_pacesFrom_4 7 rfl rfl)
theorem dX0_pacesFrom_105 : decode cX0_pacesFrom 105 = .ok (.aload_n 0, 1) := dk_42 (dk_at dksX0_pacesFrom_4 10 rfl rfl)
theorem dX0_pacesFrom_106 : decode cX0_pacesFrom 106 = .ok (.getfield 50, 3) := dk_180 0 50 (dk_at dksX0_pacesFrom_4 11 rfl rfl)
theorem dX0_pacesFrom_109 : decode cX0_pacesFrom 109 = .ok (.getfield 206, 3) := dk_180 0 206 (dk_at dksX0_pacesFrom_4 14 rfl rfl)
theorem dX0_pacesFrom_112 : decode cX0_pacesFrom 112 = .ok (.iload_n 3, 1) := dk_29 (dk_at dksX0_pacesFrom_4 17 rfl rfl)
theorem dX0_pacesFrom_113 : decode cX0_pacesFrom 113 = .ok (.iaload, 1) := dk_46 (dk_at dksX0_pacesFrom_4 18 rfl rfl)
theorem dX0_pacesFrom_114 : decode cX0_pacesFrom 114 = .ok (.bipush 99, 2) := dk_16 99 (dk_at dksX0_pacesFrom_4 19 rfl rfl)
theorem dX0_pacesFrom_116 : decode cX0_pacesFrom 116 = .ok (.if_icmp .eq 4, 3) := dk_159 0 4 (dk_at dksX0_pacesFrom_4 21 rfl rfl)
theorem dX0_pacesFrom_119 : decode cX0_pacesFrom 119 = .ok (.return_, 1) := dk_177 (dk_at dksX0_pacesFrom_5 0 rfl rfl)
theorem dX0_pacesFrom_120 : decode cX0_pacesFrom 120 = .ok (.aload_n 0, 1) := dk_42 (dk_at dksX0_pacesFrom_5 1 rfl rfl)
theorem dX0_pacesFrom_121 : decode cX0_pacesFrom 121 = .ok (.iload_n 2, 1) := dk_28 (dk_at dksX0_pacesFrom_5 2 rfl rfl)
theorem dX0_pacesFrom_122 : decode cX0_pacesFrom 122 = .ok (.putfield 250, 3) := dk_181 0 250 (dk_at dksX0_pacesFrom_5 3 rfl rfl)
theorem dX0_pacesFrom_125 : decode cX0_pacesFrom 125 = .ok (.aload_n 0, 1) := dk_42 (dk_at dksX0_pacesFrom_5 6 rfl rfl)
theorem dX0_pacesFrom_126 : decode cX0_pacesFrom 126 = .ok (.getfield 67, 3) := dk_180 0 67 (dk_at dksX0_pacesFrom_5 7 rfl rfl)
theorem dX0_pacesFrom_129 : decode cX0_pacesFrom 129 = .ok (.iconst 0, 1) := dk_3 (dk_at dksX0_pacesFrom_5 10 rfl rfl)
theorem dX0_pacesFrom_130 : decode cX0_pacesFrom 130 = .ok (.aload_n 0, 1) := dk_42 (dk_at dksX0_pacesFrom_5 11 rfl rfl)
theorem dX0_pacesFrom_131 : decode cX0_pacesFrom 131 = .ok (.getfield 71, 3) := dk_180 0 71 (dk_at dksX0_pacesFrom_5 12 rfl rfl)
theorem dX0_pacesFrom_134 : decode cX0_pacesFrom 134 = .ok (.iconst 0, 1) := dk_3 (dk_at dksX0_pacesFrom_5 15 rfl rfl)
theorem dX0_pacesFrom_135 : decode cX0_pacesFrom 135 = .ok (.iload 4, 2) := dk_21 4 (dk_at dksX0_pacesFrom_5 16 rfl rfl)
theorem dX0_pacesFrom_137 : decode cX0_pacesFrom 137 = .ok (.invokestatic 117, 3) := dk_184 0 117 (dk_at dksX0_pacesFrom_5 18 rfl rfl)
theorem dX0_pacesFrom_140 : decode cX0_pacesFrom 140 = .ok (.return_, 1) := dk_177 (dk_at dksX0_pacesFrom_5 21 rfl rfl)
abbrev cX0_fits : ByteArray := prog_1_method_44_code
def yX0_fits : MethodName := ⟨RX0, "fits", "(IIIII)I"⟩
def dkwX0_fits_3 : List UInt8 := [58, 6, 42, 4, 182, 0, 106, 172, 58, 6, 42, 5, 182, 0, 106, 172]
abbrev dktX0_fits_3 : List UInt8 := dkwX0_fits_3 ++ []
def dkwX0_fits_2 : List UInt8 := [42, 27, 21, 5, 182, 1, 37, 27, 42, 28, 29, 21, 4, 182, 1, 41, 182, 1, 45, 182, 0, 100, 172]
abbrev dktX0_fits_2 : List UInt8 := dkwX0_fits_2 ++ dktX0_fits_3
def dkwX0_fits_1 : List UInt8 := [184, 0, 81, 153, 0, 16, 21, 5, 133, 9, 20, 1, 35, 184, 0, 81, 154, 0, 6, 18, 91, 172, 42, 42]
abbrev dktX0_fits_1 : List UInt8 := dkwX0_fits_1 ++ dktX0_fits_2
def dkwX0_fits_0 : List UInt8 := [42, 27, 182, 0, 200, 153, 0, 36, 28, 184, 0, 85, 153, 0, 29, 21, 4, 133, 10, 20, 1, 33]
abbrev dktX0_fits_0 : List UInt8 := dkwX0_fits_0 ++ dktX0_fits_1
theorem dksX0_fits_0 : cX0_fits.data.toList.drop 0 = dktX0_fits_0 := by decide +kernel
theorem dksX0_fits_1 : cX0_fits.data.toList.drop 22 = dktX0_fits_1 := dk_seg dksX0_fits_0 22 rfl rfl
theorem dksX0_fits_2 : cX0_fits.data.toList.drop 46 = dktX0_fits_2 := dk_seg dksX0_fits_1 24 rfl rfl
theorem dksX0_fits_3 : cX0_fits.data.toList.drop 69 = dktX0_fits_3 := dk_seg dksX0_fits_2 23 rfl rfl
theorem dX0_fits_0 : decode cX0_fits 0 = .ok (.aload_n 0, 1) := dk_42 (dk_at dksX0_fits_0 0 rfl rfl)
theorem dX0_fits_1 : decode cX0_fits 1 = .ok (.iload_n 1, 1) := dk_27 (dk_at dksX0_fits_0 1 rfl rfl)
theorem dX0_fits_2 : decode cX0_fits 2 = .ok (.invokevirtual 200, 3) := dk_182 0 200 (dk_at dksX0_fits_0 2 rfl rfl)
theorem dX0_fits_5 : decode cX0_fits 5 = .ok (.ifCond .eq 36, 3) := dk_153 0 36 (dk_at dksX0_fits_0 5 rfl rfl)
theorem dX0_fits_8 : decode cX0_fits 8 = .ok (.iload_n 2, 1) := dk_28 (dk_at dksX0_fits_0 8 rfl rfl)
theorem dX0_fits_9 : decode cX0_fits 9 = .ok (.invokestatic 85, 3) := dk_184 0 85 (dk_at dksX0_fits_0 9 rfl rfl)
theorem dX0_fits_12 : decode cX0_fits 12 = .ok (.ifCond .eq 29, 3) := dk_153 0 29 (dk_at dksX0_fits_0 12 rfl rfl)
theorem dX0_fits_15 : decode cX0_fits 15 = .ok (.iload 4, 2) := dk_21 4 (dk_at dksX0_fits_0 15 rfl rfl)
theorem dX0_fits_17 : decode cX0_fits 17 = .ok (.i2l, 1) := dk_133 (dk_at dksX0_fits_0 17 rfl rfl)
theorem dX0_fits_18 : decode cX0_fits 18 = .ok (.lconst 1, 1) := dk_10 (dk_at dksX0_fits_0 18 rfl rfl)
theorem dX0_fits_19 : decode cX0_fits 19 = .ok (.ldc2_w 289, 3) := dk_20 1 33 (dk_at dksX0_fits_0 19 rfl rfl)
theorem dX0_fits_22 : decode cX0_fits 22 = .ok (.invokestatic 81, 3) := dk_184 0 81 (dk_at dksX0_fits_1 0 rfl rfl)
theorem dX0_fits_25 : decode cX0_fits 25 = .ok (.ifCond .eq 16, 3) := dk_153 0 16 (dk_at dksX0_fits_1 3 rfl rfl)
theorem dX0_fits_28 : decode cX0_fits 28 = .ok (.iload 5, 2) := dk_21 5 (dk_at dksX0_fits_1 6 rfl rfl)
theorem dX0_fits_30 : decode cX0_fits 30 = .ok (.i2l, 1) := dk_133 (dk_at dksX0_fits_1 8 rfl rfl)
theorem dX0_fits_31 : decode cX0_fits 31 = .ok (.lconst 0, 1) := dk_9 (dk_at dksX0_fits_1 9 rfl rfl)
theorem dX0_fits_32 : decode cX0_fits 32 = .ok (.ldc2_w 291, 3) := dk_20 1 35 (dk_at dksX0_fits_1 10 rfl rfl)
theorem dX0_fits_35 : decode cX0_fits 35 = .ok (.invokestatic 81, 3) := dk_184 0 81 (dk_at dksX0_fits_1 13 rfl rfl)
theorem dX0_fits_38 : decode cX0_fits 38 = .ok (.ifCond .ne 6, 3) := dk_154 0 6 (dk_at dksX0_fits_1 16 rfl rfl)
theorem dX0_fits_41 : decode cX0_fits 41 = .ok (.ldc 91, 2) := dk_18 91 (dk_at dksX0_fits_1 19 rfl rfl)
theorem dX0_fits_43 : decode cX0_fits 43 = .ok (.ireturn, 1) := dk_172 (dk_at dksX0_fits_1 21 rfl rfl)
theorem dX0_fits_44 : decode cX0_fits 44 = .ok (.aload_n 0, 1) := dk_42 (dk_at dksX0_fits_1 22 rfl rfl)
theorem dX0_fits_45 : decode cX0_fits 45 = .ok (.aload_n 0, 1) := dk_42 (dk_at dksX0_fits_1 23 rfl rfl)
theorem dX0_fits_46 : decode cX0_fits 46 = .ok (.aload_n 0, 1) := dk_42 (dk_at dksX0_fits_2 0 rfl rfl)
theorem dX0_fits_47 : decode cX0_fits 47 = .ok (.iload_n 1, 1) := dk_27 (dk_at dksX0_fits_2 1 rfl rfl)
theorem dX0_fits_48 : decode cX0_fits 48 = .ok (.iload 5, 2) := dk_21 5 (dk_at dksX0_fits_2 2 rfl rfl)
theorem dX0_fits_50 : decode cX0_fits 50 = .ok (.invokevirtual 293, 3) := dk_182 1 37 (dk_at dksX0_fits_2 4 rfl rfl)
theorem dX0_fits_53 : decode cX0_fits 53 = .ok (.iload_n 1, 1) := dk_27 (dk_at dksX0_fits_2 7 rfl rfl)
theorem dX0_fits_54 : decode cX0_fits 54 = .ok (.aload_n 0, 1) := dk_42 (dk_at dksX0_fits_2 8 rfl rfl)
theorem dX0_fits_55 : decode cX0_fits 55 = .ok (.iload_n 2, 1) := dk_28 (dk_at dksX0_fits_2 9 rfl rfl)
theorem dX0_fits_56 : decode cX0_fits 56 = .ok (.iload_n 3, 1) := dk_29 (dk_at dksX0_fits_2 10 rfl rfl)
theorem dX0_fits_57 : decode cX0_fits 57 = .ok (.iload 4, 2) := dk_21 4 (dk_at dksX0_fits_2 11 rfl rfl)
theorem dX0_fits_59 : decode cX0_fits 59 = .ok (.invokevirtual 297, 3) := dk_182 1 41 (dk_at dksX0_fits_2 13 rfl rfl)
theorem dX0_fits_62 : decode cX0_fits 62 = .ok (.invokevirtual 301, 3) := dk_182 1 45 (dk_at dksX0_fits_2 16 rfl rfl)
theorem dX0_fits_65 : decode cX0_fits 65 = .ok (.invokevirtual 100, 3) := dk_182 0 100 (dk_at dksX0_fits_2 19 rfl rfl)
theorem dX0_fits_68 : decode cX0_fits 68 = .ok (.ireturn, 1) := dk_172 (dk_at dksX0_fits_2 22 rfl rfl)
theorem dX0_fits_69 : decode cX0_fits 69 = .ok (.astore 6, 2) := dk_58 6 (dk_at dksX0_fits_3 0 rfl rfl)
theorem dX0_fits_71 : decode cX0_fits 71 = .ok (.aload_n 0, 1) := dk_42 (dk_at dksX0_fits_3 2 rfl rfl)
theorem dX0_fits_72 : decode cX0_fits 72 = .ok (.iconst 1, 1) := dk_4 (dk_at dksX0_fits_3 3 rfl rfl)
theorem dX0_fits_73 : decode cX0_fits 73 = .ok (.invokevirtual 106, 3) := dk_182 0 106 (dk_at dksX0_fits_3 4 rfl rfl)
theorem dX0_fits_76 : decode cX0_fits 76 = .ok (.ireturn, 1) := dk_172 (dk_at dksX0_fits_3 7 rfl rfl)
theorem dX0_fits_77 : decode cX0_fits 77 = .ok (.astore 6, 2) := dk_58 6 (dk_at dksX0_fits_3 8 rfl rfl)
theorem dX0_fits_79 : decode cX0_fits 79 = .ok (.aload_n 0, 1) := dk_42 (dk_at dksX0_fits_3 10 rfl rfl)
theorem dX0_fits_80 : decode cX0_fits 80 = .ok (.iconst 2, 1) := dk_5 (dk_at dksX0_fits_3 11 rfl rfl)
theorem dX0_fits_81 : decode cX0_fits 81 = .ok (.invokevirtual 106, 3) := dk_182 0 106 (dk_at dksX0_fits_3 12 rfl rfl)
theorem dX0_fits_84 : decode cX0_fits 84 = .ok (.ireturn, 1) := dk_172 (dk_at dksX0_fits_3 15 rfl rfl)
abbrev cX0_butBy : ByteArray := prog_1_method_42_code
def yX0_butBy : MethodName := ⟨RX0, "butBy", "(II)LStepRiders$But;"⟩
def dkwX0_butBy_3 : List UInt8 := [183, 1, 11, 176, 187, 1, 12, 89, 42, 27, 183, 1, 14, 176]
abbrev dktX0_butBy_3 : List UInt8 := dkwX0_butBy_3 ++ []
def dkwX0_butBy_2 : List UInt8 := [187, 1, 3, 89, 27, 183, 1, 5, 176, 187, 1, 6, 89, 27, 183, 1, 8, 176, 187, 1, 9, 89]
abbrev dktX0_butBy_2 : List UInt8 := dkwX0_butBy_2 ++ dktX0_butBy_3
def dkwX0_butBy_1 : List UInt8 := [170, 0, 0, 0, 0, 0, 53, 0, 0, 0, 0, 0, 0, 0, 2, 0, 0, 0, 27, 0, 0, 0, 36, 0, 0, 0, 45]
abbrev dktX0_butBy_1 : List UInt8 := dkwX0_butBy_1 ++ dktX0_butBy_2
def dkwX0_butBy_0 : List UInt8 := [28]
abbrev dktX0_butBy_0 : List UInt8 := dkwX0_butBy_0 ++ dktX0_butBy_1
theorem dksX0_butBy_0 : cX0_butBy.data.toList.drop 0 = dktX0_butBy_0 := by decide +kernel
theorem dksX0_butBy_1 : cX0_butBy.data.toList.drop 1 = dktX0_butBy_1 := dk_seg dksX0_butBy_0 1 rfl rfl
theorem dksX0_butBy_2 : cX0_butBy.data.toList.drop 28 = dktX0_butBy_2 := dk_seg dksX0_butBy_1 27 rfl rfl
theorem dksX0_butBy_3 : cX0_butBy.data.toList.drop 50 = dktX0_butBy_3 := dk_seg dksX0_butBy_2 22 rfl rfl
theorem dX0_butBy_0 : decode cX0_butBy 0 = .ok (.iload_n 2, 1) := dk_28 (dk_at dksX0_butBy_0 0 rfl rfl)
theorem dX0_butBy_1 : decode cX0_butBy 1 = .ok (.tableswitch 53 0 2 #[27, 36, 45], 27) := by decide +kernel
theorem dX0_butBy_28 : decode cX0_butBy 28 = .ok (.new 259, 3) := dk_187 1 3 (dk_at dksX0_butBy_2 0 rfl rfl)
theorem dX0_butBy_31 : decode cX0_butBy 31 = .ok (.dup, 1) := dk_89 (dk_at dksX0_butBy_2 3 rfl rfl)
theorem dX0_butBy_32 : decode cX0_butBy 32 = .ok (.iload_n 1, 1) := dk_27 (dk_at dksX0_butBy_2 4 rfl rfl)
theorem dX0_butBy_33 : decode cX0_butBy 33 = .ok (.invokespecial 261, 3) := dk_183 1 5 (dk_at dksX0_butBy_2 5 rfl rfl)
theorem dX0_butBy_36 : decode cX0_butBy 36 = .ok (.areturn, 1) := dk_176 (dk_at dksX0_butBy_2 8 rfl rfl)
theorem dX0_butBy_37 : decode cX0_butBy 37 = .ok (.new 262, 3) := dk_187 1 6 (dk_at dksX0_butBy_2 9 rfl rfl)
theorem dX0_butBy_40 : decode cX0_butBy 40 = .ok (.dup, 1) := dk_89 (dk_at dksX0_butBy_2 12 rfl rfl)
theorem dX0_butBy_41 : decode cX0_butBy 41 = .ok (.iload_n 1, 1) := dk_27 (dk_at dksX0_butBy_2 13 rfl rfl)
theorem dX0_butBy_42 : decode cX0_butBy 42 = .ok (.invokespecial 264, 3) := dk_183 1 8 (dk_at dksX0_butBy_2 14 rfl rfl)
theorem dX0_butBy_45 : decode cX0_butBy 45 = .ok (.areturn, 1) := dk_176 (dk_at dksX0_butBy_2 17 rfl rfl)
theorem dX0_butBy_46 : decode cX0_butBy 46 = .ok (.new 265, 3) := dk_187 1 9 (dk_at dksX0_butBy_2 18 rfl rfl)
theorem dX0_butBy_49 : decode cX0_butBy 49 = .ok (.dup, 1) := dk_89 (dk_at dksX0_butBy_2 21 rfl rfl)
theorem dX0_butBy_50 : decode cX0_butBy 50 = .ok (.invokespecial 267, 3) := dk_183 1 11 (dk_at dksX0_butBy_3 0 rfl rfl)
theorem dX0_butBy_53 : decode cX0_butBy 53 = .ok (.areturn, 1) := dk_176 (dk_at dksX0_butBy_3 3 rfl rfl)
theorem dX0_butBy_54 : decode cX0_butBy 54 = .ok (.new 268, 3) := dk_187 1 12 (dk_at dksX0_butBy_3 4 rfl rfl)
theorem dX0_butBy_57 : decode cX0_butBy 57 = .ok (.dup, 1) := dk_89 (dk_at dksX0_butBy_3 7 rfl rfl)
theorem dX0_butBy_58 : decode cX0_butBy 58 = .ok (.aload_n 0, 1) := dk_42 (dk_at dksX0_butBy_3 8 rfl rfl)
theorem dX0_butBy_59 : decode cX0_butBy 59 = .ok (.iload_n 1, 1) := dk_27 (dk_at dksX0_butBy_3 9 rfl rfl)
theorem dX0_butBy_60 : decode cX0_butBy 60 = .ok (.invokespecial 270, 3) := dk_183 1 14 (dk_at dksX0_butBy_3 10 rfl rfl)
theorem dX0_butBy_63 : decode cX0_butBy 63 = .ok (.areturn, 1) := dk_176 (dk_at dksX0_butBy_3 13 rfl rfl)
abbrev cX0_items : ByteArray := prog_1_method_15_code
def yX0_items : MethodName := ⟨RX0, "items", "(III)[I"⟩
def dkwX0_items_3 : List UInt8 := [167, 255, 229, 25, 5, 176]
abbrev dktX0_items_3 : List UInt8 := dkwX0_items_3 ++ []
def dkwX0_items_2 : List UInt8 := [162, 0, 27, 25, 5, 21, 6, 42, 180, 0, 35, 27, 50, 28, 21, 6, 96, 182, 0, 132, 79, 132, 6, 1]
abbrev dktX0_items_2 : List UInt8 := dkwX0_items_2 ++ dktX0_items_3
def dkwX0_items_1 : List UInt8 := [158, 0, 11, 187, 0, 115, 89, 183, 0, 131, 191, 29, 188, 10, 58, 5, 3, 54, 6, 21, 6, 29]
abbrev dktX0_items_1 : List UInt8 := dkwX0_items_1 ++ dktX0_items_2
def dkwX0_items_0 : List UInt8 := [42, 180, 0, 35, 27, 50, 182, 0, 127, 54, 4, 28, 155, 0, 15, 28, 133, 29, 133, 97, 21, 4, 133, 148]
abbrev dktX0_items_0 : List UInt8 := dkwX0_items_0 ++ dktX0_items_1
theorem dksX0_items_0 : cX0_items.data.toList.drop 0 = dktX0_items_0 := by decide +kernel
theorem dksX0_items_1 : cX0_items.data.toList.drop 24 = dktX0_items_1 := dk_seg dksX0_items_0 24 rfl rfl
theorem dksX0_items_2 : cX0_items.data.toList.drop 46 = dktX0_items_2 := dk_seg dksX0_items_1 22 rfl rfl
theorem dksX0_items_3 : cX0_items.data.toList.drop 70 = dktX0_items_3 := dk_seg dksX0_items_2 24 rfl rfl
theorem dX0_items_0 : decode cX0_items 0 = .ok (.aload_n 0, 1) := dk_42 (dk_at dksX0_items_0 0 rfl rfl)
theorem dX0_items_1 : decode cX0_items 1 = .ok (.getfield 35, 3) := dk_180 0 35 (dk_at dksX0_items_0 1 rfl rfl)
theorem dX0_items_4 : decode cX0_items 4 = .ok (.iload_n 1, 1) := dk_27 (dk_at dksX0_items_0 4 rfl rfl)
theorem dX0_items_5 : decode cX0_items 5 = .ok (.aaload, 1) := dk_50 (dk_at dksX0_items_0 5 rfl rfl)
theorem dX0_items_6 : decode cX0_items 6 = .ok (.invokevirtual 127, 3) := dk_182 0 127 (dk_at dksX0_items_0 6 rfl rfl)
theorem dX0_items_9 : decode cX0_items 9 = .ok (.istore 4, 2) := dk_54 4 (dk_at dksX0_items_0 9 rfl rfl)
theorem dX0_items_11 : decode cX0_items 11 = .ok (.iload_n 2, 1) := dk_28 (dk_at dksX0_items_0 11 rfl rfl)
theorem dX0_items_12 : decode cX0_items 12 = .ok (.ifCond .lt 15, 3) := dk_155 0 15 (dk_at dksX0_items_0 12 rfl rfl)
theorem dX0_items_15 : decode cX0_items 15 = .ok (.iload_n 2, 1) := dk_28 (dk_at dksX0_items_0 15 rfl rfl)
theorem dX0_items_16 : decode cX0_items 16 = .ok (.i2l, 1) := dk_133 (dk_at dksX0_items_0 16 rfl rfl)
theorem dX0_items_17 : decode cX0_items 17 = .ok (.iload_n 3, 1) := dk_29 (dk_at dksX0_items_0 17 rfl rfl)
theorem dX0_items_18 : decode cX0_items 18 = .ok (.i2l, 1) := dk_133 (dk_at dksX0_items_0 18 rfl rfl)
theorem dX0_items_19 : decode cX0_items 19 = .ok (.ladd, 1) := dk_97 (dk_at dksX0_items_0 19 rfl rfl)
theorem dX0_items_20 : decode cX0_items 20 = .ok (.iload 4, 2) := dk_21 4 (dk_at dksX0_items_0 20 rfl rfl)
theorem dX0_items_22 : decode cX0_items 22 = .ok (.i2l, 1) := dk_133 (dk_at dksX0_items_0 22 rfl rfl)
theorem dX0_items_23 : decode cX0_items 23 = .ok (.lcmp, 1) := dk_148 (dk_at dksX0_items_0 23 rfl rfl)
theorem dX0_items_24 : decode cX0_items 24 = .ok (.ifCond .le 11, 3) := dk_158 0 11 (dk_at dksX0_items_1 0 rfl rfl)
theorem dX0_items_27 : decode cX0_items 27 = .ok (.new 115, 3) := dk_187 0 115 (dk_at dksX0_items_1 3 rfl rfl)
theorem dX0_items_30 : decode cX0_items 30 = .ok (.dup, 1) := dk_89 (dk_at dksX0_items_1 6 rfl rfl)
theorem dX0_items_31 : decode cX0_items 31 = .ok (.invokespecial 131, 3) := dk_183 0 131 (dk_at dksX0_items_1 7 rfl rfl)
theorem dX0_items_34 : decode cX0_items 34 = .ok (.athrow, 1) := dk_191 (dk_at dksX0_items_1 10 rfl rfl)
theorem dX0_items_35 : decode cX0_items 35 = .ok (.iload_n 3, 1) := dk_29 (dk_at dksX0_items_1 11 rfl rfl)
theorem dX0_items_36 : decode cX0_items 36 = .ok (.newarray .int, 2) := dk_188_10 (dk_at dksX0_items_1 12 rfl rfl)
theorem dX0_items_38 : decode cX0_items 38 = .ok (.astore 5, 2) := dk_58 5 (dk_at dksX0_items_1 14 rfl rfl)
theorem dX0_items_40 : decode cX0_items 40 = .ok (.iconst 0, 1) := dk_3 (dk_at dksX0_items_1 16 rfl rfl)
theorem dX0_items_41 : decode cX0_items 41 = .ok (.istore 6, 2) := dk_54 6 (dk_at dksX0_items_1 17 rfl rfl)
theorem dX0_items_43 : decode cX0_items 43 = .ok (.iload 6, 2) := dk_21 6 (dk_at dksX0_items_1 19 rfl rfl)
theorem dX0_items_45 : decode cX0_items 45 = .ok (.iload_n 3, 1) := dk_29 (dk_at dksX0_items_1 21 rfl rfl)
theorem dX0_items_46 : decode cX0_items 46 = .ok (.if_icmp .ge 27, 3) := dk_162 0 27 (dk_at dksX0_items_2 0 rfl rfl)
theorem dX0_items_49 : decode cX0_items 49 = .ok (.aload 5, 2) := dk_25 5 (dk_at dksX0_items_2 3 rfl rfl)
theorem dX0_items_51 : decode cX0_items 51 = .ok (.iload 6, 2) := dk_21 6 (dk_at dksX0_items_2 5 rfl rfl)
theorem dX0_items_53 : decode cX0_items 53 = .ok (.aload_n 0, 1) := dk_42 (dk_at dksX0_items_2 7 rfl rfl)
theorem dX0_items_54 : decode cX0_items 54 = .ok (.getfield 35, 3) := dk_180 0 35 (dk_at dksX0_items_2 8 rfl rfl)
theorem dX0_items_57 : decode cX0_items 57 = .ok (.iload_n 1, 1) := dk_27 (dk_at dksX0_items_2 11 rfl rfl)
theorem dX0_items_58 : decode cX0_items 58 = .ok (.aaload, 1) := dk_50 (dk_at dksX0_items_2 12 rfl rfl)
theorem dX0_items_59 : decode cX0_items 59 = .ok (.iload_n 2, 1) := dk_28 (dk_at dksX0_items_2 13 rfl rfl)
theorem dX0_items_60 : decode cX0_items 60 = .ok (.iload 6, 2) := dk_21 6 (dk_at dksX0_items_2 14 rfl rfl)
theorem dX0_items_62 : decode cX0_items 62 = .ok (.iadd, 1) := dk_96 (dk_at dksX0_items_2 16 rfl rfl)
theorem dX0_items_63 : decode cX0_items 63 = .ok (.invokevirtual 132, 3) := dk_182 0 132 (dk_at dksX0_items_2 17 rfl rfl)
theorem dX0_items_66 : decode cX0_items 66 = .ok (.iastore, 1) := dk_79 (dk_at dksX0_items_2 20 rfl rfl)
theorem dX0_items_67 : decode cX0_items 67 = .ok (.iinc 6 1, 3) := dk_132 6 1 (dk_at dksX0_items_2 21 rfl rfl)
theorem dX0_items_70 : decode cX0_items 70 = .ok (.goto (-27), 3) := dk_167 255 229 (dk_at dksX0_items_3 0 rfl rfl)
theorem dX0_items_73 : decode cX0_items 73 = .ok (.aload 5, 2) := dk_25 5 (dk_at dksX0_items_3 3 rfl rfl)
theorem dX0_items_75 : decode cX0_items 75 = .ok (.areturn, 1) := dk_176 (dk_at dksX0_items_3 5 rfl rfl)
abbrev cX0_fitting : ByteArray := prog_1_method_43_code
def yX0_fitting : MethodName := ⟨RX0, "fitting", "(LStepRiders$But;I[I)I"⟩
def dkwX0_fitting_2 : List UInt8 := [153, 0, 10, 4, 21, 5, 120, 167, 0, 4, 3, 128, 54, 4, 132, 5, 1, 167, 255, 202, 21, 4, 172]
abbrev dktX0_fitting_2 : List UInt8 := dkwX0_fitting_2 ++ []
def dkwX0_fitting_1 : List UInt8 := [43, 42, 182, 0, 228, 21, 5, 185, 1, 25, 3, 0, 153, 0, 22, 42, 180, 0, 50, 28, 45, 184, 1, 29]
abbrev dktX0_fitting_1 : List UInt8 := dkwX0_fitting_1 ++ dktX0_fitting_2
def dkwX0_fitting_0 : List UInt8 := [3, 54, 4, 43, 185, 1, 17, 1, 0, 54, 5, 21, 5, 43, 185, 1, 22, 1, 0, 163, 0, 49, 21, 4]
abbrev dktX0_fitting_0 : List UInt8 := dkwX0_fitting_0 ++ dktX0_fitting_1
theorem dksX0_fitting_0 : cX0_fitting.data.toList.drop 0 = dktX0_fitting_0 := by decide +kernel
theorem dksX0_fitting_1 : cX0_fitting.data.toList.drop 24 = dktX0_fitting_1 := dk_seg dksX0_fitting_0 24 rfl rfl
theorem dksX0_fitting_2 : cX0_fitting.data.toList.drop 48 = dktX0_fitting_2 := dk_seg dksX0_fitting_1 24 rfl rfl
theorem dX0_fitting_0 : decode cX0_fitting 0 = .ok (.iconst 0, 1) := dk_3 (dk_at dksX0_fitting_0 0 rfl rfl)
theorem dX0_fitting_1 : decode cX0_fitting 1 = .ok (.istore 4, 2) := dk_54 4 (dk_at dksX0_fitting_0 1 rfl rfl)
theorem dX0_fitting_3 : decode cX0_fitting 3 = .ok (.aload_n 1, 1) := dk_43 (dk_at dksX0_fitting_0 3 rfl rfl)
theorem dX0_fitting_4 : decode cX0_fitting 4 = .ok (.invokeinterface 273 1, 5) := by decide +kernel
theorem dX0_fitting_9 : decode cX0_fitting 9 = .ok (.istore 5, 2) := dk_54 5 (dk_at dksX0_fitting_0 9 rfl rfl)
theorem dX0_fitting_11 : decode cX0_fitting 11 = .ok (.iload 5, 2) := dk_21 5 (dk_at dksX0_fitting_0 11 rfl rfl)
theorem dX0_fitting_13 : decode cX0_fitting 13 = .ok (.aload_n 1, 1) := dk_43 (dk_at dksX0_fitting_0 13 rfl rfl)
theorem dX0_fitting_14 : decode cX0_fitting 14 = .ok (.invokeinterface 278 1, 5) := by decide +kernel
theorem dX0_fitting_19 : decode cX0_fitting 19 = .ok (.if_icmp .gt 49, 3) := dk_163 0 49 (dk_at dksX0_fitting_0 19 rfl rfl)
theorem dX0_fitting_22 : decode cX0_fitting 22 = .ok (.iload 4, 2) := dk_21 4 (dk_at dksX0_fitting_0 22 rfl rfl)
theorem dX0_fitting_24 : decode cX0_fitting 24 = .ok (.aload_n 1, 1) := dk_43 (dk_at dksX0_fitting_1 0 rfl rfl)
theorem dX0_fitting_25 : decode cX0_fitting 25 = .ok (.aload_n 0, 1) := dk_42 (dk_at dksX0_fitting_1 1 rfl rfl)
theorem dX0_fitting_26 : decode cX0_fitting 26 = .ok (.invokevirtual 228, 3) := dk_182 0 228 (dk_at dksX0_fitting_1 2 rfl rfl)
theorem dX0_fitting_29 : decode cX0_fitting 29 = .ok (.iload 5, 2) := dk_21 5 (dk_at dksX0_fitting_1 5 rfl rfl)
theorem dX0_fitting_31 : decode cX0_fitting 31 = .ok (.invokeinterface 281 3, 5) := by decide +kernel
theorem dX0_fitting_36 : decode cX0_fitting 36 = .ok (.ifCond .eq 22, 3) := dk_153 0 22 (dk_at dksX0_fitting_1 12 rfl rfl)
theorem dX0_fitting_39 : decode cX0_fitting 39 = .ok (.aload_n 0, 1) := dk_42 (dk_at dksX0_fitting_1 15 rfl rfl)
theorem dX0_fitting_40 : decode cX0_fitting 40 = .ok (.getfield 50, 3) := dk_180 0 50 (dk_at dksX0_fitting_1 16 rfl rfl)
theorem dX0_fitting_43 : decode cX0_fitting 43 = .ok (.iload_n 2, 1) := dk_28 (dk_at dksX0_fitting_1 19 rfl rfl)
theorem dX0_fitting_44 : decode cX0_fitting 44 = .ok (.aload_n 3, 1) := dk_45 (dk_at dksX0_fitting_1 20 rfl rfl)
theorem dX0_fitting_45 : decode cX0_fitting 45 = .ok (.invokestatic 285, 3) := dk_184 1 29 (dk_at dksX0_fitting_1 21 rfl rfl)
theorem dX0_fitting_48 : decode cX0_fitting 48 = .ok (.ifCond .eq 10, 3) := dk_153 0 10 (dk_at dksX0_fitting_2 0 rfl rfl)
theorem dX0_fitting_51 : decode cX0_fitting 51 = .ok (.iconst 1, 1) := dk_4 (dk_at dksX0_fitting_2 3 rfl rfl)
theorem dX0_fitting_52 : decode cX0_fitting 52 = .ok (.iload 5, 2) := dk_21 5 (dk_at dksX0_fitting_2 4 rfl rfl)
theorem dX0_fitting_54 : decode cX0_fitting 54 = .ok (.ishl, 1) := dk_120 (dk_at dksX0_fitting_2 6 rfl rfl)
theorem dX0_fitting_55 : decode cX0_fitting 55 = .ok (.goto 4, 3) := dk_167 0 4 (dk_at dksX0_fitting_2 7 rfl rfl)
theorem dX0_fitting_58 : decode cX0_fitting 58 = .ok (.iconst 0, 1) := dk_3 (dk_at dksX0_fitting_2 10 rfl rfl)
theorem dX0_fitting_59 : decode cX0_fitting 59 = .ok (.ior, 1) := dk_128 (dk_at dksX0_fitting_2 11 rfl rfl)
theorem dX0_fitting_60 : decode cX0_fitting 60 = .ok (.istore 4, 2) := dk_54 4 (dk_at dksX0_fitting_2 12 rfl rfl)
theorem dX0_fitting_62 : decode cX0_fitting 62 = .ok (.iinc 5 1, 3) := dk_132 5 1 (dk_at dksX0_fitting_2 14 rfl rfl)
theorem dX0_fitting_65 : decode cX0_fitting 65 = .ok (.goto (-54), 3) := dk_167 255 202 (dk_at dksX0_fitting_2 17 rfl rfl)
theorem dX0_fitting_68 : decode cX0_fitting 68 = .ok (.iload 4, 2) := dk_21 4 (dk_at dksX0_fitting_2 20 rfl rfl)
theorem dX0_fitting_70 : decode cX0_fitting 70 = .ok (.ireturn, 1) := dk_172 (dk_at dksX0_fitting_2 22 rfl rfl)
abbrev cX0_isSo : ByteArray := prog_1_method_41_code
def yX0_isSo : MethodName := ⟨RX0, "isSo", "(LStepRiders$Stair;I[I)Z"⟩
def dkwX0_isSo_1 : List UInt8 := [172, 132, 3, 1, 167, 255, 230, 4, 172]
abbrev dktX0_isSo_1 : List UInt8 := dkwX0_isSo_1 ++ []
def dkwX0_isSo_0 : List UInt8 := [3, 62, 29, 44, 190, 162, 0, 26, 42, 182, 0, 190, 180, 0, 206, 27, 46, 44, 29, 46, 159, 0, 5, 3]
abbrev dktX0_isSo_0 : List UInt8 := dkwX0_isSo_0 ++ dktX0_isSo_1
theorem dksX0_isSo_0 : cX0_isSo.data.toList.drop 0 = dktX0_isSo_0 := by decide +kernel
theorem dksX0_isSo_1 : cX0_isSo.data.toList.drop 24 = dktX0_isSo_1 := dk_seg dksX0_isSo_0 24 rfl rfl
theorem dX0_isSo_0 : decode cX0_isSo 0 = .ok (.iconst 0, 1) := dk_3 (dk_at dksX0_isSo_0 0 rfl rfl)
theorem dX0_isSo_1 : decode cX0_isSo 1 = .ok (.istore_n 3, 1) := dk_62 (dk_at dksX0_isSo_0 1 rfl rfl)
theorem dX0_isSo_2 : decode cX0_isSo 2 = .ok (.iload_n 3, 1) := dk_29 (dk_at dksX0_isSo_0 2 rfl rfl)
theorem dX0_isSo_3 : decode cX0_isSo 3 = .ok (.aload_n 2, 1) := dk_44 (dk_at dksX0_isSo_0 3 rfl rfl)
theorem dX0_isSo_4 : decode cX0_isSo 4 = .ok (.arraylength, 1) := dk_190 (dk_at dksX0_isSo_0 4 rfl rfl)
theorem dX0_isSo_5 : decode cX0_isSo 5 = .ok (.if_icmp .ge 26, 3) := dk_162 0 26 (dk_at dksX0_isSo_0 5 rfl rfl)
theorem dX0_isSo_8 : decode cX0_isSo 8 = .ok (.aload_n 0, 1) := dk_42 (dk_at dksX0_isSo_0 8 rfl rfl)
theorem dX0_isSo_9 : decode cX0_isSo 9 = .ok (.invokevirtual 190, 3) := dk_182 0 190 (dk_at dksX0_isSo_0 9 rfl rfl)
theorem dX0_isSo_12 : decode cX0_isSo 12 = .ok (.getfield 206, 3) := dk_180 0 206 (dk_at dksX0_isSo_0 12 rfl rfl)
theorem dX0_isSo_15 : decode cX0_isSo 15 = .ok (.iload_n 1, 1) := dk_27 (dk_at dksX0_isSo_0 15 rfl rfl)
theorem dX0_isSo_16 : decode cX0_isSo 16 = .ok (.iaload, 1) := dk_46 (dk_at dksX0_isSo_0 16 rfl rfl)
theorem dX0_isSo_17 : decode cX0_isSo 17 = .ok (.aload_n 2, 1) := dk_44 (dk_at dksX0_isSo_0 17 rfl rfl)
theorem dX0_isSo_18 : decode cX0_isSo 18 = .ok (.iload_n 3, 1) := dk_29 (dk_at dksX0_isSo_0 18 rfl rfl)
theorem dX0_isSo_19 : decode cX0_isSo 19 = .ok (.iaload, 1) := dk_46 (dk_at dksX0_isSo_0 19 rfl rfl)
theorem dX0_isSo_20 : decode cX0_isSo 20 = .ok (.if_icmp .eq 5, 3) := dk_159 0 5 (dk_at dksX0_isSo_0 20 rfl rfl)
theorem dX0_isSo_23 : decode cX0_isSo 23 = .ok (.iconst 0, 1) := dk_3 (dk_at dksX0_isSo_0 23 rfl rfl)
theorem dX0_isSo_24 : decode cX0_isSo 24 = .ok (.ireturn, 1) := dk_172 (dk_at dksX0_isSo_1 0 rfl rfl)
theorem dX0_isSo_25 : decode cX0_isSo 25 = .ok (.iinc 3 1, 3) := dk_132 3 1 (dk_at dksX0_isSo_1 1 rfl rfl)
theorem dX0_isSo_28 : decode cX0_isSo 28 = .ok (.goto (-26), 3) := dk_167 255 230 (dk_at dksX0_isSo_1 4 rfl rfl)
theorem dX0_isSo_31 : decode cX0_isSo 31 = .ok (.iconst 1, 1) := dk_4 (dk_at dksX0_isSo_1 7 rfl rfl)
theorem dX0_isSo_32 : decode cX0_isSo 32 = .ok (.ireturn, 1) := dk_172 (dk_at dksX0_isSo_1 8 rfl rfl)
abbrev cX0_absent : ByteArray := prog_1_method_46_code
def yX0_absent : MethodName := ⟨RX0, "absent", "(IIII)I"⟩
def dkwX0_absent_10 : List UInt8 := [21, 8, 108, 172]
abbrev dktX0_absent_10 : List UInt8 := dkwX0_absent_10 ++ []
def dkwX0_absent_9 : List UInt8 := [167, 255, 106, 21, 6, 21, 7, 184, 1, 51, 54, 8, 21, 4, 154, 0, 8, 21, 6, 167, 0, 5, 21, 7]
abbrev dktX0_absent_9 : List UInt8 := dkwX0_absent_9 ++ dktX0_absent_10
def dkwX0_absent_8 : List UInt8 := [180, 0, 206, 27, 46, 16, 99, 160, 0, 8, 21, 9, 167, 0, 4, 3, 96, 54, 6, 132, 8, 1]
abbrev dktX0_absent_8 : List UInt8 := dkwX0_absent_8 ++ dktX0_absent_9
def dkwX0_absent_7 : List UInt8 := [132, 10, 1, 167, 255, 179, 21, 7, 21, 9, 96, 54, 7, 21, 6, 42, 180, 0, 50, 28, 182, 0, 231]
abbrev dktX0_absent_7 : List UInt8 := dkwX0_absent_7 ++ dktX0_absent_8
def dkwX0_absent_6 : List UInt8 := [180, 0, 206, 21, 10, 21, 8, 21, 10, 184, 0, 241, 153, 0, 8, 16, 99, 167, 0, 4, 2, 79]
abbrev dktX0_absent_6 : List UInt8 := dkwX0_absent_6 ++ dktX0_absent_7
def dkwX0_absent_5 : List UInt8 := [21, 10, 184, 0, 241, 153, 0, 7, 29, 167, 0, 7, 16, 10, 29, 100, 104, 54, 9, 42, 180, 0, 50]
abbrev dktX0_absent_5 : List UInt8 := dkwX0_absent_5 ++ dktX0_absent_6
def dkwX0_absent_4 : List UInt8 := [182, 0, 171, 162, 0, 71, 21, 5, 21, 10, 184, 0, 241, 154, 0, 6, 167, 0, 52, 21, 9, 21, 8]
abbrev dktX0_absent_4 : List UInt8 := dkwX0_absent_4 ++ dktX0_absent_5
def dkwX0_absent_3 : List UInt8 := [153, 0, 6, 167, 0, 130, 4, 54, 9, 42, 182, 0, 228, 87, 3, 54, 10, 21, 10, 42, 180, 0, 46]
abbrev dktX0_absent_3 : List UInt8 := dkwX0_absent_3 ++ dktX0_absent_4
def dkwX0_absent_2 : List UInt8 := [3, 54, 6, 3, 54, 7, 3, 54, 8, 21, 8, 21, 5, 163, 0, 149, 21, 8, 21, 5, 2, 130, 126]
abbrev dktX0_absent_2 : List UInt8 := dkwX0_absent_2 ++ dktX0_absent_3
def dkwX0_absent_1 : List UInt8 := [153, 0, 11, 21, 4, 184, 0, 216, 154, 0, 6, 18, 91, 172, 42, 180, 0, 46, 2, 182, 0, 238, 54, 5]
abbrev dktX0_absent_1 : List UInt8 := dkwX0_absent_1 ++ dktX0_absent_2
def dkwX0_absent_0 : List UInt8 := [42, 27, 182, 0, 200, 153, 0, 30, 28, 184, 0, 225, 153, 0, 23, 29, 133, 9, 20, 1, 49, 184, 0, 81]
abbrev dktX0_absent_0 : List UInt8 := dkwX0_absent_0 ++ dktX0_absent_1
theorem dksX0_absent_0 : cX0_absent.data.toList.drop 0 = dktX0_absent_0 := by decide +kernel
theorem dksX0_absent_1 : cX0_absent.data.toList.drop 24 = dktX0_absent_1 := dk_seg dksX0_absent_0 24 rfl rfl
theorem dksX0_absent_2 : cX0_absent.data.toList.drop 48 = dktX0_absent_2 := dk_seg dksX0_absent_1 24 rfl rfl
theorem dksX0_absent_3 : cX0_absent.data.toList.drop 71 = dktX0_absent_3 := dk_seg dksX0_absent_2 23 rfl rfl
theorem dksX0_absent_4 : cX0_absent.data.toList.drop 94 = dktX0_absent_4 := dk_seg dksX0_absent_3 23 rfl rfl
theorem dksX0_absent_5 : cX0_absent.data.toList.drop 117 = dktX0_absent_5 := dk_seg dksX0_absent_4 23 rfl rfl
theorem dksX0_absent_6 : cX0_absent.data.toList.drop 140 = dktX0_absent_6 := dk_seg dksX0_absent_5 23 rfl rfl
theorem dksX0_absent_7 : cX0_absent.data.toList.drop 162 = dktX0_absent_7 := dk_seg dksX0_absent_6 22 rfl rfl
theorem dksX0_absent_8 : cX0_absent.data.toList.drop 185 = dktX0_absent_8 := dk_seg dksX0_absent_7 23 rfl rfl
theorem dksX0_absent_9 : cX0_absent.data.toList.drop 207 = dktX0_absent_9 := dk_seg dksX0_absent_8 22 rfl rfl
theorem dksX0_absent_10 : cX0_absent.data.toList.drop 231 = dktX0_absent_10 := dk_seg dksX0_absent_9 24 rfl rfl
theorem dX0_absent_0 : decode cX0_absent 0 = .ok (.aload_n 0, 1) := dk_42 (dk_at dksX0_absent_0 0 rfl rfl)
theorem dX0_absent_1 : decode cX0_absent 1 = .ok (.iload_n 1, 1) := dk_27 (dk_at dksX0_absent_0 1 rfl rfl)
theorem dX0_absent_2 : decode cX0_absent 2 = .ok (.invokevirtual 200, 3) := dk_182 0 200 (dk_at dksX0_absent_0 2 rfl rfl)
theorem dX0_absent_5 : decode cX0_absent 5 = .ok (.ifCond .eq 30, 3) := dk_153 0 30 (dk_at dksX0_absent_0 5 rfl rfl)
theorem dX0_absent_8 : decode cX0_absent 8 = .ok (.iload_n 2, 1) := dk_28 (dk_at dksX0_absent_0 8 rfl rfl)
theorem dX0_absent_9 : decode cX0_absent 9 = .ok (.invokestatic 225, 3) := dk_184 0 225 (dk_at dksX0_absent_0 9 rfl rfl)
theorem dX0_absent_12 : decode cX0_absent 12 = .ok (.ifCond .eq 23, 3) := dk_153 0 23 (dk_at dksX0_absent_0 12 rfl rfl)
theorem dX0_absent_15 : decode cX0_absent 15 = .ok (.iload_n 3, 1) := dk_29 (dk_at dksX0_absent_0 15 rfl rfl)
theorem dX0_absent_16 : decode cX0_absent 16 = .ok (.i2l, 1) := dk_133 (dk_at dksX0_absent_0 16 rfl rfl)
theorem dX0_absent_17 : decode cX0_absent 17 = .ok (.lconst 0, 1) := dk_9 (dk_at dksX0_absent_0 17 rfl rfl)
theorem dX0_absent_18 : decode cX0_absent 18 = .ok (.ldc2_w 305, 3) := dk_20 1 49 (dk_at dksX0_absent_0 18 rfl rfl)
theorem dX0_absent_21 : decode cX0_absent 21 = .ok (.invokestatic 81, 3) := dk_184 0 81 (dk_at dksX0_absent_0 21 rfl rfl)
theorem dX0_absent_24 : decode cX0_absent 24 = .ok (.ifCond .eq 11, 3) := dk_153 0 11 (dk_at dksX0_absent_1 0 rfl rfl)
theorem dX0_absent_27 : decode cX0_absent 27 = .ok (.iload 4, 2) := dk_21 4 (dk_at dksX0_absent_1 3 rfl rfl)
theorem dX0_absent_29 : decode cX0_absent 29 = .ok (.invokestatic 216, 3) := dk_184 0 216 (dk_at dksX0_absent_1 5 rfl rfl)
theorem dX0_absent_32 : decode cX0_absent 32 = .ok (.ifCond .ne 6, 3) := dk_154 0 6 (dk_at dksX0_absent_1 8 rfl rfl)
theorem dX0_absent_35 : decode cX0_absent 35 = .ok (.ldc 91, 2) := dk_18 91 (dk_at dksX0_absent_1 11 rfl rfl)
theorem dX0_absent_37 : decode cX0_absent 37 = .ok (.ireturn, 1) := dk_172 (dk_at dksX0_absent_1 13 rfl rfl)
theorem dX0_absent_38 : decode cX0_absent 38 = .ok (.aload_n 0, 1) := dk_42 (dk_at dksX0_absent_1 14 rfl rfl)
theorem dX0_absent_39 : decode cX0_absent 39 = .ok (.getfield 46, 3) := dk_180 0 46 (dk_at dksX0_absent_1 15 rfl rfl)
theorem dX0_absent_42 : decode cX0_absent 42 = .ok (.iconst (-1), 1) := dk_2 (dk_at dksX0_absent_1 18 rfl rfl)
theorem dX0_absent_43 : decode cX0_absent 43 = .ok (.invokevirtual 238, 3) := dk_182 0 238 (dk_at dksX0_absent_1 19 rfl rfl)
theorem dX0_absent_46 : decode cX0_absent 46 = .ok (.istore 5, 2) := dk_54 5 (dk_at dksX0_absent_1 22 rfl rfl)
theorem dX0_absent_48 : decode cX0_absent 48 = .ok (.iconst 0, 1) := dk_3 (dk_at dksX0_absent_2 0 rfl rfl)
theorem dX0_absent_49 : decode cX0_absent 49 = .ok (.istore 6, 2) := dk_54 6 (dk_at dksX0_absent_2 1 rfl rfl)
theorem dX0_absent_51 : decode cX0_absent 51 = .ok (.iconst 0, 1) := dk_3 (dk_at dksX0_absent_2 3 rfl rfl)
theorem dX0_absent_52 : decode cX0_absent 52 = .ok (.istore 7, 2) := dk_54 7 (dk_at dksX0_absent_2 4 rfl rfl)
theorem dX0_absent_54 : decode cX0_absent 54 = .ok (.iconst 0, 1) := dk_3 (dk_at dksX0_absent_2 6 rfl rfl)
theorem dX0_absent_55 : decode cX0_absent 55 = .ok (.istore 8, 2) := dk_54 8 (dk_at dksX0_absent_2 7 rfl rfl)
theorem dX0_absent_57 : decode cX0_absent 57 = .ok (.iload 8, 2) := dk_21 8 (dk_at dksX0_absent_2 9 rfl rfl)
theorem dX0_absent_59 : decode cX0_absent 59 = .ok (.iload 5, 2) := dk_21 5 (dk_at dksX0_absent_2 11 rfl rfl)
theorem dX0_absent_61 : decode cX0_absent 61 = .ok (.if_icmp .gt 149, 3) := dk_163 0 149 (dk_at dksX0_absent_2 13 rfl rfl)
theorem dX0_absent_64 : decode cX0_absent 64 = .ok (.iload 8, 2) := dk_21 8 (dk_at dksX0_absent_2 16 rfl rfl)
theorem dX0_absent_66 : decode cX0_absent 66 = .ok (.iload 5, 2) := dk_21 5 (dk_at dksX0_absent_2 18 rfl rfl)
theorem dX0_absent_68 : decode cX0_absent 68 = .ok (.iconst (-1), 1) := dk_2 (dk_at dksX0_absent_2 20 rfl rfl)
theorem dX0_absent_69 : decode cX0_absent 69 = .ok (.ixor, 1) := dk_130 (dk_at dksX0_absent_2 21 rfl rfl)
theorem dX0_absent_70 : decode cX0_absent 70 = .ok (.iand, 1) := dk_126 (dk_at dksX0_absent_2 22 rfl rfl)
theorem dX0_absent_71 : decode cX0_absent 71 = .ok (.ifCond .eq 6, 3) := dk_153 0 6 (dk_at dksX0_absent_3 0 rfl rfl)
theorem dX0_absent_74 : decode cX0_absent 74 = .ok (.goto 130, 3) := dk_167 0 130 (dk_at dksX0_absent_3 3 rfl rfl)
theorem dX0_absent_77 : decode cX0_absent 77 = .ok (.iconst 1, 1) := dk_4 (dk_at dksX0_absent_3 6 rfl rfl)
theorem dX0_absent_78 : decode cX0_absent 78 = .ok (.istore 9, 2) := dk_54 9 (dk_at dksX0_absent_3 7 rfl rfl)
theorem dX0_absent_80 : decode cX0_absent 80 = .ok (.aload_n 0, 1) := dk_42 (dk_at dksX0_absent_3 9 rfl rfl)
theorem dX0_absent_81 : decode cX0_absent 81 = .ok (.invokevirtual 228, 3) := dk_182 0 228 (dk_at dksX0_absent_3 10 rfl rfl)
theorem dX0_absent_84 : decode cX0_absent 84 = .ok (.pop, 1) := dk_87 (dk_at dksX0_absent_3 13 rfl rfl)
theorem dX0_absent_85 : decode cX0_absent 85 = .ok (.iconst 0, 1) := dk_3 (dk_at dksX0_absent_3 14 rfl rfl)
theorem dX0_absent_86 : decode cX0_absent 86 = .ok (.istore 10, 2) := dk_54 10 (dk_at dksX0_absent_3 15 rfl rfl)
theorem dX0_absent_88 : decode cX0_absent 88 = .ok (.iload 10, 2) := dk_21 10 (dk_at dksX0_absent_3 17 rfl rfl)
theorem dX0_absent_90 : decode cX0_absent 90 = .ok (.aload_n 0, 1) := dk_42 (dk_at dksX0_absent_3 19 rfl rfl)
theorem dX0_absent_91 : decode cX0_absent 91 = .ok (.getfield 46, 3) := dk_180 0 46 (dk_at dksX0_absent_3 20 rfl rfl)
theorem dX0_absent_94 : decode cX0_absent 94 = .ok (.invokevirtual 171, 3) := dk_182 0 171 (dk_at dksX0_absent_4 0 rfl rfl)
theorem dX0_absent_97 : decode cX0_absent 97 = .ok (.if_icmp .ge 71, 3) := dk_162 0 71 (dk_at dksX0_absent_4 3 rfl rfl)
theorem dX0_absent_100 : decode cX0_absent 100 = .ok (.iload 5, 2) := dk_21 5 (dk_at dksX0_absent_4 6 rfl rfl)
theorem dX0_absent_102 : decode cX0_absent 102 = .ok (.iload 10, 2) := dk_21 10 (dk_at dksX0_absent_4 8 rfl rfl)
theorem dX0_absent_104 : decode cX0_absent 104 = .ok (.invokestatic 241, 3) := dk_184 0 241 (dk_at dksX0_absent_4 10 rfl rfl)
theorem dX0_absent_107 : decode cX0_absent 107 = .ok (.ifCond .ne 6, 3) := dk_154 0 6 (dk_at dksX0_absent_4 13 rfl rfl)
theorem dX0_absent_110 : decode cX0_absent 110 = .ok (.goto 52, 3) := dk_167 0 52 (dk_at dksX0_absent_4 16 rfl rfl)
theorem dX0_absent_113 : decode cX0_absent 113 = .ok (.iload 9, 2) := dk_21 9 (dk_at dksX0_absent_4 19 rfl rfl)
theorem dX0_absent_115 : decode cX0_absent 115 = .ok (.iload 8, 2) := dk_21 8 (dk_at dksX0_absent_4 21 rfl rfl)
theorem dX0_absent_117 : decode cX0_absent 117 = .ok (.iload 10, 2) := dk_21 10 (dk_at dksX0_absent_5 0 rfl rfl)
theorem dX0_absent_119 : decode cX0_absent 119 = .ok (.invokestatic 241, 3) := dk_184 0 241 (dk_at dksX0_absent_5 2 rfl rfl)
theorem dX0_absent_122 : decode cX0_absent 122 = .ok (.ifCond .eq 7, 3) := dk_153 0 7 (dk_at dksX0_absent_5 5 rfl rfl)
theorem dX0_absent_125 : decode cX0_absent 125 = .ok (.iload_n 3, 1) := dk_29 (dk_at dksX0_absent_5 8 rfl rfl)
theorem dX0_absent_126 : decode cX0_absent 126 = .ok (.goto 7, 3) := dk_167 0 7 (dk_at dksX0_absent_5 9 rfl rfl)
theorem dX0_absent_129 : decode cX0_absent 129 = .ok (.bipush 10, 2) := dk_16 10 (dk_at dksX0_absent_5 12 rfl rfl)
theorem dX0_absent_131 : decode cX0_absent 131 = .ok (.iload_n 3, 1) := dk_29 (dk_at dksX0_absent_5 14 rfl rfl)
theorem dX0_absent_132 : decode cX0_absent 132 = .ok (.isub, 1) := dk_100 (dk_at dksX0_absent_5 15 rfl rfl)
theorem dX0_absent_133 : decode cX0_absent 133 = .ok (.imul, 1) := dk_104 (dk_at dksX0_absent_5 16 rfl rfl)
theorem dX0_absent_134 : decode cX0_absent 134 = .ok (.istore 9, 2) := dk_54 9 (dk_at dksX0_absent_5 17 rfl rfl)
theorem dX0_absent_136 : decode cX0_absent 136 = .ok (.aload_n 0, 1) := dk_42 (dk_at dksX0_absent_5 19 rfl rfl)
theorem dX0_absent_137 : decode cX0_absent 137 = .ok (.getfield 50, 3) := dk_180 0 50 (dk_at dksX0_absent_5 20 rfl rfl)
theorem dX0_absent_140 : decode cX0_absent 140 = .ok (.getfield 206, 3) := dk_180 0 206 (dk_at dksX0_absent_6 0 rfl rfl)
theorem dX0_absent_143 : decode cX0_absent 143 = .ok (.iload 10, 2) := dk_21 10 (dk_at dksX0_absent_6 3 rfl rfl)
theorem dX0_absent_145 : decode cX0_absent 145 = .ok (.iload 8, 2) := dk_21 8 (dk_at dksX0_absent_6 5 rfl rfl)
theorem dX0_absent_147 : decode cX0_absent 147 = .ok (.iload 10, 2) := dk_21 10 (dk_at dksX0_absent_6 7 rfl rfl)
theorem dX0_absent_149 : decode cX0_absent 149 = .ok (.invokestatic 241, 3) := dk_184 0 241 (dk_at dksX0_absent_6 9 rfl rfl)
theorem dX0_absent_152 : decode cX0_absent 152 = .ok (.ifCond .eq 8, 3) := dk_153 0 8 (dk_at dksX0_absent_6 12 rfl rfl)
theorem dX0_absent_155 : decode cX0_absent 155 = .ok (.bipush 99, 2) := dk_16 99 (dk_at dksX0_absent_6 15 rfl rfl)
theorem dX0_absent_157 : decode cX0_absent 157 = .ok (.goto 4, 3) := dk_167 0 4 (dk_at dksX0_absent_6 17 rfl rfl)
theorem dX0_absent_160 : decode cX0_absent 160 = .ok (.iconst (-1), 1) := dk_2 (dk_at dksX0_absent_6 20 rfl rfl)
theorem dX0_absent_161 : decode cX0_absent 161 = .ok (.iastore, 1) := dk_79 (dk_at dksX0_absent_6 21 rfl rfl)
theorem dX0_absent_162 : decode cX0_absent 162 = .ok (.iinc 10 1, 3) := dk_132 10 1 (dk_at dksX0_absent_7 0 rfl rfl)
theorem dX0_absent_165 : decode cX0_absent 165 = .ok (.goto (-77), 3) := dk_167 255 179 (dk_at dksX0_absent_7 3 rfl rfl)
theorem dX0_absent_168 : decode cX0_absent 168 = .ok (.iload 7, 2) := dk_21 7 (dk_at dksX0_absent_7 6 rfl rfl)
theorem dX0_absent_170 : decode cX0_absent 170 = .ok (.iload 9, 2) := dk_21 9 (dk_at dksX0_absent_7 8 rfl rfl)
theorem dX0_absent_172 : decode cX0_absent 172 = .ok (.iadd, 1) := dk_96 (dk_at dksX0_absent_7 10 rfl rfl)
theorem dX0_absent_173 : decode cX0_absent 173 = .ok (.istore 7, 2) := dk_54 7 (dk_at dksX0_absent_7 11 rfl rfl)
theorem dX0_absent_175 : decode cX0_absent 175 = .ok (.iload 6, 2) := dk_21 6 (dk_at dksX0_absent_7 13 rfl rfl)
theorem dX0_absent_177 : decode cX0_absent 177 = .ok (.aload_n 0, 1) := dk_42 (dk_at dksX0_absent_7 15 rfl rfl)
theorem dX0_absent_178 : decode cX0_absent 178 = .ok (.getfield 50, 3) := dk_180 0 50 (dk_at dksX0_absent_7 16 rfl rfl)
theorem dX0_absent_181 : decode cX0_absent 181 = .ok (.iload_n 2, 1) := dk_28 (dk_at dksX0_absent_7 19 rfl rfl)
theorem dX0_absent_182 : decode cX0_absent 182 = .ok (.invokevirtual 231, 3) := dk_182 0 231 (dk_at dksX0_absent_7 20 rfl rfl)
theorem dX0_absent_185 : decode cX0_absent 185 = .ok (.getfield 206, 3) := dk_180 0 206 (dk_at dksX0_absent_8 0 rfl rfl)
theorem dX0_absent_188 : decode cX0_absent 188 = .ok (.iload_n 1, 1) := dk_27 (dk_at dksX0_absent_8 3 rfl rfl)
theorem dX0_absent_189 : decode cX0_absent 189 = .ok (.iaload, 1) := dk_46 (dk_at dksX0_absent_8 4 rfl rfl)
theorem dX0_absent_190 : decode cX0_absent 190 = .ok (.bipush 99, 2) := dk_16 99 (dk_at dksX0_absent_8 5 rfl rfl)
theorem dX0_absent_192 : decode cX0_absent 192 = .ok (.if_icmp .ne 8, 3) := dk_160 0 8 (dk_at dksX0_absent_8 7 rfl rfl)
theorem dX0_absent_195 : decode cX0_absent 195 = .ok (.iload 9, 2) := dk_21 9 (dk_at dksX0_absent_8 10 rfl rfl)
theorem dX0_absent_197 : decode cX0_absent 197 = .ok (.goto 4, 3) := dk_167 0 4 (dk_at dksX0_absent_8 12 rfl rfl)
theorem dX0_absent_200 : decode cX0_absent 200 = .ok (.iconst 0, 1) := dk_3 (dk_at dksX0_absent_8 15 rfl rfl)
theorem dX0_absent_201 : decode cX0_absent 201 = .ok (.iadd, 1) := dk_96 (dk_at dksX0_absent_8 16 rfl rfl)
theorem dX0_absent_202 : decode cX0_absent 202 = .ok (.istore 6, 2) := dk_54 6 (dk_at dksX0_absent_8 17 rfl rfl)
theorem dX0_absent_204 : decode cX0_absent 204 = .ok (.iinc 8 1, 3) := dk_132 8 1 (dk_at dksX0_absent_8 19 rfl rfl)
theorem dX0_absent_207 : decode cX0_absent 207 = .ok (.goto (-150), 3) := dk_167 255 106 (dk_at dksX0_absent_9 0 rfl rfl)
theorem dX0_absent_210 : decode cX0_absent 210 = .ok (.iload 6, 2) := dk_21 6 (dk_at dksX0_absent_9 3 rfl rfl)
theorem dX0_absent_212 : decode cX0_absent 212 = .ok (.iload 7, 2) := dk_21 7 (dk_at dksX0_absent_9 5 rfl rfl)
theorem dX0_absent_214 : decode cX0_absent 214 = .ok (.invokestatic 307, 3) := dk_184 1 51 (dk_at dksX0_absent_9 7 rfl rfl)
theorem dX0_absent_217 : decode cX0_absent 217 = .ok (.istore 8, 2) := dk_54 8 (dk_at dksX0_absent_9 10 rfl rfl)
theorem dX0_absent_219 : decode cX0_absent 219 = .ok (.iload 4, 2) := dk_21 4 (dk_at dksX0_absent_9 12 rfl rfl)
theorem dX0_absent_221 : decode cX0_absent 221 = .ok (.ifCond .ne 8, 3) := dk_154 0 8 (dk_at dksX0_absent_9 14 rfl rfl)
theorem dX0_absent_224 : decode cX0_absent 224 = .ok (.iload 6, 2) := dk_21 6 (dk_at dksX0_absent_9 17 rfl rfl)
theorem dX0_absent_226 : decode cX0_absent 226 = .ok (.goto 5, 3) := dk_167 0 5 (dk_at dksX0_absent_9 19 rfl rfl)
theorem dX0_absent_229 : decode cX0_absent 229 = .ok (.iload 7, 2) := dk_21 7 (dk_at dksX0_absent_9 22 rfl rfl)
theorem dX0_absent_231 : decode cX0_absent 231 = .ok (.iload 8, 2) := dk_21 8 (dk_at dksX0_absent_10 0 rfl rfl)
theorem dX0_absent_233 : decode cX0_absent 233 = .ok (.idiv, 1) := dk_108 (dk_at dksX0_absent_10 2 rfl rfl)
theorem dX0_absent_234 : decode cX0_absent 234 = .ok (.ireturn, 1) := dk_172 (dk_at dksX0_absent_10 3 rfl rfl)
abbrev cX0_common : ByteArray := prog_1_method_45_code
def yX0_common : MethodName := ⟨RX0, "common", "(II)I"⟩
def dkwX0_common_0 : List UInt8 := [26, 61, 27, 62, 29, 153, 0, 16, 28, 29, 112, 54, 4, 29, 61, 21, 4, 62, 167, 255, 242, 28, 172]
abbrev dktX0_common_0 : List UInt8 := dkwX0_common_0 ++ []
theorem dksX0_common_0 : cX0_common.data.toList.drop 0 = dktX0_common_0 := by decide +kernel
theorem dX0_common_0 : decode cX0_common 0 = .ok (.iload_n 0, 1) := dk_26 (dk_at dksX0_common_0 0 rfl rfl)
theorem dX0_common_1 : decode cX0_common 1 = .ok (.istore_n 2, 1) := dk_61 (dk_at dksX0_common_0 1 rfl rfl)
theorem dX0_common_2 : decode cX0_common 2 = .ok (.iload_n 1, 1) := dk_27 (dk_at dksX0_common_0 2 rfl rfl)
theorem dX0_common_3 : decode cX0_common 3 = .ok (.istore_n 3, 1) := dk_62 (dk_at dksX0_common_0 3 rfl rfl)
theorem dX0_common_4 : decode cX0_common 4 = .ok (.iload_n 3, 1) := dk_29 (dk_at dksX0_common_0 4 rfl rfl)
theorem dX0_common_5 : decode cX0_common 5 = .ok (.ifCond .eq 16, 3) := dk_153 0 16 (dk_at dksX0_common_0 5 rfl rfl)
theorem dX0_common_8 : decode cX0_common 8 = .ok (.iload_n 2, 1) := dk_28 (dk_at dksX0_common_0 8 rfl rfl)
theorem dX0_common_9 : decode cX0_common 9 = .ok (.iload_n 3, 1) := dk_29 (dk_at dksX0_common_0 9 rfl rfl)
theorem dX0_common_10 : decode cX0_common 10 = .ok (.irem, 1) := dk_112 (dk_at dksX0_common_0 10 rfl rfl)
theorem dX0_common_11 : decode cX0_common 11 = .ok (.istore 4, 2) := dk_54 4 (dk_at dksX0_common_0 11 rfl rfl)
theorem dX0_common_13 : decode cX0_common 13 = .ok (.iload_n 3, 1) := dk_29 (dk_at dksX0_common_0 13 rfl rfl)
theorem dX0_common_14 : decode cX0_common 14 = .ok (.istore_n 2, 1) := dk_61 (dk_at dksX0_common_0 14 rfl rfl)
theorem dX0_common_15 : decode cX0_common 15 = .ok (.iload 4, 2) := dk_21 4 (dk_at dksX0_common_0 15 rfl rfl)
theorem dX0_common_17 : decode cX0_common 17 = .ok (.istore_n 3, 1) := dk_62 (dk_at dksX0_common_0 17 rfl rfl)
theorem dX0_common_18 : decode cX0_common 18 = .ok (.goto (-14), 3) := dk_167 255 242 (dk_at dksX0_common_0 18 rfl rfl)
theorem dX0_common_21 : decode cX0_common 21 = .ok (.iload_n 2, 1) := dk_28 (dk_at dksX0_common_0 21 rfl rfl)
theorem dX0_common_22 : decode cX0_common 22 = .ok (.ireturn, 1) := dk_172 (dk_at dksX0_common_0 22 rfl rfl)
abbrev cX0_drawn : ByteArray := prog_1_method_47_code
def yX0_drawn : MethodName := ⟨RX0, "drawn", "(III)I"⟩
def dkwX0_drawn_7 : List UInt8 := [180, 1, 56, 167, 0, 8, 25, 4, 182, 0, 194, 172]
abbrev dktX0_drawn_7 : List UInt8 := dkwX0_drawn_7 ++ []
def dkwX0_drawn_6 : List UInt8 := [20, 0, 89, 113, 136, 79, 25, 4, 182, 0, 190, 87, 132, 7, 1, 167, 255, 157, 29, 154, 0, 11, 25, 4]
abbrev dktX0_drawn_6 : List UInt8 := dkwX0_drawn_6 ++ dktX0_drawn_7
def dkwX0_drawn_5 : List UInt8 := [46, 16, 99, 160, 0, 27, 25, 4, 180, 0, 206, 21, 8, 2, 79, 25, 4, 180, 0, 203, 21, 8, 22, 5]
abbrev dktX0_drawn_5 : List UInt8 := dkwX0_drawn_5 ++ dktX0_drawn_6
def dkwX0_drawn_4 : List UInt8 := [113, 136, 181, 0, 197, 22, 5, 25, 4, 182, 0, 171, 133, 113, 136, 54, 8, 25, 4, 180, 0, 206, 21, 8]
abbrev dktX0_drawn_4 : List UInt8 := dkwX0_drawn_4 ++ dktX0_drawn_5
def dkwX0_drawn_3 : List UInt8 := [20, 1, 61, 113, 55, 5, 22, 5, 20, 1, 63, 113, 9, 148, 154, 0, 15, 25, 4, 22, 5, 20, 1, 35]
abbrev dktX0_drawn_3 : List UInt8 := dkwX0_drawn_3 ++ dktX0_drawn_4
def dkwX0_drawn_2 : List UInt8 := [3, 181, 1, 56, 28, 133, 55, 5, 3, 54, 7, 21, 7, 27, 162, 0, 99, 22, 5, 20, 1, 59, 105]
abbrev dktX0_drawn_2 : List UInt8 := dkwX0_drawn_2 ++ dktX0_drawn_3
def dkwX0_drawn_1 : List UInt8 := [184, 0, 81, 153, 0, 10, 29, 184, 0, 216, 154, 0, 6, 18, 91, 172, 42, 182, 0, 228, 58, 4, 25, 4]
abbrev dktX0_drawn_1 : List UInt8 := dkwX0_drawn_1 ++ dktX0_drawn_2
def dkwX0_drawn_0 : List UInt8 := [42, 182, 0, 177, 154, 0, 6, 18, 181, 172, 27, 184, 0, 225, 153, 0, 22, 28, 133, 10, 20, 1, 54]
abbrev dktX0_drawn_0 : List UInt8 := dkwX0_drawn_0 ++ dktX0_drawn_1
theorem dksX0_drawn_0 : cX0_drawn.data.toList.drop 0 = dktX0_drawn_0 := by decide +kernel
theorem dksX0_drawn_1 : cX0_drawn.data.toList.drop 23 = dktX0_drawn_1 := dk_seg dksX0_drawn_0 23 rfl rfl
theorem dksX0_drawn_2 : cX0_drawn.data.toList.drop 47 = dktX0_drawn_2 := dk_seg dksX0_drawn_1 24 rfl rfl
theorem dksX0_drawn_3 : cX0_drawn.data.toList.drop 70 = dktX0_drawn_3 := dk_seg dksX0_drawn_2 23 rfl rfl
theorem dksX0_drawn_4 : cX0_drawn.data.toList.drop 94 = dktX0_drawn_4 := dk_seg dksX0_drawn_3 24 rfl rfl
theorem dksX0_drawn_5 : cX0_drawn.data.toList.drop 118 = dktX0_drawn_5 := dk_seg dksX0_drawn_4 24 rfl rfl
theorem dksX0_drawn_6 : cX0_drawn.data.toList.drop 142 = dktX0_drawn_6 := dk_seg dksX0_drawn_5 24 rfl rfl
theorem dksX0_drawn_7 : cX0_drawn.data.toList.drop 166 = dktX0_drawn_7 := dk_seg dksX0_drawn_6 24 rfl rfl
theorem dX0_drawn_0 : decode cX0_drawn 0 = .ok (.aload_n 0, 1) := dk_42 (dk_at dksX0_drawn_0 0 rfl rfl)
theorem dX0_drawn_1 : decode cX0_drawn 1 = .ok (.invokevirtual 177, 3) := dk_182 0 177 (dk_at dksX0_drawn_0 1 rfl rfl)
theorem dX0_drawn_4 : decode cX0_drawn 4 = .ok (.ifCond .ne 6, 3) := dk_154 0 6 (dk_at dksX0_drawn_0 4 rfl rfl)
theorem dX0_drawn_7 : decode cX0_drawn 7 = .ok (.ldc 181, 2) := dk_18 181 (dk_at dksX0_drawn_0 7 rfl rfl)
theorem dX0_drawn_9 : decode cX0_drawn 9 = .ok (.ireturn, 1) := dk_172 (dk_at dksX0_drawn_0 9 rfl rfl)
theorem dX0_drawn_10 : decode cX0_drawn 10 = .ok (.iload_n 1, 1) := dk_27 (dk_at dksX0_drawn_0 10 rfl rfl)
theorem dX0_drawn_11 : decode cX0_drawn 11 = .ok (.invokestatic 225, 3) := dk_184 0 225 (dk_at dksX0_drawn_0 11 rfl rfl)
theorem dX0_drawn_14 : decode cX0_drawn 14 = .ok (.ifCond .eq 22, 3) := dk_153 0 22 (dk_at dksX0_drawn_0 14 rfl rfl)
theorem dX0_drawn_17 : decode cX0_drawn 17 = .ok (.iload_n 2, 1) := dk_28 (dk_at dksX0_drawn_0 17 rfl rfl)
theorem dX0_drawn_18 : decode cX0_drawn 18 = .ok (.i2l, 1) := dk_133 (dk_at dksX0_drawn_0 18 rfl rfl)
theorem dX0_drawn_19 : decode cX0_drawn 19 = .ok (.lconst 1, 1) := dk_10 (dk_at dksX0_drawn_0 19 rfl rfl)
theorem dX0_drawn_20 : decode cX0_drawn 20 = .ok (.ldc2_w 310, 3) := dk_20 1 54 (dk_at dksX0_drawn_0 20 rfl rfl)
theorem dX0_drawn_23 : decode cX0_drawn 23 = .ok (.invokestatic 81, 3) := dk_184 0 81 (dk_at dksX0_drawn_1 0 rfl rfl)
theorem dX0_drawn_26 : decode cX0_drawn 26 = .ok (.ifCond .eq 10, 3) := dk_153 0 10 (dk_at dksX0_drawn_1 3 rfl rfl)
theorem dX0_drawn_29 : decode cX0_drawn 29 = .ok (.iload_n 3, 1) := dk_29 (dk_at dksX0_drawn_1 6 rfl rfl)
theorem dX0_drawn_30 : decode cX0_drawn 30 = .ok (.invokestatic 216, 3) := dk_184 0 216 (dk_at dksX0_drawn_1 7 rfl rfl)
theorem dX0_drawn_33 : decode cX0_drawn 33 = .ok (.ifCond .ne 6, 3) := dk_154 0 6 (dk_at dksX0_drawn_1 10 rfl rfl)
theorem dX0_drawn_36 : decode cX0_drawn 36 = .ok (.ldc 91, 2) := dk_18 91 (dk_at dksX0_drawn_1 13 rfl rfl)
theorem dX0_drawn_38 : decode cX0_drawn 38 = .ok (.ireturn, 1) := dk_172 (dk_at dksX0_drawn_1 15 rfl rfl)
theorem dX0_drawn_39 : decode cX0_drawn 39 = .ok (.aload_n 0, 1) := dk_42 (dk_at dksX0_drawn_1 16 rfl rfl)
theorem dX0_drawn_40 : decode cX0_drawn 40 = .ok (.invokevirtual 228, 3) := dk_182 0 228 (dk_at dksX0_drawn_1 17 rfl rfl)
theorem dX0_drawn_43 : decode cX0_drawn 43 = .ok (.astore 4, 2) := dk_58 4 (dk_at dksX0_drawn_1 20 rfl rfl)
theorem dX0_drawn_45 : decode cX0_drawn 45 = .ok (.aload 4, 2) := dk_25 4 (dk_at dksX0_drawn_1 22 rfl rfl)
theorem dX0_drawn_47 : decode cX0_drawn 47 = .ok (.iconst 0, 1) := dk_3 (dk_at dksX0_drawn_2 0 rfl rfl)
theorem dX0_drawn_48 : decode cX0_drawn 48 = .ok (.putfield 312, 3) := dk_181 1 56 (dk_at dksX0_drawn_2 1 rfl rfl)
theorem dX0_drawn_51 : decode cX0_drawn 51 = .ok (.iload_n 2, 1) := dk_28 (dk_at dksX0_drawn_2 4 rfl rfl)
theorem dX0_drawn_52 : decode cX0_drawn 52 = .ok (.i2l, 1) := dk_133 (dk_at dksX0_drawn_2 5 rfl rfl)
theorem dX0_drawn_53 : decode cX0_drawn 53 = .ok (.lstore 5, 2) := dk_55 5 (dk_at dksX0_drawn_2 6 rfl rfl)
theorem dX0_drawn_55 : decode cX0_drawn 55 = .ok (.iconst 0, 1) := dk_3 (dk_at dksX0_drawn_2 8 rfl rfl)
theorem dX0_drawn_56 : decode cX0_drawn 56 = .ok (.istore 7, 2) := dk_54 7 (dk_at dksX0_drawn_2 9 rfl rfl)
theorem dX0_drawn_58 : decode cX0_drawn 58 = .ok (.iload 7, 2) := dk_21 7 (dk_at dksX0_drawn_2 11 rfl rfl)
theorem dX0_drawn_60 : decode cX0_drawn 60 = .ok (.iload_n 1, 1) := dk_27 (dk_at dksX0_drawn_2 13 rfl rfl)
theorem dX0_drawn_61 : decode cX0_drawn 61 = .ok (.if_icmp .ge 99, 3) := dk_162 0 99 (dk_at dksX0_drawn_2 14 rfl rfl)
theorem dX0_drawn_64 : decode cX0_drawn 64 = .ok (.lload 5, 2) := dk_22 5 (dk_at dksX0_drawn_2 17 rfl rfl)
theorem dX0_drawn_66 : decode cX0_drawn 66 = .ok (.ldc2_w 315, 3) := dk_20 1 59 (dk_at dksX0_drawn_2 19 rfl rfl)
theorem dX0_drawn_69 : decode cX0_drawn 69 = .ok (.lmul, 1) := dk_105 (dk_at dksX0_drawn_2 22 rfl rfl)
theorem dX0_drawn_70 : decode cX0_drawn 70 = .ok (.ldc2_w 317, 3) := dk_20 1 61 (dk_at dksX0_drawn_3 0 rfl rfl)
theorem dX0_drawn_73 : decode cX0_drawn 73 = .ok (.lrem, 1) := dk_113 (dk_at dksX0_drawn_3 3 rfl rfl)
theorem dX0_drawn_74 : decode cX0_drawn 74 = .ok (.lstore 5, 2) := dk_55 5 (dk_at dksX0_drawn_3 4 rfl rfl)
theorem dX0_drawn_76 : decode cX0_drawn 76 = .ok (.lload 5, 2) := dk_22 5 (dk_at dksX0_drawn_3 6 rfl rfl)
theorem dX0_drawn_78 : decode cX0_drawn 78 = .ok (.ldc2_w 319, 3) := dk_20 1 63 (dk_at dksX0_drawn_3 8 rfl rfl)
theorem dX0_drawn_81 : decode cX0_drawn 81 = .ok (.lrem, 1) := dk_113 (dk_at dksX0_drawn_3 11 rfl rfl)
theorem dX0_drawn_82 : decode cX0_drawn 82 = .ok (.lconst 0, 1) := dk_9 (dk_at dksX0_drawn_3 12 rfl rfl)
theorem dX0_drawn_83 : decode cX0_drawn 83 = .ok (.lcmp, 1) := dk_148 (dk_at dksX0_drawn_3 13 rfl rfl)
theorem dX0_drawn_84 : decode cX0_drawn 84 = .ok (.ifCond .ne 15, 3) := dk_154 0 15 (dk_at dksX0_drawn_3 14 rfl rfl)
theorem dX0_drawn_87 : decode cX0_drawn 87 = .ok (.aload 4, 2) := dk_25 4 (dk_at dksX0_drawn_3 17 rfl rfl)
theorem dX0_drawn_89 : decode cX0_drawn 89 = .ok (.lload 5, 2) := dk_22 5 (dk_at dksX0_drawn_3 19 rfl rfl)
theorem dX0_drawn_91 : decode cX0_drawn 91 = .ok (.ldc2_w 291, 3) := dk_20 1 35 (dk_at dksX0_drawn_3 21 rfl rfl)
theorem dX0_drawn_94 : decode cX0_drawn 94 = .ok (.lrem, 1) := dk_113 (dk_at dksX0_drawn_4 0 rfl rfl)
theorem dX0_drawn_95 : decode cX0_drawn 95 = .ok (.l2i, 1) := dk_136 (dk_at dksX0_drawn_4 1 rfl rfl)
theorem dX0_drawn_96 : decode cX0_drawn 96 = .ok (.putfield 197, 3) := dk_181 0 197 (dk_at dksX0_drawn_4 2 rfl rfl)
theorem dX0_drawn_99 : decode cX0_drawn 99 = .ok (.lload 5, 2) := dk_22 5 (dk_at dksX0_drawn_4 5 rfl rfl)
theorem dX0_drawn_101 : decode cX0_drawn 101 = .ok (.aload 4, 2) := dk_25 4 (dk_at dksX0_drawn_4 7 rfl rfl)
theorem dX0_drawn_103 : decode cX0_drawn 103 = .ok (.invokevirtual 171, 3) := dk_182 0 171 (dk_at dksX0_drawn_4 9 rfl rfl)
theorem dX0_drawn_106 : decode cX0_drawn 106 = .ok (.i2l, 1) := dk_133 (dk_at dksX0_drawn_4 12 rfl rfl)
theorem dX0_drawn_107 : decode cX0_drawn 107 = .ok (.lrem, 1) := dk_113 (dk_at dksX0_drawn_4 13 rfl rfl)
theorem dX0_drawn_108 : decode cX0_drawn 108 = .ok (.l2i, 1) := dk_136 (dk_at dksX0_drawn_4 14 rfl rfl)
theorem dX0_drawn_109 : decode cX0_drawn 109 = .ok (.istore 8, 2) := dk_54 8 (dk_at dksX0_drawn_4 15 rfl rfl)
theorem dX0_drawn_111 : decode cX0_drawn 111 = .ok (.aload 4, 2) := dk_25 4 (dk_at dksX0_drawn_4 17 rfl rfl)
theorem dX0_drawn_113 : decode cX0_drawn 113 = .ok (.getfield 206, 3) := dk_180 0 206 (dk_at dksX0_drawn_4 19 rfl rfl)
theorem dX0_drawn_116 : decode cX0_drawn 116 = .ok (.iload 8, 2) := dk_21 8 (dk_at dksX0_drawn_4 22 rfl rfl)
theorem dX0_drawn_118 : decode cX0_drawn 118 = .ok (.iaload, 1) := dk_46 (dk_at dksX0_drawn_5 0 rfl rfl)
theorem dX0_drawn_119 : decode cX0_drawn 119 = .ok (.bipush 99, 2) := dk_16 99 (dk_at dksX0_drawn_5 1 rfl rfl)
theorem dX0_drawn_121 : decode cX0_drawn 121 = .ok (.if_icmp .ne 27, 3) := dk_160 0 27 (dk_at dksX0_drawn_5 3 rfl rfl)
theorem dX0_drawn_124 : decode cX0_drawn 124 = .ok (.aload 4, 2) := dk_25 4 (dk_at dksX0_drawn_5 6 rfl rfl)
theorem dX0_drawn_126 : decode cX0_drawn 126 = .ok (.getfield 206, 3) := dk_180 0 206 (dk_at dksX0_drawn_5 8 rfl rfl)
theorem dX0_drawn_129 : decode cX0_drawn 129 = .ok (.iload 8, 2) := dk_21 8 (dk_at dksX0_drawn_5 11 rfl rfl)
theorem dX0_drawn_131 : decode cX0_drawn 131 = .ok (.iconst (-1), 1) := dk_2 (dk_at dksX0_drawn_5 13 rfl rfl)
theorem dX0_drawn_132 : decode cX0_drawn 132 = .ok (.iastore, 1) := dk_79 (dk_at dksX0_drawn_5 14 rfl rfl)
theorem dX0_drawn_133 : decode cX0_drawn 133 = .ok (.aload 4, 2) := dk_25 4 (dk_at dksX0_drawn_5 15 rfl rfl)
theorem dX0_drawn_135 : decode cX0_drawn 135 = .ok (.getfield 203, 3) := dk_180 0 203 (dk_at dksX0_drawn_5 17 rfl rfl)
theorem dX0_drawn_138 : decode cX0_drawn 138 = .ok (.iload 8, 2) := dk_21 8 (dk_at dksX0_drawn_5 20 rfl rfl)
theorem dX0_drawn_140 : decode cX0_drawn 140 = .ok (.lload 5, 2) := dk_22 5 (dk_at dksX0_drawn_5 22 rfl rfl)
theorem dX0_drawn_142 : decode cX0_drawn 142 = .ok (.ldc2_w 89, 3) := dk_20 0 89 (dk_at dksX0_drawn_6 0 rfl rfl)
theorem dX0_drawn_145 : decode cX0_drawn 145 = .ok (.lrem, 1) := dk_113 (dk_at dksX0_drawn_6 3 rfl rfl)
theorem dX0_drawn_146 : decode cX0_drawn 146 = .ok (.l2i, 1) := dk_136 (dk_at dksX0_drawn_6 4 rfl rfl)
theorem dX0_drawn_147 : decode cX0_drawn 147 = .ok (.iastore, 1) := dk_79 (dk_at dksX0_drawn_6 5 rfl rfl)
theorem dX0_drawn_148 : decode cX0_drawn 148 = .ok (.aload 4, 2) := dk_25 4 (dk_at dksX0_drawn_6 6 rfl rfl)
theorem dX0_drawn_150 : decode cX0_drawn 150 = .ok (.invokevirtual 190, 3) := dk_182 0 190 (dk_at dksX0_drawn_6 8 rfl rfl)
theorem dX0_drawn_153 : decode cX0_drawn 153 = .ok (.pop, 1) := dk_87 (dk_at dksX0_drawn_6 11 rfl rfl)
theorem dX0_drawn_154 : decode cX0_drawn 154 = .ok (.iinc 7 1, 3) := dk_132 7 1 (dk_at dksX0_drawn_6 12 rfl rfl)
theorem dX0_drawn_157 : decode cX0_drawn 157 = .ok (.goto (-99), 3) := dk_167 255 157 (dk_at dksX0_drawn_6 15 rfl rfl)
theorem dX0_drawn_160 : decode cX0_drawn 160 = .ok (.iload_n 3, 1) := dk_29 (dk_at dksX0_drawn_6 18 rfl rfl)
theorem dX0_drawn_161 : decode cX0_drawn 161 = .ok (.ifCond .ne 11, 3) := dk_154 0 11 (dk_at dksX0_drawn_6 19 rfl rfl)
theorem dX0_drawn_164 : decode cX0_drawn 164 = .ok (.aload 4, 2) := dk_25 4 (dk_at dksX0_drawn_6 22 rfl rfl)
theorem dX0_drawn_166 : decode cX0_drawn 166 = .ok (.getfield 312, 3) := dk_180 1 56 (dk_at dksX0_drawn_7 0 rfl rfl)
theorem dX0_drawn_169 : decode cX0_drawn 169 = .ok (.goto 8, 3) := dk_167 0 8 (dk_at dksX0_drawn_7 3 rfl rfl)
theorem dX0_drawn_172 : decode cX0_drawn 172 = .ok (.aload 4, 2) := dk_25 4 (dk_at dksX0_drawn_7 6 rfl rfl)
theorem dX0_drawn_174 : decode cX0_drawn 174 = .ok (.invokevirtual 194, 3) := dk_182 0 194 (dk_at dksX0_drawn_7 8 rfl rfl)
theorem dX0_drawn_177 : decode cX0_drawn 177 = .ok (.ireturn, 1) := dk_172 (dk_at dksX0_drawn_7 11 rfl rfl)
abbrev cX0_image : ByteArray := prog_1_method_48_code
def yX0_image : MethodName := ⟨RX0, "image", "(I)I"⟩
def dkwX0_image_2 : List UInt8 := [180, 0, 57, 27, 50, 42, 180, 0, 46, 182, 0, 164, 87, 4, 172]
abbrev dktX0_image_2 : List UInt8 := dkwX0_image_2 ++ []
def dkwX0_image_1 : List UInt8 := [180, 0, 57, 27, 50, 199, 0, 16, 42, 180, 0, 57, 27, 187, 0, 43, 89, 183, 0, 45, 83, 42]
abbrev dktX0_image_1 : List UInt8 := dkwX0_image_1 ++ dktX0_image_2
def dkwX0_image_0 : List UInt8 := [27, 133, 9, 10, 184, 0, 81, 154, 0, 6, 18, 91, 172, 42, 182, 0, 177, 154, 0, 6, 18, 181, 172, 42]
abbrev dktX0_image_0 : List UInt8 := dkwX0_image_0 ++ dktX0_image_1
theorem dksX0_image_0 : cX0_image.data.toList.drop 0 = dktX0_image_0 := by decide +kernel
theorem dksX0_image_1 : cX0_image.data.toList.drop 24 = dktX0_image_1 := dk_seg dksX0_image_0 24 rfl rfl
theorem dksX0_image_2 : cX0_image.data.toList.drop 46 = dktX0_image_2 := dk_seg dksX0_image_1 22 rfl rfl
theorem dX0_image_0 : decode cX0_image 0 = .ok (.iload_n 1, 1) := dk_27 (dk_at dksX0_image_0 0 rfl rfl)
theorem dX0_image_1 : decode cX0_image 1 = .ok (.i2l, 1) := dk_133 (dk_at dksX0_image_0 1 rfl rfl)
theorem dX0_image_2 : decode cX0_image 2 = .ok (.lconst 0, 1) := dk_9 (dk_at dksX0_image_0 2 rfl rfl)
theorem dX0_image_3 : decode cX0_image 3 = .ok (.lconst 1, 1) := dk_10 (dk_at dksX0_image_0 3 rfl rfl)
theorem dX0_image_4 : decode cX0_image 4 = .ok (.invokestatic 81, 3) := dk_184 0 81 (dk_at dksX0_image_0 4 rfl rfl)
theorem dX0_image_7 : decode cX0_image 7 = .ok (.ifCond .ne 6, 3) := dk_154 0 6 (dk_at dksX0_image_0 7 rfl rfl)
theorem dX0_image_10 : decode cX0_image 10 = .ok (.ldc 91, 2) := dk_18 91 (dk_at dksX0_image_0 10 rfl rfl)
theorem dX0_image_12 : decode cX0_image 12 = .ok (.ireturn, 1) := dk_172 (dk_at dksX0_image_0 12 rfl rfl)
theorem dX0_image_13 : decode cX0_image 13 = .ok (.aload_n 0, 1) := dk_42 (dk_at dksX0_image_0 13 rfl rfl)
theorem dX0_image_14 : decode cX0_image 14 = .ok (.invokevirtual 177, 3) := dk_182 0 177 (dk_at dksX0_image_0 14 rfl rfl)
theorem dX0_image_17 : decode cX0_image 17 = .ok (.ifCond .ne 6, 3) := dk_154 0 6 (dk_at dksX0_image_0 17 rfl rfl)
theorem dX0_image_20 : decode cX0_image 20 = .ok (.ldc 181, 2) := dk_18 181 (dk_at dksX0_image_0 20 rfl rfl)
theorem dX0_image_22 : decode cX0_image 22 = .ok (.ireturn, 1) := dk_172 (dk_at dksX0_image_0 22 rfl rfl)
theorem dX0_image_23 : decode cX0_image 23 = .ok (.aload_n 0, 1) := dk_42 (dk_at dksX0_image_0 23 rfl rfl)
theorem dX0_image_24 : decode cX0_image 24 = .ok (.getfield 57, 3) := dk_180 0 57 (dk_at dksX0_image_1 0 rfl rfl)
theorem dX0_image_27 : decode cX0_image 27 = .ok (.iload_n 1, 1) := dk_27 (dk_at dksX0_image_1 3 rfl rfl)
theorem dX0_image_28 : decode cX0_image 28 = .ok (.aaload, 1) := dk_50 (dk_at dksX0_image_1 4 rfl rfl)
theorem dX0_image_29 : decode cX0_image 29 = .ok (.ifnonnull 16, 3) := dk_199 0 16 (dk_at dksX0_image_1 5 rfl rfl)
theorem dX0_image_32 : decode cX0_image 32 = .ok (.aload_n 0, 1) := dk_42 (dk_at dksX0_image_1 8 rfl rfl)
theorem dX0_image_33 : decode cX0_image 33 = .ok (.getfield 57, 3) := dk_180 0 57 (dk_at dksX0_image_1 9 rfl rfl)
theorem dX0_image_36 : decode cX0_image 36 = .ok (.iload_n 1, 1) := dk_27 (dk_at dksX0_image_1 12 rfl rfl)
theorem dX0_image_37 : decode cX0_image 37 = .ok (.new 43, 3) := dk_187 0 43 (dk_at dksX0_image_1 13 rfl rfl)
theorem dX0_image_40 : decode cX0_image 40 = .ok (.dup, 1) := dk_89 (dk_at dksX0_image_1 16 rfl rfl)
theorem dX0_image_41 : decode cX0_image 41 = .ok (.invokespecial 45, 3) := dk_183 0 45 (dk_at dksX0_image_1 17 rfl rfl)
theorem dX0_image_44 : decode cX0_image 44 = .ok (.aastore, 1) := dk_83 (dk_at dksX0_image_1 20 rfl rfl)
theorem dX0_image_45 : decode cX0_image 45 = .ok (.aload_n 0, 1) := dk_42 (dk_at dksX0_image_1 21 rfl rfl)
theorem dX0_image_46 : decode cX0_image 46 = .ok (.getfield 57, 3) := dk_180 0 57 (dk_at dksX0_image_2 0 rfl rfl)
theorem dX0_image_49 : decode cX0_image 49 = .ok (.iload_n 1, 1) := dk_27 (dk_at dksX0_image_2 3 rfl rfl)
theorem dX0_image_50 : decode cX0_image 50 = .ok (.aaload, 1) := dk_50 (dk_at dksX0_image_2 4 rfl rfl)
theorem dX0_image_51 : decode cX0_image 51 = .ok (.aload_n 0, 1) := dk_42 (dk_at dksX0_image_2 5 rfl rfl)
theorem dX0_image_52 : decode cX0_image 52 = .ok (.getfield 46, 3) := dk_180 0 46 (dk_at dksX0_image_2 6 rfl rfl)
theorem dX0_image_55 : decode cX0_image 55 = .ok (.invokevirtual 164, 3) := dk_182 0 164 (dk_at dksX0_image_2 9 rfl rfl)
theorem dX0_image_58 : decode cX0_image 58 = .ok (.pop, 1) := dk_87 (dk_at dksX0_image_2 12 rfl rfl)
theorem dX0_image_59 : decode cX0_image 59 = .ok (.iconst 1, 1) := dk_4 (dk_at dksX0_image_2 13 rfl rfl)
theorem dX0_image_60 : decode cX0_image 60 = .ok (.ireturn, 1) := dk_172 (dk_at dksX0_image_2 14 rfl rfl)
abbrev cX0_restore : ByteArray := prog_1_method_49_code
def yX0_restore : MethodName := ⟨RX0, "restore", "(I)I"⟩
def dkwX0_restore_1 : List UInt8 := [172, 42, 180, 0, 46, 42, 180, 0, 57, 27, 50, 182, 0, 164, 87, 42, 3, 181, 0, 168, 4, 172]
abbrev dktX0_restore_1 : List UInt8 := dkwX0_restore_1 ++ []
def dkwX0_restore_0 : List UInt8 := [27, 133, 9, 10, 184, 0, 81, 154, 0, 6, 18, 91, 172, 42, 180, 0, 57, 27, 50, 199, 0, 6, 18, 181]
abbrev dktX0_restore_0 : List UInt8 := dkwX0_restore_0 ++ dktX0_restore_1
theorem dksX0_restore_0 : cX0_restore.data.toList.drop 0 = dktX0_restore_0 := by decide +kernel
theorem dksX0_restore_1 : cX0_restore.data.toList.drop 24 = dktX0_restore_1 := dk_seg dksX0_restore_0 24 rfl rfl
theorem dX0_restore_0 : decode cX0_restore 0 = .ok (.iload_n 1, 1) := dk_27 (dk_at dksX0_restore_0 0 rfl rfl)
theorem dX0_restore_1 : decode cX0_restore 1 = .ok (.i2l, 1) := dk_133 (dk_at dksX0_restore_0 1 rfl rfl)
theorem dX0_restore_2 : decode cX0_restore 2 = .ok (.lconst 0, 1) := dk_9 (dk_at dksX0_restore_0 2 rfl rfl)
theorem dX0_restore_3 : decode cX0_restore 3 = .ok (.lconst 1, 1) := dk_10 (dk_at dksX0_restore_0 3 rfl rfl)
theorem dX0_restore_4 : decode cX0_restore 4 = .ok (.invokestatic 81, 3) := dk_184 0 81 (dk_at dksX0_restore_0 4 rfl rfl)
theorem dX0_restore_7 : decode cX0_restore 7 = .ok (.ifCond .ne 6, 3) := dk_154 0 6 (dk_at dksX0_restore_0 7 rfl rfl)
theorem dX0_restore_10 : decode cX0_restore 10 = .ok (.ldc 91, 2) := dk_18 91 (dk_at dksX0_restore_0 10 rfl rfl)
theorem dX0_restore_12 : decode cX0_restore 12 = .ok (.ireturn, 1) := dk_172 (dk_at dksX0_restore_0 12 rfl rfl)
theorem dX0_restore_13 : decode cX0_restore 13 = .ok (.aload_n 0, 1) := dk_42 (dk_at dksX0_restore_0 13 rfl rfl)
theorem dX0_restore_14 : decode cX0_restore 14 = .ok (.getfield 57, 3) := dk_180 0 57 (dk_at dksX0_restore_0 14 rfl rfl)
theorem dX0_restore_17 : decode cX0_restore 17 = .ok (.iload_n 1, 1) := dk_27 (dk_at dksX0_restore_0 17 rfl rfl)
theorem dX0_restore_18 : decode cX0_restore 18 = .ok (.aaload, 1) := dk_50 (dk_at dksX0_restore_0 18 rfl rfl)
theorem dX0_restore_19 : decode cX0_restore 19 = .ok (.ifnonnull 6, 3) := dk_199 0 6 (dk_at dksX0_restore_0 19 rfl rfl)
theorem dX0_restore_22 : decode cX0_restore 22 = .ok (.ldc 181, 2) := dk_18 181 (dk_at dksX0_restore_0 22 rfl rfl)
theorem dX0_restore_24 : decode cX0_restore 24 = .ok (.ireturn, 1) := dk_172 (dk_at dksX0_restore_1 0 rfl rfl)
theorem dX0_restore_25 : decode cX0_restore 25 = .ok (.aload_n 0, 1) := dk_42 (dk_at dksX0_restore_1 1 rfl rfl)
theorem dX0_restore_26 : decode cX0_restore 26 = .ok (.getfield 46, 3) := dk_180 0 46 (dk_at dksX0_restore_1 2 rfl rfl)
theorem dX0_restore_29 : decode cX0_restore 29 = .ok (.aload_n 0, 1) := dk_42 (dk_at dksX0_restore_1 5 rfl rfl)
theorem dX0_restore_30 : decode cX0_restore 30 = .ok (.getfield 57, 3) := dk_180 0 57 (dk_at dksX0_restore_1 6 rfl rfl)
theorem dX0_restore_33 : decode cX0_restore 33 = .ok (.iload_n 1, 1) := dk_27 (dk_at dksX0_restore_1 9 rfl rfl)
theorem dX0_restore_34 : decode cX0_restore 34 = .ok (.aaload, 1) := dk_50 (dk_at dksX0_restore_1 10 rfl rfl)
theorem dX0_restore_35 : decode cX0_restore 35 = .ok (.invokevirtual 164, 3) := dk_182 0 164 (dk_at dksX0_restore_1 11 rfl rfl)
theorem dX0_restore_38 : decode cX0_restore 38 = .ok (.pop, 1) := dk_87 (dk_at dksX0_restore_1 14 rfl rfl)
theorem dX0_restore_39 : decode cX0_restore 39 = .ok (.aload_n 0, 1) := dk_42 (dk_at dksX0_restore_1 15 rfl rfl)
theorem dX0_restore_40 : decode cX0_restore 40 = .ok (.iconst 0, 1) := dk_3 (dk_at dksX0_restore_1 16 rfl rfl)
theorem dX0_restore_41 : decode cX0_restore 41 = .ok (.putfield 168, 3) := dk_181 0 168 (dk_at dksX0_restore_1 17 rfl rfl)
theorem dX0_restore_44 : decode cX0_restore 44 = .ok (.iconst 1, 1) := dk_4 (dk_at dksX0_restore_1 20 rfl rfl)
theorem dX0_restore_45 : decode cX0_restore 45 = .ok (.ireturn, 1) := dk_172 (dk_at dksX0_restore_1 21 rfl rfl)
abbrev cX0_kind : ByteArray := prog_1_method_50_code
def yX0_kind : MethodName := ⟨RX0, "kind", "(I)I"⟩
def dkwX0_kind_1 : List UInt8 := [182, 1, 75, 167, 0, 5, 18, 91, 172]
abbrev dktX0_kind_1 : List UInt8 := dkwX0_kind_1 ++ []
def dkwX0_kind_0 : List UInt8 := [42, 27, 182, 0, 200, 153, 0, 25, 42, 180, 0, 46, 180, 1, 65, 27, 185, 1, 69, 2, 0, 192, 0, 19]
abbrev dktX0_kind_0 : List UInt8 := dkwX0_kind_0 ++ dktX0_kind_1
theorem dksX0_kind_0 : cX0_kind.data.toList.drop 0 = dktX0_kind_0 := by decide +kernel
theorem dksX0_kind_1 : cX0_kind.data.toList.drop 24 = dktX0_kind_1 := dk_seg dksX0_kind_0 24 rfl rfl
theorem dX0_kind_0 : decode cX0_kind 0 = .ok (.aload_n 0, 1) := dk_42 (dk_at dksX0_kind_0 0 rfl rfl)
theorem dX0_kind_1 : decode cX0_kind 1 = .ok (.iload_n 1, 1) := dk_27 (dk_at dksX0_kind_0 1 rfl rfl)
theorem dX0_kind_2 : decode cX0_kind 2 = .ok (.invokevirtual 200, 3) := dk_182 0 200 (dk_at dksX0_kind_0 2 rfl rfl)
theorem dX0_kind_5 : decode cX0_kind 5 = .ok (.ifCond .eq 25, 3) := dk_153 0 25 (dk_at dksX0_kind_0 5 rfl rfl)
theorem dX0_kind_8 : decode cX0_kind 8 = .ok (.aload_n 0, 1) := dk_42 (dk_at dksX0_kind_0 8 rfl rfl)
theorem dX0_kind_9 : decode cX0_kind 9 = .ok (.getfield 46, 3) := dk_180 0 46 (dk_at dksX0_kind_0 9 rfl rfl)
theorem dX0_kind_12 : decode cX0_kind 12 = .ok (.getfield 321, 3) := dk_180 1 65 (dk_at dksX0_kind_0 12 rfl rfl)
theorem dX0_kind_15 : decode cX0_kind 15 = .ok (.iload_n 1, 1) := dk_27 (dk_at dksX0_kind_0 15 rfl rfl)
theorem dX0_kind_16 : decode cX0_kind 16 = .ok (.invokeinterface 325 2, 5) := by decide +kernel
theorem dX0_kind_21 : decode cX0_kind 21 = .ok (.checkcast 19, 3) := dk_192 0 19 (dk_at dksX0_kind_0 21 rfl rfl)
theorem dX0_kind_24 : decode cX0_kind 24 = .ok (.invokevirtual 331, 3) := dk_182 1 75 (dk_at dksX0_kind_1 0 rfl rfl)
theorem dX0_kind_27 : decode cX0_kind 27 = .ok (.goto 5, 3) := dk_167 0 5 (dk_at dksX0_kind_1 3 rfl rfl)
theorem dX0_kind_30 : decode cX0_kind 30 = .ok (.ldc 91, 2) := dk_18 91 (dk_at dksX0_kind_1 6 rfl rfl)
theorem dX0_kind_32 : decode cX0_kind 32 = .ok (.ireturn, 1) := dk_172 (dk_at dksX0_kind_1 8 rfl rfl)
abbrev cX0_as : ByteArray := prog_1_method_51_code
def yX0_as : MethodName := ⟨RX0, "as", "(II)I"⟩
def dkwX0_as_2 : List UInt8 := [78, 42, 6, 182, 0, 106, 172]
abbrev dktX0_as_2 : List UInt8 := dkwX0_as_2 ++ []
def dkwX0_as_1 : List UInt8 := [42, 180, 0, 46, 180, 1, 65, 27, 185, 1, 69, 2, 0, 28, 184, 1, 79, 182, 1, 83, 182, 0, 100, 172]
abbrev dktX0_as_1 : List UInt8 := dkwX0_as_1 ++ dktX0_as_2
def dkwX0_as_0 : List UInt8 := [42, 27, 182, 0, 200, 153, 0, 15, 28, 133, 9, 20, 1, 77, 184, 0, 81, 154, 0, 6, 18, 91, 172, 42]
abbrev dktX0_as_0 : List UInt8 := dkwX0_as_0 ++ dktX0_as_1
theorem dksX0_as_0 : cX0_as.data.toList.drop 0 = dktX0_as_0 := by decide +kernel
theorem dksX0_as_1 : cX0_as.data.toList.drop 24 = dktX0_as_1 := dk_seg dksX0_as_0 24 rfl rfl
theorem dksX0_as_2 : cX0_as.data.toList.drop 48 = dktX0_as_2 := dk_seg dksX0_as_1 24 rfl rfl
theorem dX0_as_0 : decode cX0_as 0 = .ok (.aload_n 0, 1) := dk_42 (dk_at dksX0_as_0 0 rfl rfl)
theorem dX0_as_1 : decode cX0_as 1 = .ok (.iload_n 1, 1) := dk_27 (dk_at dksX0_as_0 1 rfl rfl)
theorem dX0_as_2 : decode cX0_as 2 = .ok (.invokevirtual 200, 3) := dk_182 0 200 (dk_at dksX0_as_0 2 rfl rfl)
theorem dX0_as_5 : decode cX0_as 5 = .ok (.ifCond .eq 15, 3) := dk_153 0 15 (dk_at dksX0_as_0 5 rfl rfl)
theorem dX0_as_8 : decode cX0_as 8 = .ok (.iload_n 2, 1) := dk_28 (dk_at dksX0_as_0 8 rfl rfl)
theorem dX0_as_9 : decode cX0_as 9 = .ok (.i2l, 1) := dk_133 (dk_at dksX0_as_0 9 rfl rfl)
theorem dX0_as_10 : decode cX0_as 10 = .ok (.lconst 0, 1) := dk_9 (dk_at dksX0_as_0 10 rfl rfl)
theorem dX0_as_11 : decode cX0_as 11 = .ok (.ldc2_w 333, 3) := dk_20 1 77 (dk_at dksX0_as_0 11 rfl rfl)
theorem dX0_as_14 : decode cX0_as 14 = .ok (.invokestatic 81, 3) := dk_184 0 81 (dk_at dksX0_as_0 14 rfl rfl)
theorem dX0_as_17 : decode cX0_as 17 = .ok (.ifCond .ne 6, 3) := dk_154 0 6 (dk_at dksX0_as_0 17 rfl rfl)
theorem dX0_as_20 : decode cX0_as 20 = .ok (.ldc 91, 2) := dk_18 91 (dk_at dksX0_as_0 20 rfl rfl)
theorem dX0_as_22 : decode cX0_as 22 = .ok (.ireturn, 1) := dk_172 (dk_at dksX0_as_0 22 rfl rfl)
theorem dX0_as_23 : decode cX0_as 23 = .ok (.aload_n 0, 1) := dk_42 (dk_at dksX0_as_0 23 rfl rfl)
theorem dX0_as_24 : decode cX0_as 24 = .ok (.aload_n 0, 1) := dk_42 (dk_at dksX0_as_1 0 rfl rfl)
theorem dX0_as_25 : decode cX0_as 25 = .ok (.getfield 46, 3) := dk_180 0 46 (dk_at dksX0_as_1 1 rfl rfl)
theorem dX0_as_28 : decode cX0_as 28 = .ok (.getfield 321, 3) := dk_180 1 65 (dk_at dksX0_as_1 4 rfl rfl)
theorem dX0_as_31 : decode cX0_as 31 = .ok (.iload_n 1, 1) := dk_27 (dk_at dksX0_as_1 7 rfl rfl)
theorem dX0_as_32 : decode cX0_as 32 = .ok (.invokeinterface 325 2, 5) := by decide +kernel
theorem dX0_as_37 : decode cX0_as 37 = .ok (.iload_n 2, 1) := dk_28 (dk_at dksX0_as_1 13 rfl rfl)
theorem dX0_as_38 : decode cX0_as 38 = .ok (.invokestatic 335, 3) := dk_184 1 79 (dk_at dksX0_as_1 14 rfl rfl)
theorem dX0_as_41 : decode cX0_as 41 = .ok (.invokevirtual 339, 3) := dk_182 1 83 (dk_at dksX0_as_1 17 rfl rfl)
theorem dX0_as_44 : decode cX0_as 44 = .ok (.invokevirtual 100, 3) := dk_182 0 100 (dk_at dksX0_as_1 20 rfl rfl)
theorem dX0_as_47 : decode cX0_as 47 = .ok (.ireturn, 1) := dk_172 (dk_at dksX0_as_1 23 rfl rfl)
theorem dX0_as_48 : decode cX0_as 48 = .ok (.astore_n 3, 1) := dk_78 (dk_at dksX0_as_2 0 rfl rfl)
theorem dX0_as_49 : decode cX0_as 49 = .ok (.aload_n 0, 1) := dk_42 (dk_at dksX0_as_2 1 rfl rfl)
theorem dX0_as_50 : decode cX0_as 50 = .ok (.iconst 3, 1) := dk_6 (dk_at dksX0_as_2 2 rfl rfl)
theorem dX0_as_51 : decode cX0_as 51 = .ok (.invokevirtual 106, 3) := dk_182 0 106 (dk_at dksX0_as_2 3 rfl rfl)
theorem dX0_as_54 : decode cX0_as 54 = .ok (.ireturn, 1) := dk_172 (dk_at dksX0_as_2 6 rfl rfl)
abbrev cX0_taken_2 : ByteArray := prog_1_method_4_code
def yX0_taken_2 : MethodName := ⟨RX0, "taken", "(Ljava/lang/Object;I)LStepRiders$Rider;"⟩
def dkwX0_taken_2_3 : List UInt8 := [176, 42, 192, 0, 16, 176]
abbrev dktX0_taken_2_3 : List UInt8 := dkwX0_taken_2_3 ++ []
def dkwX0_taken_2_2 : List UInt8 := [42, 192, 0, 19, 176, 42, 192, 0, 1, 176, 42, 192, 0, 7, 176, 42, 192, 0, 10, 176, 42, 192, 0, 13]
abbrev dktX0_taken_2_2 : List UInt8 := dkwX0_taken_2_2 ++ dktX0_taken_2_3
def dkwX0_taken_2_1 : List UInt8 := [170, 0, 0, 0, 0, 0, 60, 0, 0, 0, 0, 0, 0, 0, 4, 0, 0, 0, 35, 0, 0, 0, 40, 0, 0, 0, 45, 0, 0, 0, 50, 0, 0, 0, 55]
abbrev dktX0_taken_2_1 : List UInt8 := dkwX0_taken_2_1 ++ dktX0_taken_2_2
def dkwX0_taken_2_0 : List UInt8 := [27]
abbrev dktX0_taken_2_0 : List UInt8 := dkwX0_taken_2_0 ++ dktX0_taken_2_1
theorem dksX0_taken_2_0 : cX0_taken_2.data.toList.drop 0 = dktX0_taken_2_0 := by decide +kernel
theorem dksX0_taken_2_1 : cX0_taken_2.data.toList.drop 1 = dktX0_taken_2_1 := dk_seg dksX0_taken_2_0 1 rfl rfl
theorem dksX0_taken_2_2 : cX0_taken_2.data.toList.drop 36 = dktX0_taken_2_2 := dk_seg dksX0_taken_2_1 35 rfl rfl
theorem dksX0_taken_2_3 : cX0_taken_2.data.toList.drop 60 = dktX0_taken_2_3 := dk_seg dksX0_taken_2_2 24 rfl rfl
theorem dX0_taken_2_0 : decode cX0_taken_2 0 = .ok (.iload_n 1, 1) := dk_27 (dk_at dksX0_taken_2_0 0 rfl rfl)
theorem dX0_taken_2_1 : decode cX0_taken_2 1 = .ok (.tableswitch 60 0 4 #[35, 40, 45, 50, 55], 35) := by decide +kernel
theorem dX0_taken_2_36 : decode cX0_taken_2 36 = .ok (.aload_n 0, 1) := dk_42 (dk_at dksX0_taken_2_2 0 rfl rfl)
theorem dX0_taken_2_37 : decode cX0_taken_2 37 = .ok (.checkcast 19, 3) := dk_192 0 19 (dk_at dksX0_taken_2_2 1 rfl rfl)
theorem dX0_taken_2_40 : decode cX0_taken_2 40 = .ok (.areturn, 1) := dk_176 (dk_at dksX0_taken_2_2 4 rfl rfl)
theorem dX0_taken_2_41 : decode cX0_taken_2 41 = .ok (.aload_n 0, 1) := dk_42 (dk_at dksX0_taken_2_2 5 rfl rfl)
theorem dX0_taken_2_42 : decode cX0_taken_2 42 = .ok (.checkcast 1, 3) := dk_192 0 1 (dk_at dksX0_taken_2_2 6 rfl rfl)
theorem dX0_taken_2_45 : decode cX0_taken_2 45 = .ok (.areturn, 1) := dk_176 (dk_at dksX0_taken_2_2 9 rfl rfl)
theorem dX0_taken_2_46 : decode cX0_taken_2 46 = .ok (.aload_n 0, 1) := dk_42 (dk_at dksX0_taken_2_2 10 rfl rfl)
theorem dX0_taken_2_47 : decode cX0_taken_2 47 = .ok (.checkcast 7, 3) := dk_192 0 7 (dk_at dksX0_taken_2_2 11 rfl rfl)
theorem dX0_taken_2_50 : decode cX0_taken_2 50 = .ok (.areturn, 1) := dk_176 (dk_at dksX0_taken_2_2 14 rfl rfl)
theorem dX0_taken_2_51 : decode cX0_taken_2 51 = .ok (.aload_n 0, 1) := dk_42 (dk_at dksX0_taken_2_2 15 rfl rfl)
theorem dX0_taken_2_52 : decode cX0_taken_2 52 = .ok (.checkcast 10, 3) := dk_192 0 10 (dk_at dksX0_taken_2_2 16 rfl rfl)
theorem dX0_taken_2_55 : decode cX0_taken_2 55 = .ok (.areturn, 1) := dk_176 (dk_at dksX0_taken_2_2 19 rfl rfl)
theorem dX0_taken_2_56 : decode cX0_taken_2 56 = .ok (.aload_n 0, 1) := dk_42 (dk_at dksX0_taken_2_2 20 rfl rfl)
theorem dX0_taken_2_57 : decode cX0_taken_2 57 = .ok (.checkcast 13, 3) := dk_192 0 13 (dk_at dksX0_taken_2_2 21 rfl rfl)
theorem dX0_taken_2_60 : decode cX0_taken_2 60 = .ok (.areturn, 1) := dk_176 (dk_at dksX0_taken_2_3 0 rfl rfl)
theorem dX0_taken_2_61 : decode cX0_taken_2 61 = .ok (.aload_n 0, 1) := dk_42 (dk_at dksX0_taken_2_3 1 rfl rfl)
theorem dX0_taken_2_62 : decode cX0_taken_2 62 = .ok (.checkcast 16, 3) := dk_192 0 16 (dk_at dksX0_taken_2_3 2 rfl rfl)
theorem dX0_taken_2_65 : decode cX0_taken_2 65 = .ok (.areturn, 1) := dk_176 (dk_at dksX0_taken_2_3 5 rfl rfl)
abbrev cX0_ask : ByteArray := prog_1_method_52_code
def yX0_ask : MethodName := ⟨RX0, "ask", "(II)I"⟩
def dkwX0_ask_3 : List UInt8 := [182, 1, 91, 167, 0, 13, 45, 42, 180, 0, 63, 25, 4, 182, 1, 95, 172]
abbrev dktX0_ask_3 : List UInt8 := dkwX0_ask_3 ++ []
def dkwX0_ask_2 : List UInt8 := [187, 1, 88, 89, 42, 27, 183, 1, 90, 58, 4, 28, 154, 0, 16, 45, 42, 180, 0, 63, 25, 4]
abbrev dktX0_ask_2 : List UInt8 := dkwX0_ask_2 ++ dktX0_ask_3
def dkwX0_ask_1 : List UInt8 := [183, 0, 62, 181, 0, 63, 42, 180, 0, 46, 180, 1, 65, 27, 185, 1, 69, 2, 0, 192, 0, 19, 78]
abbrev dktX0_ask_1 : List UInt8 := dkwX0_ask_1 ++ dktX0_ask_2
def dkwX0_ask_0 : List UInt8 := [42, 27, 182, 0, 200, 153, 0, 10, 28, 184, 0, 216, 154, 0, 6, 18, 91, 172, 42, 187, 0, 60, 89]
abbrev dktX0_ask_0 : List UInt8 := dkwX0_ask_0 ++ dktX0_ask_1
theorem dksX0_ask_0 : cX0_ask.data.toList.drop 0 = dktX0_ask_0 := by decide +kernel
theorem dksX0_ask_1 : cX0_ask.data.toList.drop 23 = dktX0_ask_1 := dk_seg dksX0_ask_0 23 rfl rfl
theorem dksX0_ask_2 : cX0_ask.data.toList.drop 46 = dktX0_ask_2 := dk_seg dksX0_ask_1 23 rfl rfl
theorem dksX0_ask_3 : cX0_ask.data.toList.drop 68 = dktX0_ask_3 := dk_seg dksX0_ask_2 22 rfl rfl
theorem dX0_ask_0 : decode cX0_ask 0 = .ok (.aload_n 0, 1) := dk_42 (dk_at dksX0_ask_0 0 rfl rfl)
theorem dX0_ask_1 : decode cX0_ask 1 = .ok (.iload_n 1, 1) := dk_27 (dk_at dksX0_ask_0 1 rfl rfl)
theorem dX0_ask_2 : decode cX0_ask 2 = .ok (.invokevirtual 200, 3) := dk_182 0 200 (dk_at dksX0_ask_0 2 rfl rfl)
theorem dX0_ask_5 : decode cX0_ask 5 = .ok (.ifCond .eq 10, 3) := dk_153 0 10 (dk_at dksX0_ask_0 5 rfl rfl)
theorem dX0_ask_8 : decode cX0_ask 8 = .ok (.iload_n 2, 1) := dk_28 (dk_at dksX0_ask_0 8 rfl rfl)
theorem dX0_ask_9 : decode cX0_ask 9 = .ok (.invokestatic 216, 3) := dk_184 0 216 (dk_at dksX0_ask_0 9 rfl rfl)
theorem dX0_ask_12 : decode cX0_ask 12 = .ok (.ifCond .ne 6, 3) := dk_154 0 6 (dk_at dksX0_ask_0 12 rfl rfl)
theorem dX0_ask_15 : decode cX0_ask 15 = .ok (.ldc 91, 2) := dk_18 91 (dk_at dksX0_ask_0 15 rfl rfl)
theorem dX0_ask_17 : decode cX0_ask 17 = .ok (.ireturn, 1) := dk_172 (dk_at dksX0_ask_0 17 rfl rfl)
theorem dX0_ask_18 : decode cX0_ask 18 = .ok (.aload_n 0, 1) := dk_42 (dk_at dksX0_ask_0 18 rfl rfl)
theorem dX0_ask_19 : decode cX0_ask 19 = .ok (.new 60, 3) := dk_187 0 60 (dk_at dksX0_ask_0 19 rfl rfl)
theorem dX0_ask_22 : decode cX0_ask 22 = .ok (.dup, 1) := dk_89 (dk_at dksX0_ask_0 22 rfl rfl)
theorem dX0_ask_23 : decode cX0_ask 23 = .ok (.invokespecial 62, 3) := dk_183 0 62 (dk_at dksX0_ask_1 0 rfl rfl)
theorem dX0_ask_26 : decode cX0_ask 26 = .ok (.putfield 63, 3) := dk_181 0 63 (dk_at dksX0_ask_1 3 rfl rfl)
theorem dX0_ask_29 : decode cX0_ask 29 = .ok (.aload_n 0, 1) := dk_42 (dk_at dksX0_ask_1 6 rfl rfl)
theorem dX0_ask_30 : decode cX0_ask 30 = .ok (.getfield 46, 3) := dk_180 0 46 (dk_at dksX0_ask_1 7 rfl rfl)
theorem dX0_ask_33 : decode cX0_ask 33 = .ok (.getfield 321, 3) := dk_180 1 65 (dk_at dksX0_ask_1 10 rfl rfl)
theorem dX0_ask_36 : decode cX0_ask 36 = .ok (.iload_n 1, 1) := dk_27 (dk_at dksX0_ask_1 13 rfl rfl)
theorem dX0_ask_37 : decode cX0_ask 37 = .ok (.invokeinterface 325 2, 5) := by decide +kernel
theorem dX0_ask_42 : decode cX0_ask 42 = .ok (.checkcast 19, 3) := dk_192 0 19 (dk_at dksX0_ask_1 19 rfl rfl)
theorem dX0_ask_45 : decode cX0_ask 45 = .ok (.astore_n 3, 1) := dk_78 (dk_at dksX0_ask_1 22 rfl rfl)
theorem dX0_ask_46 : decode cX0_ask 46 = .ok (.new 344, 3) := dk_187 1 88 (dk_at dksX0_ask_2 0 rfl rfl)
theorem dX0_ask_49 : decode cX0_ask 49 = .ok (.dup, 1) := dk_89 (dk_at dksX0_ask_2 3 rfl rfl)
theorem dX0_ask_50 : decode cX0_ask 50 = .ok (.aload_n 0, 1) := dk_42 (dk_at dksX0_ask_2 4 rfl rfl)
theorem dX0_ask_51 : decode cX0_ask 51 = .ok (.iload_n 1, 1) := dk_27 (dk_at dksX0_ask_2 5 rfl rfl)
theorem dX0_ask_52 : decode cX0_ask 52 = .ok (.invokespecial 346, 3) := dk_183 1 90 (dk_at dksX0_ask_2 6 rfl rfl)
theorem dX0_ask_55 : decode cX0_ask 55 = .ok (.astore 4, 2) := dk_58 4 (dk_at dksX0_ask_2 9 rfl rfl)
theorem dX0_ask_57 : decode cX0_ask 57 = .ok (.iload_n 2, 1) := dk_28 (dk_at dksX0_ask_2 11 rfl rfl)
theorem dX0_ask_58 : decode cX0_ask 58 = .ok (.ifCond .ne 16, 3) := dk_154 0 16 (dk_at dksX0_ask_2 12 rfl rfl)
theorem dX0_ask_61 : decode cX0_ask 61 = .ok (.aload_n 3, 1) := dk_45 (dk_at dksX0_ask_2 15 rfl rfl)
theorem dX0_ask_62 : decode cX0_ask 62 = .ok (.aload_n 0, 1) := dk_42 (dk_at dksX0_ask_2 16 rfl rfl)
theorem dX0_ask_63 : decode cX0_ask 63 = .ok (.getfield 63, 3) := dk_180 0 63 (dk_at dksX0_ask_2 17 rfl rfl)
theorem dX0_ask_66 : decode cX0_ask 66 = .ok (.aload 4, 2) := dk_25 4 (dk_at dksX0_ask_2 20 rfl rfl)
theorem dX0_ask_68 : decode cX0_ask 68 = .ok (.invokevirtual 347, 3) := dk_182 1 91 (dk_at dksX0_ask_3 0 rfl rfl)
theorem dX0_ask_71 : decode cX0_ask 71 = .ok (.goto 13, 3) := dk_167 0 13 (dk_at dksX0_ask_3 3 rfl rfl)
theorem dX0_ask_74 : decode cX0_ask 74 = .ok (.aload_n 3, 1) := dk_45 (dk_at dksX0_ask_3 6 rfl rfl)
theorem dX0_ask_75 : decode cX0_ask 75 = .ok (.aload_n 0, 1) := dk_42 (dk_at dksX0_ask_3 7 rfl rfl)
theorem dX0_ask_76 : decode cX0_ask 76 = .ok (.getfield 63, 3) := dk_180 0 63 (dk_at dksX0_ask_3 8 rfl rfl)
theorem dX0_ask_79 : decode cX0_ask 79 = .ok (.aload 4, 2) := dk_25 4 (dk_at dksX0_ask_3 11 rfl rfl)
theorem dX0_ask_81 : decode cX0_ask 81 = .ok (.invokevirtual 351, 3) := dk_182 1 95 (dk_at dksX0_ask_3 13 rfl rfl)
theorem dX0_ask_84 : decode cX0_ask 84 = .ok (.ireturn, 1) := dk_172 (dk_at dksX0_ask_3 16 rfl rfl)
abbrev cX0_trace : ByteArray := prog_1_method_53_code
def yX0_trace : MethodName := ⟨RX0, "trace", "(I)I"⟩
def dkwX0_trace_1 : List UInt8 := [180, 1, 100, 27, 46, 167, 0, 5, 18, 234, 172]
abbrev dktX0_trace_1 : List UInt8 := dkwX0_trace_1 ++ []
def dkwX0_trace_0 : List UInt8 := [27, 133, 9, 42, 180, 0, 63, 180, 1, 98, 4, 100, 133, 184, 0, 81, 153, 0, 15, 42, 180, 0, 63]
abbrev dktX0_trace_0 : List UInt8 := dkwX0_trace_0 ++ dktX0_trace_1
theorem dksX0_trace_0 : cX0_trace.data.toList.drop 0 = dktX0_trace_0 := by decide +kernel
theorem dksX0_trace_1 : cX0_trace.data.toList.drop 23 = dktX0_trace_1 := dk_seg dksX0_trace_0 23 rfl rfl
theorem dX0_trace_0 : decode cX0_trace 0 = .ok (.iload_n 1, 1) := dk_27 (dk_at dksX0_trace_0 0 rfl rfl)
theorem dX0_trace_1 : decode cX0_trace 1 = .ok (.i2l, 1) := dk_133 (dk_at dksX0_trace_0 1 rfl rfl)
theorem dX0_trace_2 : decode cX0_trace 2 = .ok (.lconst 0, 1) := dk_9 (dk_at dksX0_trace_0 2 rfl rfl)
theorem dX0_trace_3 : decode cX0_trace 3 = .ok (.aload_n 0, 1) := dk_42 (dk_at dksX0_trace_0 3 rfl rfl)
theorem dX0_trace_4 : decode cX0_trace 4 = .ok (.getfield 63, 3) := dk_180 0 63 (dk_at dksX0_trace_0 4 rfl rfl)
theorem dX0_trace_7 : decode cX0_trace 7 = .ok (.getfield 354, 3) := dk_180 1 98 (dk_at dksX0_trace_0 7 rfl rfl)
theorem dX0_trace_10 : decode cX0_trace 10 = .ok (.iconst 1, 1) := dk_4 (dk_at dksX0_trace_0 10 rfl rfl)
theorem dX0_trace_11 : decode cX0_trace 11 = .ok (.isub, 1) := dk_100 (dk_at dksX0_trace_0 11 rfl rfl)
theorem dX0_trace_12 : decode cX0_trace 12 = .ok (.i2l, 1) := dk_133 (dk_at dksX0_trace_0 12 rfl rfl)
theorem dX0_trace_13 : decode cX0_trace 13 = .ok (.invokestatic 81, 3) := dk_184 0 81 (dk_at dksX0_trace_0 13 rfl rfl)
theorem dX0_trace_16 : decode cX0_trace 16 = .ok (.ifCond .eq 15, 3) := dk_153 0 15 (dk_at dksX0_trace_0 16 rfl rfl)
theorem dX0_trace_19 : decode cX0_trace 19 = .ok (.aload_n 0, 1) := dk_42 (dk_at dksX0_trace_0 19 rfl rfl)
theorem dX0_trace_20 : decode cX0_trace 20 = .ok (.getfield 63, 3) := dk_180 0 63 (dk_at dksX0_trace_0 20 rfl rfl)
theorem dX0_trace_23 : decode cX0_trace 23 = .ok (.getfield 356, 3) := dk_180 1 100 (dk_at dksX0_trace_1 0 rfl rfl)
theorem dX0_trace_26 : decode cX0_trace 26 = .ok (.iload_n 1, 1) := dk_27 (dk_at dksX0_trace_1 3 rfl rfl)
theorem dX0_trace_27 : decode cX0_trace 27 = .ok (.iaload, 1) := dk_46 (dk_at dksX0_trace_1 4 rfl rfl)
theorem dX0_trace_28 : decode cX0_trace 28 = .ok (.goto 5, 3) := dk_167 0 5 (dk_at dksX0_trace_1 5 rfl rfl)
theorem dX0_trace_31 : decode cX0_trace 31 = .ok (.ldc 234, 2) := dk_18 234 (dk_at dksX0_trace_1 8 rfl rfl)
theorem dX0_trace_33 : decode cX0_trace 33 = .ok (.ireturn, 1) := dk_172 (dk_at dksX0_trace_1 10 rfl rfl)
abbrev cX0_count : ByteArray := prog_1_method_54_code
def yX0_count : MethodName := ⟨RX0, "count", "(I)I"⟩
def dkwX0_count_7 : List UInt8 := [42, 180, 0, 168, 172, 42, 180, 0, 137, 172, 18, 91, 172]
abbrev dktX0_count_7 : List UInt8 := dkwX0_count_7 ++ []
def dkwX0_count_6 : List UInt8 := [182, 0, 238, 184, 1, 103, 100, 42, 180, 0, 46, 182, 0, 194, 100, 172, 42, 180, 0, 46, 182, 0, 194, 172]
abbrev dktX0_count_6 : List UInt8 := dkwX0_count_6 ++ dktX0_count_7
def dkwX0_count_5 : List UInt8 := [180, 0, 46, 2, 182, 0, 238, 184, 1, 103, 172, 42, 180, 0, 46, 182, 0, 171, 42, 180, 0, 46, 2]
abbrev dktX0_count_5 : List UInt8 := dkwX0_count_5 ++ dktX0_count_6
def dkwX0_count_4 : List UInt8 := [180, 0, 46, 180, 0, 172, 172, 42, 180, 0, 46, 180, 0, 184, 172, 42, 180, 0, 46, 180, 0, 197, 172, 42]
abbrev dktX0_count_4 : List UInt8 := dkwX0_count_4 ++ dktX0_count_5
def dkwX0_count_3 : List UInt8 := [167, 0, 4, 4, 96, 61, 132, 3, 1, 167, 255, 227, 28, 172, 42, 180, 0, 46, 182, 0, 171, 172, 42]
abbrev dktX0_count_3 : List UInt8 := dkwX0_count_3 ++ dktX0_count_4
def dkwX0_count_2 : List UInt8 := [3, 62, 29, 16, 8, 162, 0, 29, 28, 42, 180, 0, 35, 29, 50, 180, 0, 96, 199, 0, 7, 3]
abbrev dktX0_count_2 : List UInt8 := dkwX0_count_2 ++ dktX0_count_3
def dkwX0_count_1 : List UInt8 := [170, 0, 0, 0, 179, 0, 0, 0, 0, 0, 0, 0, 9, 0, 0, 0, 53, 0, 0, 0, 89, 0, 0, 0, 97, 0, 0, 0, 105, 0, 0, 0, 113, 0, 0, 0, 121, 0, 0, 0, 133, 0, 0, 0, 161, 0, 0, 0, 169, 0, 0, 0, 174]
abbrev dktX0_count_1 : List UInt8 := dkwX0_count_1 ++ dktX0_count_2
def dkwX0_count_0 : List UInt8 := [3, 61, 27]
abbrev dktX0_count_0 : List UInt8 := dkwX0_count_0 ++ dktX0_count_1
theorem dksX0_count_0 : cX0_count.data.toList.drop 0 = dktX0_count_0 := by decide +kernel
theorem dksX0_count_1 : cX0_count.data.toList.drop 3 = dktX0_count_1 := dk_seg dksX0_count_0 3 rfl rfl
theorem dksX0_count_2 : cX0_count.data.toList.drop 56 = dktX0_count_2 := dk_seg dksX0_count_1 53 rfl rfl
theorem dksX0_count_3 : cX0_count.data.toList.drop 78 = dktX0_count_3 := dk_seg dksX0_count_2 22 rfl rfl
theorem dksX0_count_4 : cX0_count.data.toList.drop 101 = dktX0_count_4 := dk_seg dksX0_count_3 23 rfl rfl
theorem dksX0_count_5 : cX0_count.data.toList.drop 125 = dktX0_count_5 := dk_seg dksX0_count_4 24 rfl rfl
theorem dksX0_count_6 : cX0_count.data.toList.drop 148 = dktX0_count_6 := dk_seg dksX0_count_5 23 rfl rfl
theorem dksX0_count_7 : cX0_count.data.toList.drop 172 = dktX0_count_7 := dk_seg dksX0_count_6 24 rfl rfl
theorem dX0_count_0 : decode cX0_count 0 = .ok (.iconst 0, 1) := dk_3 (dk_at dksX0_count_0 0 rfl rfl)
theorem dX0_count_1 : decode cX0_count 1 = .ok (.istore_n 2, 1) := dk_61 (dk_at dksX0_count_0 1 rfl rfl)
theorem dX0_count_2 : decode cX0_count 2 = .ok (.iload_n 1, 1) := dk_27 (dk_at dksX0_count_0 2 rfl rfl)
theorem dX0_count_3 : decode cX0_count 3 = .ok (.tableswitch 179 0 9 #[53, 89, 97, 105, 113, 121, 133, 161, 169, 174], 53) := by decide +kernel
theorem dX0_count_56 : decode cX0_count 56 = .ok (.iconst 0, 1) := dk_3 (dk_at dksX0_count_2 0 rfl rfl)
theorem dX0_count_57 : decode cX0_count 57 = .ok (.istore_n 3, 1) := dk_62 (dk_at dksX0_count_2 1 rfl rfl)
theorem dX0_count_58 : decode cX0_count 58 = .ok (.iload_n 3, 1) := dk_29 (dk_at dksX0_count_2 2 rfl rfl)
theorem dX0_count_59 : decode cX0_count 59 = .ok (.bipush 8, 2) := dk_16 8 (dk_at dksX0_count_2 3 rfl rfl)
theorem dX0_count_61 : decode cX0_count 61 = .ok (.if_icmp .ge 29, 3) := dk_162 0 29 (dk_at dksX0_count_2 5 rfl rfl)
theorem dX0_count_64 : decode cX0_count 64 = .ok (.iload_n 2, 1) := dk_28 (dk_at dksX0_count_2 8 rfl rfl)
theorem dX0_count_65 : decode cX0_count 65 = .ok (.aload_n 0, 1) := dk_42 (dk_at dksX0_count_2 9 rfl rfl)
theorem dX0_count_66 : decode cX0_count 66 = .ok (.getfield 35, 3) := dk_180 0 35 (dk_at dksX0_count_2 10 rfl rfl)
theorem dX0_count_69 : decode cX0_count 69 = .ok (.iload_n 3, 1) := dk_29 (dk_at dksX0_count_2 13 rfl rfl)
theorem dX0_count_70 : decode cX0_count 70 = .ok (.aaload, 1) := dk_50 (dk_at dksX0_count_2 14 rfl rfl)
theorem dX0_count_71 : decode cX0_count 71 = .ok (.getfield 96, 3) := dk_180 0 96 (dk_at dksX0_count_2 15 rfl rfl)
theorem dX0_count_74 : decode cX0_count 74 = .ok (.ifnonnull 7, 3) := dk_199 0 7 (dk_at dksX0_count_2 18 rfl rfl)
theorem dX0_count_77 : decode cX0_count 77 = .ok (.iconst 0, 1) := dk_3 (dk_at dksX0_count_2 21 rfl rfl)
theorem dX0_count_78 : decode cX0_count 78 = .ok (.goto 4, 3) := dk_167 0 4 (dk_at dksX0_count_3 0 rfl rfl)
theorem dX0_count_81 : decode cX0_count 81 = .ok (.iconst 1, 1) := dk_4 (dk_at dksX0_count_3 3 rfl rfl)
theorem dX0_count_82 : decode cX0_count 82 = .ok (.iadd, 1) := dk_96 (dk_at dksX0_count_3 4 rfl rfl)
theorem dX0_count_83 : decode cX0_count 83 = .ok (.istore_n 2, 1) := dk_61 (dk_at dksX0_count_3 5 rfl rfl)
theorem dX0_count_84 : decode cX0_count 84 = .ok (.iinc 3 1, 3) := dk_132 3 1 (dk_at dksX0_count_3 6 rfl rfl)
theorem dX0_count_87 : decode cX0_count 87 = .ok (.goto (-29), 3) := dk_167 255 227 (dk_at dksX0_count_3 9 rfl rfl)
theorem dX0_count_90 : decode cX0_count 90 = .ok (.iload_n 2, 1) := dk_28 (dk_at dksX0_count_3 12 rfl rfl)
theorem dX0_count_91 : decode cX0_count 91 = .ok (.ireturn, 1) := dk_172 (dk_at dksX0_count_3 13 rfl rfl)
theorem dX0_count_92 : decode cX0_count 92 = .ok (.aload_n 0, 1) := dk_42 (dk_at dksX0_count_3 14 rfl rfl)
theorem dX0_count_93 : decode cX0_count 93 = .ok (.getfield 46, 3) := dk_180 0 46 (dk_at dksX0_count_3 15 rfl rfl)
theorem dX0_count_96 : decode cX0_count 96 = .ok (.invokevirtual 171, 3) := dk_182 0 171 (dk_at dksX0_count_3 18 rfl rfl)
theorem dX0_count_99 : decode cX0_count 99 = .ok (.ireturn, 1) := dk_172 (dk_at dksX0_count_3 21 rfl rfl)
theorem dX0_count_100 : decode cX0_count 100 = .ok (.aload_n 0, 1) := dk_42 (dk_at dksX0_count_3 22 rfl rfl)
theorem dX0_count_101 : decode cX0_count 101 = .ok (.getfield 46, 3) := dk_180 0 46 (dk_at dksX0_count_4 0 rfl rfl)
theorem dX0_count_104 : decode cX0_count 104 = .ok (.getfield 172, 3) := dk_180 0 172 (dk_at dksX0_count_4 3 rfl rfl)
theorem dX0_count_107 : decode cX0_count 107 = .ok (.ireturn, 1) := dk_172 (dk_at dksX0_count_4 6 rfl rfl)
theorem dX0_count_108 : decode cX0_count 108 = .ok (.aload_n 0, 1) := dk_42 (dk_at dksX0_count_4 7 rfl rfl)
theorem dX0_count_109 : decode cX0_count 109 = .ok (.getfield 46, 3) := dk_180 0 46 (dk_at dksX0_count_4 8 rfl rfl)
theorem dX0_count_112 : decode cX0_count 112 = .ok (.getfield 184, 3) := dk_180 0 184 (dk_at dksX0_count_4 11 rfl rfl)
theorem dX0_count_115 : decode cX0_count 115 = .ok (.ireturn, 1) := dk_172 (dk_at dksX0_count_4 14 rfl rfl)
theorem dX0_count_116 : decode cX0_count 116 = .ok (.aload_n 0, 1) := dk_42 (dk_at dksX0_count_4 15 rfl rfl)
theorem dX0_count_117 : decode cX0_count 117 = .ok (.getfield 46, 3) := dk_180 0 46 (dk_at dksX0_count_4 16 rfl rfl)
theorem dX0_count_120 : decode cX0_count 120 = .ok (.getfield 197, 3) := dk_180 0 197 (dk_at dksX0_count_4 19 rfl rfl)
theorem dX0_count_123 : decode cX0_count 123 = .ok (.ireturn, 1) := dk_172 (dk_at dksX0_count_4 22 rfl rfl)
theorem dX0_count_124 : decode cX0_count 124 = .ok (.aload_n 0, 1) := dk_42 (dk_at dksX0_count_4 23 rfl rfl)
theorem dX0_count_125 : decode cX0_count 125 = .ok (.getfield 46, 3) := dk_180 0 46 (dk_at dksX0_count_5 0 rfl rfl)
theorem dX0_count_128 : decode cX0_count 128 = .ok (.iconst (-1), 1) := dk_2 (dk_at dksX0_count_5 3 rfl rfl)
theorem dX0_count_129 : decode cX0_count 129 = .ok (.invokevirtual 238, 3) := dk_182 0 238 (dk_at dksX0_count_5 4 rfl rfl)
theorem dX0_count_132 : decode cX0_count 132 = .ok (.invokestatic 359, 3) := dk_184 1 103 (dk_at dksX0_count_5 7 rfl rfl)
theorem dX0_count_135 : decode cX0_count 135 = .ok (.ireturn, 1) := dk_172 (dk_at dksX0_count_5 10 rfl rfl)
theorem dX0_count_136 : decode cX0_count 136 = .ok (.aload_n 0, 1) := dk_42 (dk_at dksX0_count_5 11 rfl rfl)
theorem dX0_count_137 : decode cX0_count 137 = .ok (.getfield 46, 3) := dk_180 0 46 (dk_at dksX0_count_5 12 rfl rfl)
theorem dX0_count_140 : decode cX0_count 140 = .ok (.invokevirtual 171, 3) := dk_182 0 171 (dk_at dksX0_count_5 15 rfl rfl)
theorem dX0_count_143 : decode cX0_count 143 = .ok (.aload_n 0, 1) := dk_42 (dk_at dksX0_count_5 18 rfl rfl)
theorem dX0_count_144 : decode cX0_count 144 = .ok (.getfield 46, 3) := dk_180 0 46 (dk_at dksX0_count_5 19 rfl rfl)
theorem dX0_count_147 : decode cX0_count 147 = .ok (.iconst (-1), 1) := dk_2 (dk_at dksX0_count_5 22 rfl rfl)
theorem dX0_count_148 : decode cX0_count 148 = .ok (.invokevirtual 238, 3) := dk_182 0 238 (dk_at dksX0_count_6 0 rfl rfl)
theorem dX0_count_151 : decode cX0_count 151 = .ok (.invokestatic 359, 3) := dk_184 1 103 (dk_at dksX0_count_6 3 rfl rfl)
theorem dX0_count_154 : decode cX0_count 154 = .ok (.isub, 1) := dk_100 (dk_at dksX0_count_6 6 rfl rfl)
theorem dX0_count_155 : decode cX0_count 155 = .ok (.aload_n 0, 1) := dk_42 (dk_at dksX0_count_6 7 rfl rfl)
theorem dX0_count_156 : decode cX0_count 156 = .ok (.getfield 46, 3) := dk_180 0 46 (dk_at dksX0_count_6 8 rfl rfl)
theorem dX0_count_159 : decode cX0_count 159 = .ok (.invokevirtual 194, 3) := dk_182 0 194 (dk_at dksX0_count_6 11 rfl rfl)
theorem dX0_count_162 : decode cX0_count 162 = .ok (.isub, 1) := dk_100 (dk_at dksX0_count_6 14 rfl rfl)
theorem dX0_count_163 : decode cX0_count 163 = .ok (.ireturn, 1) := dk_172 (dk_at dksX0_count_6 15 rfl rfl)
theorem dX0_count_164 : decode cX0_count 164 = .ok (.aload_n 0, 1) := dk_42 (dk_at dksX0_count_6 16 rfl rfl)
theorem dX0_count_165 : decode cX0_count 165 = .ok (.getfield 46, 3) := dk_180 0 46 (dk_at dksX0_count_6 17 rfl rfl)
theorem dX0_count_168 : decode cX0_count 168 = .ok (.invokevirtual 194, 3) := dk_182 0 194 (dk_at dksX0_count_6 20 rfl rfl)
theorem dX0_count_171 : decode cX0_count 171 = .ok (.ireturn, 1) := dk_172 (dk_at dksX0_count_6 23 rfl rfl)
theorem dX0_count_172 : decode cX0_count 172 = .ok (.aload_n 0, 1) := dk_42 (dk_at dksX0_count_7 0 rfl rfl)
theorem dX0_count_173 : decode cX0_count 173 = .ok (.getfield 168, 3) := dk_180 0 168 (dk_at dksX0_count_7 1 rfl rfl)
theorem dX0_count_176 : decode cX0_count 176 = .ok (.ireturn, 1) := dk_172 (dk_at dksX0_count_7 4 rfl rfl)
theorem dX0_count_177 : decode cX0_count 177 = .ok (.aload_n 0, 1) := dk_42 (dk_at dksX0_count_7 5 rfl rfl)
theorem dX0_count_178 : decode cX0_count 178 = .ok (.getfield 137, 3) := dk_180 0 137 (dk_at dksX0_count_7 6 rfl rfl)
theorem dX0_count_181 : decode cX0_count 181 = .ok (.ireturn, 1) := dk_172 (dk_at dksX0_count_7 9 rfl rfl)
theorem dX0_count_182 : decode cX0_count 182 = .ok (.ldc 91, 2) := dk_18 91 (dk_at dksX0_count_7 10 rfl rfl)
theorem dX0_count_184 : decode cX0_count 184 = .ok (.ireturn, 1) := dk_172 (dk_at dksX0_count_7 12 rfl rfl)
abbrev cX0_status : ByteArray := prog_1_method_55_code
def yX0_status : MethodName := ⟨RX0, "status", "()I"⟩
theorem dX0_status_0 : decode cX0_status 0 = .ok (.aload_n 0, 1) := by decide +kernel
theorem dX0_status_1 : decode cX0_status 1 = .ok (.getfield 74, 3) := by decide +kernel
theorem dX0_status_4 : decode cX0_status 4 = .ok (.ireturn, 1) := by decide +kernel
theorem q47 : (Jvm.Cond.initialized "StepRiders") ∈ lw_all := lw_g (lw_at lw_m1 1 rfl) rfl
theorem q89 : (Jvm.Cond.instantiable "StepRiders" (14 : Nat)) ∈ lw_all := lw_g (lw_at lw_m1 43 rfl) rfl
theorem q91 : (Jvm.Cond.instanceMethod ({ cls := "StepRiders", name := "<init>", desc := "()V" } : Jvm.MethodName)) ∈ lw_all := lw_g (lw_at lw_m1 45 rfl) rfl
theorem q92 : (Jvm.Cond.code ({ cls := "StepRiders", name := "<init>", desc := "()V" } : Jvm.MethodName) prog_1_method_6_code (1 : Nat) (Option.none : Option Jvm.ClassFile.FieldType)) ∈ lw_all := lw_g (lw_at lw_m1 46 rfl) rfl
theorem q93 : (Jvm.Cond.methodLink "StepRiders" (28 : Nat) ({ cls := "java/lang/Object", name := "<init>", desc := "()V" } : Jvm.MethodName)) ∈ lw_all := lw_g (lw_at lw_m1 47 rfl) rfl
theorem q96 : (Jvm.Cond.methodLink "StepRiders" (31 : Nat) ({ cls := "StepRiders", name := "shelves", desc := "()[LStepRiders$Shelf;" } : Jvm.MethodName)) ∈ lw_all := lw_g (lw_at lw_m1 50 rfl) rfl
theorem q97 : (Jvm.Cond.static ({ cls := "StepRiders", name := "shelves", desc := "()[LStepRiders$Shelf;" } : Jvm.MethodName)) ∈ lw_all := lw_g (lw_at lw_m1 51 rfl) rfl
theorem q98 : (Jvm.Cond.code ({ cls := "StepRiders", name := "shelves", desc := "()[LStepRiders$Shelf;" } : Jvm.MethodName) prog_1_method_5_code (2 : Nat) (Option.some (Jvm.ClassFile.FieldType.array (Jvm.ClassFile.FieldType.object "StepRiders$Shelf")))) ∈ lw_all := lw_g (lw_at lw_m1 52 rfl) rfl
theorem q99 : (Jvm.Cond.classLink "StepRiders" (23 : Nat) "StepRiders$Shelf") ∈ lw_all := lw_g (lw_at lw_m1 53 rfl) rfl
theorem q102 : (Jvm.Cond.methodLinkNest "StepRiders" (25 : Nat) ({ cls := "StepRiders$Shelf", name := "<init>", desc := "()V" } : Jvm.MethodName) "StepRiders") ∈ lw_tbl := lw_at lw_m1 56 rfl
theorem q107 : (Jvm.Cond.fieldLinkNest "StepRiders" (96 : Nat) "StepRiders$Shelf" "held" "Ljava/lang/Object;" "StepRiders") ∈ lw_tbl := lw_at lw_m1 61 rfl
theorem q111 : (Jvm.Cond.classLink "StepRiders" (43 : Nat) "StepRiders$Stair") ∈ lw_all := lw_g (lw_at lw_m1 65 rfl) rfl
theorem q113 : (Jvm.Cond.methodLinkNest "StepRiders" (45 : Nat) ({ cls := "StepRiders$Stair", name := "<init>", desc := "()V" } : Jvm.MethodName) "StepRiders") ∈ lw_tbl := lw_at lw_m1 67 rfl
theorem q147 : (Jvm.Cond.fieldLink "StepRiders" (172 : Nat) "StepRiders$Stair" "steps" "I") ∈ lw_all := lw_g (lw_at lw_m1 101 rfl) rfl
theorem q151 : (Jvm.Cond.fieldLink "StepRiders" (197 : Nat) "StepRiders$Stair" "speed" "I") ∈ lw_all := lw_g (lw_at lw_m1 105 rfl) rfl
theorem q154 : (Jvm.Cond.fieldLink "StepRiders" (184 : Nat) "StepRiders$Stair" "tick" "I") ∈ lw_all := lw_g (lw_at lw_m1 108 rfl) rfl
theorem q156 : (Jvm.Cond.fieldLink "StepRiders" (312 : Nat) "StepRiders$Stair" "went" "I") ∈ lw_all := lw_g (lw_at lw_m1 110 rfl) rfl
theorem q160 : (Jvm.Cond.fieldLink "StepRiders" (321 : Nat) "StepRiders$Stair" "riders" "Ljava/util/List;") ∈ lw_all := lw_g (lw_at lw_m1 114 rfl) rfl
theorem q166 : (Jvm.Cond.fieldLink "StepRiders" (203 : Nat) "StepRiders$Stair" "lane" "[I") ∈ lw_all := lw_g (lw_at lw_m1 120 rfl) rfl
theorem q171 : (Jvm.Cond.fieldLink "StepRiders" (206 : Nat) "StepRiders$Stair" "where" "[I") ∈ lw_all := lw_g (lw_at lw_m1 125 rfl) rfl
theorem q192 : (Jvm.Cond.classLink "StepRiders" (60 : Nat) "StepRiders$Trail") ∈ lw_all := lw_g (lw_at lw_m1 146 rfl) rfl
theorem q194 : (Jvm.Cond.methodLinkNest "StepRiders" (62 : Nat) ({ cls := "StepRiders$Trail", name := "<init>", desc := "()V" } : Jvm.MethodName) "StepRiders") ∈ lw_tbl := lw_at lw_m1 148 rfl
theorem q199 : (Jvm.Cond.fieldLinkNest "StepRiders" (356 : Nat) "StepRiders$Trail" "body" "[I" "StepRiders") ∈ lw_tbl := lw_at lw_m1 153 rfl
theorem q201 : (Jvm.Cond.fieldLinkNest "StepRiders" (354 : Nat) "StepRiders$Trail" "many" "I" "StepRiders") ∈ lw_tbl := lw_at lw_m1 155 rfl
theorem q207 : (Jvm.Cond.fieldLink "StepRiders" (35 : Nat) "StepRiders" "rows" "[LStepRiders$Shelf;") ∈ lw_all := lw_g (lw_at lw_m1 161 rfl) rfl
theorem q208 : (Jvm.Cond.fieldLink "StepRiders" (39 : Nat) "StepRiders" "tape" "[B") ∈ lw_all := lw_g (lw_at lw_m1 162 rfl) rfl
theorem q209 : (Jvm.Cond.fieldLink "StepRiders" (137 : Nat) "StepRiders" "taped" "I") ∈ lw_all := lw_g (lw_at lw_m1 163 rfl) rfl
theorem q210 : (Jvm.Cond.fieldLink "StepRiders" (154 : Nat) "StepRiders" "faultKind" "I") ∈ lw_all := lw_g (lw_at lw_m1 164 rfl) rfl
theorem q213 : (Jvm.Cond.fieldLink "StepRiders" (46 : Nat) "StepRiders" "stair" "LStepRiders$Stair;") ∈ lw_all := lw_g (lw_at lw_m1 167 rfl) rfl
theorem q214 : (Jvm.Cond.fieldLink "StepRiders" (50 : Nat) "StepRiders" "then" "LStepRiders$Stair;") ∈ lw_all := lw_g (lw_at lw_m1 168 rfl) rfl
theorem q215 : (Jvm.Cond.fieldLink "StepRiders" (53 : Nat) "StepRiders" "past" "[LStepRiders$Stair;") ∈ lw_all := lw_g (lw_at lw_m1 169 rfl) rfl
theorem q216 : (Jvm.Cond.fieldLink "StepRiders" (168 : Nat) "StepRiders" "acts" "I") ∈ lw_all := lw_g (lw_at lw_m1 170 rfl) rfl
theorem q217 : (Jvm.Cond.fieldLink "StepRiders" (57 : Nat) "StepRiders" "images" "[LStepRiders$Stair;") ∈ lw_all := lw_g (lw_at lw_m1 171 rfl) rfl
theorem q218 : (Jvm.Cond.fieldLink "StepRiders" (63 : Nat) "StepRiders" "trail" "LStepRiders$Trail;") ∈ lw_all := lw_g (lw_at lw_m1 172 rfl) rfl
theorem q219 : (Jvm.Cond.fieldLink "StepRiders" (74 : Nat) "StepRiders" "status" "I") ∈ lw_all := lw_g (lw_at lw_m1 173 rfl) rfl
theorem q220 : (Jvm.Cond.fieldLink "StepRiders" (67 : Nat) "StepRiders" "tried" "[I") ∈ lw_all := lw_g (lw_at lw_m1 174 rfl) rfl
theorem q221 : (Jvm.Cond.fieldLink "StepRiders" (71 : Nat) "StepRiders" "best" "[I") ∈ lw_all := lw_g (lw_at lw_m1 175 rfl) rfl
theorem q222 : (Jvm.Cond.fieldLink "StepRiders" (250 : Nat) "StepRiders" "least" "I") ∈ lw_all := lw_g (lw_at lw_m1 176 rfl) rfl
theorem q223 : (Jvm.Cond.laysFinal "StepRiders" "StepRiders" "rows" "[LStepRiders$Shelf;") ∈ lw_all := lw_g (lw_at lw_m1 177 rfl) rfl
theorem q224 : (Jvm.Cond.soleField "StepRiders" "rows") ∈ lw_all := lw_g (lw_at lw_m1 178 rfl) rfl
theorem q225 : (Jvm.Cond.laysFinal "StepRiders" "StepRiders" "tape" "[B") ∈ lw_all := lw_g (lw_at lw_m1 179 rfl) rfl
theorem q226 : (Jvm.Cond.soleField "StepRiders" "tape") ∈ lw_all := lw_g (lw_at lw_m1 180 rfl) rfl
theorem q227 : (Jvm.Cond.lays "StepRiders" "StepRiders" "taped" "I") ∈ lw_all := lw_g (lw_at lw_m1 181 rfl) rfl
theorem q228 : (Jvm.Cond.soleField "StepRiders" "taped") ∈ lw_all := lw_g (lw_at lw_m1 182 rfl) rfl
theorem q229 : (Jvm.Cond.lays "StepRiders" "StepRiders" "faultKind" "I") ∈ lw_all := lw_g (lw_at lw_m1 183 rfl) rfl
theorem q230 : (Jvm.Cond.soleField "StepRiders" "faultKind") ∈ lw_all := lw_g (lw_at lw_m1 184 rfl) rfl
theorem q231 : (Jvm.Cond.laysFinal "StepRiders" "StepRiders" "stair" "LStepRiders$Stair;") ∈ lw_all := lw_g (lw_at lw_m1 185 rfl) rfl
theorem q232 : (Jvm.Cond.soleField "StepRiders" "stair") ∈ lw_all := lw_g (lw_at lw_m1 186 rfl) rfl
theorem q233 : (Jvm.Cond.laysFinal "StepRiders" "StepRiders" "then" "LStepRiders$Stair;") ∈ lw_all := lw_g (lw_at lw_m1 187 rfl) rfl
theorem q234 : (Jvm.Cond.soleField "StepRiders" "then") ∈ lw_all := lw_g (lw_at lw_m1 188 rfl) rfl
theorem q235 : (Jvm.Cond.laysFinal "StepRiders" "StepRiders" "past" "[LStepRiders$Stair;") ∈ lw_all := lw_g (lw_at lw_m1 189 rfl) rfl
theorem q236 : (Jvm.Cond.soleField "StepRiders" "past") ∈ lw_all := lw_g (lw_at lw_m1 190 rfl) rfl
theorem q237 : (Jvm.Cond.lays "StepRiders" "StepRiders" "acts" "I") ∈ lw_all := lw_g (lw_at lw_m1 191 rfl) rfl
theorem q238 : (Jvm.Cond.soleField "StepRiders" "acts") ∈ lw_all := lw_g (lw_at lw_m1 192 rfl) rfl
theorem q239 : (Jvm.Cond.laysFinal "StepRiders" "StepRiders" "images" "[LStepRiders$Stair;") ∈ lw_all := lw_g (lw_at lw_m1 193 rfl) rfl
theorem q240 : (Jvm.Cond.soleField "StepRiders" "images") ∈ lw_all := lw_g (lw_at lw_m1 194 rfl) rfl
theorem q241 : (Jvm.Cond.lays "StepRiders" "StepRiders" "trail" "LStepRiders$Trail;") ∈ lw_all := lw_g (lw_at lw_m1 195 rfl) rfl
theorem q242 : (Jvm.Cond.soleField "StepRiders" "trail") ∈ lw_all := lw_g (lw_at lw_m1 196 rfl) rfl
theorem q243 : (Jvm.Cond.lays "StepRiders" "StepRiders" "status" "I") ∈ lw_all := lw_g (lw_at lw_m1 197 rfl) rfl
theorem q244 : (Jvm.Cond.soleField "StepRiders" "status") ∈ lw_all := lw_g (lw_at lw_m1 198 rfl) rfl
theorem q245 : (Jvm.Cond.laysFinal "StepRiders" "StepRiders" "tried" "[I") ∈ lw_all := lw_g (lw_at lw_m1 199 rfl) rfl
theorem q246 : (Jvm.Cond.soleField "StepRiders" "tried") ∈ lw_all := lw_g (lw_at lw_m1 200 rfl) rfl
theorem q247 : (Jvm.Cond.laysFinal "StepRiders" "StepRiders" "best" "[I") ∈ lw_all := lw_g (lw_at lw_m1 201 rfl) rfl
theorem q248 : (Jvm.Cond.soleField "StepRiders" "best") ∈ lw_all := lw_g (lw_at lw_m1 202 rfl) rfl
theorem q249 : (Jvm.Cond.lays "StepRiders" "StepRiders" "least" "I") ∈ lw_all := lw_g (lw_at lw_m1 203 rfl) rfl
theorem q250 : (Jvm.Cond.soleField "StepRiders" "least") ∈ lw_all := lw_g (lw_at lw_m1 204 rfl) rfl
theorem q251 : (Jvm.Cond.superclass "StepRiders" "java/lang/Object") ∈ lw_all := lw_g (lw_at lw_m1 205 rfl) rfl
theorem q253 : (Jvm.Cond.instanceMethod ({ cls := "StepRiders", name := "row", desc := "(III)I" } : Jvm.MethodName)) ∈ lw_all := lw_g (lw_at lw_m1 207 rfl) rfl
theorem q254 : (Jvm.Cond.selects "StepRiders" ({ cls := "StepRiders", name := "row", desc := "(III)I" } : Jvm.MethodName) ({ cls := "StepRiders", name := "row", desc := "(III)I" } : Jvm.MethodName)) ∈ lw_all := lw_g (lw_at lw_m1 208 rfl) rfl
theorem q255 : (Jvm.Cond.codeWith ({ cls := "StepRiders", name := "row", desc := "(III)I" } : Jvm.MethodName) prog_1_method_11_code (5 : Nat) (Option.some Jvm.ClassFile.FieldType.int) [((28 : Nat), (47 : Nat), (48 : Nat), (104 : Nat))]) ∈ lw_all := lw_g (lw_at lw_m1 209 rfl) rfl
theorem q256 : (Jvm.Cond.classLink "StepRiders" (104 : Nat) "java/lang/NegativeArraySizeException") ∈ lw_all := lw_g (lw_at lw_m1 210 rfl) rfl
theorem q342 : (Jvm.Cond.methodLink "StepRiders" (85 : Nat) ({ cls := "StepRiders", name := "isRow", desc := "(I)Z" } : Jvm.MethodName)) ∈ lw_all := lw_g (lw_at lw_m2 56 rfl) rfl
theorem q343 : (Jvm.Cond.static ({ cls := "StepRiders", name := "isRow", desc := "(I)Z" } : Jvm.MethodName)) ∈ lw_all := lw_g (lw_at lw_m2 57 rfl) rfl
theorem q344 : (Jvm.Cond.code ({ cls := "StepRiders", name := "isRow", desc := "(I)Z" } : Jvm.MethodName) prog_1_method_9_code (1 : Nat) (Option.some Jvm.ClassFile.FieldType.boolean)) ∈ lw_all := lw_g (lw_at lw_m2 58 rfl) rfl
theorem q345 : (Jvm.Cond.constantLong "StepRiders" (79 : Nat) (7 : Int64)) ∈ lw_all := lw_g (lw_at lw_m2 59 rfl) rfl
theorem q346 : (Jvm.Cond.methodLink "StepRiders" (81 : Nat) ({ cls := "StepRiders", name := "isIn", desc := "(JJJ)Z" } : Jvm.MethodName)) ∈ lw_all := lw_g (lw_at lw_m2 60 rfl) rfl
theorem q347 : (Jvm.Cond.static ({ cls := "StepRiders", name := "isIn", desc := "(JJJ)Z" } : Jvm.MethodName)) ∈ lw_all := lw_g (lw_at lw_m2 61 rfl) rfl
theorem q348 : (Jvm.Cond.code ({ cls := "StepRiders", name := "isIn", desc := "(JJJ)Z" } : Jvm.MethodName) prog_1_method_1_code (6 : Nat) (Option.some Jvm.ClassFile.FieldType.boolean)) ∈ lw_all := lw_g (lw_at lw_m2 62 rfl) rfl
theorem q349 : (Jvm.Cond.constantLong "StepRiders" (89 : Nat) (2 : Int64)) ∈ lw_all := lw_g (lw_at lw_m2 63 rfl) rfl
theorem q350 : (Jvm.Cond.constant "StepRiders" (91 : Nat) (-1000001 : Int32)) ∈ lw_all := lw_g (lw_at lw_m2 64 rfl) rfl
theorem q351 : (Jvm.Cond.methodLink "StepRiders" (92 : Nat) ({ cls := "StepRiders", name := "newLane", desc := "(II)Ljava/lang/Object;" } : Jvm.MethodName)) ∈ lw_all := lw_g (lw_at lw_m2 65 rfl) rfl
theorem q352 : (Jvm.Cond.static ({ cls := "StepRiders", name := "newLane", desc := "(II)Ljava/lang/Object;" } : Jvm.MethodName)) ∈ lw_all := lw_g (lw_at lw_m2 66 rfl) rfl
theorem q353 : (Jvm.Cond.code ({ cls := "StepRiders", name := "newLane", desc := "(II)Ljava/lang/Object;" } : Jvm.MethodName) prog_1_method_10_code (2 : Nat) (Option.some (Jvm.ClassFile.FieldType.object "java/lang/Object"))) ∈ lw_all := lw_g (lw_at lw_m2 67 rfl) rfl
theorem q354 : (Jvm.Cond.methodLink "StepRiders" (100 : Nat) ({ cls := "StepRiders", name := "well", desc := "(I)I" } : Jvm.MethodName)) ∈ lw_all := lw_g (lw_at lw_m2 68 rfl) rfl
theorem q355 : (Jvm.Cond.privateMethod ({ cls := "StepRiders", name := "well", desc := "(I)I" } : Jvm.MethodName)) ∈ lw_tbl := lw_at lw_m2 69 rfl
theorem q356 : (Jvm.Cond.instanceMethod ({ cls := "StepRiders", name := "well", desc := "(I)I" } : Jvm.MethodName)) ∈ lw_all := lw_g (lw_at lw_m2 70 rfl) rfl
theorem q357 : (Jvm.Cond.code ({ cls := "StepRiders", name := "well", desc := "(I)I" } : Jvm.MethodName) prog_1_method_8_code (2 : Nat) (Option.some Jvm.ClassFile.FieldType.int)) ∈ lw_all := lw_g (lw_at lw_m2 71 rfl) rfl
theorem q358 : (Jvm.Cond.methodLink "StepRiders" (106 : Nat) ({ cls := "StepRiders", name := "found", desc := "(I)I" } : Jvm.MethodName)) ∈ lw_all := lw_g (lw_at lw_m2 72 rfl) rfl
theorem q359 : (Jvm.Cond.privateMethod ({ cls := "StepRiders", name := "found", desc := "(I)I" } : Jvm.MethodName)) ∈ lw_tbl := lw_at lw_m2 73 rfl
theorem q360 : (Jvm.Cond.instanceMethod ({ cls := "StepRiders", name := "found", desc := "(I)I" } : Jvm.MethodName)) ∈ lw_all := lw_g (lw_at lw_m2 74 rfl) rfl
theorem q361 : (Jvm.Cond.code ({ cls := "StepRiders", name := "found", desc := "(I)I" } : Jvm.MethodName) prog_1_method_7_code (2 : Nat) (Option.some Jvm.ClassFile.FieldType.int)) ∈ lw_all := lw_g (lw_at lw_m2 75 rfl) rfl
theorem q362 : (Jvm.Cond.constant "StepRiders" (78 : Nat) (-1000010 : Int32)) ∈ lw_all := lw_g (lw_at lw_m2 76 rfl) rfl
theorem q365 : (Jvm.Cond.instanceMethod ({ cls := "StepRiders", name := "set", desc := "(III)I" } : Jvm.MethodName)) ∈ lw_all := lw_g (lw_at lw_m2 79 rfl) rfl
theorem q366 : (Jvm.Cond.selects "StepRiders" ({ cls := "StepRiders", name := "set", desc := "(III)I" } : Jvm.MethodName) ({ cls := "StepRiders", name := "set", desc := "(III)I" } : Jvm.MethodName)) ∈ lw_all := lw_g (lw_at lw_m2 80 rfl) rfl
theorem q367 : (Jvm.Cond.codeWith ({ cls := "StepRiders", name := "set", desc := "(III)I" } : Jvm.MethodName) prog_1_method_12_code (5 : Nat) (Option.some Jvm.ClassFile.FieldType.int) [((10 : Nat), (25 : Nat), (26 : Nat), (113 : Nat)), ((10 : Nat), (25 : Nat), (34 : Nat), (115 : Nat))]) ∈ lw_all := lw_g (lw_at lw_m2 81 rfl) rfl
theorem q368 : (Jvm.Cond.classLink "StepRiders" (113 : Nat) "java/lang/NullPointerException") ∈ lw_all := lw_g (lw_at lw_m2 82 rfl) rfl
theorem q393 : (Jvm.Cond.classLink "StepRiders" (115 : Nat) "java/lang/ArrayIndexOutOfBoundsException") ∈ lw_all := lw_g (lw_at lw_m2 107 rfl) rfl
theorem q412 : (Jvm.Cond.methodLinkNest "StepRiders" (109 : Nat) ({ cls := "StepRiders$Shelf", name := "put", desc := "(II)I" } : Jvm.MethodName) "StepRiders") ∈ lw_tbl := lw_at lw_m2 126 rfl
theorem q424 : (Jvm.Cond.instanceMethod ({ cls := "StepRiders", name := "copy", desc := "(IIIII)I" } : Jvm.MethodName)) ∈ lw_all := lw_g (lw_at lw_m2 138 rfl) rfl
theorem q425 : (Jvm.Cond.selects "StepRiders" ({ cls := "StepRiders", name := "copy", desc := "(IIIII)I" } : Jvm.MethodName) ({ cls := "StepRiders", name := "copy", desc := "(IIIII)I" } : Jvm.MethodName)) ∈ lw_all := lw_g (lw_at lw_m2 139 rfl) rfl
theorem q426 : (Jvm.Cond.codeWith ({ cls := "StepRiders", name := "copy", desc := "(IIIII)I" } : Jvm.MethodName) prog_1_method_13_code (7 : Nat) (Option.some Jvm.ClassFile.FieldType.int) [((17 : Nat), (49 : Nat), (50 : Nat), (113 : Nat)), ((17 : Nat), (49 : Nat), (58 : Nat), (123 : Nat)), ((17 : Nat), (49 : Nat), (66 : Nat), (125 : Nat))]) ∈ lw_all := lw_g (lw_at lw_m2 140 rfl) rfl
theorem q427 : (Jvm.Cond.classLink "StepRiders" (123 : Nat) "java/lang/ArrayStoreException") ∈ lw_all := lw_g (lw_at lw_m2 141 rfl) rfl
theorem q441 : (Jvm.Cond.classLink "StepRiders" (125 : Nat) "java/lang/IndexOutOfBoundsException") ∈ lw_all := lw_g (lw_at lw_m2 155 rfl) rfl
theorem q442 : (Jvm.Cond.methodLink "StepRiders" (117 : Nat) ({ cls := "java/lang/System", name := "arraycopy", desc := "(Ljava/lang/Object;ILjava/lang/Object;II)V" } : Jvm.MethodName)) ∈ lw_all := lw_g (lw_at lw_m2 156 rfl) rfl
theorem q446 : (Jvm.Cond.instanceMethod ({ cls := "StepRiders", name := "drop", desc := "(I)I" } : Jvm.MethodName)) ∈ lw_all := lw_g (lw_at lw_m2 160 rfl) rfl
theorem q447 : (Jvm.Cond.selects "StepRiders" ({ cls := "StepRiders", name := "drop", desc := "(I)I" } : Jvm.MethodName) ({ cls := "StepRiders", name := "drop", desc := "(I)I" } : Jvm.MethodName)) ∈ lw_all := lw_g (lw_at lw_m2 161 rfl) rfl
theorem q448 : (Jvm.Cond.codeWith ({ cls := "StepRiders", name := "drop", desc := "(I)I" } : Jvm.MethodName) prog_1_method_14_code (5 : Nat) (Option.some Jvm.ClassFile.FieldType.int) [((10 : Nat), (24 : Nat), (36 : Nat), (113 : Nat)), ((10 : Nat), (24 : Nat), (55 : Nat), (0 : Nat)), ((36 : Nat), (43 : Nat), (55 : Nat), (0 : Nat)), ((55 : Nat), (57 : Nat), (55 : Nat), (0 : Nat))]) ∈ lw_all := lw_g (lw_at lw_m2 162 rfl) rfl
theorem q449 : (Jvm.Cond.methodLinkNest "StepRiders" (127 : Nat) ({ cls := "StepRiders$Shelf", name := "many", desc := "()I" } : Jvm.MethodName) "StepRiders") ∈ lw_tbl := lw_at lw_m2 163 rfl
theorem q454 : (Jvm.Cond.instanceMethod ({ cls := "StepRiders", name := "feed", desc := "(I)I" } : Jvm.MethodName)) ∈ lw_all := lw_g (lw_at lw_m2 168 rfl) rfl
theorem q455 : (Jvm.Cond.selects "StepRiders" ({ cls := "StepRiders", name := "feed", desc := "(I)I" } : Jvm.MethodName) ({ cls := "StepRiders", name := "feed", desc := "(I)I" } : Jvm.MethodName)) ∈ lw_all := lw_g (lw_at lw_m2 169 rfl) rfl
theorem q456 : (Jvm.Cond.code ({ cls := "StepRiders", name := "feed", desc := "(I)I" } : Jvm.MethodName) prog_1_method_16_code (2 : Nat) (Option.some Jvm.ClassFile.FieldType.int)) ∈ lw_all := lw_g (lw_at lw_m2 170 rfl) rfl
theorem q457 : (Jvm.Cond.constantLong "StepRiders" (135 : Nat) (255 : Int64)) ∈ lw_all := lw_g (lw_at lw_m2 171 rfl) rfl
theorem q458 : (Jvm.Cond.constant "StepRiders" (140 : Nat) (-1000003 : Int32)) ∈ lw_all := lw_g (lw_at lw_m2 172 rfl) rfl
theorem q460 : (Jvm.Cond.instanceMethod ({ cls := "StepRiders", name := "stair", desc := "()I" } : Jvm.MethodName)) ∈ lw_all := lw_g (lw_at lw_m2 174 rfl) rfl
theorem q461 : (Jvm.Cond.selects "StepRiders" ({ cls := "StepRiders", name := "stair", desc := "()I" } : Jvm.MethodName) ({ cls := "StepRiders", name := "stair", desc := "()I" } : Jvm.MethodName)) ∈ lw_all := lw_g (lw_at lw_m2 175 rfl) rfl
theorem q462 : (Jvm.Cond.codeWith ({ cls := "StepRiders", name := "stair", desc := "()I" } : Jvm.MethodName) prog_1_method_17_code (5 : Nat) (Option.some Jvm.ClassFile.FieldType.int) [((16 : Nat), (20 : Nat), (28 : Nat), (149 : Nat)), ((16 : Nat), (20 : Nat), (52 : Nat), (0 : Nat)), ((28 : Nat), (45 : Nat), (52 : Nat), (0 : Nat)), ((52 : Nat), (54 : Nat), (52 : Nat), (0 : Nat))]) ∈ lw_all := lw_g (lw_at lw_m2 176 rfl) rfl
theorem q463 : (Jvm.Cond.classLink "StepRiders" (149 : Nat) "StepRiders$Fault") ∈ lw_all := lw_g (lw_at lw_m2 177 rfl) rfl
theorem q464 : (Jvm.Cond.classLink "StepRiders" (141 : Nat) "StepRiders$Reader") ∈ lw_all := lw_g (lw_at lw_m2 178 rfl) rfl
theorem q466 : (Jvm.Cond.methodLink "StepRiders" (143 : Nat) ({ cls := "StepRiders$Reader", name := "<init>", desc := "([BI)V" } : Jvm.MethodName)) ∈ lw_all := lw_g (lw_at lw_m2 180 rfl) rfl
theorem q479 : (Jvm.Cond.fieldLink "StepRiders" (161 : Nat) "StepRiders$Reader" "made" "LStepRiders$Stair;") ∈ lw_all := lw_g (lw_at lw_m2 193 rfl) rfl
theorem q495 : (Jvm.Cond.methodLink "StepRiders" (146 : Nat) ({ cls := "StepRiders$Reader", name := "all", desc := "()V" } : Jvm.MethodName)) ∈ lw_all := lw_g (lw_at lw_m2 209 rfl) rfl
theorem q540 : (Jvm.Cond.fieldLink "StepRiders" (151 : Nat) "StepRiders$Fault" "kind" "I") ∈ lw_all := lw_g (lw_at lw_m3 14 rfl) rfl
theorem q542 : (Jvm.Cond.fieldLink "StepRiders" (158 : Nat) "StepRiders$Fault" "place" "I") ∈ lw_all := lw_g (lw_at lw_m3 16 rfl) rfl
theorem q667 : (Jvm.Cond.static ({ cls := "StepRiders", name := "riderBy", desc := "(II)LStepRiders$Rider;" } : Jvm.MethodName)) ∈ lw_all := lw_g (lw_at lw_m3 141 rfl) rfl
theorem q668 : (Jvm.Cond.code ({ cls := "StepRiders", name := "riderBy", desc := "(II)LStepRiders$Rider;" } : Jvm.MethodName) prog_1_method_3_code (2 : Nat) (Option.some (Jvm.ClassFile.FieldType.object "StepRiders$Rider"))) ∈ lw_all := lw_g (lw_at lw_m3 142 rfl) rfl
theorem q669 : (Jvm.Cond.classLink "StepRiders" (1 : Nat) "StepRiders$Stander") ∈ lw_all := lw_g (lw_at lw_m3 143 rfl) rfl
theorem q671 : (Jvm.Cond.methodLink "StepRiders" (3 : Nat) ({ cls := "StepRiders$Stander", name := "<init>", desc := "(I)V" } : Jvm.MethodName)) ∈ lw_all := lw_g (lw_at lw_m3 145 rfl) rfl
theorem q682 : (Jvm.Cond.classLink "StepRiders" (7 : Nat) "StepRiders$Walker") ∈ lw_all := lw_g (lw_at lw_m3 156 rfl) rfl
theorem q684 : (Jvm.Cond.methodLink "StepRiders" (9 : Nat) ({ cls := "StepRiders$Walker", name := "<init>", desc := "(I)V" } : Jvm.MethodName)) ∈ lw_all := lw_g (lw_at lw_m3 158 rfl) rfl
theorem q690 : (Jvm.Cond.classLink "StepRiders" (10 : Nat) "StepRiders$Runner") ∈ lw_all := lw_g (lw_at lw_m3 164 rfl) rfl
theorem q692 : (Jvm.Cond.methodLink "StepRiders" (12 : Nat) ({ cls := "StepRiders$Runner", name := "<init>", desc := "(I)V" } : Jvm.MethodName)) ∈ lw_all := lw_g (lw_at lw_m3 166 rfl) rfl
theorem q698 : (Jvm.Cond.classLink "StepRiders" (13 : Nat) "StepRiders$Trunk") ∈ lw_all := lw_g (lw_at lw_m3 172 rfl) rfl
theorem q700 : (Jvm.Cond.methodLink "StepRiders" (15 : Nat) ({ cls := "StepRiders$Trunk", name := "<init>", desc := "(I)V" } : Jvm.MethodName)) ∈ lw_all := lw_g (lw_at lw_m3 174 rfl) rfl
theorem q706 : (Jvm.Cond.classLink "StepRiders" (16 : Nat) "StepRiders$Child") ∈ lw_all := lw_g (lw_at lw_m3 180 rfl) rfl
theorem q708 : (Jvm.Cond.methodLink "StepRiders" (18 : Nat) ({ cls := "StepRiders$Child", name := "<init>", desc := "(I)V" } : Jvm.MethodName)) ∈ lw_all := lw_g (lw_at lw_m3 182 rfl) rfl
theorem q749 : (Jvm.Cond.selects "StepRiders" ({ cls := "java/lang/Object", name := "getClass", desc := "()Ljava/lang/Class;" } : Jvm.MethodName) ({ cls := "java/lang/Object", name := "getClass", desc := "()Ljava/lang/Class;" } : Jvm.MethodName)) ∈ lw_all := lw_g (lw_at lw_m3 223 rfl) rfl
theorem q783 : (Jvm.Cond.constant "StepRiders" (157 : Nat) (-1000100 : Int32)) ∈ lw_all := lw_g (lw_at lw_m4 17 rfl) rfl
theorem q784 : (Jvm.Cond.methodLink "StepRiders" (164 : Nat) ({ cls := "StepRiders$Stair", name := "become", desc := "(LStepRiders$Stair;)LStepRiders$Stair;" } : Jvm.MethodName)) ∈ lw_all := lw_g (lw_at lw_m4 18 rfl) rfl
theorem q820 : (Jvm.Cond.methodLink "StepRiders" (171 : Nat) ({ cls := "StepRiders$Stair", name := "many", desc := "()I" } : Jvm.MethodName)) ∈ lw_all := lw_g (lw_at lw_m4 54 rfl) rfl
theorem q822 : (Jvm.Cond.instanceMethod ({ cls := "StepRiders", name := "fault", desc := "()I" } : Jvm.MethodName)) ∈ lw_all := lw_g (lw_at lw_m4 56 rfl) rfl
theorem q823 : (Jvm.Cond.selects "StepRiders" ({ cls := "StepRiders", name := "fault", desc := "()I" } : Jvm.MethodName) ({ cls := "StepRiders", name := "fault", desc := "()I" } : Jvm.MethodName)) ∈ lw_all := lw_g (lw_at lw_m4 57 rfl) rfl
theorem q824 : (Jvm.Cond.code ({ cls := "StepRiders", name := "fault", desc := "()I" } : Jvm.MethodName) prog_1_method_18_code (1 : Nat) (Option.some Jvm.ClassFile.FieldType.int)) ∈ lw_all := lw_g (lw_at lw_m4 58 rfl) rfl
theorem q826 : (Jvm.Cond.instanceMethod ({ cls := "StepRiders", name := "ticks", desc := "(I)I" } : Jvm.MethodName)) ∈ lw_all := lw_g (lw_at lw_m4 60 rfl) rfl
theorem q827 : (Jvm.Cond.selects "StepRiders" ({ cls := "StepRiders", name := "ticks", desc := "(I)I" } : Jvm.MethodName) ({ cls := "StepRiders", name := "ticks", desc := "(I)I" } : Jvm.MethodName)) ∈ lw_all := lw_g (lw_at lw_m4 61 rfl) rfl
theorem q828 : (Jvm.Cond.code ({ cls := "StepRiders", name := "ticks", desc := "(I)I" } : Jvm.MethodName) prog_1_method_24_code (3 : Nat) (Option.some Jvm.ClassFile.FieldType.int)) ∈ lw_all := lw_g (lw_at lw_m4 62 rfl) rfl
theorem q829 : (Jvm.Cond.methodLink "StepRiders" (177 : Nat) ({ cls := "StepRiders", name := "isThere", desc := "()Z" } : Jvm.MethodName)) ∈ lw_all := lw_g (lw_at lw_m4 63 rfl) rfl
theorem q830 : (Jvm.Cond.privateMethod ({ cls := "StepRiders", name := "isThere", desc := "()Z" } : Jvm.MethodName)) ∈ lw_tbl := lw_at lw_m4 64 rfl
theorem q831 : (Jvm.Cond.instanceMethod ({ cls := "StepRiders", name := "isThere", desc := "()Z" } : Jvm.MethodName)) ∈ lw_all := lw_g (lw_at lw_m4 65 rfl) rfl
theorem q832 : (Jvm.Cond.code ({ cls := "StepRiders", name := "isThere", desc := "()Z" } : Jvm.MethodName) prog_1_method_19_code (1 : Nat) (Option.some Jvm.ClassFile.FieldType.boolean)) ∈ lw_all := lw_g (lw_at lw_m4 66 rfl) rfl
theorem q833 : (Jvm.Cond.constant "StepRiders" (181 : Nat) (-1000002 : Int32)) ∈ lw_all := lw_g (lw_at lw_m4 67 rfl) rfl
theorem q834 : (Jvm.Cond.constantLong "StepRiders" (182 : Nat) (24 : Int64)) ∈ lw_all := lw_g (lw_at lw_m4 68 rfl) rfl
theorem q835 : (Jvm.Cond.methodLink "StepRiders" (187 : Nat) ({ cls := "StepRiders", name := "keep", desc := "()V" } : Jvm.MethodName)) ∈ lw_all := lw_g (lw_at lw_m4 69 rfl) rfl
theorem q836 : (Jvm.Cond.privateMethod ({ cls := "StepRiders", name := "keep", desc := "()V" } : Jvm.MethodName)) ∈ lw_tbl := lw_at lw_m4 70 rfl
theorem q837 : (Jvm.Cond.instanceMethod ({ cls := "StepRiders", name := "keep", desc := "()V" } : Jvm.MethodName)) ∈ lw_all := lw_g (lw_at lw_m4 71 rfl) rfl
theorem q838 : (Jvm.Cond.code ({ cls := "StepRiders", name := "keep", desc := "()V" } : Jvm.MethodName) prog_1_method_23_code (3 : Nat) (Option.none : Option Jvm.ClassFile.FieldType)) ∈ lw_all := lw_g (lw_at lw_m4 72 rfl) rfl
theorem q839 : (Jvm.Cond.methodLink "StepRiders" (190 : Nat) ({ cls := "StepRiders$Stair", name := "goOn", desc := "()LStepRiders$Stair;" } : Jvm.MethodName)) ∈ lw_all := lw_g (lw_at lw_m4 73 rfl) rfl
theorem q925 : (Jvm.Cond.methodLink "StepRiders" (194 : Nat) ({ cls := "StepRiders$Stair", name := "offs", desc := "()I" } : Jvm.MethodName)) ∈ lw_all := lw_g (lw_at lw_m4 159 rfl) rfl
theorem q940 : (Jvm.Cond.instanceMethod ({ cls := "StepRiders", name := "speed", desc := "(I)I" } : Jvm.MethodName)) ∈ lw_all := lw_g (lw_at lw_m4 174 rfl) rfl
theorem q941 : (Jvm.Cond.selects "StepRiders" ({ cls := "StepRiders", name := "speed", desc := "(I)I" } : Jvm.MethodName) ({ cls := "StepRiders", name := "speed", desc := "(I)I" } : Jvm.MethodName)) ∈ lw_all := lw_g (lw_at lw_m4 175 rfl) rfl
theorem q942 : (Jvm.Cond.code ({ cls := "StepRiders", name := "speed", desc := "(I)I" } : Jvm.MethodName) prog_1_method_25_code (3 : Nat) (Option.some Jvm.ClassFile.FieldType.int)) ∈ lw_all := lw_g (lw_at lw_m4 176 rfl) rfl
theorem q944 : (Jvm.Cond.instanceMethod ({ cls := "StepRiders", name := "cross", desc := "(I)I" } : Jvm.MethodName)) ∈ lw_all := lw_g (lw_at lw_m4 178 rfl) rfl
theorem q945 : (Jvm.Cond.selects "StepRiders" ({ cls := "StepRiders", name := "cross", desc := "(I)I" } : Jvm.MethodName) ({ cls := "StepRiders", name := "cross", desc := "(I)I" } : Jvm.MethodName)) ∈ lw_all := lw_g (lw_at lw_m4 179 rfl) rfl
theorem q946 : (Jvm.Cond.code ({ cls := "StepRiders", name := "cross", desc := "(I)I" } : Jvm.MethodName) prog_1_method_26_code (3 : Nat) (Option.some Jvm.ClassFile.FieldType.int)) ∈ lw_all := lw_g (lw_at lw_m4 180 rfl) rfl
theorem q947 : (Jvm.Cond.methodLink "StepRiders" (200 : Nat) ({ cls := "StepRiders", name := "isRider", desc := "(I)Z" } : Jvm.MethodName)) ∈ lw_all := lw_g (lw_at lw_m4 181 rfl) rfl
theorem q948 : (Jvm.Cond.privateMethod ({ cls := "StepRiders", name := "isRider", desc := "(I)Z" } : Jvm.MethodName)) ∈ lw_tbl := lw_at lw_m4 182 rfl
theorem q949 : (Jvm.Cond.instanceMethod ({ cls := "StepRiders", name := "isRider", desc := "(I)Z" } : Jvm.MethodName)) ∈ lw_all := lw_g (lw_at lw_m4 183 rfl) rfl
theorem q950 : (Jvm.Cond.code ({ cls := "StepRiders", name := "isRider", desc := "(I)Z" } : Jvm.MethodName) prog_1_method_20_code (2 : Nat) (Option.some Jvm.ClassFile.FieldType.boolean)) ∈ lw_all := lw_g (lw_at lw_m4 184 rfl) rfl
theorem q951 : (Jvm.Cond.methodLink "StepRiders" (209 : Nat) ({ cls := "StepRiders$Stair", name := "isOn", desc := "(I)Z" } : Jvm.MethodName)) ∈ lw_all := lw_g (lw_at lw_m4 185 rfl) rfl
theorem q952 : (Jvm.Cond.methodLink "StepRiders" (212 : Nat) ({ cls := "StepRiders$Stair", name := "isFree", desc := "(III)Z" } : Jvm.MethodName)) ∈ lw_all := lw_g (lw_at lw_m4 186 rfl) rfl
theorem q954 : (Jvm.Cond.instanceMethod ({ cls := "StepRiders", name := "take", desc := "(I)I" } : Jvm.MethodName)) ∈ lw_all := lw_g (lw_at lw_m4 188 rfl) rfl
theorem q955 : (Jvm.Cond.selects "StepRiders" ({ cls := "StepRiders", name := "take", desc := "(I)I" } : Jvm.MethodName) ({ cls := "StepRiders", name := "take", desc := "(I)I" } : Jvm.MethodName)) ∈ lw_all := lw_g (lw_at lw_m4 189 rfl) rfl
theorem q956 : (Jvm.Cond.code ({ cls := "StepRiders", name := "take", desc := "(I)I" } : Jvm.MethodName) prog_1_method_27_code (3 : Nat) (Option.some Jvm.ClassFile.FieldType.int)) ∈ lw_all := lw_g (lw_at lw_m4 190 rfl) rfl
theorem q958 : (Jvm.Cond.instanceMethod ({ cls := "StepRiders", name := "again", desc := "(II)I" } : Jvm.MethodName)) ∈ lw_all := lw_g (lw_at lw_m4 192 rfl) rfl
theorem q959 : (Jvm.Cond.selects "StepRiders" ({ cls := "StepRiders", name := "again", desc := "(II)I" } : Jvm.MethodName) ({ cls := "StepRiders", name := "again", desc := "(II)I" } : Jvm.MethodName)) ∈ lw_all := lw_g (lw_at lw_m4 193 rfl) rfl
theorem q960 : (Jvm.Cond.code ({ cls := "StepRiders", name := "again", desc := "(II)I" } : Jvm.MethodName) prog_1_method_28_code (3 : Nat) (Option.some Jvm.ClassFile.FieldType.int)) ∈ lw_all := lw_g (lw_at lw_m4 194 rfl) rfl
theorem q961 : (Jvm.Cond.methodLink "StepRiders" (216 : Nat) ({ cls := "StepRiders", name := "isHalf", desc := "(I)Z" } : Jvm.MethodName)) ∈ lw_all := lw_g (lw_at lw_m4 195 rfl) rfl
theorem q962 : (Jvm.Cond.static ({ cls := "StepRiders", name := "isHalf", desc := "(I)Z" } : Jvm.MethodName)) ∈ lw_all := lw_g (lw_at lw_m4 196 rfl) rfl
theorem q963 : (Jvm.Cond.code ({ cls := "StepRiders", name := "isHalf", desc := "(I)Z" } : Jvm.MethodName) prog_1_method_22_code (1 : Nat) (Option.some Jvm.ClassFile.FieldType.boolean)) ∈ lw_all := lw_g (lw_at lw_m4 197 rfl) rfl
theorem q965 : (Jvm.Cond.instanceMethod ({ cls := "StepRiders", name := "undo", desc := "()I" } : Jvm.MethodName)) ∈ lw_all := lw_g (lw_at lw_m4 199 rfl) rfl
theorem q966 : (Jvm.Cond.selects "StepRiders" ({ cls := "StepRiders", name := "undo", desc := "()I" } : Jvm.MethodName) ({ cls := "StepRiders", name := "undo", desc := "()I" } : Jvm.MethodName)) ∈ lw_all := lw_g (lw_at lw_m4 200 rfl) rfl
theorem q967 : (Jvm.Cond.code ({ cls := "StepRiders", name := "undo", desc := "()I" } : Jvm.MethodName) prog_1_method_29_code (1 : Nat) (Option.some Jvm.ClassFile.FieldType.int)) ∈ lw_all := lw_g (lw_at lw_m4 201 rfl) rfl
theorem q969 : (Jvm.Cond.instanceMethod ({ cls := "StepRiders", name := "rider", desc := "(II)I" } : Jvm.MethodName)) ∈ lw_all := lw_g (lw_at lw_m4 203 rfl) rfl
theorem q970 : (Jvm.Cond.selects "StepRiders" ({ cls := "StepRiders", name := "rider", desc := "(II)I" } : Jvm.MethodName) ({ cls := "StepRiders", name := "rider", desc := "(II)I" } : Jvm.MethodName)) ∈ lw_all := lw_g (lw_at lw_m4 204 rfl) rfl
theorem q971 : (Jvm.Cond.code ({ cls := "StepRiders", name := "rider", desc := "(II)I" } : Jvm.MethodName) prog_1_method_30_code (4 : Nat) (Option.some Jvm.ClassFile.FieldType.int)) ∈ lw_all := lw_g (lw_at lw_m4 205 rfl) rfl
theorem q972 : (Jvm.Cond.methodLink "StepRiders" (219 : Nat) ({ cls := "StepRiders$Stair", name := "isWide", desc := "(I)Z" } : Jvm.MethodName)) ∈ lw_all := lw_g (lw_at lw_m4 206 rfl) rfl
theorem q974 : (Jvm.Cond.instanceMethod ({ cls := "StepRiders", name := "step", desc := "(II)I" } : Jvm.MethodName)) ∈ lw_all := lw_g (lw_at lw_m4 208 rfl) rfl
theorem q975 : (Jvm.Cond.selects "StepRiders" ({ cls := "StepRiders", name := "step", desc := "(II)I" } : Jvm.MethodName) ({ cls := "StepRiders", name := "step", desc := "(II)I" } : Jvm.MethodName)) ∈ lw_all := lw_g (lw_at lw_m4 209 rfl) rfl
theorem q976 : (Jvm.Cond.code ({ cls := "StepRiders", name := "step", desc := "(II)I" } : Jvm.MethodName) prog_1_method_31_code (5 : Nat) (Option.some Jvm.ClassFile.FieldType.int)) ∈ lw_all := lw_g (lw_at lw_m4 210 rfl) rfl
theorem q977 : (Jvm.Cond.methodLink "StepRiders" (222 : Nat) ({ cls := "StepRiders$Stair", name := "takes", desc := "(III)Z" } : Jvm.MethodName)) ∈ lw_all := lw_g (lw_at lw_m4 211 rfl) rfl
theorem q979 : (Jvm.Cond.instanceMethod ({ cls := "StepRiders", name := "ahead", desc := "(II)I" } : Jvm.MethodName)) ∈ lw_all := lw_g (lw_at lw_m4 213 rfl) rfl
theorem q980 : (Jvm.Cond.selects "StepRiders" ({ cls := "StepRiders", name := "ahead", desc := "(II)I" } : Jvm.MethodName) ({ cls := "StepRiders", name := "ahead", desc := "(II)I" } : Jvm.MethodName)) ∈ lw_all := lw_g (lw_at lw_m4 214 rfl) rfl
theorem q981 : (Jvm.Cond.code ({ cls := "StepRiders", name := "ahead", desc := "(II)I" } : Jvm.MethodName) prog_1_method_33_code (3 : Nat) (Option.some Jvm.ClassFile.FieldType.int)) ∈ lw_all := lw_g (lw_at lw_m4 215 rfl) rfl
theorem q982 : (Jvm.Cond.methodLink "StepRiders" (225 : Nat) ({ cls := "StepRiders", name := "isFar", desc := "(I)Z" } : Jvm.MethodName)) ∈ lw_all := lw_g (lw_at lw_m4 216 rfl) rfl
theorem q983 : (Jvm.Cond.static ({ cls := "StepRiders", name := "isFar", desc := "(I)Z" } : Jvm.MethodName)) ∈ lw_all := lw_g (lw_at lw_m4 217 rfl) rfl
theorem q984 : (Jvm.Cond.code ({ cls := "StepRiders", name := "isFar", desc := "(I)Z" } : Jvm.MethodName) prog_1_method_21_code (1 : Nat) (Option.some Jvm.ClassFile.FieldType.boolean)) ∈ lw_all := lw_g (lw_at lw_m4 218 rfl) rfl
theorem q985 : (Jvm.Cond.constantLong "StepRiders" (175 : Nat) (60 : Int64)) ∈ lw_all := lw_g (lw_at lw_m4 219 rfl) rfl
theorem q986 : (Jvm.Cond.methodLink "StepRiders" (228 : Nat) ({ cls := "StepRiders", name := "asNow", desc := "()LStepRiders$Stair;" } : Jvm.MethodName)) ∈ lw_all := lw_g (lw_at lw_m4 220 rfl) rfl
theorem q987 : (Jvm.Cond.privateMethod ({ cls := "StepRiders", name := "asNow", desc := "()LStepRiders$Stair;" } : Jvm.MethodName)) ∈ lw_tbl := lw_at lw_m4 221 rfl
theorem q988 : (Jvm.Cond.instanceMethod ({ cls := "StepRiders", name := "asNow", desc := "()LStepRiders$Stair;" } : Jvm.MethodName)) ∈ lw_all := lw_g (lw_at lw_m4 222 rfl) rfl
theorem q989 : (Jvm.Cond.code ({ cls := "StepRiders", name := "asNow", desc := "()LStepRiders$Stair;" } : Jvm.MethodName) prog_1_method_32_code (1 : Nat) (Option.some (Jvm.ClassFile.FieldType.object "StepRiders$Stair"))) ∈ lw_all := lw_g (lw_at lw_m4 223 rfl) rfl
theorem q990 : (Jvm.Cond.methodLink "StepRiders" (231 : Nat) ({ cls := "StepRiders$Stair", name := "goOn", desc := "(I)LStepRiders$Stair;" } : Jvm.MethodName)) ∈ lw_all := lw_g (lw_at lw_m4 224 rfl) rfl
theorem q996 : (Jvm.Cond.instanceMethod ({ cls := "StepRiders", name := "later", desc := "(II)I" } : Jvm.MethodName)) ∈ lw_all := lw_g (lw_at lw_m4 230 rfl) rfl
theorem q997 : (Jvm.Cond.selects "StepRiders" ({ cls := "StepRiders", name := "later", desc := "(II)I" } : Jvm.MethodName) ({ cls := "StepRiders", name := "later", desc := "(II)I" } : Jvm.MethodName)) ∈ lw_all := lw_g (lw_at lw_m4 231 rfl) rfl
theorem q998 : (Jvm.Cond.code ({ cls := "StepRiders", name := "later", desc := "(II)I" } : Jvm.MethodName) prog_1_method_34_code (6 : Nat) (Option.some Jvm.ClassFile.FieldType.int)) ∈ lw_all := lw_g (lw_at lw_m4 232 rfl) rfl
theorem q1000 : (Jvm.Cond.instanceMethod ({ cls := "StepRiders", name := "off", desc := "(I)I" } : Jvm.MethodName)) ∈ lw_all := lw_g (lw_at lw_m4 234 rfl) rfl
theorem q1001 : (Jvm.Cond.selects "StepRiders" ({ cls := "StepRiders", name := "off", desc := "(I)I" } : Jvm.MethodName) ({ cls := "StepRiders", name := "off", desc := "(I)I" } : Jvm.MethodName)) ∈ lw_all := lw_g (lw_at lw_m4 235 rfl) rfl
theorem q1002 : (Jvm.Cond.code ({ cls := "StepRiders", name := "off", desc := "(I)I" } : Jvm.MethodName) prog_1_method_35_code (3 : Nat) (Option.some Jvm.ClassFile.FieldType.int)) ∈ lw_all := lw_g (lw_at lw_m4 236 rfl) rfl
theorem q1003 : (Jvm.Cond.constant "StepRiders" (234 : Nat) (-1000000 : Int32)) ∈ lw_all := lw_g (lw_at lw_m4 237 rfl) rfl
theorem q1005 : (Jvm.Cond.instanceMethod ({ cls := "StepRiders", name := "clear", desc := "()I" } : Jvm.MethodName)) ∈ lw_all := lw_g (lw_at lw_m4 239 rfl) rfl
theorem q1006 : (Jvm.Cond.selects "StepRiders" ({ cls := "StepRiders", name := "clear", desc := "()I" } : Jvm.MethodName) ({ cls := "StepRiders", name := "clear", desc := "()I" } : Jvm.MethodName)) ∈ lw_all := lw_g (lw_at lw_m5 0 rfl) rfl
theorem q1007 : (Jvm.Cond.code ({ cls := "StepRiders", name := "clear", desc := "()I" } : Jvm.MethodName) prog_1_method_36_code (2 : Nat) (Option.some Jvm.ClassFile.FieldType.int)) ∈ lw_all := lw_g (lw_at lw_m5 1 rfl) rfl
theorem q1008 : (Jvm.Cond.methodLink "StepRiders" (235 : Nat) ({ cls := "StepRiders$Stair", name := "clears", desc := "()I" } : Jvm.MethodName)) ∈ lw_all := lw_g (lw_at lw_m5 2 rfl) rfl
theorem q1014 : (Jvm.Cond.instanceMethod ({ cls := "StepRiders", name := "sorting", desc := "(I)I" } : Jvm.MethodName)) ∈ lw_all := lw_g (lw_at lw_m5 8 rfl) rfl
theorem q1015 : (Jvm.Cond.selects "StepRiders" ({ cls := "StepRiders", name := "sorting", desc := "(I)I" } : Jvm.MethodName) ({ cls := "StepRiders", name := "sorting", desc := "(I)I" } : Jvm.MethodName)) ∈ lw_all := lw_g (lw_at lw_m5 9 rfl) rfl
theorem q1016 : (Jvm.Cond.code ({ cls := "StepRiders", name := "sorting", desc := "(I)I" } : Jvm.MethodName) prog_1_method_37_code (7 : Nat) (Option.some Jvm.ClassFile.FieldType.int)) ∈ lw_all := lw_g (lw_at lw_m5 10 rfl) rfl
theorem q1017 : (Jvm.Cond.methodLink "StepRiders" (238 : Nat) ({ cls := "StepRiders$Stair", name := "those", desc := "(I)I" } : Jvm.MethodName)) ∈ lw_all := lw_g (lw_at lw_m5 11 rfl) rfl
theorem q1018 : (Jvm.Cond.methodLink "StepRiders" (241 : Nat) ({ cls := "StepRiders", name := "has", desc := "(II)Z" } : Jvm.MethodName)) ∈ lw_all := lw_g (lw_at lw_m5 12 rfl) rfl
theorem q1019 : (Jvm.Cond.static ({ cls := "StepRiders", name := "has", desc := "(II)Z" } : Jvm.MethodName)) ∈ lw_all := lw_g (lw_at lw_m5 13 rfl) rfl
theorem q1020 : (Jvm.Cond.code ({ cls := "StepRiders", name := "has", desc := "(II)Z" } : Jvm.MethodName) prog_1_method_2_code (2 : Nat) (Option.some Jvm.ClassFile.FieldType.boolean)) ∈ lw_all := lw_g (lw_at lw_m5 14 rfl) rfl
theorem q1021 : (Jvm.Cond.methodLink "StepRiders" (245 : Nat) ({ cls := "java/lang/Math", name := "min", desc := "(II)I" } : Jvm.MethodName)) ∈ lw_all := lw_g (lw_at lw_m5 15 rfl) rfl
theorem q1023 : (Jvm.Cond.instanceMethod ({ cls := "StepRiders", name := "taken", desc := "(I)I" } : Jvm.MethodName)) ∈ lw_all := lw_g (lw_at lw_m5 17 rfl) rfl
theorem q1024 : (Jvm.Cond.selects "StepRiders" ({ cls := "StepRiders", name := "taken", desc := "(I)I" } : Jvm.MethodName) ({ cls := "StepRiders", name := "taken", desc := "(I)I" } : Jvm.MethodName)) ∈ lw_all := lw_g (lw_at lw_m5 18 rfl) rfl
theorem q1025 : (Jvm.Cond.code ({ cls := "StepRiders", name := "taken", desc := "(I)I" } : Jvm.MethodName) prog_1_method_38_code (6 : Nat) (Option.some Jvm.ClassFile.FieldType.int)) ∈ lw_all := lw_g (lw_at lw_m5 19 rfl) rfl
theorem q1027 : (Jvm.Cond.instanceMethod ({ cls := "StepRiders", name := "pace", desc := "(III)I" } : Jvm.MethodName)) ∈ lw_all := lw_g (lw_at lw_m5 21 rfl) rfl
theorem q1028 : (Jvm.Cond.selects "StepRiders" ({ cls := "StepRiders", name := "pace", desc := "(III)I" } : Jvm.MethodName) ({ cls := "StepRiders", name := "pace", desc := "(III)I" } : Jvm.MethodName)) ∈ lw_all := lw_g (lw_at lw_m5 22 rfl) rfl
theorem q1029 : (Jvm.Cond.code ({ cls := "StepRiders", name := "pace", desc := "(III)I" } : Jvm.MethodName) prog_1_method_40_code (4 : Nat) (Option.some Jvm.ClassFile.FieldType.int)) ∈ lw_all := lw_g (lw_at lw_m5 23 rfl) rfl
theorem q1030 : (Jvm.Cond.constantLong "StepRiders" (257 : Nat) (6 : Int64)) ∈ lw_all := lw_g (lw_at lw_m5 24 rfl) rfl
theorem q1031 : (Jvm.Cond.methodLink "StepRiders" (253 : Nat) ({ cls := "StepRiders", name := "pacesFrom", desc := "(IIII)V" } : Jvm.MethodName)) ∈ lw_all := lw_g (lw_at lw_m5 25 rfl) rfl
theorem q1032 : (Jvm.Cond.privateMethod ({ cls := "StepRiders", name := "pacesFrom", desc := "(IIII)V" } : Jvm.MethodName)) ∈ lw_tbl := lw_at lw_m5 26 rfl
theorem q1033 : (Jvm.Cond.instanceMethod ({ cls := "StepRiders", name := "pacesFrom", desc := "(IIII)V" } : Jvm.MethodName)) ∈ lw_all := lw_g (lw_at lw_m5 27 rfl) rfl
theorem q1034 : (Jvm.Cond.code ({ cls := "StepRiders", name := "pacesFrom", desc := "(IIII)V" } : Jvm.MethodName) prog_1_method_39_code (6 : Nat) (Option.none : Option Jvm.ClassFile.FieldType)) ∈ lw_all := lw_g (lw_at lw_m5 28 rfl) rfl
theorem q1036 : (Jvm.Cond.instanceMethod ({ cls := "StepRiders", name := "fits", desc := "(IIIII)I" } : Jvm.MethodName)) ∈ lw_all := lw_g (lw_at lw_m5 30 rfl) rfl
theorem q1037 : (Jvm.Cond.selects "StepRiders" ({ cls := "StepRiders", name := "fits", desc := "(IIIII)I" } : Jvm.MethodName) ({ cls := "StepRiders", name := "fits", desc := "(IIIII)I" } : Jvm.MethodName)) ∈ lw_all := lw_g (lw_at lw_m5 31 rfl) rfl
theorem q1038 : (Jvm.Cond.codeWith ({ cls := "StepRiders", name := "fits", desc := "(IIIII)I" } : Jvm.MethodName) prog_1_method_44_code (7 : Nat) (Option.some Jvm.ClassFile.FieldType.int) [((44 : Nat), (68 : Nat), (69 : Nat), (113 : Nat)), ((44 : Nat), (68 : Nat), (77 : Nat), (115 : Nat))]) ∈ lw_all := lw_g (lw_at lw_m5 32 rfl) rfl
theorem q1039 : (Jvm.Cond.constantLong "StepRiders" (289 : Nat) (12 : Int64)) ∈ lw_all := lw_g (lw_at lw_m5 33 rfl) rfl
theorem q1040 : (Jvm.Cond.constantLong "StepRiders" (291 : Nat) (3 : Int64)) ∈ lw_all := lw_g (lw_at lw_m5 34 rfl) rfl
theorem q1041 : (Jvm.Cond.methodLink "StepRiders" (293 : Nat) ({ cls := "StepRiders", name := "butBy", desc := "(II)LStepRiders$But;" } : Jvm.MethodName)) ∈ lw_all := lw_g (lw_at lw_m5 35 rfl) rfl
theorem q1042 : (Jvm.Cond.privateMethod ({ cls := "StepRiders", name := "butBy", desc := "(II)LStepRiders$But;" } : Jvm.MethodName)) ∈ lw_tbl := lw_at lw_m5 36 rfl
theorem q1043 : (Jvm.Cond.instanceMethod ({ cls := "StepRiders", name := "butBy", desc := "(II)LStepRiders$But;" } : Jvm.MethodName)) ∈ lw_all := lw_g (lw_at lw_m5 37 rfl) rfl
theorem q1044 : (Jvm.Cond.code ({ cls := "StepRiders", name := "butBy", desc := "(II)LStepRiders$But;" } : Jvm.MethodName) prog_1_method_42_code (3 : Nat) (Option.some (Jvm.ClassFile.FieldType.object "StepRiders$But"))) ∈ lw_all := lw_g (lw_at lw_m5 38 rfl) rfl
theorem q1045 : (Jvm.Cond.classLink "StepRiders" (259 : Nat) "StepRiders$Sorts") ∈ lw_all := lw_g (lw_at lw_m5 39 rfl) rfl
theorem q1047 : (Jvm.Cond.methodLink "StepRiders" (261 : Nat) ({ cls := "StepRiders$Sorts", name := "<init>", desc := "(I)V" } : Jvm.MethodName)) ∈ lw_all := lw_g (lw_at lw_m5 41 rfl) rfl
theorem q1055 : (Jvm.Cond.classLink "StepRiders" (262 : Nat) "StepRiders$Sides") ∈ lw_all := lw_g (lw_at lw_m5 49 rfl) rfl
theorem q1057 : (Jvm.Cond.methodLink "StepRiders" (264 : Nat) ({ cls := "StepRiders$Sides", name := "<init>", desc := "(I)V" } : Jvm.MethodName)) ∈ lw_all := lw_g (lw_at lw_m5 51 rfl) rfl
theorem q1065 : (Jvm.Cond.classLink "StepRiders" (265 : Nat) "StepRiders$Speeds") ∈ lw_all := lw_g (lw_at lw_m5 59 rfl) rfl
theorem q1067 : (Jvm.Cond.methodLinkNest "StepRiders" (267 : Nat) ({ cls := "StepRiders$Speeds", name := "<init>", desc := "()V" } : Jvm.MethodName) "StepRiders") ∈ lw_tbl := lw_at lw_m5 61 rfl
theorem q1072 : (Jvm.Cond.classLink "StepRiders" (268 : Nat) "StepRiders$Starts") ∈ lw_all := lw_g (lw_at lw_m5 66 rfl) rfl
theorem q1074 : (Jvm.Cond.methodLink "StepRiders" (270 : Nat) ({ cls := "StepRiders$Starts", name := "<init>", desc := "(LStepRiders;I)V" } : Jvm.MethodName)) ∈ lw_all := lw_g (lw_at lw_m5 68 rfl) rfl
theorem q1085 : (Jvm.Cond.methodLink "StepRiders" (297 : Nat) ({ cls := "StepRiders", name := "items", desc := "(III)[I" } : Jvm.MethodName)) ∈ lw_all := lw_g (lw_at lw_m5 79 rfl) rfl
theorem q1086 : (Jvm.Cond.privateMethod ({ cls := "StepRiders", name := "items", desc := "(III)[I" } : Jvm.MethodName)) ∈ lw_tbl := lw_at lw_m5 80 rfl
theorem q1087 : (Jvm.Cond.instanceMethod ({ cls := "StepRiders", name := "items", desc := "(III)[I" } : Jvm.MethodName)) ∈ lw_all := lw_g (lw_at lw_m5 81 rfl) rfl
theorem q1088 : (Jvm.Cond.code ({ cls := "StepRiders", name := "items", desc := "(III)[I" } : Jvm.MethodName) prog_1_method_15_code (7 : Nat) (Option.some (Jvm.ClassFile.FieldType.array Jvm.ClassFile.FieldType.int))) ∈ lw_all := lw_g (lw_at lw_m5 82 rfl) rfl
theorem q1089 : (Jvm.Cond.methodLink "StepRiders" (131 : Nat) ({ cls := "java/lang/ArrayIndexOutOfBoundsException", name := "<init>", desc := "()V" } : Jvm.MethodName)) ∈ lw_all := lw_g (lw_at lw_m5 83 rfl) rfl
theorem q1096 : (Jvm.Cond.methodLinkNest "StepRiders" (132 : Nat) ({ cls := "StepRiders$Shelf", name := "at", desc := "(I)I" } : Jvm.MethodName) "StepRiders") ∈ lw_tbl := lw_at lw_m5 90 rfl
theorem q1097 : (Jvm.Cond.methodLink "StepRiders" (301 : Nat) ({ cls := "StepRiders", name := "fitting", desc := "(LStepRiders$But;I[I)I" } : Jvm.MethodName)) ∈ lw_all := lw_g (lw_at lw_m5 91 rfl) rfl
theorem q1098 : (Jvm.Cond.privateMethod ({ cls := "StepRiders", name := "fitting", desc := "(LStepRiders$But;I[I)I" } : Jvm.MethodName)) ∈ lw_tbl := lw_at lw_m5 92 rfl
theorem q1099 : (Jvm.Cond.instanceMethod ({ cls := "StepRiders", name := "fitting", desc := "(LStepRiders$But;I[I)I" } : Jvm.MethodName)) ∈ lw_all := lw_g (lw_at lw_m5 93 rfl) rfl
theorem q1100 : (Jvm.Cond.code ({ cls := "StepRiders", name := "fitting", desc := "(LStepRiders$But;I[I)I" } : Jvm.MethodName) prog_1_method_43_code (6 : Nat) (Option.some Jvm.ClassFile.FieldType.int)) ∈ lw_all := lw_g (lw_at lw_m5 94 rfl) rfl
theorem q1101 : (Jvm.Cond.interfaceEntry "StepRiders" (273 : Nat)) ∈ lw_tbl := lw_at lw_m5 95 rfl
theorem q1102 : (Jvm.Cond.methodLink "StepRiders" (273 : Nat) ({ cls := "StepRiders$But", name := "low", desc := "()I" } : Jvm.MethodName)) ∈ lw_all := lw_g (lw_at lw_m5 96 rfl) rfl
theorem q1121 : (Jvm.Cond.interfaceEntry "StepRiders" (278 : Nat)) ∈ lw_tbl := lw_at lw_m5 115 rfl
theorem q1122 : (Jvm.Cond.methodLink "StepRiders" (278 : Nat) ({ cls := "StepRiders$But", name := "high", desc := "()I" } : Jvm.MethodName)) ∈ lw_all := lw_g (lw_at lw_m5 116 rfl) rfl
theorem q1145 : (Jvm.Cond.interfaceEntry "StepRiders" (281 : Nat)) ∈ lw_tbl := lw_at lw_m5 139 rfl
theorem q1146 : (Jvm.Cond.methodLink "StepRiders" (281 : Nat) ({ cls := "StepRiders$But", name := "lay", desc := "(LStepRiders$Stair;I)Z" } : Jvm.MethodName)) ∈ lw_all := lw_g (lw_at lw_m5 140 rfl) rfl
theorem q1181 : (Jvm.Cond.methodLink "StepRiders" (285 : Nat) ({ cls := "StepRiders", name := "isSo", desc := "(LStepRiders$Stair;I[I)Z" } : Jvm.MethodName)) ∈ lw_all := lw_g (lw_at lw_m5 175 rfl) rfl
theorem q1182 : (Jvm.Cond.static ({ cls := "StepRiders", name := "isSo", desc := "(LStepRiders$Stair;I[I)Z" } : Jvm.MethodName)) ∈ lw_all := lw_g (lw_at lw_m5 176 rfl) rfl
theorem q1183 : (Jvm.Cond.code ({ cls := "StepRiders", name := "isSo", desc := "(LStepRiders$Stair;I[I)Z" } : Jvm.MethodName) prog_1_method_41_code (4 : Nat) (Option.some Jvm.ClassFile.FieldType.boolean)) ∈ lw_all := lw_g (lw_at lw_m5 177 rfl) rfl
theorem q1185 : (Jvm.Cond.instanceMethod ({ cls := "StepRiders", name := "absent", desc := "(IIII)I" } : Jvm.MethodName)) ∈ lw_all := lw_g (lw_at lw_m5 179 rfl) rfl
theorem q1186 : (Jvm.Cond.selects "StepRiders" ({ cls := "StepRiders", name := "absent", desc := "(IIII)I" } : Jvm.MethodName) ({ cls := "StepRiders", name := "absent", desc := "(IIII)I" } : Jvm.MethodName)) ∈ lw_all := lw_g (lw_at lw_m5 180 rfl) rfl
theorem q1187 : (Jvm.Cond.code ({ cls := "StepRiders", name := "absent", desc := "(IIII)I" } : Jvm.MethodName) prog_1_method_46_code (11 : Nat) (Option.some Jvm.ClassFile.FieldType.int)) ∈ lw_all := lw_g (lw_at lw_m5 181 rfl) rfl
theorem q1188 : (Jvm.Cond.constantLong "StepRiders" (305 : Nat) (10 : Int64)) ∈ lw_all := lw_g (lw_at lw_m5 182 rfl) rfl
theorem q1189 : (Jvm.Cond.methodLink "StepRiders" (307 : Nat) ({ cls := "StepRiders", name := "common", desc := "(II)I" } : Jvm.MethodName)) ∈ lw_all := lw_g (lw_at lw_m5 183 rfl) rfl
theorem q1190 : (Jvm.Cond.static ({ cls := "StepRiders", name := "common", desc := "(II)I" } : Jvm.MethodName)) ∈ lw_all := lw_g (lw_at lw_m5 184 rfl) rfl
theorem q1191 : (Jvm.Cond.code ({ cls := "StepRiders", name := "common", desc := "(II)I" } : Jvm.MethodName) prog_1_method_45_code (5 : Nat) (Option.some Jvm.ClassFile.FieldType.int)) ∈ lw_all := lw_g (lw_at lw_m5 185 rfl) rfl
theorem q1193 : (Jvm.Cond.instanceMethod ({ cls := "StepRiders", name := "drawn", desc := "(III)I" } : Jvm.MethodName)) ∈ lw_all := lw_g (lw_at lw_m5 187 rfl) rfl
theorem q1194 : (Jvm.Cond.selects "StepRiders" ({ cls := "StepRiders", name := "drawn", desc := "(III)I" } : Jvm.MethodName) ({ cls := "StepRiders", name := "drawn", desc := "(III)I" } : Jvm.MethodName)) ∈ lw_all := lw_g (lw_at lw_m5 188 rfl) rfl
theorem q1195 : (Jvm.Cond.code ({ cls := "StepRiders", name := "drawn", desc := "(III)I" } : Jvm.MethodName) prog_1_method_47_code (9 : Nat) (Option.some Jvm.ClassFile.FieldType.int)) ∈ lw_all := lw_g (lw_at lw_m5 189 rfl) rfl
theorem q1196 : (Jvm.Cond.constantLong "StepRiders" (310 : Nat) (999999 : Int64)) ∈ lw_all := lw_g (lw_at lw_m5 190 rfl) rfl
theorem q1197 : (Jvm.Cond.constantLong "StepRiders" (315 : Nat) (16807 : Int64)) ∈ lw_all := lw_g (lw_at lw_m5 191 rfl) rfl
theorem q1198 : (Jvm.Cond.constantLong "StepRiders" (317 : Nat) (2147483647 : Int64)) ∈ lw_all := lw_g (lw_at lw_m5 192 rfl) rfl
theorem q1199 : (Jvm.Cond.constantLong "StepRiders" (319 : Nat) (4 : Int64)) ∈ lw_all := lw_g (lw_at lw_m5 193 rfl) rfl
theorem q1201 : (Jvm.Cond.instanceMethod ({ cls := "StepRiders", name := "image", desc := "(I)I" } : Jvm.MethodName)) ∈ lw_all := lw_g (lw_at lw_m5 195 rfl) rfl
theorem q1202 : (Jvm.Cond.selects "StepRiders" ({ cls := "StepRiders", name := "image", desc := "(I)I" } : Jvm.MethodName) ({ cls := "StepRiders", name := "image", desc := "(I)I" } : Jvm.MethodName)) ∈ lw_all := lw_g (lw_at lw_m5 196 rfl) rfl
theorem q1203 : (Jvm.Cond.code ({ cls := "StepRiders", name := "image", desc := "(I)I" } : Jvm.MethodName) prog_1_method_48_code (2 : Nat) (Option.some Jvm.ClassFile.FieldType.int)) ∈ lw_all := lw_g (lw_at lw_m5 197 rfl) rfl
theorem q1205 : (Jvm.Cond.instanceMethod ({ cls := "StepRiders", name := "restore", desc := "(I)I" } : Jvm.MethodName)) ∈ lw_all := lw_g (lw_at lw_m5 199 rfl) rfl
theorem q1206 : (Jvm.Cond.selects "StepRiders" ({ cls := "StepRiders", name := "restore", desc := "(I)I" } : Jvm.MethodName) ({ cls := "StepRiders", name := "restore", desc := "(I)I" } : Jvm.MethodName)) ∈ lw_all := lw_g (lw_at lw_m5 200 rfl) rfl
theorem q1207 : (Jvm.Cond.code ({ cls := "StepRiders", name := "restore", desc := "(I)I" } : Jvm.MethodName) prog_1_method_49_code (2 : Nat) (Option.some Jvm.ClassFile.FieldType.int)) ∈ lw_all := lw_g (lw_at lw_m5 201 rfl) rfl
theorem q1209 : (Jvm.Cond.instanceMethod ({ cls := "StepRiders", name := "kind", desc := "(I)I" } : Jvm.MethodName)) ∈ lw_all := lw_g (lw_at lw_m5 203 rfl) rfl
theorem q1210 : (Jvm.Cond.selects "StepRiders" ({ cls := "StepRiders", name := "kind", desc := "(I)I" } : Jvm.MethodName) ({ cls := "StepRiders", name := "kind", desc := "(I)I" } : Jvm.MethodName)) ∈ lw_all := lw_g (lw_at lw_m5 204 rfl) rfl
theorem q1211 : (Jvm.Cond.code ({ cls := "StepRiders", name := "kind", desc := "(I)I" } : Jvm.MethodName) prog_1_method_50_code (2 : Nat) (Option.some Jvm.ClassFile.FieldType.int)) ∈ lw_all := lw_g (lw_at lw_m5 205 rfl) rfl
theorem q1212 : (Jvm.Cond.interfaceEntry "StepRiders" (325 : Nat)) ∈ lw_tbl := lw_at lw_m5 206 rfl
theorem q1213 : (Jvm.Cond.methodLink "StepRiders" (325 : Nat) ({ cls := "java/util/List", name := "get", desc := "(I)Ljava/lang/Object;" } : Jvm.MethodName)) ∈ lw_all := lw_g (lw_at lw_m5 207 rfl) rfl
theorem q1214 : (Jvm.Cond.classLink "StepRiders" (19 : Nat) "StepRiders$Rider") ∈ lw_all := lw_g (lw_at lw_m5 208 rfl) rfl
theorem q1215 : (Jvm.Cond.methodLink "StepRiders" (331 : Nat) ({ cls := "StepRiders$Rider", name := "kind", desc := "()I" } : Jvm.MethodName)) ∈ lw_all := lw_g (lw_at lw_m5 209 rfl) rfl
theorem q1234 : (Jvm.Cond.instanceMethod ({ cls := "StepRiders", name := "as", desc := "(II)I" } : Jvm.MethodName)) ∈ lw_all := lw_g (lw_at lw_m5 228 rfl) rfl
theorem q1235 : (Jvm.Cond.selects "StepRiders" ({ cls := "StepRiders", name := "as", desc := "(II)I" } : Jvm.MethodName) ({ cls := "StepRiders", name := "as", desc := "(II)I" } : Jvm.MethodName)) ∈ lw_all := lw_g (lw_at lw_m5 229 rfl) rfl
theorem q1236 : (Jvm.Cond.codeWith ({ cls := "StepRiders", name := "as", desc := "(II)I" } : Jvm.MethodName) prog_1_method_51_code (4 : Nat) (Option.some Jvm.ClassFile.FieldType.int) [((23 : Nat), (47 : Nat), (48 : Nat), (342 : Nat))]) ∈ lw_all := lw_g (lw_at lw_m5 230 rfl) rfl
theorem q1237 : (Jvm.Cond.classLink "StepRiders" (342 : Nat) "java/lang/ClassCastException") ∈ lw_all := lw_g (lw_at lw_m5 231 rfl) rfl
theorem q1251 : (Jvm.Cond.constantLong "StepRiders" (333 : Nat) (5 : Int64)) ∈ lw_all := lw_g (lw_at lw_m6 5 rfl) rfl
theorem q1252 : (Jvm.Cond.methodLink "StepRiders" (335 : Nat) ({ cls := "StepRiders", name := "taken", desc := "(Ljava/lang/Object;I)LStepRiders$Rider;" } : Jvm.MethodName)) ∈ lw_all := lw_g (lw_at lw_m6 6 rfl) rfl
theorem q1253 : (Jvm.Cond.static ({ cls := "StepRiders", name := "taken", desc := "(Ljava/lang/Object;I)LStepRiders$Rider;" } : Jvm.MethodName)) ∈ lw_all := lw_g (lw_at lw_m6 7 rfl) rfl
theorem q1254 : (Jvm.Cond.code ({ cls := "StepRiders", name := "taken", desc := "(Ljava/lang/Object;I)LStepRiders$Rider;" } : Jvm.MethodName) prog_1_method_4_code (2 : Nat) (Option.some (Jvm.ClassFile.FieldType.object "StepRiders$Rider"))) ∈ lw_all := lw_g (lw_at lw_m6 8 rfl) rfl
theorem q1255 : (Jvm.Cond.methodLink "StepRiders" (339 : Nat) ({ cls := "StepRiders$Rider", name := "number", desc := "()I" } : Jvm.MethodName)) ∈ lw_all := lw_g (lw_at lw_m6 9 rfl) rfl
theorem q1257 : (Jvm.Cond.instanceMethod ({ cls := "StepRiders", name := "ask", desc := "(II)I" } : Jvm.MethodName)) ∈ lw_all := lw_g (lw_at lw_m6 11 rfl) rfl
theorem q1258 : (Jvm.Cond.selects "StepRiders" ({ cls := "StepRiders", name := "ask", desc := "(II)I" } : Jvm.MethodName) ({ cls := "StepRiders", name := "ask", desc := "(II)I" } : Jvm.MethodName)) ∈ lw_all := lw_g (lw_at lw_m6 12 rfl) rfl
theorem q1259 : (Jvm.Cond.code ({ cls := "StepRiders", name := "ask", desc := "(II)I" } : Jvm.MethodName) prog_1_method_52_code (5 : Nat) (Option.some Jvm.ClassFile.FieldType.int)) ∈ lw_all := lw_g (lw_at lw_m6 13 rfl) rfl
theorem q1260 : (Jvm.Cond.classLink "StepRiders" (344 : Nat) "StepRiders$Has") ∈ lw_all := lw_g (lw_at lw_m6 14 rfl) rfl
theorem q1262 : (Jvm.Cond.methodLink "StepRiders" (346 : Nat) ({ cls := "StepRiders$Has", name := "<init>", desc := "(LStepRiders;I)V" } : Jvm.MethodName)) ∈ lw_all := lw_g (lw_at lw_m6 16 rfl) rfl
theorem q1365 : (Jvm.Cond.instanceMethod ({ cls := "StepRiders", name := "trace", desc := "(I)I" } : Jvm.MethodName)) ∈ lw_all := lw_g (lw_at lw_m6 119 rfl) rfl
theorem q1366 : (Jvm.Cond.selects "StepRiders" ({ cls := "StepRiders", name := "trace", desc := "(I)I" } : Jvm.MethodName) ({ cls := "StepRiders", name := "trace", desc := "(I)I" } : Jvm.MethodName)) ∈ lw_all := lw_g (lw_at lw_m6 120 rfl) rfl
theorem q1367 : (Jvm.Cond.code ({ cls := "StepRiders", name := "trace", desc := "(I)I" } : Jvm.MethodName) prog_1_method_53_code (2 : Nat) (Option.some Jvm.ClassFile.FieldType.int)) ∈ lw_all := lw_g (lw_at lw_m6 121 rfl) rfl
theorem q1369 : (Jvm.Cond.instanceMethod ({ cls := "StepRiders", name := "count", desc := "(I)I" } : Jvm.MethodName)) ∈ lw_all := lw_g (lw_at lw_m6 123 rfl) rfl
theorem q1370 : (Jvm.Cond.selects "StepRiders" ({ cls := "StepRiders", name := "count", desc := "(I)I" } : Jvm.MethodName) ({ cls := "StepRiders", name := "count", desc := "(I)I" } : Jvm.MethodName)) ∈ lw_all := lw_g (lw_at lw_m6 124 rfl) rfl
theorem q1371 : (Jvm.Cond.code ({ cls := "StepRiders", name := "count", desc := "(I)I" } : Jvm.MethodName) prog_1_method_54_code (4 : Nat) (Option.some Jvm.ClassFile.FieldType.int)) ∈ lw_all := lw_g (lw_at lw_m6 125 rfl) rfl
theorem q1372 : (Jvm.Cond.methodLink "StepRiders" (359 : Nat) ({ cls := "java/lang/Integer", name := "bitCount", desc := "(I)I" } : Jvm.MethodName)) ∈ lw_all := lw_g (lw_at lw_m6 126 rfl) rfl
theorem q1374 : (Jvm.Cond.instanceMethod ({ cls := "StepRiders", name := "status", desc := "()I" } : Jvm.MethodName)) ∈ lw_all := lw_g (lw_at lw_m6 128 rfl) rfl
theorem q1375 : (Jvm.Cond.selects "StepRiders" ({ cls := "StepRiders", name := "status", desc := "()I" } : Jvm.MethodName) ({ cls := "StepRiders", name := "status", desc := "()I" } : Jvm.MethodName)) ∈ lw_all := lw_g (lw_at lw_m6 129 rfl) rfl
theorem q1376 : (Jvm.Cond.code ({ cls := "StepRiders", name := "status", desc := "()I" } : Jvm.MethodName) prog_1_method_55_code (1 : Nat) (Option.some Jvm.ClassFile.FieldType.int)) ∈ lw_all := lw_g (lw_at lw_m6 130 rfl) rfl
theorem q1722 : (Jvm.Cond.castable "StepRiders" "java/lang/Object") ∈ lw_tbl := lw_at lw_m7 236 rfl
theorem in_X0 : ∀ w ∈ wsX00, w ∈ lw_all := lw_in wsX00 [223, 225, 227, 229, 231, 233, 235, 237, 239, 241, 243, 245, 247, 249] (by decide +kernel) (by decide +kernel)
