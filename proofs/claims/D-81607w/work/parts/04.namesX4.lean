/-! StepRidersModel -/
set_option maxRecDepth 100000
def RX4 : String := "StepRidersModel"
def TX4 : u_T := fun k => match k with
  | 0 => ("StepRidersModel", "sizes", "[I", true)
  | 1 => ("StepRidersModel", "widths", "[I", true)
  | 2 => ("StepRidersModel", "items", "[I", true)
  | 3 => ("StepRidersModel", "moved", "[I", true)
  | 4 => ("StepRidersModel", "status", "I", false)
  | 5 => ("StepRidersModel", "tape", "[I", true)
  | 6 => ("StepRidersModel", "typed", "I", false)
  | 7 => ("StepRidersModel", "fault", "I", false)
  | 8 => ("StepRidersModel", "s", "[I", true)
  | 9 => ("StepRidersModel", "draft", "[I", true)
  | 10 => ("StepRidersModel", "images", "[I", true)
  | 11 => ("StepRidersModel", "kept", "[Z", true)
  | 12 => ("StepRidersModel", "past", "[I", true)
  | 13 => ("StepRidersModel", "known", "I", false)
  | 14 => ("StepRidersModel", "then", "[I", true)
  | 15 => ("StepRidersModel", "went", "[I", true)
  | 16 => ("StepRidersModel", "traces", "[I", true)
  | 17 => ("StepRidersModel", "traced", "I", false)
  | 18 => ("StepRidersModel", "at", "I", false)
  | _ => ("StepRidersModel", "wrong", "I", false)
def tyX4 : Nat → FieldType := fun k => match k with
  | 0 => .array .int
  | 1 => .array .int
  | 2 => .array .int
  | 3 => .array .int
  | 4 => .int
  | 5 => .array .int
  | 6 => .int
  | 7 => .int
  | 8 => .array .int
  | 9 => .array .int
  | 10 => .array .int
  | 11 => .array .boolean
  | 12 => .array .int
  | 13 => .int
  | 14 => .array .int
  | 15 => .array .int
  | 16 => .array .int
  | 17 => .int
  | 18 => .int
  | _ => .int
abbrev wsX40 : List Cond := u_ws RX4 TX4 20
set_option maxRecDepth 100000 in
theorem nmX4 : ∀ a, a < 20 → ∀ b, b < 20 → a ≠ b → (TX4 a).2.1 ≠ (TX4 b).2.1 := by decide +kernel
set_option maxRecDepth 100000 in
theorem tyX4_ok : ∀ k, k < 20 → parseFieldDescriptor (TX4 k).2.2.1 = some (tyX4 k) := by decide +kernel
abbrev cX4_init : ByteArray := prog_22_method_1_code
def yX4_init : MethodName := ⟨RX4, "<init>", "()V"⟩
def dkwX4_init_5 : List UInt8 := [180, 0, 7, 27, 2, 79, 132, 1, 1, 167, 255, 240, 177]
abbrev dktX4_init_5 : List UInt8 := dkwX4_init_5 ++ []
def dkwX4_init_4 : List UInt8 := [16, 25, 188, 10, 181, 0, 44, 42, 16, 16, 188, 10, 181, 0, 47, 3, 60, 27, 16, 8, 162, 0, 16, 42]
abbrev dktX4_init_4 : List UInt8 := dkwX4_init_4 ++ dktX4_init_5
def dkwX4_init_3 : List UInt8 := [188, 4, 181, 0, 34, 42, 17, 1, 128, 188, 10, 181, 0, 38, 42, 16, 25, 188, 10, 181, 0, 41, 42]
abbrev dktX4_init_3 : List UInt8 := dkwX4_init_3 ++ dktX4_init_4
def dkwX4_init_2 : List UInt8 := [188, 10, 181, 0, 25, 42, 16, 25, 188, 10, 181, 0, 28, 42, 16, 50, 188, 10, 181, 0, 31, 42, 5]
abbrev dktX4_init_2 : List UInt8 := dkwX4_init_2 ++ dktX4_init_3
def dkwX4_init_1 : List UInt8 := [188, 10, 181, 0, 16, 42, 16, 40, 188, 10, 181, 0, 19, 42, 16, 90, 188, 10, 181, 0, 22, 42, 16, 25]
abbrev dktX4_init_1 : List UInt8 := dkwX4_init_1 ++ dktX4_init_2
def dkwX4_init_0 : List UInt8 := [42, 183, 0, 1, 42, 16, 8, 188, 10, 181, 0, 7, 42, 16, 8, 188, 10, 181, 0, 13, 42, 17, 1, 64]
abbrev dktX4_init_0 : List UInt8 := dkwX4_init_0 ++ dktX4_init_1
theorem dksX4_init_0 : cX4_init.data.toList.drop 0 = dktX4_init_0 := by decide +kernel
theorem dksX4_init_1 : cX4_init.data.toList.drop 24 = dktX4_init_1 := dk_seg dksX4_init_0 24 rfl rfl
theorem dksX4_init_2 : cX4_init.data.toList.drop 48 = dktX4_init_2 := dk_seg dksX4_init_1 24 rfl rfl
theorem dksX4_init_3 : cX4_init.data.toList.drop 71 = dktX4_init_3 := dk_seg dksX4_init_2 23 rfl rfl
theorem dksX4_init_4 : cX4_init.data.toList.drop 94 = dktX4_init_4 := dk_seg dksX4_init_3 23 rfl rfl
theorem dksX4_init_5 : cX4_init.data.toList.drop 118 = dktX4_init_5 := dk_seg dksX4_init_4 24 rfl rfl
theorem dX4_init_0 : decode cX4_init 0 = .ok (.aload_n 0, 1) := dk_42 (dk_at dksX4_init_0 0 rfl rfl)
theorem dX4_init_1 : decode cX4_init 1 = .ok (.invokespecial 1, 3) := dk_183 0 1 (dk_at dksX4_init_0 1 rfl rfl)
theorem dX4_init_4 : decode cX4_init 4 = .ok (.aload_n 0, 1) := dk_42 (dk_at dksX4_init_0 4 rfl rfl)
theorem dX4_init_5 : decode cX4_init 5 = .ok (.bipush 8, 2) := dk_16 8 (dk_at dksX4_init_0 5 rfl rfl)
theorem dX4_init_7 : decode cX4_init 7 = .ok (.newarray .int, 2) := dk_188_10 (dk_at dksX4_init_0 7 rfl rfl)
theorem dX4_init_9 : decode cX4_init 9 = .ok (.putfield 7, 3) := dk_181 0 7 (dk_at dksX4_init_0 9 rfl rfl)
theorem dX4_init_12 : decode cX4_init 12 = .ok (.aload_n 0, 1) := dk_42 (dk_at dksX4_init_0 12 rfl rfl)
theorem dX4_init_13 : decode cX4_init 13 = .ok (.bipush 8, 2) := dk_16 8 (dk_at dksX4_init_0 13 rfl rfl)
theorem dX4_init_15 : decode cX4_init 15 = .ok (.newarray .int, 2) := dk_188_10 (dk_at dksX4_init_0 15 rfl rfl)
theorem dX4_init_17 : decode cX4_init 17 = .ok (.putfield 13, 3) := dk_181 0 13 (dk_at dksX4_init_0 17 rfl rfl)
theorem dX4_init_20 : decode cX4_init 20 = .ok (.aload_n 0, 1) := dk_42 (dk_at dksX4_init_0 20 rfl rfl)
theorem dX4_init_21 : decode cX4_init 21 = .ok (.sipush 320, 3) := dk_17 1 64 (dk_at dksX4_init_0 21 rfl rfl)
theorem dX4_init_24 : decode cX4_init 24 = .ok (.newarray .int, 2) := dk_188_10 (dk_at dksX4_init_1 0 rfl rfl)
theorem dX4_init_26 : decode cX4_init 26 = .ok (.putfield 16, 3) := dk_181 0 16 (dk_at dksX4_init_1 2 rfl rfl)
theorem dX4_init_29 : decode cX4_init 29 = .ok (.aload_n 0, 1) := dk_42 (dk_at dksX4_init_1 5 rfl rfl)
theorem dX4_init_30 : decode cX4_init 30 = .ok (.bipush 40, 2) := dk_16 40 (dk_at dksX4_init_1 6 rfl rfl)
theorem dX4_init_32 : decode cX4_init 32 = .ok (.newarray .int, 2) := dk_188_10 (dk_at dksX4_init_1 8 rfl rfl)
theorem dX4_init_34 : decode cX4_init 34 = .ok (.putfield 19, 3) := dk_181 0 19 (dk_at dksX4_init_1 10 rfl rfl)
theorem dX4_init_37 : decode cX4_init 37 = .ok (.aload_n 0, 1) := dk_42 (dk_at dksX4_init_1 13 rfl rfl)
theorem dX4_init_38 : decode cX4_init 38 = .ok (.bipush 90, 2) := dk_16 90 (dk_at dksX4_init_1 14 rfl rfl)
theorem dX4_init_40 : decode cX4_init 40 = .ok (.newarray .int, 2) := dk_188_10 (dk_at dksX4_init_1 16 rfl rfl)
theorem dX4_init_42 : decode cX4_init 42 = .ok (.putfield 22, 3) := dk_181 0 22 (dk_at dksX4_init_1 18 rfl rfl)
theorem dX4_init_45 : decode cX4_init 45 = .ok (.aload_n 0, 1) := dk_42 (dk_at dksX4_init_1 21 rfl rfl)
theorem dX4_init_46 : decode cX4_init 46 = .ok (.bipush 25, 2) := dk_16 25 (dk_at dksX4_init_1 22 rfl rfl)
theorem dX4_init_48 : decode cX4_init 48 = .ok (.newarray .int, 2) := dk_188_10 (dk_at dksX4_init_2 0 rfl rfl)
theorem dX4_init_50 : decode cX4_init 50 = .ok (.putfield 25, 3) := dk_181 0 25 (dk_at dksX4_init_2 2 rfl rfl)
theorem dX4_init_53 : decode cX4_init 53 = .ok (.aload_n 0, 1) := dk_42 (dk_at dksX4_init_2 5 rfl rfl)
theorem dX4_init_54 : decode cX4_init 54 = .ok (.bipush 25, 2) := dk_16 25 (dk_at dksX4_init_2 6 rfl rfl)
theorem dX4_init_56 : decode cX4_init 56 = .ok (.newarray .int, 2) := dk_188_10 (dk_at dksX4_init_2 8 rfl rfl)
theorem dX4_init_58 : decode cX4_init 58 = .ok (.putfield 28, 3) := dk_181 0 28 (dk_at dksX4_init_2 10 rfl rfl)
theorem dX4_init_61 : decode cX4_init 61 = .ok (.aload_n 0, 1) := dk_42 (dk_at dksX4_init_2 13 rfl rfl)
theorem dX4_init_62 : decode cX4_init 62 = .ok (.bipush 50, 2) := dk_16 50 (dk_at dksX4_init_2 14 rfl rfl)
theorem dX4_init_64 : decode cX4_init 64 = .ok (.newarray .int, 2) := dk_188_10 (dk_at dksX4_init_2 16 rfl rfl)
theorem dX4_init_66 : decode cX4_init 66 = .ok (.putfield 31, 3) := dk_181 0 31 (dk_at dksX4_init_2 18 rfl rfl)
theorem dX4_init_69 : decode cX4_init 69 = .ok (.aload_n 0, 1) := dk_42 (dk_at dksX4_init_2 21 rfl rfl)
theorem dX4_init_70 : decode cX4_init 70 = .ok (.iconst 2, 1) := dk_5 (dk_at dksX4_init_2 22 rfl rfl)
theorem dX4_init_71 : decode cX4_init 71 = .ok (.newarray .boolean, 2) := dk_188_4 (dk_at dksX4_init_3 0 rfl rfl)
theorem dX4_init_73 : decode cX4_init 73 = .ok (.putfield 34, 3) := dk_181 0 34 (dk_at dksX4_init_3 2 rfl rfl)
theorem dX4_init_76 : decode cX4_init 76 = .ok (.aload_n 0, 1) := dk_42 (dk_at dksX4_init_3 5 rfl rfl)
theorem dX4_init_77 : decode cX4_init 77 = .ok (.sipush 384, 3) := dk_17 1 128 (dk_at dksX4_init_3 6 rfl rfl)
theorem dX4_init_80 : decode cX4_init 80 = .ok (.newarray .int, 2) := dk_188_10 (dk_at dksX4_init_3 9 rfl rfl)
theorem dX4_init_82 : decode cX4_init 82 = .ok (.putfield 38, 3) := dk_181 0 38 (dk_at dksX4_init_3 11 rfl rfl)
theorem dX4_init_85 : decode cX4_init 85 = .ok (.aload_n 0, 1) := dk_42 (dk_at dksX4_init_3 14 rfl rfl)
theorem dX4_init_86 : decode cX4_init 86 = .ok (.bipush 25, 2) := dk_16 25 (dk_at dksX4_init_3 15 rfl rfl)
theorem dX4_init_88 : decode cX4_init 88 = .ok (.newarray .int, 2) := dk_188_10 (dk_at dksX4_init_3 17 rfl rfl)
theorem dX4_init_90 : decode cX4_init 90 = .ok (.putfield 41, 3) := dk_181 0 41 (dk_at dksX4_init_3 19 rfl rfl)
theorem dX4_init_93 : decode cX4_init 93 = .ok (.aload_n 0, 1) := dk_42 (dk_at dksX4_init_3 22 rfl rfl)
theorem dX4_init_94 : decode cX4_init 94 = .ok (.bipush 25, 2) := dk_16 25 (dk_at dksX4_init_4 0 rfl rfl)
theorem dX4_init_96 : decode cX4_init 96 = .ok (.newarray .int, 2) := dk_188_10 (dk_at dksX4_init_4 2 rfl rfl)
theorem dX4_init_98 : decode cX4_init 98 = .ok (.putfield 44, 3) := dk_181 0 44 (dk_at dksX4_init_4 4 rfl rfl)
theorem dX4_init_101 : decode cX4_init 101 = .ok (.aload_n 0, 1) := dk_42 (dk_at dksX4_init_4 7 rfl rfl)
theorem dX4_init_102 : decode cX4_init 102 = .ok (.bipush 16, 2) := dk_16 16 (dk_at dksX4_init_4 8 rfl rfl)
theorem dX4_init_104 : decode cX4_init 104 = .ok (.newarray .int, 2) := dk_188_10 (dk_at dksX4_init_4 10 rfl rfl)
theorem dX4_init_106 : decode cX4_init 106 = .ok (.putfield 47, 3) := dk_181 0 47 (dk_at dksX4_init_4 12 rfl rfl)
theorem dX4_init_109 : decode cX4_init 109 = .ok (.iconst 0, 1) := dk_3 (dk_at dksX4_init_4 15 rfl rfl)
theorem dX4_init_110 : decode cX4_init 110 = .ok (.istore_n 1, 1) := dk_60 (dk_at dksX4_init_4 16 rfl rfl)
theorem dX4_init_111 : decode cX4_init 111 = .ok (.iload_n 1, 1) := dk_27 (dk_at dksX4_init_4 17 rfl rfl)
theorem dX4_init_112 : decode cX4_init 112 = .ok (.bipush 8, 2) := dk_16 8 (dk_at dksX4_init_4 18 rfl rfl)
theorem dX4_init_114 : decode cX4_init 114 = .ok (.if_icmp .ge 16, 3) := dk_162 0 16 (dk_at dksX4_init_4 20 rfl rfl)
theorem dX4_init_117 : decode cX4_init 117 = .ok (.aload_n 0, 1) := dk_42 (dk_at dksX4_init_4 23 rfl rfl)
theorem dX4_init_118 : decode cX4_init 118 = .ok (.getfield 7, 3) := dk_180 0 7 (dk_at dksX4_init_5 0 rfl rfl)
theorem dX4_init_121 : decode cX4_init 121 = .ok (.iload_n 1, 1) := dk_27 (dk_at dksX4_init_5 3 rfl rfl)
theorem dX4_init_122 : decode cX4_init 122 = .ok (.iconst (-1), 1) := dk_2 (dk_at dksX4_init_5 4 rfl rfl)
theorem dX4_init_123 : decode cX4_init 123 = .ok (.iastore, 1) := dk_79 (dk_at dksX4_init_5 5 rfl rfl)
theorem dX4_init_124 : decode cX4_init 124 = .ok (.iinc 1 1, 3) := dk_132 1 1 (dk_at dksX4_init_5 6 rfl rfl)
theorem dX4_init_127 : decode cX4_init 127 = .ok (.goto (-16), 3) := dk_167 255 240 (dk_at dksX4_init_5 9 rfl rfl)
theorem dX4_init_130 : decode cX4_init 130 = .ok (.return_, 1) := dk_177 (dk_at dksX4_init_5 12 rfl rfl)
abbrev cX4_row : ByteArray := prog_22_method_7_code
def yX4_row : MethodName := ⟨RX4, "row", "(III)I"⟩
def dkwX4_row_3 : List UInt8 := [79, 132, 4, 1, 167, 255, 233, 42, 29, 182, 0, 67, 172]
abbrev dktX4_row_3 : List UInt8 := dkwX4_row_3 ++ []
def dkwX4_row_2 : List UInt8 := [28, 79, 3, 54, 4, 21, 4, 16, 40, 162, 0, 22, 42, 180, 0, 16, 16, 40, 27, 104, 21, 4, 96, 3]
abbrev dktX4_row_2 : List UInt8 := dkwX4_row_2 ++ dktX4_row_3
def dkwX4_row_1 : List UInt8 := [172, 29, 156, 0, 10, 42, 18, 66, 182, 0, 67, 172, 42, 180, 0, 7, 27, 29, 79, 42, 180, 0, 13, 27]
abbrev dktX4_row_1 : List UInt8 := dkwX4_row_1 ++ dktX4_row_2
def dkwX4_row_0 : List UInt8 := [27, 184, 0, 61, 153, 0, 18, 28, 3, 5, 184, 0, 50, 153, 0, 9, 29, 16, 40, 164, 0, 6, 18, 65]
abbrev dktX4_row_0 : List UInt8 := dkwX4_row_0 ++ dktX4_row_1
theorem dksX4_row_0 : cX4_row.data.toList.drop 0 = dktX4_row_0 := by decide +kernel
theorem dksX4_row_1 : cX4_row.data.toList.drop 24 = dktX4_row_1 := dk_seg dksX4_row_0 24 rfl rfl
theorem dksX4_row_2 : cX4_row.data.toList.drop 48 = dktX4_row_2 := dk_seg dksX4_row_1 24 rfl rfl
theorem dksX4_row_3 : cX4_row.data.toList.drop 72 = dktX4_row_3 := dk_seg dksX4_row_2 24 rfl rfl
theorem dX4_row_0 : decode cX4_row 0 = .ok (.iload_n 1, 1) := dk_27 (dk_at dksX4_row_0 0 rfl rfl)
theorem dX4_row_1 : decode cX4_row 1 = .ok (.invokestatic 61, 3) := dk_184 0 61 (dk_at dksX4_row_0 1 rfl rfl)
theorem dX4_row_4 : decode cX4_row 4 = .ok (.ifCond .eq 18, 3) := dk_153 0 18 (dk_at dksX4_row_0 4 rfl rfl)
theorem dX4_row_7 : decode cX4_row 7 = .ok (.iload_n 2, 1) := dk_28 (dk_at dksX4_row_0 7 rfl rfl)
theorem dX4_row_8 : decode cX4_row 8 = .ok (.iconst 0, 1) := dk_3 (dk_at dksX4_row_0 8 rfl rfl)
theorem dX4_row_9 : decode cX4_row 9 = .ok (.iconst 2, 1) := dk_5 (dk_at dksX4_row_0 9 rfl rfl)
theorem dX4_row_10 : decode cX4_row 10 = .ok (.invokestatic 50, 3) := dk_184 0 50 (dk_at dksX4_row_0 10 rfl rfl)
theorem dX4_row_13 : decode cX4_row 13 = .ok (.ifCond .eq 9, 3) := dk_153 0 9 (dk_at dksX4_row_0 13 rfl rfl)
theorem dX4_row_16 : decode cX4_row 16 = .ok (.iload_n 3, 1) := dk_29 (dk_at dksX4_row_0 16 rfl rfl)
theorem dX4_row_17 : decode cX4_row 17 = .ok (.bipush 40, 2) := dk_16 40 (dk_at dksX4_row_0 17 rfl rfl)
theorem dX4_row_19 : decode cX4_row 19 = .ok (.if_icmp .le 6, 3) := dk_164 0 6 (dk_at dksX4_row_0 19 rfl rfl)
theorem dX4_row_22 : decode cX4_row 22 = .ok (.ldc 65, 2) := dk_18 65 (dk_at dksX4_row_0 22 rfl rfl)
theorem dX4_row_24 : decode cX4_row 24 = .ok (.ireturn, 1) := dk_172 (dk_at dksX4_row_1 0 rfl rfl)
theorem dX4_row_25 : decode cX4_row 25 = .ok (.iload_n 3, 1) := dk_29 (dk_at dksX4_row_1 1 rfl rfl)
theorem dX4_row_26 : decode cX4_row 26 = .ok (.ifCond .ge 10, 3) := dk_156 0 10 (dk_at dksX4_row_1 2 rfl rfl)
theorem dX4_row_29 : decode cX4_row 29 = .ok (.aload_n 0, 1) := dk_42 (dk_at dksX4_row_1 5 rfl rfl)
theorem dX4_row_30 : decode cX4_row 30 = .ok (.ldc 66, 2) := dk_18 66 (dk_at dksX4_row_1 6 rfl rfl)
theorem dX4_row_32 : decode cX4_row 32 = .ok (.invokevirtual 67, 3) := dk_182 0 67 (dk_at dksX4_row_1 8 rfl rfl)
theorem dX4_row_35 : decode cX4_row 35 = .ok (.ireturn, 1) := dk_172 (dk_at dksX4_row_1 11 rfl rfl)
theorem dX4_row_36 : decode cX4_row 36 = .ok (.aload_n 0, 1) := dk_42 (dk_at dksX4_row_1 12 rfl rfl)
theorem dX4_row_37 : decode cX4_row 37 = .ok (.getfield 7, 3) := dk_180 0 7 (dk_at dksX4_row_1 13 rfl rfl)
theorem dX4_row_40 : decode cX4_row 40 = .ok (.iload_n 1, 1) := dk_27 (dk_at dksX4_row_1 16 rfl rfl)
theorem dX4_row_41 : decode cX4_row 41 = .ok (.iload_n 3, 1) := dk_29 (dk_at dksX4_row_1 17 rfl rfl)
theorem dX4_row_42 : decode cX4_row 42 = .ok (.iastore, 1) := dk_79 (dk_at dksX4_row_1 18 rfl rfl)
theorem dX4_row_43 : decode cX4_row 43 = .ok (.aload_n 0, 1) := dk_42 (dk_at dksX4_row_1 19 rfl rfl)
theorem dX4_row_44 : decode cX4_row 44 = .ok (.getfield 13, 3) := dk_180 0 13 (dk_at dksX4_row_1 20 rfl rfl)
theorem dX4_row_47 : decode cX4_row 47 = .ok (.iload_n 1, 1) := dk_27 (dk_at dksX4_row_1 23 rfl rfl)
theorem dX4_row_48 : decode cX4_row 48 = .ok (.iload_n 2, 1) := dk_28 (dk_at dksX4_row_2 0 rfl rfl)
theorem dX4_row_49 : decode cX4_row 49 = .ok (.iastore, 1) := dk_79 (dk_at dksX4_row_2 1 rfl rfl)
theorem dX4_row_50 : decode cX4_row 50 = .ok (.iconst 0, 1) := dk_3 (dk_at dksX4_row_2 2 rfl rfl)
theorem dX4_row_51 : decode cX4_row 51 = .ok (.istore 4, 2) := dk_54 4 (dk_at dksX4_row_2 3 rfl rfl)
theorem dX4_row_53 : decode cX4_row 53 = .ok (.iload 4, 2) := dk_21 4 (dk_at dksX4_row_2 5 rfl rfl)
theorem dX4_row_55 : decode cX4_row 55 = .ok (.bipush 40, 2) := dk_16 40 (dk_at dksX4_row_2 7 rfl rfl)
theorem dX4_row_57 : decode cX4_row 57 = .ok (.if_icmp .ge 22, 3) := dk_162 0 22 (dk_at dksX4_row_2 9 rfl rfl)
theorem dX4_row_60 : decode cX4_row 60 = .ok (.aload_n 0, 1) := dk_42 (dk_at dksX4_row_2 12 rfl rfl)
theorem dX4_row_61 : decode cX4_row 61 = .ok (.getfield 16, 3) := dk_180 0 16 (dk_at dksX4_row_2 13 rfl rfl)
theorem dX4_row_64 : decode cX4_row 64 = .ok (.bipush 40, 2) := dk_16 40 (dk_at dksX4_row_2 16 rfl rfl)
theorem dX4_row_66 : decode cX4_row 66 = .ok (.iload_n 1, 1) := dk_27 (dk_at dksX4_row_2 18 rfl rfl)
theorem dX4_row_67 : decode cX4_row 67 = .ok (.imul, 1) := dk_104 (dk_at dksX4_row_2 19 rfl rfl)
theorem dX4_row_68 : decode cX4_row 68 = .ok (.iload 4, 2) := dk_21 4 (dk_at dksX4_row_2 20 rfl rfl)
theorem dX4_row_70 : decode cX4_row 70 = .ok (.iadd, 1) := dk_96 (dk_at dksX4_row_2 22 rfl rfl)
theorem dX4_row_71 : decode cX4_row 71 = .ok (.iconst 0, 1) := dk_3 (dk_at dksX4_row_2 23 rfl rfl)
theorem dX4_row_72 : decode cX4_row 72 = .ok (.iastore, 1) := dk_79 (dk_at dksX4_row_3 0 rfl rfl)
theorem dX4_row_73 : decode cX4_row 73 = .ok (.iinc 4 1, 3) := dk_132 4 1 (dk_at dksX4_row_3 1 rfl rfl)
theorem dX4_row_76 : decode cX4_row 76 = .ok (.goto (-23), 3) := dk_167 255 233 (dk_at dksX4_row_3 4 rfl rfl)
theorem dX4_row_79 : decode cX4_row 79 = .ok (.aload_n 0, 1) := dk_42 (dk_at dksX4_row_3 7 rfl rfl)
theorem dX4_row_80 : decode cX4_row 80 = .ok (.iload_n 3, 1) := dk_29 (dk_at dksX4_row_3 8 rfl rfl)
theorem dX4_row_81 : decode cX4_row 81 = .ok (.invokevirtual 67, 3) := dk_182 0 67 (dk_at dksX4_row_3 9 rfl rfl)
theorem dX4_row_84 : decode cX4_row 84 = .ok (.ireturn, 1) := dk_172 (dk_at dksX4_row_3 12 rfl rfl)
abbrev cX4_isRow : ByteArray := prog_22_method_4_code
def yX4_isRow : MethodName := ⟨RX4, "isRow", "(I)Z"⟩
def dkwX4_isRow_0 : List UInt8 := [26, 3, 16, 7, 184, 0, 50, 172]
abbrev dktX4_isRow_0 : List UInt8 := dkwX4_isRow_0 ++ []
theorem dksX4_isRow_0 : cX4_isRow.data.toList.drop 0 = dktX4_isRow_0 := by decide +kernel
theorem dX4_isRow_0 : decode cX4_isRow 0 = .ok (.iload_n 0, 1) := dk_26 (dk_at dksX4_isRow_0 0 rfl rfl)
theorem dX4_isRow_1 : decode cX4_isRow 1 = .ok (.iconst 0, 1) := dk_3 (dk_at dksX4_isRow_0 1 rfl rfl)
theorem dX4_isRow_2 : decode cX4_isRow 2 = .ok (.bipush 7, 2) := dk_16 7 (dk_at dksX4_isRow_0 2 rfl rfl)
theorem dX4_isRow_4 : decode cX4_isRow 4 = .ok (.invokestatic 50, 3) := dk_184 0 50 (dk_at dksX4_isRow_0 4 rfl rfl)
theorem dX4_isRow_7 : decode cX4_isRow 7 = .ok (.ireturn, 1) := dk_172 (dk_at dksX4_isRow_0 7 rfl rfl)
abbrev cX4_in : ByteArray := prog_22_method_3_code
def yX4_in : MethodName := ⟨RX4, "in", "(III)Z"⟩
def dkwX4_in_0 : List UInt8 := [26, 27, 161, 0, 12, 26, 28, 163, 0, 7, 4, 167, 0, 4, 3, 172]
abbrev dktX4_in_0 : List UInt8 := dkwX4_in_0 ++ []
theorem dksX4_in_0 : cX4_in.data.toList.drop 0 = dktX4_in_0 := by decide +kernel
theorem dX4_in_0 : decode cX4_in 0 = .ok (.iload_n 0, 1) := dk_26 (dk_at dksX4_in_0 0 rfl rfl)
theorem dX4_in_1 : decode cX4_in 1 = .ok (.iload_n 1, 1) := dk_27 (dk_at dksX4_in_0 1 rfl rfl)
theorem dX4_in_2 : decode cX4_in 2 = .ok (.if_icmp .lt 12, 3) := dk_161 0 12 (dk_at dksX4_in_0 2 rfl rfl)
theorem dX4_in_5 : decode cX4_in 5 = .ok (.iload_n 0, 1) := dk_26 (dk_at dksX4_in_0 5 rfl rfl)
theorem dX4_in_6 : decode cX4_in 6 = .ok (.iload_n 2, 1) := dk_28 (dk_at dksX4_in_0 6 rfl rfl)
theorem dX4_in_7 : decode cX4_in 7 = .ok (.if_icmp .gt 7, 3) := dk_163 0 7 (dk_at dksX4_in_0 7 rfl rfl)
theorem dX4_in_10 : decode cX4_in 10 = .ok (.iconst 1, 1) := dk_4 (dk_at dksX4_in_0 10 rfl rfl)
theorem dX4_in_11 : decode cX4_in 11 = .ok (.goto 4, 3) := dk_167 0 4 (dk_at dksX4_in_0 11 rfl rfl)
theorem dX4_in_14 : decode cX4_in 14 = .ok (.iconst 0, 1) := dk_3 (dk_at dksX4_in_0 14 rfl rfl)
theorem dX4_in_15 : decode cX4_in 15 = .ok (.ireturn, 1) := dk_172 (dk_at dksX4_in_0 15 rfl rfl)
abbrev cX4_ends : ByteArray := prog_22_method_5_code
def yX4_ends : MethodName := ⟨RX4, "ends", "(I)I"⟩
def dkwX4_ends_1 : List UInt8 := [172]
abbrev dktX4_ends_1 : List UInt8 := dkwX4_ends_1 ++ []
def dkwX4_ends_0 : List UInt8 := [42, 27, 18, 54, 18, 55, 184, 0, 50, 153, 0, 10, 18, 56, 27, 100, 167, 0, 4, 3, 181, 0, 57, 27]
abbrev dktX4_ends_0 : List UInt8 := dkwX4_ends_0 ++ dktX4_ends_1
theorem dksX4_ends_0 : cX4_ends.data.toList.drop 0 = dktX4_ends_0 := by decide +kernel
theorem dksX4_ends_1 : cX4_ends.data.toList.drop 24 = dktX4_ends_1 := dk_seg dksX4_ends_0 24 rfl rfl
theorem dX4_ends_0 : decode cX4_ends 0 = .ok (.aload_n 0, 1) := dk_42 (dk_at dksX4_ends_0 0 rfl rfl)
theorem dX4_ends_1 : decode cX4_ends 1 = .ok (.iload_n 1, 1) := dk_27 (dk_at dksX4_ends_0 1 rfl rfl)
theorem dX4_ends_2 : decode cX4_ends 2 = .ok (.ldc 54, 2) := dk_18 54 (dk_at dksX4_ends_0 2 rfl rfl)
theorem dX4_ends_4 : decode cX4_ends 4 = .ok (.ldc 55, 2) := dk_18 55 (dk_at dksX4_ends_0 4 rfl rfl)
theorem dX4_ends_6 : decode cX4_ends 6 = .ok (.invokestatic 50, 3) := dk_184 0 50 (dk_at dksX4_ends_0 6 rfl rfl)
theorem dX4_ends_9 : decode cX4_ends 9 = .ok (.ifCond .eq 10, 3) := dk_153 0 10 (dk_at dksX4_ends_0 9 rfl rfl)
theorem dX4_ends_12 : decode cX4_ends 12 = .ok (.ldc 56, 2) := dk_18 56 (dk_at dksX4_ends_0 12 rfl rfl)
theorem dX4_ends_14 : decode cX4_ends 14 = .ok (.iload_n 1, 1) := dk_27 (dk_at dksX4_ends_0 14 rfl rfl)
theorem dX4_ends_15 : decode cX4_ends 15 = .ok (.isub, 1) := dk_100 (dk_at dksX4_ends_0 15 rfl rfl)
theorem dX4_ends_16 : decode cX4_ends 16 = .ok (.goto 4, 3) := dk_167 0 4 (dk_at dksX4_ends_0 16 rfl rfl)
theorem dX4_ends_19 : decode cX4_ends 19 = .ok (.iconst 0, 1) := dk_3 (dk_at dksX4_ends_0 19 rfl rfl)
theorem dX4_ends_20 : decode cX4_ends 20 = .ok (.putfield 57, 3) := dk_181 0 57 (dk_at dksX4_ends_0 20 rfl rfl)
theorem dX4_ends_23 : decode cX4_ends 23 = .ok (.iload_n 1, 1) := dk_27 (dk_at dksX4_ends_0 23 rfl rfl)
theorem dX4_ends_24 : decode cX4_ends 24 = .ok (.ireturn, 1) := dk_172 (dk_at dksX4_ends_1 0 rfl rfl)
abbrev cX4_set : ByteArray := prog_22_method_9_code
def yX4_set : MethodName := ⟨RX4, "set", "(III)I"⟩
def dkwX4_set_3 : List UInt8 := [42, 3, 181, 0, 57, 21, 4, 172]
abbrev dktX4_set_3 : List UInt8 := dkwX4_set_3 ++ []
def dkwX4_set_2 : List UInt8 := [180, 0, 13, 27, 46, 29, 184, 0, 75, 54, 4, 42, 180, 0, 16, 16, 40, 27, 104, 28, 96, 21, 4, 79]
abbrev dktX4_set_2 : List UInt8 := dkwX4_set_2 ++ dktX4_set_3
def dkwX4_set_1 : List UInt8 := [182, 0, 67, 172, 42, 27, 28, 4, 182, 0, 71, 154, 0, 10, 42, 18, 74, 182, 0, 67, 172, 42]
abbrev dktX4_set_1 : List UInt8 := dkwX4_set_1 ++ dktX4_set_2
def dkwX4_set_0 : List UInt8 := [27, 184, 0, 61, 154, 0, 6, 18, 65, 172, 42, 180, 0, 7, 27, 46, 156, 0, 10, 42, 18, 55]
abbrev dktX4_set_0 : List UInt8 := dkwX4_set_0 ++ dktX4_set_1
theorem dksX4_set_0 : cX4_set.data.toList.drop 0 = dktX4_set_0 := by decide +kernel
theorem dksX4_set_1 : cX4_set.data.toList.drop 22 = dktX4_set_1 := dk_seg dksX4_set_0 22 rfl rfl
theorem dksX4_set_2 : cX4_set.data.toList.drop 44 = dktX4_set_2 := dk_seg dksX4_set_1 22 rfl rfl
theorem dksX4_set_3 : cX4_set.data.toList.drop 68 = dktX4_set_3 := dk_seg dksX4_set_2 24 rfl rfl
theorem dX4_set_0 : decode cX4_set 0 = .ok (.iload_n 1, 1) := dk_27 (dk_at dksX4_set_0 0 rfl rfl)
theorem dX4_set_1 : decode cX4_set 1 = .ok (.invokestatic 61, 3) := dk_184 0 61 (dk_at dksX4_set_0 1 rfl rfl)
theorem dX4_set_4 : decode cX4_set 4 = .ok (.ifCond .ne 6, 3) := dk_154 0 6 (dk_at dksX4_set_0 4 rfl rfl)
theorem dX4_set_7 : decode cX4_set 7 = .ok (.ldc 65, 2) := dk_18 65 (dk_at dksX4_set_0 7 rfl rfl)
theorem dX4_set_9 : decode cX4_set 9 = .ok (.ireturn, 1) := dk_172 (dk_at dksX4_set_0 9 rfl rfl)
theorem dX4_set_10 : decode cX4_set 10 = .ok (.aload_n 0, 1) := dk_42 (dk_at dksX4_set_0 10 rfl rfl)
theorem dX4_set_11 : decode cX4_set 11 = .ok (.getfield 7, 3) := dk_180 0 7 (dk_at dksX4_set_0 11 rfl rfl)
theorem dX4_set_14 : decode cX4_set 14 = .ok (.iload_n 1, 1) := dk_27 (dk_at dksX4_set_0 14 rfl rfl)
theorem dX4_set_15 : decode cX4_set 15 = .ok (.iaload, 1) := dk_46 (dk_at dksX4_set_0 15 rfl rfl)
theorem dX4_set_16 : decode cX4_set 16 = .ok (.ifCond .ge 10, 3) := dk_156 0 10 (dk_at dksX4_set_0 16 rfl rfl)
theorem dX4_set_19 : decode cX4_set 19 = .ok (.aload_n 0, 1) := dk_42 (dk_at dksX4_set_0 19 rfl rfl)
theorem dX4_set_20 : decode cX4_set 20 = .ok (.ldc 55, 2) := dk_18 55 (dk_at dksX4_set_0 20 rfl rfl)
theorem dX4_set_22 : decode cX4_set 22 = .ok (.invokevirtual 67, 3) := dk_182 0 67 (dk_at dksX4_set_1 0 rfl rfl)
theorem dX4_set_25 : decode cX4_set 25 = .ok (.ireturn, 1) := dk_172 (dk_at dksX4_set_1 3 rfl rfl)
theorem dX4_set_26 : decode cX4_set 26 = .ok (.aload_n 0, 1) := dk_42 (dk_at dksX4_set_1 4 rfl rfl)
theorem dX4_set_27 : decode cX4_set 27 = .ok (.iload_n 1, 1) := dk_27 (dk_at dksX4_set_1 5 rfl rfl)
theorem dX4_set_28 : decode cX4_set 28 = .ok (.iload_n 2, 1) := dk_28 (dk_at dksX4_set_1 6 rfl rfl)
theorem dX4_set_29 : decode cX4_set 29 = .ok (.iconst 1, 1) := dk_4 (dk_at dksX4_set_1 7 rfl rfl)
theorem dX4_set_30 : decode cX4_set 30 = .ok (.invokevirtual 71, 3) := dk_182 0 71 (dk_at dksX4_set_1 8 rfl rfl)
theorem dX4_set_33 : decode cX4_set 33 = .ok (.ifCond .ne 10, 3) := dk_154 0 10 (dk_at dksX4_set_1 11 rfl rfl)
theorem dX4_set_36 : decode cX4_set 36 = .ok (.aload_n 0, 1) := dk_42 (dk_at dksX4_set_1 14 rfl rfl)
theorem dX4_set_37 : decode cX4_set 37 = .ok (.ldc 74, 2) := dk_18 74 (dk_at dksX4_set_1 15 rfl rfl)
theorem dX4_set_39 : decode cX4_set 39 = .ok (.invokevirtual 67, 3) := dk_182 0 67 (dk_at dksX4_set_1 17 rfl rfl)
theorem dX4_set_42 : decode cX4_set 42 = .ok (.ireturn, 1) := dk_172 (dk_at dksX4_set_1 20 rfl rfl)
theorem dX4_set_43 : decode cX4_set 43 = .ok (.aload_n 0, 1) := dk_42 (dk_at dksX4_set_1 21 rfl rfl)
theorem dX4_set_44 : decode cX4_set 44 = .ok (.getfield 13, 3) := dk_180 0 13 (dk_at dksX4_set_2 0 rfl rfl)
theorem dX4_set_47 : decode cX4_set 47 = .ok (.iload_n 1, 1) := dk_27 (dk_at dksX4_set_2 3 rfl rfl)
theorem dX4_set_48 : decode cX4_set 48 = .ok (.iaload, 1) := dk_46 (dk_at dksX4_set_2 4 rfl rfl)
theorem dX4_set_49 : decode cX4_set 49 = .ok (.iload_n 3, 1) := dk_29 (dk_at dksX4_set_2 5 rfl rfl)
theorem dX4_set_50 : decode cX4_set 50 = .ok (.invokestatic 75, 3) := dk_184 0 75 (dk_at dksX4_set_2 6 rfl rfl)
theorem dX4_set_53 : decode cX4_set 53 = .ok (.istore 4, 2) := dk_54 4 (dk_at dksX4_set_2 9 rfl rfl)
theorem dX4_set_55 : decode cX4_set 55 = .ok (.aload_n 0, 1) := dk_42 (dk_at dksX4_set_2 11 rfl rfl)
theorem dX4_set_56 : decode cX4_set 56 = .ok (.getfield 16, 3) := dk_180 0 16 (dk_at dksX4_set_2 12 rfl rfl)
theorem dX4_set_59 : decode cX4_set 59 = .ok (.bipush 40, 2) := dk_16 40 (dk_at dksX4_set_2 15 rfl rfl)
theorem dX4_set_61 : decode cX4_set 61 = .ok (.iload_n 1, 1) := dk_27 (dk_at dksX4_set_2 17 rfl rfl)
theorem dX4_set_62 : decode cX4_set 62 = .ok (.imul, 1) := dk_104 (dk_at dksX4_set_2 18 rfl rfl)
theorem dX4_set_63 : decode cX4_set 63 = .ok (.iload_n 2, 1) := dk_28 (dk_at dksX4_set_2 19 rfl rfl)
theorem dX4_set_64 : decode cX4_set 64 = .ok (.iadd, 1) := dk_96 (dk_at dksX4_set_2 20 rfl rfl)
theorem dX4_set_65 : decode cX4_set 65 = .ok (.iload 4, 2) := dk_21 4 (dk_at dksX4_set_2 21 rfl rfl)
theorem dX4_set_67 : decode cX4_set 67 = .ok (.iastore, 1) := dk_79 (dk_at dksX4_set_2 23 rfl rfl)
theorem dX4_set_68 : decode cX4_set 68 = .ok (.aload_n 0, 1) := dk_42 (dk_at dksX4_set_3 0 rfl rfl)
theorem dX4_set_69 : decode cX4_set 69 = .ok (.iconst 0, 1) := dk_3 (dk_at dksX4_set_3 1 rfl rfl)
theorem dX4_set_70 : decode cX4_set 70 = .ok (.putfield 57, 3) := dk_181 0 57 (dk_at dksX4_set_3 2 rfl rfl)
theorem dX4_set_73 : decode cX4_set 73 = .ok (.iload 4, 2) := dk_21 4 (dk_at dksX4_set_3 5 rfl rfl)
theorem dX4_set_75 : decode cX4_set 75 = .ok (.ireturn, 1) := dk_172 (dk_at dksX4_set_3 7 rfl rfl)
abbrev cX4_lies : ByteArray := prog_22_method_8_code
def yX4_lies : MethodName := ⟨RX4, "lies", "(III)Z"⟩
def dkwX4_lies_1 : List UInt8 := [46, 29, 100, 163, 0, 7, 4, 167, 0, 4, 3, 172]
abbrev dktX4_lies_1 : List UInt8 := dkwX4_lies_1 ++ []
def dkwX4_lies_0 : List UInt8 := [28, 155, 0, 33, 29, 155, 0, 29, 29, 42, 180, 0, 7, 27, 46, 163, 0, 19, 28, 42, 180, 0, 7, 27]
abbrev dktX4_lies_0 : List UInt8 := dkwX4_lies_0 ++ dktX4_lies_1
theorem dksX4_lies_0 : cX4_lies.data.toList.drop 0 = dktX4_lies_0 := by decide +kernel
theorem dksX4_lies_1 : cX4_lies.data.toList.drop 24 = dktX4_lies_1 := dk_seg dksX4_lies_0 24 rfl rfl
theorem dX4_lies_0 : decode cX4_lies 0 = .ok (.iload_n 2, 1) := dk_28 (dk_at dksX4_lies_0 0 rfl rfl)
theorem dX4_lies_1 : decode cX4_lies 1 = .ok (.ifCond .lt 33, 3) := dk_155 0 33 (dk_at dksX4_lies_0 1 rfl rfl)
theorem dX4_lies_4 : decode cX4_lies 4 = .ok (.iload_n 3, 1) := dk_29 (dk_at dksX4_lies_0 4 rfl rfl)
theorem dX4_lies_5 : decode cX4_lies 5 = .ok (.ifCond .lt 29, 3) := dk_155 0 29 (dk_at dksX4_lies_0 5 rfl rfl)
theorem dX4_lies_8 : decode cX4_lies 8 = .ok (.iload_n 3, 1) := dk_29 (dk_at dksX4_lies_0 8 rfl rfl)
theorem dX4_lies_9 : decode cX4_lies 9 = .ok (.aload_n 0, 1) := dk_42 (dk_at dksX4_lies_0 9 rfl rfl)
theorem dX4_lies_10 : decode cX4_lies 10 = .ok (.getfield 7, 3) := dk_180 0 7 (dk_at dksX4_lies_0 10 rfl rfl)
theorem dX4_lies_13 : decode cX4_lies 13 = .ok (.iload_n 1, 1) := dk_27 (dk_at dksX4_lies_0 13 rfl rfl)
theorem dX4_lies_14 : decode cX4_lies 14 = .ok (.iaload, 1) := dk_46 (dk_at dksX4_lies_0 14 rfl rfl)
theorem dX4_lies_15 : decode cX4_lies 15 = .ok (.if_icmp .gt 19, 3) := dk_163 0 19 (dk_at dksX4_lies_0 15 rfl rfl)
theorem dX4_lies_18 : decode cX4_lies 18 = .ok (.iload_n 2, 1) := dk_28 (dk_at dksX4_lies_0 18 rfl rfl)
theorem dX4_lies_19 : decode cX4_lies 19 = .ok (.aload_n 0, 1) := dk_42 (dk_at dksX4_lies_0 19 rfl rfl)
theorem dX4_lies_20 : decode cX4_lies 20 = .ok (.getfield 7, 3) := dk_180 0 7 (dk_at dksX4_lies_0 20 rfl rfl)
theorem dX4_lies_23 : decode cX4_lies 23 = .ok (.iload_n 1, 1) := dk_27 (dk_at dksX4_lies_0 23 rfl rfl)
theorem dX4_lies_24 : decode cX4_lies 24 = .ok (.iaload, 1) := dk_46 (dk_at dksX4_lies_1 0 rfl rfl)
theorem dX4_lies_25 : decode cX4_lies 25 = .ok (.iload_n 3, 1) := dk_29 (dk_at dksX4_lies_1 1 rfl rfl)
theorem dX4_lies_26 : decode cX4_lies 26 = .ok (.isub, 1) := dk_100 (dk_at dksX4_lies_1 2 rfl rfl)
theorem dX4_lies_27 : decode cX4_lies 27 = .ok (.if_icmp .gt 7, 3) := dk_163 0 7 (dk_at dksX4_lies_1 3 rfl rfl)
theorem dX4_lies_30 : decode cX4_lies 30 = .ok (.iconst 1, 1) := dk_4 (dk_at dksX4_lies_1 6 rfl rfl)
theorem dX4_lies_31 : decode cX4_lies 31 = .ok (.goto 4, 3) := dk_167 0 4 (dk_at dksX4_lies_1 7 rfl rfl)
theorem dX4_lies_34 : decode cX4_lies 34 = .ok (.iconst 0, 1) := dk_3 (dk_at dksX4_lies_1 10 rfl rfl)
theorem dX4_lies_35 : decode cX4_lies 35 = .ok (.ireturn, 1) := dk_172 (dk_at dksX4_lies_1 11 rfl rfl)
abbrev cX4_cut : ByteArray := prog_22_method_6_code
def yX4_cut : MethodName := ⟨RX4, "cut", "(II)I"⟩
def dkwX4_cut_0 : List UInt8 := [26, 154, 0, 8, 27, 145, 167, 0, 14, 26, 4, 160, 0, 8, 27, 147, 167, 0, 4, 27, 172]
abbrev dktX4_cut_0 : List UInt8 := dkwX4_cut_0 ++ []
theorem dksX4_cut_0 : cX4_cut.data.toList.drop 0 = dktX4_cut_0 := by decide +kernel
theorem dX4_cut_0 : decode cX4_cut 0 = .ok (.iload_n 0, 1) := dk_26 (dk_at dksX4_cut_0 0 rfl rfl)
theorem dX4_cut_1 : decode cX4_cut 1 = .ok (.ifCond .ne 8, 3) := dk_154 0 8 (dk_at dksX4_cut_0 1 rfl rfl)
theorem dX4_cut_4 : decode cX4_cut 4 = .ok (.iload_n 1, 1) := dk_27 (dk_at dksX4_cut_0 4 rfl rfl)
theorem dX4_cut_5 : decode cX4_cut 5 = .ok (.i2b, 1) := dk_145 (dk_at dksX4_cut_0 5 rfl rfl)
theorem dX4_cut_6 : decode cX4_cut 6 = .ok (.goto 14, 3) := dk_167 0 14 (dk_at dksX4_cut_0 6 rfl rfl)
theorem dX4_cut_9 : decode cX4_cut 9 = .ok (.iload_n 0, 1) := dk_26 (dk_at dksX4_cut_0 9 rfl rfl)
theorem dX4_cut_10 : decode cX4_cut 10 = .ok (.iconst 1, 1) := dk_4 (dk_at dksX4_cut_0 10 rfl rfl)
theorem dX4_cut_11 : decode cX4_cut 11 = .ok (.if_icmp .ne 8, 3) := dk_160 0 8 (dk_at dksX4_cut_0 11 rfl rfl)
theorem dX4_cut_14 : decode cX4_cut 14 = .ok (.iload_n 1, 1) := dk_27 (dk_at dksX4_cut_0 14 rfl rfl)
theorem dX4_cut_15 : decode cX4_cut 15 = .ok (.i2s, 1) := dk_147 (dk_at dksX4_cut_0 15 rfl rfl)
theorem dX4_cut_16 : decode cX4_cut 16 = .ok (.goto 4, 3) := dk_167 0 4 (dk_at dksX4_cut_0 16 rfl rfl)
theorem dX4_cut_19 : decode cX4_cut 19 = .ok (.iload_n 1, 1) := dk_27 (dk_at dksX4_cut_0 19 rfl rfl)
theorem dX4_cut_20 : decode cX4_cut 20 = .ok (.ireturn, 1) := dk_172 (dk_at dksX4_cut_0 20 rfl rfl)
abbrev cX4_copy : ByteArray := prog_22_method_10_code
def yX4_copy : MethodName := ⟨RX4, "copy", "(IIIII)I"⟩
def dkwX4_copy_7 : List UInt8 := [132, 6, 1, 167, 255, 224, 42, 21, 5, 182, 0, 67, 172]
abbrev dktX4_copy_7 : List UInt8 := dkwX4_copy_7 ++ []
def dkwX4_copy_6 : List UInt8 := [42, 180, 0, 16, 16, 40, 29, 104, 21, 4, 96, 21, 6, 96, 42, 180, 0, 19, 21, 6, 46, 79]
abbrev dktX4_copy_6 : List UInt8 := dkwX4_copy_6 ++ dktX4_copy_7
def dkwX4_copy_5 : List UInt8 := [104, 28, 96, 21, 6, 96, 46, 79, 132, 6, 1, 167, 255, 225, 3, 54, 6, 21, 6, 21, 5, 162, 0, 31]
abbrev dktX4_copy_5 : List UInt8 := dkwX4_copy_5 ++ dktX4_copy_6
def dkwX4_copy_4 : List UInt8 := [172, 3, 54, 6, 21, 6, 21, 5, 162, 0, 30, 42, 180, 0, 19, 21, 6, 42, 180, 0, 16, 16, 40, 27]
abbrev dktX4_copy_4 : List UInt8 := dkwX4_copy_4 ++ dktX4_copy_5
def dkwX4_copy_3 : List UInt8 := [182, 0, 71, 153, 0, 15, 42, 29, 21, 4, 21, 5, 182, 0, 71, 154, 0, 10, 42, 18, 74, 182, 0, 67]
abbrev dktX4_copy_3 : List UInt8 := dkwX4_copy_3 ++ dktX4_copy_4
def dkwX4_copy_2 : List UInt8 := [46, 42, 180, 0, 13, 29, 46, 159, 0, 10, 42, 18, 54, 182, 0, 67, 172, 42, 27, 28, 21, 5]
abbrev dktX4_copy_2 : List UInt8 := dkwX4_copy_2 ++ dktX4_copy_3
def dkwX4_copy_1 : List UInt8 := [155, 0, 12, 42, 180, 0, 7, 29, 46, 156, 0, 10, 42, 18, 55, 182, 0, 67, 172, 42, 180, 0, 13, 27]
abbrev dktX4_copy_1 : List UInt8 := dkwX4_copy_1 ++ dktX4_copy_2
def dkwX4_copy_0 : List UInt8 := [27, 184, 0, 61, 153, 0, 10, 29, 184, 0, 61, 154, 0, 6, 18, 65, 172, 42, 180, 0, 7, 27, 46]
abbrev dktX4_copy_0 : List UInt8 := dkwX4_copy_0 ++ dktX4_copy_1
theorem dksX4_copy_0 : cX4_copy.data.toList.drop 0 = dktX4_copy_0 := by decide +kernel
theorem dksX4_copy_1 : cX4_copy.data.toList.drop 23 = dktX4_copy_1 := dk_seg dksX4_copy_0 23 rfl rfl
theorem dksX4_copy_2 : cX4_copy.data.toList.drop 47 = dktX4_copy_2 := dk_seg dksX4_copy_1 24 rfl rfl
theorem dksX4_copy_3 : cX4_copy.data.toList.drop 69 = dktX4_copy_3 := dk_seg dksX4_copy_2 22 rfl rfl
theorem dksX4_copy_4 : cX4_copy.data.toList.drop 93 = dktX4_copy_4 := dk_seg dksX4_copy_3 24 rfl rfl
theorem dksX4_copy_5 : cX4_copy.data.toList.drop 117 = dktX4_copy_5 := dk_seg dksX4_copy_4 24 rfl rfl
theorem dksX4_copy_6 : cX4_copy.data.toList.drop 141 = dktX4_copy_6 := dk_seg dksX4_copy_5 24 rfl rfl
theorem dksX4_copy_7 : cX4_copy.data.toList.drop 163 = dktX4_copy_7 := dk_seg dksX4_copy_6 22 rfl rfl
theorem dX4_copy_0 : decode cX4_copy 0 = .ok (.iload_n 1, 1) := dk_27 (dk_at dksX4_copy_0 0 rfl rfl)
theorem dX4_copy_1 : decode cX4_copy 1 = .ok (.invokestatic 61, 3) := dk_184 0 61 (dk_at dksX4_copy_0 1 rfl rfl)
theorem dX4_copy_4 : decode cX4_copy 4 = .ok (.ifCond .eq 10, 3) := dk_153 0 10 (dk_at dksX4_copy_0 4 rfl rfl)
theorem dX4_copy_7 : decode cX4_copy 7 = .ok (.iload_n 3, 1) := dk_29 (dk_at dksX4_copy_0 7 rfl rfl)
theorem dX4_copy_8 : decode cX4_copy 8 = .ok (.invokestatic 61, 3) := dk_184 0 61 (dk_at dksX4_copy_0 8 rfl rfl)
theorem dX4_copy_11 : decode cX4_copy 11 = .ok (.ifCond .ne 6, 3) := dk_154 0 6 (dk_at dksX4_copy_0 11 rfl rfl)
theorem dX4_copy_14 : decode cX4_copy 14 = .ok (.ldc 65, 2) := dk_18 65 (dk_at dksX4_copy_0 14 rfl rfl)
theorem dX4_copy_16 : decode cX4_copy 16 = .ok (.ireturn, 1) := dk_172 (dk_at dksX4_copy_0 16 rfl rfl)
theorem dX4_copy_17 : decode cX4_copy 17 = .ok (.aload_n 0, 1) := dk_42 (dk_at dksX4_copy_0 17 rfl rfl)
theorem dX4_copy_18 : decode cX4_copy 18 = .ok (.getfield 7, 3) := dk_180 0 7 (dk_at dksX4_copy_0 18 rfl rfl)
theorem dX4_copy_21 : decode cX4_copy 21 = .ok (.iload_n 1, 1) := dk_27 (dk_at dksX4_copy_0 21 rfl rfl)
theorem dX4_copy_22 : decode cX4_copy 22 = .ok (.iaload, 1) := dk_46 (dk_at dksX4_copy_0 22 rfl rfl)
theorem dX4_copy_23 : decode cX4_copy 23 = .ok (.ifCond .lt 12, 3) := dk_155 0 12 (dk_at dksX4_copy_1 0 rfl rfl)
theorem dX4_copy_26 : decode cX4_copy 26 = .ok (.aload_n 0, 1) := dk_42 (dk_at dksX4_copy_1 3 rfl rfl)
theorem dX4_copy_27 : decode cX4_copy 27 = .ok (.getfield 7, 3) := dk_180 0 7 (dk_at dksX4_copy_1 4 rfl rfl)
theorem dX4_copy_30 : decode cX4_copy 30 = .ok (.iload_n 3, 1) := dk_29 (dk_at dksX4_copy_1 7 rfl rfl)
theorem dX4_copy_31 : decode cX4_copy 31 = .ok (.iaload, 1) := dk_46 (dk_at dksX4_copy_1 8 rfl rfl)
theorem dX4_copy_32 : decode cX4_copy 32 = .ok (.ifCond .ge 10, 3) := dk_156 0 10 (dk_at dksX4_copy_1 9 rfl rfl)
theorem dX4_copy_35 : decode cX4_copy 35 = .ok (.aload_n 0, 1) := dk_42 (dk_at dksX4_copy_1 12 rfl rfl)
theorem dX4_copy_36 : decode cX4_copy 36 = .ok (.ldc 55, 2) := dk_18 55 (dk_at dksX4_copy_1 13 rfl rfl)
theorem dX4_copy_38 : decode cX4_copy 38 = .ok (.invokevirtual 67, 3) := dk_182 0 67 (dk_at dksX4_copy_1 15 rfl rfl)
theorem dX4_copy_41 : decode cX4_copy 41 = .ok (.ireturn, 1) := dk_172 (dk_at dksX4_copy_1 18 rfl rfl)
theorem dX4_copy_42 : decode cX4_copy 42 = .ok (.aload_n 0, 1) := dk_42 (dk_at dksX4_copy_1 19 rfl rfl)
theorem dX4_copy_43 : decode cX4_copy 43 = .ok (.getfield 13, 3) := dk_180 0 13 (dk_at dksX4_copy_1 20 rfl rfl)
theorem dX4_copy_46 : decode cX4_copy 46 = .ok (.iload_n 1, 1) := dk_27 (dk_at dksX4_copy_1 23 rfl rfl)
theorem dX4_copy_47 : decode cX4_copy 47 = .ok (.iaload, 1) := dk_46 (dk_at dksX4_copy_2 0 rfl rfl)
theorem dX4_copy_48 : decode cX4_copy 48 = .ok (.aload_n 0, 1) := dk_42 (dk_at dksX4_copy_2 1 rfl rfl)
theorem dX4_copy_49 : decode cX4_copy 49 = .ok (.getfield 13, 3) := dk_180 0 13 (dk_at dksX4_copy_2 2 rfl rfl)
theorem dX4_copy_52 : decode cX4_copy 52 = .ok (.iload_n 3, 1) := dk_29 (dk_at dksX4_copy_2 5 rfl rfl)
theorem dX4_copy_53 : decode cX4_copy 53 = .ok (.iaload, 1) := dk_46 (dk_at dksX4_copy_2 6 rfl rfl)
theorem dX4_copy_54 : decode cX4_copy 54 = .ok (.if_icmp .eq 10, 3) := dk_159 0 10 (dk_at dksX4_copy_2 7 rfl rfl)
theorem dX4_copy_57 : decode cX4_copy 57 = .ok (.aload_n 0, 1) := dk_42 (dk_at dksX4_copy_2 10 rfl rfl)
theorem dX4_copy_58 : decode cX4_copy 58 = .ok (.ldc 54, 2) := dk_18 54 (dk_at dksX4_copy_2 11 rfl rfl)
theorem dX4_copy_60 : decode cX4_copy 60 = .ok (.invokevirtual 67, 3) := dk_182 0 67 (dk_at dksX4_copy_2 13 rfl rfl)
theorem dX4_copy_63 : decode cX4_copy 63 = .ok (.ireturn, 1) := dk_172 (dk_at dksX4_copy_2 16 rfl rfl)
theorem dX4_copy_64 : decode cX4_copy 64 = .ok (.aload_n 0, 1) := dk_42 (dk_at dksX4_copy_2 17 rfl rfl)
theorem dX4_copy_65 : decode cX4_copy 65 = .ok (.iload_n 1, 1) := dk_27 (dk_at dksX4_copy_2 18 rfl rfl)
theorem dX4_copy_66 : decode cX4_copy 66 = .ok (.iload_n 2, 1) := dk_28 (dk_at dksX4_copy_2 19 rfl rfl)
theorem dX4_copy_67 : decode cX4_copy 67 = .ok (.iload 5, 2) := dk_21 5 (dk_at dksX4_copy_2 20 rfl rfl)
theorem dX4_copy_69 : decode cX4_copy 69 = .ok (.invokevirtual 71, 3) := dk_182 0 71 (dk_at dksX4_copy_3 0 rfl rfl)
theorem dX4_copy_72 : decode cX4_copy 72 = .ok (.ifCond .eq 15, 3) := dk_153 0 15 (dk_at dksX4_copy_3 3 rfl rfl)
theorem dX4_copy_75 : decode cX4_copy 75 = .ok (.aload_n 0, 1) := dk_42 (dk_at dksX4_copy_3 6 rfl rfl)
theorem dX4_copy_76 : decode cX4_copy 76 = .ok (.iload_n 3, 1) := dk_29 (dk_at dksX4_copy_3 7 rfl rfl)
theorem dX4_copy_77 : decode cX4_copy 77 = .ok (.iload 4, 2) := dk_21 4 (dk_at dksX4_copy_3 8 rfl rfl)
theorem dX4_copy_79 : decode cX4_copy 79 = .ok (.iload 5, 2) := dk_21 5 (dk_at dksX4_copy_3 10 rfl rfl)
theorem dX4_copy_81 : decode cX4_copy 81 = .ok (.invokevirtual 71, 3) := dk_182 0 71 (dk_at dksX4_copy_3 12 rfl rfl)
theorem dX4_copy_84 : decode cX4_copy 84 = .ok (.ifCond .ne 10, 3) := dk_154 0 10 (dk_at dksX4_copy_3 15 rfl rfl)
theorem dX4_copy_87 : decode cX4_copy 87 = .ok (.aload_n 0, 1) := dk_42 (dk_at dksX4_copy_3 18 rfl rfl)
theorem dX4_copy_88 : decode cX4_copy 88 = .ok (.ldc 74, 2) := dk_18 74 (dk_at dksX4_copy_3 19 rfl rfl)
theorem dX4_copy_90 : decode cX4_copy 90 = .ok (.invokevirtual 67, 3) := dk_182 0 67 (dk_at dksX4_copy_3 21 rfl rfl)
theorem dX4_copy_93 : decode cX4_copy 93 = .ok (.ireturn, 1) := dk_172 (dk_at dksX4_copy_4 0 rfl rfl)
theorem dX4_copy_94 : decode cX4_copy 94 = .ok (.iconst 0, 1) := dk_3 (dk_at dksX4_copy_4 1 rfl rfl)
theorem dX4_copy_95 : decode cX4_copy 95 = .ok (.istore 6, 2) := dk_54 6 (dk_at dksX4_copy_4 2 rfl rfl)
theorem dX4_copy_97 : decode cX4_copy 97 = .ok (.iload 6, 2) := dk_21 6 (dk_at dksX4_copy_4 4 rfl rfl)
theorem dX4_copy_99 : decode cX4_copy 99 = .ok (.iload 5, 2) := dk_21 5 (dk_at dksX4_copy_4 6 rfl rfl)
theorem dX4_copy_101 : decode cX4_copy 101 = .ok (.if_icmp .ge 30, 3) := dk_162 0 30 (dk_at dksX4_copy_4 8 rfl rfl)
theorem dX4_copy_104 : decode cX4_copy 104 = .ok (.aload_n 0, 1) := dk_42 (dk_at dksX4_copy_4 11 rfl rfl)
theorem dX4_copy_105 : decode cX4_copy 105 = .ok (.getfield 19, 3) := dk_180 0 19 (dk_at dksX4_copy_4 12 rfl rfl)
theorem dX4_copy_108 : decode cX4_copy 108 = .ok (.iload 6, 2) := dk_21 6 (dk_at dksX4_copy_4 15 rfl rfl)
theorem dX4_copy_110 : decode cX4_copy 110 = .ok (.aload_n 0, 1) := dk_42 (dk_at dksX4_copy_4 17 rfl rfl)
theorem dX4_copy_111 : decode cX4_copy 111 = .ok (.getfield 16, 3) := dk_180 0 16 (dk_at dksX4_copy_4 18 rfl rfl)
theorem dX4_copy_114 : decode cX4_copy 114 = .ok (.bipush 40, 2) := dk_16 40 (dk_at dksX4_copy_4 21 rfl rfl)
theorem dX4_copy_116 : decode cX4_copy 116 = .ok (.iload_n 1, 1) := dk_27 (dk_at dksX4_copy_4 23 rfl rfl)
theorem dX4_copy_117 : decode cX4_copy 117 = .ok (.imul, 1) := dk_104 (dk_at dksX4_copy_5 0 rfl rfl)
theorem dX4_copy_118 : decode cX4_copy 118 = .ok (.iload_n 2, 1) := dk_28 (dk_at dksX4_copy_5 1 rfl rfl)
theorem dX4_copy_119 : decode cX4_copy 119 = .ok (.iadd, 1) := dk_96 (dk_at dksX4_copy_5 2 rfl rfl)
theorem dX4_copy_120 : decode cX4_copy 120 = .ok (.iload 6, 2) := dk_21 6 (dk_at dksX4_copy_5 3 rfl rfl)
theorem dX4_copy_122 : decode cX4_copy 122 = .ok (.iadd, 1) := dk_96 (dk_at dksX4_copy_5 5 rfl rfl)
theorem dX4_copy_123 : decode cX4_copy 123 = .ok (.iaload, 1) := dk_46 (dk_at dksX4_copy_5 6 rfl rfl)
theorem dX4_copy_124 : decode cX4_copy 124 = .ok (.iastore, 1) := dk_79 (dk_at dksX4_copy_5 7 rfl rfl)
theorem dX4_copy_125 : decode cX4_copy 125 = .ok (.iinc 6 1, 3) := dk_132 6 1 (dk_at dksX4_copy_5 8 rfl rfl)
theorem dX4_copy_128 : decode cX4_copy 128 = .ok (.goto (-31), 3) := dk_167 255 225 (dk_at dksX4_copy_5 11 rfl rfl)
theorem dX4_copy_131 : decode cX4_copy 131 = .ok (.iconst 0, 1) := dk_3 (dk_at dksX4_copy_5 14 rfl rfl)
theorem dX4_copy_132 : decode cX4_copy 132 = .ok (.istore 6, 2) := dk_54 6 (dk_at dksX4_copy_5 15 rfl rfl)
theorem dX4_copy_134 : decode cX4_copy 134 = .ok (.iload 6, 2) := dk_21 6 (dk_at dksX4_copy_5 17 rfl rfl)
theorem dX4_copy_136 : decode cX4_copy 136 = .ok (.iload 5, 2) := dk_21 5 (dk_at dksX4_copy_5 19 rfl rfl)
theorem dX4_copy_138 : decode cX4_copy 138 = .ok (.if_icmp .ge 31, 3) := dk_162 0 31 (dk_at dksX4_copy_5 21 rfl rfl)
theorem dX4_copy_141 : decode cX4_copy 141 = .ok (.aload_n 0, 1) := dk_42 (dk_at dksX4_copy_6 0 rfl rfl)
theorem dX4_copy_142 : decode cX4_copy 142 = .ok (.getfield 16, 3) := dk_180 0 16 (dk_at dksX4_copy_6 1 rfl rfl)
theorem dX4_copy_145 : decode cX4_copy 145 = .ok (.bipush 40, 2) := dk_16 40 (dk_at dksX4_copy_6 4 rfl rfl)
theorem dX4_copy_147 : decode cX4_copy 147 = .ok (.iload_n 3, 1) := dk_29 (dk_at dksX4_copy_6 6 rfl rfl)
theorem dX4_copy_148 : decode cX4_copy 148 = .ok (.imul, 1) := dk_104 (dk_at dksX4_copy_6 7 rfl rfl)
theorem dX4_copy_149 : decode cX4_copy 149 = .ok (.iload 4, 2) := dk_21 4 (dk_at dksX4_copy_6 8 rfl rfl)
theorem dX4_copy_151 : decode cX4_copy 151 = .ok (.iadd, 1) := dk_96 (dk_at dksX4_copy_6 10 rfl rfl)
theorem dX4_copy_152 : decode cX4_copy 152 = .ok (.iload 6, 2) := dk_21 6 (dk_at dksX4_copy_6 11 rfl rfl)
theorem dX4_copy_154 : decode cX4_copy 154 = .ok (.iadd, 1) := dk_96 (dk_at dksX4_copy_6 13 rfl rfl)
theorem dX4_copy_155 : decode cX4_copy 155 = .ok (.aload_n 0, 1) := dk_42 (dk_at dksX4_copy_6 14 rfl rfl)
theorem dX4_copy_156 : decode cX4_copy 156 = .ok (.getfield 19, 3) := dk_180 0 19 (dk_at dksX4_copy_6 15 rfl rfl)
theorem dX4_copy_159 : decode cX4_copy 159 = .ok (.iload 6, 2) := dk_21 6 (dk_at dksX4_copy_6 18 rfl rfl)
theorem dX4_copy_161 : decode cX4_copy 161 = .ok (.iaload, 1) := dk_46 (dk_at dksX4_copy_6 20 rfl rfl)
theorem dX4_copy_162 : decode cX4_copy 162 = .ok (.iastore, 1) := dk_79 (dk_at dksX4_copy_6 21 rfl rfl)
theorem dX4_copy_163 : decode cX4_copy 163 = .ok (.iinc 6 1, 3) := dk_132 6 1 (dk_at dksX4_copy_7 0 rfl rfl)
theorem dX4_copy_166 : decode cX4_copy 166 = .ok (.goto (-32), 3) := dk_167 255 224 (dk_at dksX4_copy_7 3 rfl rfl)
theorem dX4_copy_169 : decode cX4_copy 169 = .ok (.aload_n 0, 1) := dk_42 (dk_at dksX4_copy_7 6 rfl rfl)
theorem dX4_copy_170 : decode cX4_copy 170 = .ok (.iload 5, 2) := dk_21 5 (dk_at dksX4_copy_7 7 rfl rfl)
theorem dX4_copy_172 : decode cX4_copy 172 = .ok (.invokevirtual 67, 3) := dk_182 0 67 (dk_at dksX4_copy_7 9 rfl rfl)
theorem dX4_copy_175 : decode cX4_copy 175 = .ok (.ireturn, 1) := dk_172 (dk_at dksX4_copy_7 12 rfl rfl)
abbrev cX4_drop : ByteArray := prog_22_method_11_code
def yX4_drop : MethodName := ⟨RX4, "drop", "(I)I"⟩
def dkwX4_drop_1 : List UInt8 := [182, 0, 67, 172, 42, 180, 0, 7, 27, 46, 61, 42, 180, 0, 7, 27, 2, 79, 42, 28, 182, 0, 67, 172]
abbrev dktX4_drop_1 : List UInt8 := dkwX4_drop_1 ++ []
def dkwX4_drop_0 : List UInt8 := [27, 184, 0, 61, 154, 0, 6, 18, 65, 172, 42, 180, 0, 7, 27, 46, 156, 0, 10, 42, 18, 55]
abbrev dktX4_drop_0 : List UInt8 := dkwX4_drop_0 ++ dktX4_drop_1
theorem dksX4_drop_0 : cX4_drop.data.toList.drop 0 = dktX4_drop_0 := by decide +kernel
theorem dksX4_drop_1 : cX4_drop.data.toList.drop 22 = dktX4_drop_1 := dk_seg dksX4_drop_0 22 rfl rfl
theorem dX4_drop_0 : decode cX4_drop 0 = .ok (.iload_n 1, 1) := dk_27 (dk_at dksX4_drop_0 0 rfl rfl)
theorem dX4_drop_1 : decode cX4_drop 1 = .ok (.invokestatic 61, 3) := dk_184 0 61 (dk_at dksX4_drop_0 1 rfl rfl)
theorem dX4_drop_4 : decode cX4_drop 4 = .ok (.ifCond .ne 6, 3) := dk_154 0 6 (dk_at dksX4_drop_0 4 rfl rfl)
theorem dX4_drop_7 : decode cX4_drop 7 = .ok (.ldc 65, 2) := dk_18 65 (dk_at dksX4_drop_0 7 rfl rfl)
theorem dX4_drop_9 : decode cX4_drop 9 = .ok (.ireturn, 1) := dk_172 (dk_at dksX4_drop_0 9 rfl rfl)
theorem dX4_drop_10 : decode cX4_drop 10 = .ok (.aload_n 0, 1) := dk_42 (dk_at dksX4_drop_0 10 rfl rfl)
theorem dX4_drop_11 : decode cX4_drop 11 = .ok (.getfield 7, 3) := dk_180 0 7 (dk_at dksX4_drop_0 11 rfl rfl)
theorem dX4_drop_14 : decode cX4_drop 14 = .ok (.iload_n 1, 1) := dk_27 (dk_at dksX4_drop_0 14 rfl rfl)
theorem dX4_drop_15 : decode cX4_drop 15 = .ok (.iaload, 1) := dk_46 (dk_at dksX4_drop_0 15 rfl rfl)
theorem dX4_drop_16 : decode cX4_drop 16 = .ok (.ifCond .ge 10, 3) := dk_156 0 10 (dk_at dksX4_drop_0 16 rfl rfl)
theorem dX4_drop_19 : decode cX4_drop 19 = .ok (.aload_n 0, 1) := dk_42 (dk_at dksX4_drop_0 19 rfl rfl)
theorem dX4_drop_20 : decode cX4_drop 20 = .ok (.ldc 55, 2) := dk_18 55 (dk_at dksX4_drop_0 20 rfl rfl)
theorem dX4_drop_22 : decode cX4_drop 22 = .ok (.invokevirtual 67, 3) := dk_182 0 67 (dk_at dksX4_drop_1 0 rfl rfl)
theorem dX4_drop_25 : decode cX4_drop 25 = .ok (.ireturn, 1) := dk_172 (dk_at dksX4_drop_1 3 rfl rfl)
theorem dX4_drop_26 : decode cX4_drop 26 = .ok (.aload_n 0, 1) := dk_42 (dk_at dksX4_drop_1 4 rfl rfl)
theorem dX4_drop_27 : decode cX4_drop 27 = .ok (.getfield 7, 3) := dk_180 0 7 (dk_at dksX4_drop_1 5 rfl rfl)
theorem dX4_drop_30 : decode cX4_drop 30 = .ok (.iload_n 1, 1) := dk_27 (dk_at dksX4_drop_1 8 rfl rfl)
theorem dX4_drop_31 : decode cX4_drop 31 = .ok (.iaload, 1) := dk_46 (dk_at dksX4_drop_1 9 rfl rfl)
theorem dX4_drop_32 : decode cX4_drop 32 = .ok (.istore_n 2, 1) := dk_61 (dk_at dksX4_drop_1 10 rfl rfl)
theorem dX4_drop_33 : decode cX4_drop 33 = .ok (.aload_n 0, 1) := dk_42 (dk_at dksX4_drop_1 11 rfl rfl)
theorem dX4_drop_34 : decode cX4_drop 34 = .ok (.getfield 7, 3) := dk_180 0 7 (dk_at dksX4_drop_1 12 rfl rfl)
theorem dX4_drop_37 : decode cX4_drop 37 = .ok (.iload_n 1, 1) := dk_27 (dk_at dksX4_drop_1 15 rfl rfl)
theorem dX4_drop_38 : decode cX4_drop 38 = .ok (.iconst (-1), 1) := dk_2 (dk_at dksX4_drop_1 16 rfl rfl)
theorem dX4_drop_39 : decode cX4_drop 39 = .ok (.iastore, 1) := dk_79 (dk_at dksX4_drop_1 17 rfl rfl)
theorem dX4_drop_40 : decode cX4_drop 40 = .ok (.aload_n 0, 1) := dk_42 (dk_at dksX4_drop_1 18 rfl rfl)
theorem dX4_drop_41 : decode cX4_drop 41 = .ok (.iload_n 2, 1) := dk_28 (dk_at dksX4_drop_1 19 rfl rfl)
theorem dX4_drop_42 : decode cX4_drop 42 = .ok (.invokevirtual 67, 3) := dk_182 0 67 (dk_at dksX4_drop_1 20 rfl rfl)
theorem dX4_drop_45 : decode cX4_drop 45 = .ok (.ireturn, 1) := dk_172 (dk_at dksX4_drop_1 23 rfl rfl)
abbrev cX4_feed : ByteArray := prog_22_method_12_code
def yX4_feed : MethodName := ⟨RX4, "feed", "(I)I"⟩
def dkwX4_feed_2 : List UInt8 := [180, 0, 79, 172]
abbrev dktX4_feed_2 : List UInt8 := dkwX4_feed_2 ++ []
def dkwX4_feed_1 : List UInt8 := [18, 82, 172, 42, 180, 0, 22, 42, 180, 0, 79, 27, 79, 42, 89, 180, 0, 79, 4, 96, 181, 0, 79, 42]
abbrev dktX4_feed_1 : List UInt8 := dkwX4_feed_1 ++ dktX4_feed_2
def dkwX4_feed_0 : List UInt8 := [27, 3, 17, 0, 255, 184, 0, 50, 154, 0, 6, 18, 65, 172, 42, 180, 0, 79, 16, 90, 160, 0, 6]
abbrev dktX4_feed_0 : List UInt8 := dkwX4_feed_0 ++ dktX4_feed_1
theorem dksX4_feed_0 : cX4_feed.data.toList.drop 0 = dktX4_feed_0 := by decide +kernel
theorem dksX4_feed_1 : cX4_feed.data.toList.drop 23 = dktX4_feed_1 := dk_seg dksX4_feed_0 23 rfl rfl
theorem dksX4_feed_2 : cX4_feed.data.toList.drop 47 = dktX4_feed_2 := dk_seg dksX4_feed_1 24 rfl rfl
theorem dX4_feed_0 : decode cX4_feed 0 = .ok (.iload_n 1, 1) := dk_27 (dk_at dksX4_feed_0 0 rfl rfl)
theorem dX4_feed_1 : decode cX4_feed 1 = .ok (.iconst 0, 1) := dk_3 (dk_at dksX4_feed_0 1 rfl rfl)
theorem dX4_feed_2 : decode cX4_feed 2 = .ok (.sipush 255, 3) := dk_17 0 255 (dk_at dksX4_feed_0 2 rfl rfl)
theorem dX4_feed_5 : decode cX4_feed 5 = .ok (.invokestatic 50, 3) := dk_184 0 50 (dk_at dksX4_feed_0 5 rfl rfl)
theorem dX4_feed_8 : decode cX4_feed 8 = .ok (.ifCond .ne 6, 3) := dk_154 0 6 (dk_at dksX4_feed_0 8 rfl rfl)
theorem dX4_feed_11 : decode cX4_feed 11 = .ok (.ldc 65, 2) := dk_18 65 (dk_at dksX4_feed_0 11 rfl rfl)
theorem dX4_feed_13 : decode cX4_feed 13 = .ok (.ireturn, 1) := dk_172 (dk_at dksX4_feed_0 13 rfl rfl)
theorem dX4_feed_14 : decode cX4_feed 14 = .ok (.aload_n 0, 1) := dk_42 (dk_at dksX4_feed_0 14 rfl rfl)
theorem dX4_feed_15 : decode cX4_feed 15 = .ok (.getfield 79, 3) := dk_180 0 79 (dk_at dksX4_feed_0 15 rfl rfl)
theorem dX4_feed_18 : decode cX4_feed 18 = .ok (.bipush 90, 2) := dk_16 90 (dk_at dksX4_feed_0 18 rfl rfl)
theorem dX4_feed_20 : decode cX4_feed 20 = .ok (.if_icmp .ne 6, 3) := dk_160 0 6 (dk_at dksX4_feed_0 20 rfl rfl)
theorem dX4_feed_23 : decode cX4_feed 23 = .ok (.ldc 82, 2) := dk_18 82 (dk_at dksX4_feed_1 0 rfl rfl)
theorem dX4_feed_25 : decode cX4_feed 25 = .ok (.ireturn, 1) := dk_172 (dk_at dksX4_feed_1 2 rfl rfl)
theorem dX4_feed_26 : decode cX4_feed 26 = .ok (.aload_n 0, 1) := dk_42 (dk_at dksX4_feed_1 3 rfl rfl)
theorem dX4_feed_27 : decode cX4_feed 27 = .ok (.getfield 22, 3) := dk_180 0 22 (dk_at dksX4_feed_1 4 rfl rfl)
theorem dX4_feed_30 : decode cX4_feed 30 = .ok (.aload_n 0, 1) := dk_42 (dk_at dksX4_feed_1 7 rfl rfl)
theorem dX4_feed_31 : decode cX4_feed 31 = .ok (.getfield 79, 3) := dk_180 0 79 (dk_at dksX4_feed_1 8 rfl rfl)
theorem dX4_feed_34 : decode cX4_feed 34 = .ok (.iload_n 1, 1) := dk_27 (dk_at dksX4_feed_1 11 rfl rfl)
theorem dX4_feed_35 : decode cX4_feed 35 = .ok (.iastore, 1) := dk_79 (dk_at dksX4_feed_1 12 rfl rfl)
theorem dX4_feed_36 : decode cX4_feed 36 = .ok (.aload_n 0, 1) := dk_42 (dk_at dksX4_feed_1 13 rfl rfl)
theorem dX4_feed_37 : decode cX4_feed 37 = .ok (.dup, 1) := dk_89 (dk_at dksX4_feed_1 14 rfl rfl)
theorem dX4_feed_38 : decode cX4_feed 38 = .ok (.getfield 79, 3) := dk_180 0 79 (dk_at dksX4_feed_1 15 rfl rfl)
theorem dX4_feed_41 : decode cX4_feed 41 = .ok (.iconst 1, 1) := dk_4 (dk_at dksX4_feed_1 18 rfl rfl)
theorem dX4_feed_42 : decode cX4_feed 42 = .ok (.iadd, 1) := dk_96 (dk_at dksX4_feed_1 19 rfl rfl)
theorem dX4_feed_43 : decode cX4_feed 43 = .ok (.putfield 79, 3) := dk_181 0 79 (dk_at dksX4_feed_1 20 rfl rfl)
theorem dX4_feed_46 : decode cX4_feed 46 = .ok (.aload_n 0, 1) := dk_42 (dk_at dksX4_feed_1 23 rfl rfl)
theorem dX4_feed_47 : decode cX4_feed 47 = .ok (.getfield 79, 3) := dk_180 0 79 (dk_at dksX4_feed_2 0 rfl rfl)
theorem dX4_feed_50 : decode cX4_feed 50 = .ok (.ireturn, 1) := dk_172 (dk_at dksX4_feed_2 3 rfl rfl)
abbrev cX4_stair : ByteArray := prog_22_method_20_code
def yX4_stair : MethodName := ⟨RX4, "stair", "()I"⟩
def dkwX4_stair_3 : List UInt8 := [79, 132, 2, 1, 167, 255, 235, 42, 3, 181, 0, 115, 42, 180, 0, 25, 16, 17, 46, 172]
abbrev dktX4_stair_3 : List UInt8 := dkwX4_stair_3 ++ []
def dkwX4_stair_2 : List UInt8 := [180, 0, 86, 100, 172, 3, 61, 28, 16, 25, 162, 0, 21, 42, 180, 0, 25, 28, 42, 180, 0, 28, 28, 46]
abbrev dktX4_stair_2 : List UInt8 := dkwX4_stair_2 ++ dktX4_stair_3
def dkwX4_stair_1 : List UInt8 := [182, 0, 107, 60, 42, 3, 181, 0, 79, 27, 154, 0, 19, 42, 42, 180, 0, 83, 181, 0, 111, 18, 114, 42]
abbrev dktX4_stair_1 : List UInt8 := dkwX4_stair_1 ++ dktX4_stair_2
def dkwX4_stair_0 : List UInt8 := [3, 60, 27, 16, 25, 162, 0, 16, 42, 180, 0, 28, 27, 3, 79, 132, 1, 1, 167, 255, 240, 42]
abbrev dktX4_stair_0 : List UInt8 := dkwX4_stair_0 ++ dktX4_stair_1
theorem dksX4_stair_0 : cX4_stair.data.toList.drop 0 = dktX4_stair_0 := by decide +kernel
theorem dksX4_stair_1 : cX4_stair.data.toList.drop 22 = dktX4_stair_1 := dk_seg dksX4_stair_0 22 rfl rfl
theorem dksX4_stair_2 : cX4_stair.data.toList.drop 46 = dktX4_stair_2 := dk_seg dksX4_stair_1 24 rfl rfl
theorem dksX4_stair_3 : cX4_stair.data.toList.drop 70 = dktX4_stair_3 := dk_seg dksX4_stair_2 24 rfl rfl
theorem dX4_stair_0 : decode cX4_stair 0 = .ok (.iconst 0, 1) := dk_3 (dk_at dksX4_stair_0 0 rfl rfl)
theorem dX4_stair_1 : decode cX4_stair 1 = .ok (.istore_n 1, 1) := dk_60 (dk_at dksX4_stair_0 1 rfl rfl)
theorem dX4_stair_2 : decode cX4_stair 2 = .ok (.iload_n 1, 1) := dk_27 (dk_at dksX4_stair_0 2 rfl rfl)
theorem dX4_stair_3 : decode cX4_stair 3 = .ok (.bipush 25, 2) := dk_16 25 (dk_at dksX4_stair_0 3 rfl rfl)
theorem dX4_stair_5 : decode cX4_stair 5 = .ok (.if_icmp .ge 16, 3) := dk_162 0 16 (dk_at dksX4_stair_0 5 rfl rfl)
theorem dX4_stair_8 : decode cX4_stair 8 = .ok (.aload_n 0, 1) := dk_42 (dk_at dksX4_stair_0 8 rfl rfl)
theorem dX4_stair_9 : decode cX4_stair 9 = .ok (.getfield 28, 3) := dk_180 0 28 (dk_at dksX4_stair_0 9 rfl rfl)
theorem dX4_stair_12 : decode cX4_stair 12 = .ok (.iload_n 1, 1) := dk_27 (dk_at dksX4_stair_0 12 rfl rfl)
theorem dX4_stair_13 : decode cX4_stair 13 = .ok (.iconst 0, 1) := dk_3 (dk_at dksX4_stair_0 13 rfl rfl)
theorem dX4_stair_14 : decode cX4_stair 14 = .ok (.iastore, 1) := dk_79 (dk_at dksX4_stair_0 14 rfl rfl)
theorem dX4_stair_15 : decode cX4_stair 15 = .ok (.iinc 1 1, 3) := dk_132 1 1 (dk_at dksX4_stair_0 15 rfl rfl)
theorem dX4_stair_18 : decode cX4_stair 18 = .ok (.goto (-16), 3) := dk_167 255 240 (dk_at dksX4_stair_0 18 rfl rfl)
theorem dX4_stair_21 : decode cX4_stair 21 = .ok (.aload_n 0, 1) := dk_42 (dk_at dksX4_stair_0 21 rfl rfl)
theorem dX4_stair_22 : decode cX4_stair 22 = .ok (.invokevirtual 107, 3) := dk_182 0 107 (dk_at dksX4_stair_1 0 rfl rfl)
theorem dX4_stair_25 : decode cX4_stair 25 = .ok (.istore_n 1, 1) := dk_60 (dk_at dksX4_stair_1 3 rfl rfl)
theorem dX4_stair_26 : decode cX4_stair 26 = .ok (.aload_n 0, 1) := dk_42 (dk_at dksX4_stair_1 4 rfl rfl)
theorem dX4_stair_27 : decode cX4_stair 27 = .ok (.iconst 0, 1) := dk_3 (dk_at dksX4_stair_1 5 rfl rfl)
theorem dX4_stair_28 : decode cX4_stair 28 = .ok (.putfield 79, 3) := dk_181 0 79 (dk_at dksX4_stair_1 6 rfl rfl)
theorem dX4_stair_31 : decode cX4_stair 31 = .ok (.iload_n 1, 1) := dk_27 (dk_at dksX4_stair_1 9 rfl rfl)
theorem dX4_stair_32 : decode cX4_stair 32 = .ok (.ifCond .ne 19, 3) := dk_154 0 19 (dk_at dksX4_stair_1 10 rfl rfl)
theorem dX4_stair_35 : decode cX4_stair 35 = .ok (.aload_n 0, 1) := dk_42 (dk_at dksX4_stair_1 13 rfl rfl)
theorem dX4_stair_36 : decode cX4_stair 36 = .ok (.aload_n 0, 1) := dk_42 (dk_at dksX4_stair_1 14 rfl rfl)
theorem dX4_stair_37 : decode cX4_stair 37 = .ok (.getfield 83, 3) := dk_180 0 83 (dk_at dksX4_stair_1 15 rfl rfl)
theorem dX4_stair_40 : decode cX4_stair 40 = .ok (.putfield 111, 3) := dk_181 0 111 (dk_at dksX4_stair_1 18 rfl rfl)
theorem dX4_stair_43 : decode cX4_stair 43 = .ok (.ldc 114, 2) := dk_18 114 (dk_at dksX4_stair_1 21 rfl rfl)
theorem dX4_stair_45 : decode cX4_stair 45 = .ok (.aload_n 0, 1) := dk_42 (dk_at dksX4_stair_1 23 rfl rfl)
theorem dX4_stair_46 : decode cX4_stair 46 = .ok (.getfield 86, 3) := dk_180 0 86 (dk_at dksX4_stair_2 0 rfl rfl)
theorem dX4_stair_49 : decode cX4_stair 49 = .ok (.isub, 1) := dk_100 (dk_at dksX4_stair_2 3 rfl rfl)
theorem dX4_stair_50 : decode cX4_stair 50 = .ok (.ireturn, 1) := dk_172 (dk_at dksX4_stair_2 4 rfl rfl)
theorem dX4_stair_51 : decode cX4_stair 51 = .ok (.iconst 0, 1) := dk_3 (dk_at dksX4_stair_2 5 rfl rfl)
theorem dX4_stair_52 : decode cX4_stair 52 = .ok (.istore_n 2, 1) := dk_61 (dk_at dksX4_stair_2 6 rfl rfl)
theorem dX4_stair_53 : decode cX4_stair 53 = .ok (.iload_n 2, 1) := dk_28 (dk_at dksX4_stair_2 7 rfl rfl)
theorem dX4_stair_54 : decode cX4_stair 54 = .ok (.bipush 25, 2) := dk_16 25 (dk_at dksX4_stair_2 8 rfl rfl)
theorem dX4_stair_56 : decode cX4_stair 56 = .ok (.if_icmp .ge 21, 3) := dk_162 0 21 (dk_at dksX4_stair_2 10 rfl rfl)
theorem dX4_stair_59 : decode cX4_stair 59 = .ok (.aload_n 0, 1) := dk_42 (dk_at dksX4_stair_2 13 rfl rfl)
theorem dX4_stair_60 : decode cX4_stair 60 = .ok (.getfield 25, 3) := dk_180 0 25 (dk_at dksX4_stair_2 14 rfl rfl)
theorem dX4_stair_63 : decode cX4_stair 63 = .ok (.iload_n 2, 1) := dk_28 (dk_at dksX4_stair_2 17 rfl rfl)
theorem dX4_stair_64 : decode cX4_stair 64 = .ok (.aload_n 0, 1) := dk_42 (dk_at dksX4_stair_2 18 rfl rfl)
theorem dX4_stair_65 : decode cX4_stair 65 = .ok (.getfield 28, 3) := dk_180 0 28 (dk_at dksX4_stair_2 19 rfl rfl)
theorem dX4_stair_68 : decode cX4_stair 68 = .ok (.iload_n 2, 1) := dk_28 (dk_at dksX4_stair_2 22 rfl rfl)
theorem dX4_stair_69 : decode cX4_stair 69 = .ok (.iaload, 1) := dk_46 (dk_at dksX4_stair_2 23 rfl rfl)
theorem dX4_stair_70 : decode cX4_stair 70 = .ok (.iastore, 1) := dk_79 (dk_at dksX4_stair_3 0 rfl rfl)
theorem dX4_stair_71 : decode cX4_stair 71 = .ok (.iinc 2 1, 3) := dk_132 2 1 (dk_at dksX4_stair_3 1 rfl rfl)
theorem dX4_stair_74 : decode cX4_stair 74 = .ok (.goto (-21), 3) := dk_167 255 235 (dk_at dksX4_stair_3 4 rfl rfl)
theorem dX4_stair_77 : decode cX4_stair 77 = .ok (.aload_n 0, 1) := dk_42 (dk_at dksX4_stair_3 7 rfl rfl)
theorem dX4_stair_78 : decode cX4_stair 78 = .ok (.iconst 0, 1) := dk_3 (dk_at dksX4_stair_3 8 rfl rfl)
theorem dX4_stair_79 : decode cX4_stair 79 = .ok (.putfield 115, 3) := dk_181 0 115 (dk_at dksX4_stair_3 9 rfl rfl)
theorem dX4_stair_82 : decode cX4_stair 82 = .ok (.aload_n 0, 1) := dk_42 (dk_at dksX4_stair_3 12 rfl rfl)
theorem dX4_stair_83 : decode cX4_stair 83 = .ok (.getfield 25, 3) := dk_180 0 25 (dk_at dksX4_stair_3 13 rfl rfl)
theorem dX4_stair_86 : decode cX4_stair 86 = .ok (.bipush 17, 2) := dk_16 17 (dk_at dksX4_stair_3 16 rfl rfl)
theorem dX4_stair_88 : decode cX4_stair 88 = .ok (.iaload, 1) := dk_46 (dk_at dksX4_stair_3 18 rfl rfl)
theorem dX4_stair_89 : decode cX4_stair 89 = .ok (.ireturn, 1) := dk_172 (dk_at dksX4_stair_3 19 rfl rfl)
abbrev cX4_reads : ByteArray := prog_22_method_19_code
def yX4_reads : MethodName := ⟨RX4, "reads", "()Z"⟩
def dkwX4_reads_8 : List UInt8 := [4, 172]
abbrev dktX4_reads_8 : List UInt8 := dkwX4_reads_8 ++ []
def dkwX4_reads_7 : List UInt8 := [16, 59, 182, 0, 98, 154, 0, 5, 3, 172, 42, 180, 0, 28, 16, 17, 92, 46, 4, 96, 79, 167, 255, 129]
abbrev dktX4_reads_7 : List UInt8 := dkwX4_reads_7 ++ dktX4_reads_8
def dkwX4_reads_6 : List UInt8 := [79, 42, 180, 0, 28, 5, 28, 96, 2, 79, 42, 16, 9, 28, 96, 3, 4, 182, 0, 101, 153, 0, 12, 42]
abbrev dktX4_reads_6 : List UInt8 := dkwX4_reads_6 ++ dktX4_reads_7
def dkwX4_reads_5 : List UInt8 := [6, 182, 0, 92, 172, 42, 89, 180, 0, 86, 4, 96, 181, 0, 86, 42, 180, 0, 28, 16, 18, 28, 96, 27]
abbrev dktX4_reads_5 : List UInt8 := dkwX4_reads_5 ++ dktX4_reads_6
def dkwX4_reads_4 : List UInt8 := [154, 0, 9, 42, 4, 182, 0, 92, 172, 42, 180, 0, 28, 16, 17, 46, 61, 28, 16, 7, 160, 0, 9, 42]
abbrev dktX4_reads_4 : List UInt8 := dkwX4_reads_4 ++ dktX4_reads_5
def dkwX4_reads_3 : List UInt8 := [180, 0, 28, 16, 17, 46, 154, 0, 112, 42, 42, 180, 0, 86, 182, 0, 89, 184, 0, 104, 60, 27]
abbrev dktX4_reads_3 : List UInt8 := dkwX4_reads_3 ++ dktX4_reads_4
def dkwX4_reads_2 : List UInt8 := [16, 59, 182, 0, 98, 154, 0, 5, 3, 172, 42, 180, 0, 86, 42, 180, 0, 79, 161, 0, 13, 42]
abbrev dktX4_reads_2 : List UInt8 := dkwX4_reads_2 ++ dktX4_reads_3
def dkwX4_reads_1 : List UInt8 := [153, 0, 31, 42, 16, 44, 182, 0, 98, 153, 0, 22, 42, 4, 3, 5, 182, 0, 101, 153, 0, 12, 42]
abbrev dktX4_reads_1 : List UInt8 := dkwX4_reads_1 ++ dktX4_reads_2
def dkwX4_reads_0 : List UInt8 := [42, 3, 181, 0, 86, 42, 16, 109, 182, 0, 98, 153, 0, 43, 42, 16, 16, 7, 16, 12, 182, 0, 101]
abbrev dktX4_reads_0 : List UInt8 := dkwX4_reads_0 ++ dktX4_reads_1
theorem dksX4_reads_0 : cX4_reads.data.toList.drop 0 = dktX4_reads_0 := by decide +kernel
theorem dksX4_reads_1 : cX4_reads.data.toList.drop 23 = dktX4_reads_1 := dk_seg dksX4_reads_0 23 rfl rfl
theorem dksX4_reads_2 : cX4_reads.data.toList.drop 46 = dktX4_reads_2 := dk_seg dksX4_reads_1 23 rfl rfl
theorem dksX4_reads_3 : cX4_reads.data.toList.drop 68 = dktX4_reads_3 := dk_seg dksX4_reads_2 22 rfl rfl
theorem dksX4_reads_4 : cX4_reads.data.toList.drop 90 = dktX4_reads_4 := dk_seg dksX4_reads_3 22 rfl rfl
theorem dksX4_reads_5 : cX4_reads.data.toList.drop 114 = dktX4_reads_5 := dk_seg dksX4_reads_4 24 rfl rfl
theorem dksX4_reads_6 : cX4_reads.data.toList.drop 138 = dktX4_reads_6 := dk_seg dksX4_reads_5 24 rfl rfl
theorem dksX4_reads_7 : cX4_reads.data.toList.drop 162 = dktX4_reads_7 := dk_seg dksX4_reads_6 24 rfl rfl
theorem dksX4_reads_8 : cX4_reads.data.toList.drop 186 = dktX4_reads_8 := dk_seg dksX4_reads_7 24 rfl rfl
theorem dX4_reads_0 : decode cX4_reads 0 = .ok (.aload_n 0, 1) := dk_42 (dk_at dksX4_reads_0 0 rfl rfl)
theorem dX4_reads_1 : decode cX4_reads 1 = .ok (.iconst 0, 1) := dk_3 (dk_at dksX4_reads_0 1 rfl rfl)
theorem dX4_reads_2 : decode cX4_reads 2 = .ok (.putfield 86, 3) := dk_181 0 86 (dk_at dksX4_reads_0 2 rfl rfl)
theorem dX4_reads_5 : decode cX4_reads 5 = .ok (.aload_n 0, 1) := dk_42 (dk_at dksX4_reads_0 5 rfl rfl)
theorem dX4_reads_6 : decode cX4_reads 6 = .ok (.bipush 109, 2) := dk_16 109 (dk_at dksX4_reads_0 6 rfl rfl)
theorem dX4_reads_8 : decode cX4_reads 8 = .ok (.invokevirtual 98, 3) := dk_182 0 98 (dk_at dksX4_reads_0 8 rfl rfl)
theorem dX4_reads_11 : decode cX4_reads 11 = .ok (.ifCond .eq 43, 3) := dk_153 0 43 (dk_at dksX4_reads_0 11 rfl rfl)
theorem dX4_reads_14 : decode cX4_reads 14 = .ok (.aload_n 0, 1) := dk_42 (dk_at dksX4_reads_0 14 rfl rfl)
theorem dX4_reads_15 : decode cX4_reads 15 = .ok (.bipush 16, 2) := dk_16 16 (dk_at dksX4_reads_0 15 rfl rfl)
theorem dX4_reads_17 : decode cX4_reads 17 = .ok (.iconst 4, 1) := dk_7 (dk_at dksX4_reads_0 17 rfl rfl)
theorem dX4_reads_18 : decode cX4_reads 18 = .ok (.bipush 12, 2) := dk_16 12 (dk_at dksX4_reads_0 18 rfl rfl)
theorem dX4_reads_20 : decode cX4_reads 20 = .ok (.invokevirtual 101, 3) := dk_182 0 101 (dk_at dksX4_reads_0 20 rfl rfl)
theorem dX4_reads_23 : decode cX4_reads 23 = .ok (.ifCond .eq 31, 3) := dk_153 0 31 (dk_at dksX4_reads_1 0 rfl rfl)
theorem dX4_reads_26 : decode cX4_reads 26 = .ok (.aload_n 0, 1) := dk_42 (dk_at dksX4_reads_1 3 rfl rfl)
theorem dX4_reads_27 : decode cX4_reads 27 = .ok (.bipush 44, 2) := dk_16 44 (dk_at dksX4_reads_1 4 rfl rfl)
theorem dX4_reads_29 : decode cX4_reads 29 = .ok (.invokevirtual 98, 3) := dk_182 0 98 (dk_at dksX4_reads_1 6 rfl rfl)
theorem dX4_reads_32 : decode cX4_reads 32 = .ok (.ifCond .eq 22, 3) := dk_153 0 22 (dk_at dksX4_reads_1 9 rfl rfl)
theorem dX4_reads_35 : decode cX4_reads 35 = .ok (.aload_n 0, 1) := dk_42 (dk_at dksX4_reads_1 12 rfl rfl)
theorem dX4_reads_36 : decode cX4_reads 36 = .ok (.iconst 1, 1) := dk_4 (dk_at dksX4_reads_1 13 rfl rfl)
theorem dX4_reads_37 : decode cX4_reads 37 = .ok (.iconst 0, 1) := dk_3 (dk_at dksX4_reads_1 14 rfl rfl)
theorem dX4_reads_38 : decode cX4_reads 38 = .ok (.iconst 2, 1) := dk_5 (dk_at dksX4_reads_1 15 rfl rfl)
theorem dX4_reads_39 : decode cX4_reads 39 = .ok (.invokevirtual 101, 3) := dk_182 0 101 (dk_at dksX4_reads_1 16 rfl rfl)
theorem dX4_reads_42 : decode cX4_reads 42 = .ok (.ifCond .eq 12, 3) := dk_153 0 12 (dk_at dksX4_reads_1 19 rfl rfl)
theorem dX4_reads_45 : decode cX4_reads 45 = .ok (.aload_n 0, 1) := dk_42 (dk_at dksX4_reads_1 22 rfl rfl)
theorem dX4_reads_46 : decode cX4_reads 46 = .ok (.bipush 59, 2) := dk_16 59 (dk_at dksX4_reads_2 0 rfl rfl)
theorem dX4_reads_48 : decode cX4_reads 48 = .ok (.invokevirtual 98, 3) := dk_182 0 98 (dk_at dksX4_reads_2 2 rfl rfl)
theorem dX4_reads_51 : decode cX4_reads 51 = .ok (.ifCond .ne 5, 3) := dk_154 0 5 (dk_at dksX4_reads_2 5 rfl rfl)
theorem dX4_reads_54 : decode cX4_reads 54 = .ok (.iconst 0, 1) := dk_3 (dk_at dksX4_reads_2 8 rfl rfl)
theorem dX4_reads_55 : decode cX4_reads 55 = .ok (.ireturn, 1) := dk_172 (dk_at dksX4_reads_2 9 rfl rfl)
theorem dX4_reads_56 : decode cX4_reads 56 = .ok (.aload_n 0, 1) := dk_42 (dk_at dksX4_reads_2 10 rfl rfl)
theorem dX4_reads_57 : decode cX4_reads 57 = .ok (.getfield 86, 3) := dk_180 0 86 (dk_at dksX4_reads_2 11 rfl rfl)
theorem dX4_reads_60 : decode cX4_reads 60 = .ok (.aload_n 0, 1) := dk_42 (dk_at dksX4_reads_2 14 rfl rfl)
theorem dX4_reads_61 : decode cX4_reads 61 = .ok (.getfield 79, 3) := dk_180 0 79 (dk_at dksX4_reads_2 15 rfl rfl)
theorem dX4_reads_64 : decode cX4_reads 64 = .ok (.if_icmp .lt 13, 3) := dk_161 0 13 (dk_at dksX4_reads_2 18 rfl rfl)
theorem dX4_reads_67 : decode cX4_reads 67 = .ok (.aload_n 0, 1) := dk_42 (dk_at dksX4_reads_2 21 rfl rfl)
theorem dX4_reads_68 : decode cX4_reads 68 = .ok (.getfield 28, 3) := dk_180 0 28 (dk_at dksX4_reads_3 0 rfl rfl)
theorem dX4_reads_71 : decode cX4_reads 71 = .ok (.bipush 17, 2) := dk_16 17 (dk_at dksX4_reads_3 3 rfl rfl)
theorem dX4_reads_73 : decode cX4_reads 73 = .ok (.iaload, 1) := dk_46 (dk_at dksX4_reads_3 5 rfl rfl)
theorem dX4_reads_74 : decode cX4_reads 74 = .ok (.ifCond .ne 112, 3) := dk_154 0 112 (dk_at dksX4_reads_3 6 rfl rfl)
theorem dX4_reads_77 : decode cX4_reads 77 = .ok (.aload_n 0, 1) := dk_42 (dk_at dksX4_reads_3 9 rfl rfl)
theorem dX4_reads_78 : decode cX4_reads 78 = .ok (.aload_n 0, 1) := dk_42 (dk_at dksX4_reads_3 10 rfl rfl)
theorem dX4_reads_79 : decode cX4_reads 79 = .ok (.getfield 86, 3) := dk_180 0 86 (dk_at dksX4_reads_3 11 rfl rfl)
theorem dX4_reads_82 : decode cX4_reads 82 = .ok (.invokevirtual 89, 3) := dk_182 0 89 (dk_at dksX4_reads_3 14 rfl rfl)
theorem dX4_reads_85 : decode cX4_reads 85 = .ok (.invokestatic 104, 3) := dk_184 0 104 (dk_at dksX4_reads_3 17 rfl rfl)
theorem dX4_reads_88 : decode cX4_reads 88 = .ok (.istore_n 1, 1) := dk_60 (dk_at dksX4_reads_3 20 rfl rfl)
theorem dX4_reads_89 : decode cX4_reads 89 = .ok (.iload_n 1, 1) := dk_27 (dk_at dksX4_reads_3 21 rfl rfl)
theorem dX4_reads_90 : decode cX4_reads 90 = .ok (.ifCond .ne 9, 3) := dk_154 0 9 (dk_at dksX4_reads_4 0 rfl rfl)
theorem dX4_reads_93 : decode cX4_reads 93 = .ok (.aload_n 0, 1) := dk_42 (dk_at dksX4_reads_4 3 rfl rfl)
theorem dX4_reads_94 : decode cX4_reads 94 = .ok (.iconst 1, 1) := dk_4 (dk_at dksX4_reads_4 4 rfl rfl)
theorem dX4_reads_95 : decode cX4_reads 95 = .ok (.invokevirtual 92, 3) := dk_182 0 92 (dk_at dksX4_reads_4 5 rfl rfl)
theorem dX4_reads_98 : decode cX4_reads 98 = .ok (.ireturn, 1) := dk_172 (dk_at dksX4_reads_4 8 rfl rfl)
theorem dX4_reads_99 : decode cX4_reads 99 = .ok (.aload_n 0, 1) := dk_42 (dk_at dksX4_reads_4 9 rfl rfl)
theorem dX4_reads_100 : decode cX4_reads 100 = .ok (.getfield 28, 3) := dk_180 0 28 (dk_at dksX4_reads_4 10 rfl rfl)
theorem dX4_reads_103 : decode cX4_reads 103 = .ok (.bipush 17, 2) := dk_16 17 (dk_at dksX4_reads_4 13 rfl rfl)
theorem dX4_reads_105 : decode cX4_reads 105 = .ok (.iaload, 1) := dk_46 (dk_at dksX4_reads_4 15 rfl rfl)
theorem dX4_reads_106 : decode cX4_reads 106 = .ok (.istore_n 2, 1) := dk_61 (dk_at dksX4_reads_4 16 rfl rfl)
theorem dX4_reads_107 : decode cX4_reads 107 = .ok (.iload_n 2, 1) := dk_28 (dk_at dksX4_reads_4 17 rfl rfl)
theorem dX4_reads_108 : decode cX4_reads 108 = .ok (.bipush 7, 2) := dk_16 7 (dk_at dksX4_reads_4 18 rfl rfl)
theorem dX4_reads_110 : decode cX4_reads 110 = .ok (.if_icmp .ne 9, 3) := dk_160 0 9 (dk_at dksX4_reads_4 20 rfl rfl)
theorem dX4_reads_113 : decode cX4_reads 113 = .ok (.aload_n 0, 1) := dk_42 (dk_at dksX4_reads_4 23 rfl rfl)
theorem dX4_reads_114 : decode cX4_reads 114 = .ok (.iconst 3, 1) := dk_6 (dk_at dksX4_reads_5 0 rfl rfl)
theorem dX4_reads_115 : decode cX4_reads 115 = .ok (.invokevirtual 92, 3) := dk_182 0 92 (dk_at dksX4_reads_5 1 rfl rfl)
theorem dX4_reads_118 : decode cX4_reads 118 = .ok (.ireturn, 1) := dk_172 (dk_at dksX4_reads_5 4 rfl rfl)
theorem dX4_reads_119 : decode cX4_reads 119 = .ok (.aload_n 0, 1) := dk_42 (dk_at dksX4_reads_5 5 rfl rfl)
theorem dX4_reads_120 : decode cX4_reads 120 = .ok (.dup, 1) := dk_89 (dk_at dksX4_reads_5 6 rfl rfl)
theorem dX4_reads_121 : decode cX4_reads 121 = .ok (.getfield 86, 3) := dk_180 0 86 (dk_at dksX4_reads_5 7 rfl rfl)
theorem dX4_reads_124 : decode cX4_reads 124 = .ok (.iconst 1, 1) := dk_4 (dk_at dksX4_reads_5 10 rfl rfl)
theorem dX4_reads_125 : decode cX4_reads 125 = .ok (.iadd, 1) := dk_96 (dk_at dksX4_reads_5 11 rfl rfl)
theorem dX4_reads_126 : decode cX4_reads 126 = .ok (.putfield 86, 3) := dk_181 0 86 (dk_at dksX4_reads_5 12 rfl rfl)
theorem dX4_reads_129 : decode cX4_reads 129 = .ok (.aload_n 0, 1) := dk_42 (dk_at dksX4_reads_5 15 rfl rfl)
theorem dX4_reads_130 : decode cX4_reads 130 = .ok (.getfield 28, 3) := dk_180 0 28 (dk_at dksX4_reads_5 16 rfl rfl)
theorem dX4_reads_133 : decode cX4_reads 133 = .ok (.bipush 18, 2) := dk_16 18 (dk_at dksX4_reads_5 19 rfl rfl)
theorem dX4_reads_135 : decode cX4_reads 135 = .ok (.iload_n 2, 1) := dk_28 (dk_at dksX4_reads_5 21 rfl rfl)
theorem dX4_reads_136 : decode cX4_reads 136 = .ok (.iadd, 1) := dk_96 (dk_at dksX4_reads_5 22 rfl rfl)
theorem dX4_reads_137 : decode cX4_reads 137 = .ok (.iload_n 1, 1) := dk_27 (dk_at dksX4_reads_5 23 rfl rfl)
theorem dX4_reads_138 : decode cX4_reads 138 = .ok (.iastore, 1) := dk_79 (dk_at dksX4_reads_6 0 rfl rfl)
theorem dX4_reads_139 : decode cX4_reads 139 = .ok (.aload_n 0, 1) := dk_42 (dk_at dksX4_reads_6 1 rfl rfl)
theorem dX4_reads_140 : decode cX4_reads 140 = .ok (.getfield 28, 3) := dk_180 0 28 (dk_at dksX4_reads_6 2 rfl rfl)
theorem dX4_reads_143 : decode cX4_reads 143 = .ok (.iconst 2, 1) := dk_5 (dk_at dksX4_reads_6 5 rfl rfl)
theorem dX4_reads_144 : decode cX4_reads 144 = .ok (.iload_n 2, 1) := dk_28 (dk_at dksX4_reads_6 6 rfl rfl)
theorem dX4_reads_145 : decode cX4_reads 145 = .ok (.iadd, 1) := dk_96 (dk_at dksX4_reads_6 7 rfl rfl)
theorem dX4_reads_146 : decode cX4_reads 146 = .ok (.iconst (-1), 1) := dk_2 (dk_at dksX4_reads_6 8 rfl rfl)
theorem dX4_reads_147 : decode cX4_reads 147 = .ok (.iastore, 1) := dk_79 (dk_at dksX4_reads_6 9 rfl rfl)
theorem dX4_reads_148 : decode cX4_reads 148 = .ok (.aload_n 0, 1) := dk_42 (dk_at dksX4_reads_6 10 rfl rfl)
theorem dX4_reads_149 : decode cX4_reads 149 = .ok (.bipush 9, 2) := dk_16 9 (dk_at dksX4_reads_6 11 rfl rfl)
theorem dX4_reads_151 : decode cX4_reads 151 = .ok (.iload_n 2, 1) := dk_28 (dk_at dksX4_reads_6 13 rfl rfl)
theorem dX4_reads_152 : decode cX4_reads 152 = .ok (.iadd, 1) := dk_96 (dk_at dksX4_reads_6 14 rfl rfl)
theorem dX4_reads_153 : decode cX4_reads 153 = .ok (.iconst 0, 1) := dk_3 (dk_at dksX4_reads_6 15 rfl rfl)
theorem dX4_reads_154 : decode cX4_reads 154 = .ok (.iconst 1, 1) := dk_4 (dk_at dksX4_reads_6 16 rfl rfl)
theorem dX4_reads_155 : decode cX4_reads 155 = .ok (.invokevirtual 101, 3) := dk_182 0 101 (dk_at dksX4_reads_6 17 rfl rfl)
theorem dX4_reads_158 : decode cX4_reads 158 = .ok (.ifCond .eq 12, 3) := dk_153 0 12 (dk_at dksX4_reads_6 20 rfl rfl)
theorem dX4_reads_161 : decode cX4_reads 161 = .ok (.aload_n 0, 1) := dk_42 (dk_at dksX4_reads_6 23 rfl rfl)
theorem dX4_reads_162 : decode cX4_reads 162 = .ok (.bipush 59, 2) := dk_16 59 (dk_at dksX4_reads_7 0 rfl rfl)
theorem dX4_reads_164 : decode cX4_reads 164 = .ok (.invokevirtual 98, 3) := dk_182 0 98 (dk_at dksX4_reads_7 2 rfl rfl)
theorem dX4_reads_167 : decode cX4_reads 167 = .ok (.ifCond .ne 5, 3) := dk_154 0 5 (dk_at dksX4_reads_7 5 rfl rfl)
theorem dX4_reads_170 : decode cX4_reads 170 = .ok (.iconst 0, 1) := dk_3 (dk_at dksX4_reads_7 8 rfl rfl)
theorem dX4_reads_171 : decode cX4_reads 171 = .ok (.ireturn, 1) := dk_172 (dk_at dksX4_reads_7 9 rfl rfl)
theorem dX4_reads_172 : decode cX4_reads 172 = .ok (.aload_n 0, 1) := dk_42 (dk_at dksX4_reads_7 10 rfl rfl)
theorem dX4_reads_173 : decode cX4_reads 173 = .ok (.getfield 28, 3) := dk_180 0 28 (dk_at dksX4_reads_7 11 rfl rfl)
theorem dX4_reads_176 : decode cX4_reads 176 = .ok (.bipush 17, 2) := dk_16 17 (dk_at dksX4_reads_7 14 rfl rfl)
theorem dX4_reads_178 : decode cX4_reads 178 = .ok (.dup2, 1) := dk_92 (dk_at dksX4_reads_7 16 rfl rfl)
theorem dX4_reads_179 : decode cX4_reads 179 = .ok (.iaload, 1) := dk_46 (dk_at dksX4_reads_7 17 rfl rfl)
theorem dX4_reads_180 : decode cX4_reads 180 = .ok (.iconst 1, 1) := dk_4 (dk_at dksX4_reads_7 18 rfl rfl)
theorem dX4_reads_181 : decode cX4_reads 181 = .ok (.iadd, 1) := dk_96 (dk_at dksX4_reads_7 19 rfl rfl)
theorem dX4_reads_182 : decode cX4_reads 182 = .ok (.iastore, 1) := dk_79 (dk_at dksX4_reads_7 20 rfl rfl)
theorem dX4_reads_183 : decode cX4_reads 183 = .ok (.goto (-127), 3) := dk_167 255 129 (dk_at dksX4_reads_7 21 rfl rfl)
theorem dX4_reads_186 : decode cX4_reads 186 = .ok (.iconst 1, 1) := dk_4 (dk_at dksX4_reads_8 0 rfl rfl)
theorem dX4_reads_187 : decode cX4_reads 187 = .ok (.ireturn, 1) := dk_172 (dk_at dksX4_reads_8 1 rfl rfl)
abbrev cX4_sign : ByteArray := prog_22_method_16_code
def yX4_sign : MethodName := ⟨RX4, "sign", "(I)Z"⟩
def dkwX4_sign_1 : List UInt8 := [96, 181, 0, 86, 4, 172]
abbrev dktX4_sign_1 : List UInt8 := dkwX4_sign_1 ++ []
def dkwX4_sign_0 : List UInt8 := [42, 42, 180, 0, 86, 182, 0, 89, 27, 159, 0, 9, 42, 4, 182, 0, 92, 172, 42, 89, 180, 0, 86, 4]
abbrev dktX4_sign_0 : List UInt8 := dkwX4_sign_0 ++ dktX4_sign_1
theorem dksX4_sign_0 : cX4_sign.data.toList.drop 0 = dktX4_sign_0 := by decide +kernel
theorem dksX4_sign_1 : cX4_sign.data.toList.drop 24 = dktX4_sign_1 := dk_seg dksX4_sign_0 24 rfl rfl
theorem dX4_sign_0 : decode cX4_sign 0 = .ok (.aload_n 0, 1) := dk_42 (dk_at dksX4_sign_0 0 rfl rfl)
theorem dX4_sign_1 : decode cX4_sign 1 = .ok (.aload_n 0, 1) := dk_42 (dk_at dksX4_sign_0 1 rfl rfl)
theorem dX4_sign_2 : decode cX4_sign 2 = .ok (.getfield 86, 3) := dk_180 0 86 (dk_at dksX4_sign_0 2 rfl rfl)
theorem dX4_sign_5 : decode cX4_sign 5 = .ok (.invokevirtual 89, 3) := dk_182 0 89 (dk_at dksX4_sign_0 5 rfl rfl)
theorem dX4_sign_8 : decode cX4_sign 8 = .ok (.iload_n 1, 1) := dk_27 (dk_at dksX4_sign_0 8 rfl rfl)
theorem dX4_sign_9 : decode cX4_sign 9 = .ok (.if_icmp .eq 9, 3) := dk_159 0 9 (dk_at dksX4_sign_0 9 rfl rfl)
theorem dX4_sign_12 : decode cX4_sign 12 = .ok (.aload_n 0, 1) := dk_42 (dk_at dksX4_sign_0 12 rfl rfl)
theorem dX4_sign_13 : decode cX4_sign 13 = .ok (.iconst 1, 1) := dk_4 (dk_at dksX4_sign_0 13 rfl rfl)
theorem dX4_sign_14 : decode cX4_sign 14 = .ok (.invokevirtual 92, 3) := dk_182 0 92 (dk_at dksX4_sign_0 14 rfl rfl)
theorem dX4_sign_17 : decode cX4_sign 17 = .ok (.ireturn, 1) := dk_172 (dk_at dksX4_sign_0 17 rfl rfl)
theorem dX4_sign_18 : decode cX4_sign 18 = .ok (.aload_n 0, 1) := dk_42 (dk_at dksX4_sign_0 18 rfl rfl)
theorem dX4_sign_19 : decode cX4_sign 19 = .ok (.dup, 1) := dk_89 (dk_at dksX4_sign_0 19 rfl rfl)
theorem dX4_sign_20 : decode cX4_sign 20 = .ok (.getfield 86, 3) := dk_180 0 86 (dk_at dksX4_sign_0 20 rfl rfl)
theorem dX4_sign_23 : decode cX4_sign 23 = .ok (.iconst 1, 1) := dk_4 (dk_at dksX4_sign_0 23 rfl rfl)
theorem dX4_sign_24 : decode cX4_sign 24 = .ok (.iadd, 1) := dk_96 (dk_at dksX4_sign_1 0 rfl rfl)
theorem dX4_sign_25 : decode cX4_sign 25 = .ok (.putfield 86, 3) := dk_181 0 86 (dk_at dksX4_sign_1 1 rfl rfl)
theorem dX4_sign_28 : decode cX4_sign 28 = .ok (.iconst 1, 1) := dk_4 (dk_at dksX4_sign_1 4 rfl rfl)
theorem dX4_sign_29 : decode cX4_sign 29 = .ok (.ireturn, 1) := dk_172 (dk_at dksX4_sign_1 5 rfl rfl)
abbrev cX4_letterAt : ByteArray := prog_22_method_13_code
def yX4_letterAt : MethodName := ⟨RX4, "letterAt", "(I)I"⟩
def dkwX4_letterAt_0 : List UInt8 := [27, 42, 180, 0, 79, 162, 0, 12, 42, 180, 0, 22, 27, 46, 167, 0, 4, 2, 172]
abbrev dktX4_letterAt_0 : List UInt8 := dkwX4_letterAt_0 ++ []
theorem dksX4_letterAt_0 : cX4_letterAt.data.toList.drop 0 = dktX4_letterAt_0 := by decide +kernel
theorem dX4_letterAt_0 : decode cX4_letterAt 0 = .ok (.iload_n 1, 1) := dk_27 (dk_at dksX4_letterAt_0 0 rfl rfl)
theorem dX4_letterAt_1 : decode cX4_letterAt 1 = .ok (.aload_n 0, 1) := dk_42 (dk_at dksX4_letterAt_0 1 rfl rfl)
theorem dX4_letterAt_2 : decode cX4_letterAt 2 = .ok (.getfield 79, 3) := dk_180 0 79 (dk_at dksX4_letterAt_0 2 rfl rfl)
theorem dX4_letterAt_5 : decode cX4_letterAt 5 = .ok (.if_icmp .ge 12, 3) := dk_162 0 12 (dk_at dksX4_letterAt_0 5 rfl rfl)
theorem dX4_letterAt_8 : decode cX4_letterAt 8 = .ok (.aload_n 0, 1) := dk_42 (dk_at dksX4_letterAt_0 8 rfl rfl)
theorem dX4_letterAt_9 : decode cX4_letterAt 9 = .ok (.getfield 22, 3) := dk_180 0 22 (dk_at dksX4_letterAt_0 9 rfl rfl)
theorem dX4_letterAt_12 : decode cX4_letterAt 12 = .ok (.iload_n 1, 1) := dk_27 (dk_at dksX4_letterAt_0 12 rfl rfl)
theorem dX4_letterAt_13 : decode cX4_letterAt 13 = .ok (.iaload, 1) := dk_46 (dk_at dksX4_letterAt_0 13 rfl rfl)
theorem dX4_letterAt_14 : decode cX4_letterAt 14 = .ok (.goto 4, 3) := dk_167 0 4 (dk_at dksX4_letterAt_0 14 rfl rfl)
theorem dX4_letterAt_17 : decode cX4_letterAt 17 = .ok (.iconst (-1), 1) := dk_2 (dk_at dksX4_letterAt_0 17 rfl rfl)
theorem dX4_letterAt_18 : decode cX4_letterAt 18 = .ok (.ireturn, 1) := dk_172 (dk_at dksX4_letterAt_0 18 rfl rfl)
abbrev cX4_fails : ByteArray := prog_22_method_15_code
def yX4_fails : MethodName := ⟨RX4, "fails", "(I)Z"⟩
def dkwX4_fails_0 : List UInt8 := [42, 27, 181, 0, 83, 3, 172]
abbrev dktX4_fails_0 : List UInt8 := dkwX4_fails_0 ++ []
theorem dksX4_fails_0 : cX4_fails.data.toList.drop 0 = dktX4_fails_0 := by decide +kernel
theorem dX4_fails_0 : decode cX4_fails 0 = .ok (.aload_n 0, 1) := dk_42 (dk_at dksX4_fails_0 0 rfl rfl)
theorem dX4_fails_1 : decode cX4_fails 1 = .ok (.iload_n 1, 1) := dk_27 (dk_at dksX4_fails_0 1 rfl rfl)
theorem dX4_fails_2 : decode cX4_fails 2 = .ok (.putfield 83, 3) := dk_181 0 83 (dk_at dksX4_fails_0 2 rfl rfl)
theorem dX4_fails_5 : decode cX4_fails 5 = .ok (.iconst 0, 1) := dk_3 (dk_at dksX4_fails_0 5 rfl rfl)
theorem dX4_fails_6 : decode cX4_fails 6 = .ok (.ireturn, 1) := dk_172 (dk_at dksX4_fails_0 6 rfl rfl)
abbrev cX4_number : ByteArray := prog_22_method_17_code
def yX4_number : MethodName := ⟨RX4, "number", "(III)Z"⟩
def dkwX4_number_4 : List UInt8 := [180, 0, 86, 21, 4, 96, 181, 0, 86, 42, 180, 0, 28, 27, 21, 5, 79, 4, 172]
abbrev dktX4_number_4 : List UInt8 := dkwX4_number_4 ++ []
def dkwX4_number_3 : List UInt8 := [182, 0, 92, 172, 21, 5, 28, 29, 184, 0, 50, 154, 0, 9, 42, 5, 182, 0, 92, 172, 42, 89]
abbrev dktX4_number_3 : List UInt8 := dkwX4_number_3 ++ dktX4_number_4
def dkwX4_number_2 : List UInt8 := [16, 48, 100, 54, 5, 132, 4, 1, 167, 255, 207, 21, 4, 153, 0, 9, 21, 4, 6, 160, 0, 9, 42, 4]
abbrev dktX4_number_2 : List UInt8 := dkwX4_number_2 ++ dktX4_number_3
def dkwX4_number_1 : List UInt8 := [21, 4, 6, 162, 0, 32, 16, 10, 21, 5, 104, 42, 180, 0, 22, 42, 180, 0, 86, 21, 4, 96, 46, 96]
abbrev dktX4_number_1 : List UInt8 := dkwX4_number_1 ++ dktX4_number_2
def dkwX4_number_0 : List UInt8 := [3, 54, 4, 3, 54, 5, 42, 42, 180, 0, 86, 21, 4, 96, 182, 0, 89, 184, 0, 95, 153, 0, 38]
abbrev dktX4_number_0 : List UInt8 := dkwX4_number_0 ++ dktX4_number_1
theorem dksX4_number_0 : cX4_number.data.toList.drop 0 = dktX4_number_0 := by decide +kernel
theorem dksX4_number_1 : cX4_number.data.toList.drop 23 = dktX4_number_1 := dk_seg dksX4_number_0 23 rfl rfl
theorem dksX4_number_2 : cX4_number.data.toList.drop 47 = dktX4_number_2 := dk_seg dksX4_number_1 24 rfl rfl
theorem dksX4_number_3 : cX4_number.data.toList.drop 71 = dktX4_number_3 := dk_seg dksX4_number_2 24 rfl rfl
theorem dksX4_number_4 : cX4_number.data.toList.drop 93 = dktX4_number_4 := dk_seg dksX4_number_3 22 rfl rfl
theorem dX4_number_0 : decode cX4_number 0 = .ok (.iconst 0, 1) := dk_3 (dk_at dksX4_number_0 0 rfl rfl)
theorem dX4_number_1 : decode cX4_number 1 = .ok (.istore 4, 2) := dk_54 4 (dk_at dksX4_number_0 1 rfl rfl)
theorem dX4_number_3 : decode cX4_number 3 = .ok (.iconst 0, 1) := dk_3 (dk_at dksX4_number_0 3 rfl rfl)
theorem dX4_number_4 : decode cX4_number 4 = .ok (.istore 5, 2) := dk_54 5 (dk_at dksX4_number_0 4 rfl rfl)
theorem dX4_number_6 : decode cX4_number 6 = .ok (.aload_n 0, 1) := dk_42 (dk_at dksX4_number_0 6 rfl rfl)
theorem dX4_number_7 : decode cX4_number 7 = .ok (.aload_n 0, 1) := dk_42 (dk_at dksX4_number_0 7 rfl rfl)
theorem dX4_number_8 : decode cX4_number 8 = .ok (.getfield 86, 3) := dk_180 0 86 (dk_at dksX4_number_0 8 rfl rfl)
theorem dX4_number_11 : decode cX4_number 11 = .ok (.iload 4, 2) := dk_21 4 (dk_at dksX4_number_0 11 rfl rfl)
theorem dX4_number_13 : decode cX4_number 13 = .ok (.iadd, 1) := dk_96 (dk_at dksX4_number_0 13 rfl rfl)
theorem dX4_number_14 : decode cX4_number 14 = .ok (.invokevirtual 89, 3) := dk_182 0 89 (dk_at dksX4_number_0 14 rfl rfl)
theorem dX4_number_17 : decode cX4_number 17 = .ok (.invokestatic 95, 3) := dk_184 0 95 (dk_at dksX4_number_0 17 rfl rfl)
theorem dX4_number_20 : decode cX4_number 20 = .ok (.ifCond .eq 38, 3) := dk_153 0 38 (dk_at dksX4_number_0 20 rfl rfl)
theorem dX4_number_23 : decode cX4_number 23 = .ok (.iload 4, 2) := dk_21 4 (dk_at dksX4_number_1 0 rfl rfl)
theorem dX4_number_25 : decode cX4_number 25 = .ok (.iconst 3, 1) := dk_6 (dk_at dksX4_number_1 2 rfl rfl)
theorem dX4_number_26 : decode cX4_number 26 = .ok (.if_icmp .ge 32, 3) := dk_162 0 32 (dk_at dksX4_number_1 3 rfl rfl)
theorem dX4_number_29 : decode cX4_number 29 = .ok (.bipush 10, 2) := dk_16 10 (dk_at dksX4_number_1 6 rfl rfl)
theorem dX4_number_31 : decode cX4_number 31 = .ok (.iload 5, 2) := dk_21 5 (dk_at dksX4_number_1 8 rfl rfl)
theorem dX4_number_33 : decode cX4_number 33 = .ok (.imul, 1) := dk_104 (dk_at dksX4_number_1 10 rfl rfl)
theorem dX4_number_34 : decode cX4_number 34 = .ok (.aload_n 0, 1) := dk_42 (dk_at dksX4_number_1 11 rfl rfl)
theorem dX4_number_35 : decode cX4_number 35 = .ok (.getfield 22, 3) := dk_180 0 22 (dk_at dksX4_number_1 12 rfl rfl)
theorem dX4_number_38 : decode cX4_number 38 = .ok (.aload_n 0, 1) := dk_42 (dk_at dksX4_number_1 15 rfl rfl)
theorem dX4_number_39 : decode cX4_number 39 = .ok (.getfield 86, 3) := dk_180 0 86 (dk_at dksX4_number_1 16 rfl rfl)
theorem dX4_number_42 : decode cX4_number 42 = .ok (.iload 4, 2) := dk_21 4 (dk_at dksX4_number_1 19 rfl rfl)
theorem dX4_number_44 : decode cX4_number 44 = .ok (.iadd, 1) := dk_96 (dk_at dksX4_number_1 21 rfl rfl)
theorem dX4_number_45 : decode cX4_number 45 = .ok (.iaload, 1) := dk_46 (dk_at dksX4_number_1 22 rfl rfl)
theorem dX4_number_46 : decode cX4_number 46 = .ok (.iadd, 1) := dk_96 (dk_at dksX4_number_1 23 rfl rfl)
theorem dX4_number_47 : decode cX4_number 47 = .ok (.bipush 48, 2) := dk_16 48 (dk_at dksX4_number_2 0 rfl rfl)
theorem dX4_number_49 : decode cX4_number 49 = .ok (.isub, 1) := dk_100 (dk_at dksX4_number_2 2 rfl rfl)
theorem dX4_number_50 : decode cX4_number 50 = .ok (.istore 5, 2) := dk_54 5 (dk_at dksX4_number_2 3 rfl rfl)
theorem dX4_number_52 : decode cX4_number 52 = .ok (.iinc 4 1, 3) := dk_132 4 1 (dk_at dksX4_number_2 5 rfl rfl)
theorem dX4_number_55 : decode cX4_number 55 = .ok (.goto (-49), 3) := dk_167 255 207 (dk_at dksX4_number_2 8 rfl rfl)
theorem dX4_number_58 : decode cX4_number 58 = .ok (.iload 4, 2) := dk_21 4 (dk_at dksX4_number_2 11 rfl rfl)
theorem dX4_number_60 : decode cX4_number 60 = .ok (.ifCond .eq 9, 3) := dk_153 0 9 (dk_at dksX4_number_2 13 rfl rfl)
theorem dX4_number_63 : decode cX4_number 63 = .ok (.iload 4, 2) := dk_21 4 (dk_at dksX4_number_2 16 rfl rfl)
theorem dX4_number_65 : decode cX4_number 65 = .ok (.iconst 3, 1) := dk_6 (dk_at dksX4_number_2 18 rfl rfl)
theorem dX4_number_66 : decode cX4_number 66 = .ok (.if_icmp .ne 9, 3) := dk_160 0 9 (dk_at dksX4_number_2 19 rfl rfl)
theorem dX4_number_69 : decode cX4_number 69 = .ok (.aload_n 0, 1) := dk_42 (dk_at dksX4_number_2 22 rfl rfl)
theorem dX4_number_70 : decode cX4_number 70 = .ok (.iconst 1, 1) := dk_4 (dk_at dksX4_number_2 23 rfl rfl)
theorem dX4_number_71 : decode cX4_number 71 = .ok (.invokevirtual 92, 3) := dk_182 0 92 (dk_at dksX4_number_3 0 rfl rfl)
theorem dX4_number_74 : decode cX4_number 74 = .ok (.ireturn, 1) := dk_172 (dk_at dksX4_number_3 3 rfl rfl)
theorem dX4_number_75 : decode cX4_number 75 = .ok (.iload 5, 2) := dk_21 5 (dk_at dksX4_number_3 4 rfl rfl)
theorem dX4_number_77 : decode cX4_number 77 = .ok (.iload_n 2, 1) := dk_28 (dk_at dksX4_number_3 6 rfl rfl)
theorem dX4_number_78 : decode cX4_number 78 = .ok (.iload_n 3, 1) := dk_29 (dk_at dksX4_number_3 7 rfl rfl)
theorem dX4_number_79 : decode cX4_number 79 = .ok (.invokestatic 50, 3) := dk_184 0 50 (dk_at dksX4_number_3 8 rfl rfl)
theorem dX4_number_82 : decode cX4_number 82 = .ok (.ifCond .ne 9, 3) := dk_154 0 9 (dk_at dksX4_number_3 11 rfl rfl)
theorem dX4_number_85 : decode cX4_number 85 = .ok (.aload_n 0, 1) := dk_42 (dk_at dksX4_number_3 14 rfl rfl)
theorem dX4_number_86 : decode cX4_number 86 = .ok (.iconst 2, 1) := dk_5 (dk_at dksX4_number_3 15 rfl rfl)
theorem dX4_number_87 : decode cX4_number 87 = .ok (.invokevirtual 92, 3) := dk_182 0 92 (dk_at dksX4_number_3 16 rfl rfl)
theorem dX4_number_90 : decode cX4_number 90 = .ok (.ireturn, 1) := dk_172 (dk_at dksX4_number_3 19 rfl rfl)
theorem dX4_number_91 : decode cX4_number 91 = .ok (.aload_n 0, 1) := dk_42 (dk_at dksX4_number_3 20 rfl rfl)
theorem dX4_number_92 : decode cX4_number 92 = .ok (.dup, 1) := dk_89 (dk_at dksX4_number_3 21 rfl rfl)
theorem dX4_number_93 : decode cX4_number 93 = .ok (.getfield 86, 3) := dk_180 0 86 (dk_at dksX4_number_4 0 rfl rfl)
theorem dX4_number_96 : decode cX4_number 96 = .ok (.iload 4, 2) := dk_21 4 (dk_at dksX4_number_4 3 rfl rfl)
theorem dX4_number_98 : decode cX4_number 98 = .ok (.iadd, 1) := dk_96 (dk_at dksX4_number_4 5 rfl rfl)
theorem dX4_number_99 : decode cX4_number 99 = .ok (.putfield 86, 3) := dk_181 0 86 (dk_at dksX4_number_4 6 rfl rfl)
theorem dX4_number_102 : decode cX4_number 102 = .ok (.aload_n 0, 1) := dk_42 (dk_at dksX4_number_4 9 rfl rfl)
theorem dX4_number_103 : decode cX4_number 103 = .ok (.getfield 28, 3) := dk_180 0 28 (dk_at dksX4_number_4 10 rfl rfl)
theorem dX4_number_106 : decode cX4_number 106 = .ok (.iload_n 1, 1) := dk_27 (dk_at dksX4_number_4 13 rfl rfl)
theorem dX4_number_107 : decode cX4_number 107 = .ok (.iload 5, 2) := dk_21 5 (dk_at dksX4_number_4 14 rfl rfl)
theorem dX4_number_109 : decode cX4_number 109 = .ok (.iastore, 1) := dk_79 (dk_at dksX4_number_4 16 rfl rfl)
theorem dX4_number_110 : decode cX4_number 110 = .ok (.iconst 1, 1) := dk_4 (dk_at dksX4_number_4 17 rfl rfl)
theorem dX4_number_111 : decode cX4_number 111 = .ok (.ireturn, 1) := dk_172 (dk_at dksX4_number_4 18 rfl rfl)
abbrev cX4_isDigit : ByteArray := prog_22_method_14_code
def yX4_isDigit : MethodName := ⟨RX4, "isDigit", "(I)Z"⟩
def dkwX4_isDigit_0 : List UInt8 := [26, 16, 48, 16, 57, 184, 0, 50, 172]
abbrev dktX4_isDigit_0 : List UInt8 := dkwX4_isDigit_0 ++ []
theorem dksX4_isDigit_0 : cX4_isDigit.data.toList.drop 0 = dktX4_isDigit_0 := by decide +kernel
theorem dX4_isDigit_0 : decode cX4_isDigit 0 = .ok (.iload_n 0, 1) := dk_26 (dk_at dksX4_isDigit_0 0 rfl rfl)
theorem dX4_isDigit_1 : decode cX4_isDigit 1 = .ok (.bipush 48, 2) := dk_16 48 (dk_at dksX4_isDigit_0 1 rfl rfl)
theorem dX4_isDigit_3 : decode cX4_isDigit 3 = .ok (.bipush 57, 2) := dk_16 57 (dk_at dksX4_isDigit_0 3 rfl rfl)
theorem dX4_isDigit_5 : decode cX4_isDigit 5 = .ok (.invokestatic 50, 3) := dk_184 0 50 (dk_at dksX4_isDigit_0 5 rfl rfl)
theorem dX4_isDigit_8 : decode cX4_isDigit 8 = .ok (.ireturn, 1) := dk_172 (dk_at dksX4_isDigit_0 8 rfl rfl)
abbrev cX4_kindBy : ByteArray := prog_22_method_18_code
def yX4_kindBy : MethodName := ⟨RX4, "kindBy", "(I)I"⟩
def dkwX4_kindBy_2 : List UInt8 := [167, 0, 4, 3, 172]
abbrev dktX4_kindBy_2 : List UInt8 := dkwX4_kindBy_2 ++ []
def dkwX4_kindBy_1 : List UInt8 := [160, 0, 7, 6, 167, 0, 24, 26, 16, 116, 160, 0, 7, 7, 167, 0, 14, 26, 16, 99, 160, 0, 7, 8]
abbrev dktX4_kindBy_1 : List UInt8 := dkwX4_kindBy_1 ++ dktX4_kindBy_2
def dkwX4_kindBy_0 : List UInt8 := [26, 16, 115, 160, 0, 7, 4, 167, 0, 44, 26, 16, 119, 160, 0, 7, 5, 167, 0, 34, 26, 16, 114]
abbrev dktX4_kindBy_0 : List UInt8 := dkwX4_kindBy_0 ++ dktX4_kindBy_1
theorem dksX4_kindBy_0 : cX4_kindBy.data.toList.drop 0 = dktX4_kindBy_0 := by decide +kernel
theorem dksX4_kindBy_1 : cX4_kindBy.data.toList.drop 23 = dktX4_kindBy_1 := dk_seg dksX4_kindBy_0 23 rfl rfl
theorem dksX4_kindBy_2 : cX4_kindBy.data.toList.drop 47 = dktX4_kindBy_2 := dk_seg dksX4_kindBy_1 24 rfl rfl
theorem dX4_kindBy_0 : decode cX4_kindBy 0 = .ok (.iload_n 0, 1) := dk_26 (dk_at dksX4_kindBy_0 0 rfl rfl)
theorem dX4_kindBy_1 : decode cX4_kindBy 1 = .ok (.bipush 115, 2) := dk_16 115 (dk_at dksX4_kindBy_0 1 rfl rfl)
theorem dX4_kindBy_3 : decode cX4_kindBy 3 = .ok (.if_icmp .ne 7, 3) := dk_160 0 7 (dk_at dksX4_kindBy_0 3 rfl rfl)
theorem dX4_kindBy_6 : decode cX4_kindBy 6 = .ok (.iconst 1, 1) := dk_4 (dk_at dksX4_kindBy_0 6 rfl rfl)
theorem dX4_kindBy_7 : decode cX4_kindBy 7 = .ok (.goto 44, 3) := dk_167 0 44 (dk_at dksX4_kindBy_0 7 rfl rfl)
theorem dX4_kindBy_10 : decode cX4_kindBy 10 = .ok (.iload_n 0, 1) := dk_26 (dk_at dksX4_kindBy_0 10 rfl rfl)
theorem dX4_kindBy_11 : decode cX4_kindBy 11 = .ok (.bipush 119, 2) := dk_16 119 (dk_at dksX4_kindBy_0 11 rfl rfl)
theorem dX4_kindBy_13 : decode cX4_kindBy 13 = .ok (.if_icmp .ne 7, 3) := dk_160 0 7 (dk_at dksX4_kindBy_0 13 rfl rfl)
theorem dX4_kindBy_16 : decode cX4_kindBy 16 = .ok (.iconst 2, 1) := dk_5 (dk_at dksX4_kindBy_0 16 rfl rfl)
theorem dX4_kindBy_17 : decode cX4_kindBy 17 = .ok (.goto 34, 3) := dk_167 0 34 (dk_at dksX4_kindBy_0 17 rfl rfl)
theorem dX4_kindBy_20 : decode cX4_kindBy 20 = .ok (.iload_n 0, 1) := dk_26 (dk_at dksX4_kindBy_0 20 rfl rfl)
theorem dX4_kindBy_21 : decode cX4_kindBy 21 = .ok (.bipush 114, 2) := dk_16 114 (dk_at dksX4_kindBy_0 21 rfl rfl)
theorem dX4_kindBy_23 : decode cX4_kindBy 23 = .ok (.if_icmp .ne 7, 3) := dk_160 0 7 (dk_at dksX4_kindBy_1 0 rfl rfl)
theorem dX4_kindBy_26 : decode cX4_kindBy 26 = .ok (.iconst 3, 1) := dk_6 (dk_at dksX4_kindBy_1 3 rfl rfl)
theorem dX4_kindBy_27 : decode cX4_kindBy 27 = .ok (.goto 24, 3) := dk_167 0 24 (dk_at dksX4_kindBy_1 4 rfl rfl)
theorem dX4_kindBy_30 : decode cX4_kindBy 30 = .ok (.iload_n 0, 1) := dk_26 (dk_at dksX4_kindBy_1 7 rfl rfl)
theorem dX4_kindBy_31 : decode cX4_kindBy 31 = .ok (.bipush 116, 2) := dk_16 116 (dk_at dksX4_kindBy_1 8 rfl rfl)
theorem dX4_kindBy_33 : decode cX4_kindBy 33 = .ok (.if_icmp .ne 7, 3) := dk_160 0 7 (dk_at dksX4_kindBy_1 10 rfl rfl)
theorem dX4_kindBy_36 : decode cX4_kindBy 36 = .ok (.iconst 4, 1) := dk_7 (dk_at dksX4_kindBy_1 13 rfl rfl)
theorem dX4_kindBy_37 : decode cX4_kindBy 37 = .ok (.goto 14, 3) := dk_167 0 14 (dk_at dksX4_kindBy_1 14 rfl rfl)
theorem dX4_kindBy_40 : decode cX4_kindBy 40 = .ok (.iload_n 0, 1) := dk_26 (dk_at dksX4_kindBy_1 17 rfl rfl)
theorem dX4_kindBy_41 : decode cX4_kindBy 41 = .ok (.bipush 99, 2) := dk_16 99 (dk_at dksX4_kindBy_1 18 rfl rfl)
theorem dX4_kindBy_43 : decode cX4_kindBy 43 = .ok (.if_icmp .ne 7, 3) := dk_160 0 7 (dk_at dksX4_kindBy_1 20 rfl rfl)
theorem dX4_kindBy_46 : decode cX4_kindBy 46 = .ok (.iconst 5, 1) := dk_8 (dk_at dksX4_kindBy_1 23 rfl rfl)
theorem dX4_kindBy_47 : decode cX4_kindBy 47 = .ok (.goto 4, 3) := dk_167 0 4 (dk_at dksX4_kindBy_2 0 rfl rfl)
theorem dX4_kindBy_50 : decode cX4_kindBy 50 = .ok (.iconst 0, 1) := dk_3 (dk_at dksX4_kindBy_2 3 rfl rfl)
theorem dX4_kindBy_51 : decode cX4_kindBy 51 = .ok (.ireturn, 1) := dk_172 (dk_at dksX4_kindBy_2 4 rfl rfl)
abbrev cX4_fault : ByteArray := prog_22_method_21_code
def yX4_fault : MethodName := ⟨RX4, "fault", "()I"⟩
theorem dX4_fault_0 : decode cX4_fault 0 = .ok (.aload_n 0, 1) := by decide +kernel
theorem dX4_fault_1 : decode cX4_fault 1 = .ok (.getfield 111, 3) := by decide +kernel
theorem dX4_fault_4 : decode cX4_fault 4 = .ok (.ireturn, 1) := by decide +kernel
abbrev cX4_ticks : ByteArray := prog_22_method_31_code
def yX4_ticks : MethodName := ⟨RX4, "ticks", "(I)I"⟩
def dkwX4_ticks_3 : List UInt8 := [172]
abbrev dktX4_ticks_3 : List UInt8 := dkwX4_ticks_3 ++ []
def dkwX4_ticks_2 : List UInt8 := [182, 0, 137, 42, 42, 180, 0, 25, 182, 0, 140, 132, 2, 1, 167, 255, 236, 42, 180, 0, 25, 184, 0, 144]
abbrev dktX4_ticks_2 : List UInt8 := dkwX4_ticks_2 ++ dktX4_ticks_3
def dkwX4_ticks_1 : List UInt8 := [180, 0, 25, 3, 46, 27, 96, 17, 39, 15, 164, 0, 6, 18, 82, 172, 3, 61, 28, 27, 162, 0, 21, 42]
abbrev dktX4_ticks_1 : List UInt8 := dkwX4_ticks_1 ++ dktX4_ticks_2
def dkwX4_ticks_0 : List UInt8 := [42, 182, 0, 133, 154, 0, 6, 18, 136, 172, 27, 4, 16, 24, 184, 0, 50, 154, 0, 6, 18, 65, 172, 42]
abbrev dktX4_ticks_0 : List UInt8 := dkwX4_ticks_0 ++ dktX4_ticks_1
theorem dksX4_ticks_0 : cX4_ticks.data.toList.drop 0 = dktX4_ticks_0 := by decide +kernel
theorem dksX4_ticks_1 : cX4_ticks.data.toList.drop 24 = dktX4_ticks_1 := dk_seg dksX4_ticks_0 24 rfl rfl
theorem dksX4_ticks_2 : cX4_ticks.data.toList.drop 48 = dktX4_ticks_2 := dk_seg dksX4_ticks_1 24 rfl rfl
theorem dksX4_ticks_3 : cX4_ticks.data.toList.drop 72 = dktX4_ticks_3 := dk_seg dksX4_ticks_2 24 rfl rfl
theorem dX4_ticks_0 : decode cX4_ticks 0 = .ok (.aload_n 0, 1) := dk_42 (dk_at dksX4_ticks_0 0 rfl rfl)
theorem dX4_ticks_1 : decode cX4_ticks 1 = .ok (.invokevirtual 133, 3) := dk_182 0 133 (dk_at dksX4_ticks_0 1 rfl rfl)
theorem dX4_ticks_4 : decode cX4_ticks 4 = .ok (.ifCond .ne 6, 3) := dk_154 0 6 (dk_at dksX4_ticks_0 4 rfl rfl)
theorem dX4_ticks_7 : decode cX4_ticks 7 = .ok (.ldc 136, 2) := dk_18 136 (dk_at dksX4_ticks_0 7 rfl rfl)
theorem dX4_ticks_9 : decode cX4_ticks 9 = .ok (.ireturn, 1) := dk_172 (dk_at dksX4_ticks_0 9 rfl rfl)
theorem dX4_ticks_10 : decode cX4_ticks 10 = .ok (.iload_n 1, 1) := dk_27 (dk_at dksX4_ticks_0 10 rfl rfl)
theorem dX4_ticks_11 : decode cX4_ticks 11 = .ok (.iconst 1, 1) := dk_4 (dk_at dksX4_ticks_0 11 rfl rfl)
theorem dX4_ticks_12 : decode cX4_ticks 12 = .ok (.bipush 24, 2) := dk_16 24 (dk_at dksX4_ticks_0 12 rfl rfl)
theorem dX4_ticks_14 : decode cX4_ticks 14 = .ok (.invokestatic 50, 3) := dk_184 0 50 (dk_at dksX4_ticks_0 14 rfl rfl)
theorem dX4_ticks_17 : decode cX4_ticks 17 = .ok (.ifCond .ne 6, 3) := dk_154 0 6 (dk_at dksX4_ticks_0 17 rfl rfl)
theorem dX4_ticks_20 : decode cX4_ticks 20 = .ok (.ldc 65, 2) := dk_18 65 (dk_at dksX4_ticks_0 20 rfl rfl)
theorem dX4_ticks_22 : decode cX4_ticks 22 = .ok (.ireturn, 1) := dk_172 (dk_at dksX4_ticks_0 22 rfl rfl)
theorem dX4_ticks_23 : decode cX4_ticks 23 = .ok (.aload_n 0, 1) := dk_42 (dk_at dksX4_ticks_0 23 rfl rfl)
theorem dX4_ticks_24 : decode cX4_ticks 24 = .ok (.getfield 25, 3) := dk_180 0 25 (dk_at dksX4_ticks_1 0 rfl rfl)
theorem dX4_ticks_27 : decode cX4_ticks 27 = .ok (.iconst 0, 1) := dk_3 (dk_at dksX4_ticks_1 3 rfl rfl)
theorem dX4_ticks_28 : decode cX4_ticks 28 = .ok (.iaload, 1) := dk_46 (dk_at dksX4_ticks_1 4 rfl rfl)
theorem dX4_ticks_29 : decode cX4_ticks 29 = .ok (.iload_n 1, 1) := dk_27 (dk_at dksX4_ticks_1 5 rfl rfl)
theorem dX4_ticks_30 : decode cX4_ticks 30 = .ok (.iadd, 1) := dk_96 (dk_at dksX4_ticks_1 6 rfl rfl)
theorem dX4_ticks_31 : decode cX4_ticks 31 = .ok (.sipush 9999, 3) := dk_17 39 15 (dk_at dksX4_ticks_1 7 rfl rfl)
theorem dX4_ticks_34 : decode cX4_ticks 34 = .ok (.if_icmp .le 6, 3) := dk_164 0 6 (dk_at dksX4_ticks_1 10 rfl rfl)
theorem dX4_ticks_37 : decode cX4_ticks 37 = .ok (.ldc 82, 2) := dk_18 82 (dk_at dksX4_ticks_1 13 rfl rfl)
theorem dX4_ticks_39 : decode cX4_ticks 39 = .ok (.ireturn, 1) := dk_172 (dk_at dksX4_ticks_1 15 rfl rfl)
theorem dX4_ticks_40 : decode cX4_ticks 40 = .ok (.iconst 0, 1) := dk_3 (dk_at dksX4_ticks_1 16 rfl rfl)
theorem dX4_ticks_41 : decode cX4_ticks 41 = .ok (.istore_n 2, 1) := dk_61 (dk_at dksX4_ticks_1 17 rfl rfl)
theorem dX4_ticks_42 : decode cX4_ticks 42 = .ok (.iload_n 2, 1) := dk_28 (dk_at dksX4_ticks_1 18 rfl rfl)
theorem dX4_ticks_43 : decode cX4_ticks 43 = .ok (.iload_n 1, 1) := dk_27 (dk_at dksX4_ticks_1 19 rfl rfl)
theorem dX4_ticks_44 : decode cX4_ticks 44 = .ok (.if_icmp .ge 21, 3) := dk_162 0 21 (dk_at dksX4_ticks_1 20 rfl rfl)
theorem dX4_ticks_47 : decode cX4_ticks 47 = .ok (.aload_n 0, 1) := dk_42 (dk_at dksX4_ticks_1 23 rfl rfl)
theorem dX4_ticks_48 : decode cX4_ticks 48 = .ok (.invokevirtual 137, 3) := dk_182 0 137 (dk_at dksX4_ticks_2 0 rfl rfl)
theorem dX4_ticks_51 : decode cX4_ticks 51 = .ok (.aload_n 0, 1) := dk_42 (dk_at dksX4_ticks_2 3 rfl rfl)
theorem dX4_ticks_52 : decode cX4_ticks 52 = .ok (.aload_n 0, 1) := dk_42 (dk_at dksX4_ticks_2 4 rfl rfl)
theorem dX4_ticks_53 : decode cX4_ticks 53 = .ok (.getfield 25, 3) := dk_180 0 25 (dk_at dksX4_ticks_2 5 rfl rfl)
theorem dX4_ticks_56 : decode cX4_ticks 56 = .ok (.invokevirtual 140, 3) := dk_182 0 140 (dk_at dksX4_ticks_2 8 rfl rfl)
theorem dX4_ticks_59 : decode cX4_ticks 59 = .ok (.iinc 2 1, 3) := dk_132 2 1 (dk_at dksX4_ticks_2 11 rfl rfl)
theorem dX4_ticks_62 : decode cX4_ticks 62 = .ok (.goto (-20), 3) := dk_167 255 236 (dk_at dksX4_ticks_2 14 rfl rfl)
theorem dX4_ticks_65 : decode cX4_ticks 65 = .ok (.aload_n 0, 1) := dk_42 (dk_at dksX4_ticks_2 17 rfl rfl)
theorem dX4_ticks_66 : decode cX4_ticks 66 = .ok (.getfield 25, 3) := dk_180 0 25 (dk_at dksX4_ticks_2 18 rfl rfl)
theorem dX4_ticks_69 : decode cX4_ticks 69 = .ok (.invokestatic 144, 3) := dk_184 0 144 (dk_at dksX4_ticks_2 21 rfl rfl)
theorem dX4_ticks_72 : decode cX4_ticks 72 = .ok (.ireturn, 1) := dk_172 (dk_at dksX4_ticks_3 0 rfl rfl)
abbrev cX4_isStair : ByteArray := prog_22_method_22_code
def yX4_isStair : MethodName := ⟨RX4, "isStair", "()Z"⟩
def dkwX4_isStair_0 : List UInt8 := [42, 180, 0, 25, 16, 17, 46, 158, 0, 7, 4, 167, 0, 4, 3, 172]
abbrev dktX4_isStair_0 : List UInt8 := dkwX4_isStair_0 ++ []
theorem dksX4_isStair_0 : cX4_isStair.data.toList.drop 0 = dktX4_isStair_0 := by decide +kernel
theorem dX4_isStair_0 : decode cX4_isStair 0 = .ok (.aload_n 0, 1) := dk_42 (dk_at dksX4_isStair_0 0 rfl rfl)
theorem dX4_isStair_1 : decode cX4_isStair 1 = .ok (.getfield 25, 3) := dk_180 0 25 (dk_at dksX4_isStair_0 1 rfl rfl)
theorem dX4_isStair_4 : decode cX4_isStair 4 = .ok (.bipush 17, 2) := dk_16 17 (dk_at dksX4_isStair_0 4 rfl rfl)
theorem dX4_isStair_6 : decode cX4_isStair 6 = .ok (.iaload, 1) := dk_46 (dk_at dksX4_isStair_0 6 rfl rfl)
theorem dX4_isStair_7 : decode cX4_isStair 7 = .ok (.ifCond .le 7, 3) := dk_158 0 7 (dk_at dksX4_isStair_0 7 rfl rfl)
theorem dX4_isStair_10 : decode cX4_isStair 10 = .ok (.iconst 1, 1) := dk_4 (dk_at dksX4_isStair_0 10 rfl rfl)
theorem dX4_isStair_11 : decode cX4_isStair 11 = .ok (.goto 4, 3) := dk_167 0 4 (dk_at dksX4_isStair_0 11 rfl rfl)
theorem dX4_isStair_14 : decode cX4_isStair 14 = .ok (.iconst 0, 1) := dk_3 (dk_at dksX4_isStair_0 14 rfl rfl)
theorem dX4_isStair_15 : decode cX4_isStair 15 = .ok (.ireturn, 1) := dk_172 (dk_at dksX4_isStair_0 15 rfl rfl)
abbrev cX4_keeps : ByteArray := prog_22_method_24_code
def yX4_keeps : MethodName := ⟨RX4, "keeps", "()V"⟩
def dkwX4_keeps_3 : List UInt8 := [42, 180, 0, 25, 27, 46, 79, 132, 1, 1, 167, 255, 227, 42, 89, 180, 0, 115, 4, 96, 181, 0, 115, 177]
abbrev dktX4_keeps_3 : List UInt8 := dkwX4_keeps_3 ++ []
def dkwX4_keeps_2 : List UInt8 := [181, 0, 115, 3, 60, 27, 16, 16, 162, 0, 29, 42, 180, 0, 38, 16, 16, 42, 180, 0, 115, 104, 27, 96]
abbrev dktX4_keeps_2 : List UInt8 := dkwX4_keeps_2 ++ dktX4_keeps_3
def dkwX4_keeps_1 : List UInt8 := [180, 0, 38, 27, 16, 16, 96, 46, 79, 132, 1, 1, 167, 255, 231, 42, 89, 180, 0, 115, 4, 100]
abbrev dktX4_keeps_1 : List UInt8 := dkwX4_keeps_1 ++ dktX4_keeps_2
def dkwX4_keeps_0 : List UInt8 := [42, 180, 0, 115, 16, 24, 160, 0, 43, 3, 60, 27, 17, 1, 112, 162, 0, 24, 42, 180, 0, 38, 27, 42]
abbrev dktX4_keeps_0 : List UInt8 := dkwX4_keeps_0 ++ dktX4_keeps_1
theorem dksX4_keeps_0 : cX4_keeps.data.toList.drop 0 = dktX4_keeps_0 := by decide +kernel
theorem dksX4_keeps_1 : cX4_keeps.data.toList.drop 24 = dktX4_keeps_1 := dk_seg dksX4_keeps_0 24 rfl rfl
theorem dksX4_keeps_2 : cX4_keeps.data.toList.drop 46 = dktX4_keeps_2 := dk_seg dksX4_keeps_1 22 rfl rfl
theorem dksX4_keeps_3 : cX4_keeps.data.toList.drop 70 = dktX4_keeps_3 := dk_seg dksX4_keeps_2 24 rfl rfl
theorem dX4_keeps_0 : decode cX4_keeps 0 = .ok (.aload_n 0, 1) := dk_42 (dk_at dksX4_keeps_0 0 rfl rfl)
theorem dX4_keeps_1 : decode cX4_keeps 1 = .ok (.getfield 115, 3) := dk_180 0 115 (dk_at dksX4_keeps_0 1 rfl rfl)
theorem dX4_keeps_4 : decode cX4_keeps 4 = .ok (.bipush 24, 2) := dk_16 24 (dk_at dksX4_keeps_0 4 rfl rfl)
theorem dX4_keeps_6 : decode cX4_keeps 6 = .ok (.if_icmp .ne 43, 3) := dk_160 0 43 (dk_at dksX4_keeps_0 6 rfl rfl)
theorem dX4_keeps_9 : decode cX4_keeps 9 = .ok (.iconst 0, 1) := dk_3 (dk_at dksX4_keeps_0 9 rfl rfl)
theorem dX4_keeps_10 : decode cX4_keeps 10 = .ok (.istore_n 1, 1) := dk_60 (dk_at dksX4_keeps_0 10 rfl rfl)
theorem dX4_keeps_11 : decode cX4_keeps 11 = .ok (.iload_n 1, 1) := dk_27 (dk_at dksX4_keeps_0 11 rfl rfl)
theorem dX4_keeps_12 : decode cX4_keeps 12 = .ok (.sipush 368, 3) := dk_17 1 112 (dk_at dksX4_keeps_0 12 rfl rfl)
theorem dX4_keeps_15 : decode cX4_keeps 15 = .ok (.if_icmp .ge 24, 3) := dk_162 0 24 (dk_at dksX4_keeps_0 15 rfl rfl)
theorem dX4_keeps_18 : decode cX4_keeps 18 = .ok (.aload_n 0, 1) := dk_42 (dk_at dksX4_keeps_0 18 rfl rfl)
theorem dX4_keeps_19 : decode cX4_keeps 19 = .ok (.getfield 38, 3) := dk_180 0 38 (dk_at dksX4_keeps_0 19 rfl rfl)
theorem dX4_keeps_22 : decode cX4_keeps 22 = .ok (.iload_n 1, 1) := dk_27 (dk_at dksX4_keeps_0 22 rfl rfl)
theorem dX4_keeps_23 : decode cX4_keeps 23 = .ok (.aload_n 0, 1) := dk_42 (dk_at dksX4_keeps_0 23 rfl rfl)
theorem dX4_keeps_24 : decode cX4_keeps 24 = .ok (.getfield 38, 3) := dk_180 0 38 (dk_at dksX4_keeps_1 0 rfl rfl)
theorem dX4_keeps_27 : decode cX4_keeps 27 = .ok (.iload_n 1, 1) := dk_27 (dk_at dksX4_keeps_1 3 rfl rfl)
theorem dX4_keeps_28 : decode cX4_keeps 28 = .ok (.bipush 16, 2) := dk_16 16 (dk_at dksX4_keeps_1 4 rfl rfl)
theorem dX4_keeps_30 : decode cX4_keeps 30 = .ok (.iadd, 1) := dk_96 (dk_at dksX4_keeps_1 6 rfl rfl)
theorem dX4_keeps_31 : decode cX4_keeps 31 = .ok (.iaload, 1) := dk_46 (dk_at dksX4_keeps_1 7 rfl rfl)
theorem dX4_keeps_32 : decode cX4_keeps 32 = .ok (.iastore, 1) := dk_79 (dk_at dksX4_keeps_1 8 rfl rfl)
theorem dX4_keeps_33 : decode cX4_keeps 33 = .ok (.iinc 1 1, 3) := dk_132 1 1 (dk_at dksX4_keeps_1 9 rfl rfl)
theorem dX4_keeps_36 : decode cX4_keeps 36 = .ok (.goto (-25), 3) := dk_167 255 231 (dk_at dksX4_keeps_1 12 rfl rfl)
theorem dX4_keeps_39 : decode cX4_keeps 39 = .ok (.aload_n 0, 1) := dk_42 (dk_at dksX4_keeps_1 15 rfl rfl)
theorem dX4_keeps_40 : decode cX4_keeps 40 = .ok (.dup, 1) := dk_89 (dk_at dksX4_keeps_1 16 rfl rfl)
theorem dX4_keeps_41 : decode cX4_keeps 41 = .ok (.getfield 115, 3) := dk_180 0 115 (dk_at dksX4_keeps_1 17 rfl rfl)
theorem dX4_keeps_44 : decode cX4_keeps 44 = .ok (.iconst 1, 1) := dk_4 (dk_at dksX4_keeps_1 20 rfl rfl)
theorem dX4_keeps_45 : decode cX4_keeps 45 = .ok (.isub, 1) := dk_100 (dk_at dksX4_keeps_1 21 rfl rfl)
theorem dX4_keeps_46 : decode cX4_keeps 46 = .ok (.putfield 115, 3) := dk_181 0 115 (dk_at dksX4_keeps_2 0 rfl rfl)
theorem dX4_keeps_49 : decode cX4_keeps 49 = .ok (.iconst 0, 1) := dk_3 (dk_at dksX4_keeps_2 3 rfl rfl)
theorem dX4_keeps_50 : decode cX4_keeps 50 = .ok (.istore_n 1, 1) := dk_60 (dk_at dksX4_keeps_2 4 rfl rfl)
theorem dX4_keeps_51 : decode cX4_keeps 51 = .ok (.iload_n 1, 1) := dk_27 (dk_at dksX4_keeps_2 5 rfl rfl)
theorem dX4_keeps_52 : decode cX4_keeps 52 = .ok (.bipush 16, 2) := dk_16 16 (dk_at dksX4_keeps_2 6 rfl rfl)
theorem dX4_keeps_54 : decode cX4_keeps 54 = .ok (.if_icmp .ge 29, 3) := dk_162 0 29 (dk_at dksX4_keeps_2 8 rfl rfl)
theorem dX4_keeps_57 : decode cX4_keeps 57 = .ok (.aload_n 0, 1) := dk_42 (dk_at dksX4_keeps_2 11 rfl rfl)
theorem dX4_keeps_58 : decode cX4_keeps 58 = .ok (.getfield 38, 3) := dk_180 0 38 (dk_at dksX4_keeps_2 12 rfl rfl)
theorem dX4_keeps_61 : decode cX4_keeps 61 = .ok (.bipush 16, 2) := dk_16 16 (dk_at dksX4_keeps_2 15 rfl rfl)
theorem dX4_keeps_63 : decode cX4_keeps 63 = .ok (.aload_n 0, 1) := dk_42 (dk_at dksX4_keeps_2 17 rfl rfl)
theorem dX4_keeps_64 : decode cX4_keeps 64 = .ok (.getfield 115, 3) := dk_180 0 115 (dk_at dksX4_keeps_2 18 rfl rfl)
theorem dX4_keeps_67 : decode cX4_keeps 67 = .ok (.imul, 1) := dk_104 (dk_at dksX4_keeps_2 21 rfl rfl)
theorem dX4_keeps_68 : decode cX4_keeps 68 = .ok (.iload_n 1, 1) := dk_27 (dk_at dksX4_keeps_2 22 rfl rfl)
theorem dX4_keeps_69 : decode cX4_keeps 69 = .ok (.iadd, 1) := dk_96 (dk_at dksX4_keeps_2 23 rfl rfl)
theorem dX4_keeps_70 : decode cX4_keeps 70 = .ok (.aload_n 0, 1) := dk_42 (dk_at dksX4_keeps_3 0 rfl rfl)
theorem dX4_keeps_71 : decode cX4_keeps 71 = .ok (.getfield 25, 3) := dk_180 0 25 (dk_at dksX4_keeps_3 1 rfl rfl)
theorem dX4_keeps_74 : decode cX4_keeps 74 = .ok (.iload_n 1, 1) := dk_27 (dk_at dksX4_keeps_3 4 rfl rfl)
theorem dX4_keeps_75 : decode cX4_keeps 75 = .ok (.iaload, 1) := dk_46 (dk_at dksX4_keeps_3 5 rfl rfl)
theorem dX4_keeps_76 : decode cX4_keeps 76 = .ok (.iastore, 1) := dk_79 (dk_at dksX4_keeps_3 6 rfl rfl)
theorem dX4_keeps_77 : decode cX4_keeps 77 = .ok (.iinc 1 1, 3) := dk_132 1 1 (dk_at dksX4_keeps_3 7 rfl rfl)
theorem dX4_keeps_80 : decode cX4_keeps 80 = .ok (.goto (-29), 3) := dk_167 255 227 (dk_at dksX4_keeps_3 10 rfl rfl)
theorem dX4_keeps_83 : decode cX4_keeps 83 = .ok (.aload_n 0, 1) := dk_42 (dk_at dksX4_keeps_3 13 rfl rfl)
theorem dX4_keeps_84 : decode cX4_keeps 84 = .ok (.dup, 1) := dk_89 (dk_at dksX4_keeps_3 14 rfl rfl)
theorem dX4_keeps_85 : decode cX4_keeps 85 = .ok (.getfield 115, 3) := dk_180 0 115 (dk_at dksX4_keeps_3 15 rfl rfl)
theorem dX4_keeps_88 : decode cX4_keeps 88 = .ok (.iconst 1, 1) := dk_4 (dk_at dksX4_keeps_3 18 rfl rfl)
theorem dX4_keeps_89 : decode cX4_keeps 89 = .ok (.iadd, 1) := dk_96 (dk_at dksX4_keeps_3 19 rfl rfl)
theorem dX4_keeps_90 : decode cX4_keeps 90 = .ok (.putfield 115, 3) := dk_181 0 115 (dk_at dksX4_keeps_3 20 rfl rfl)
theorem dX4_keeps_93 : decode cX4_keeps 93 = .ok (.return_, 1) := dk_177 (dk_at dksX4_keeps_3 23 rfl rfl)
abbrev cX4_tick : ByteArray := prog_22_method_29_code
def yX4_tick : MethodName := ⟨RX4, "tick", "([I)V"⟩
def dkwX4_tick_10 : List UInt8 := [46, 4, 96, 79, 177]
abbrev dktX4_tick_10 : List UInt8 := dkwX4_tick_10 ++ []
def dkwX4_tick_9 : List UInt8 := [167, 0, 4, 28, 61, 132, 3, 255, 167, 255, 219, 28, 155, 0, 9, 43, 5, 28, 96, 3, 79, 43, 3, 92]
abbrev dktX4_tick_9 : List UInt8 := dkwX4_tick_9 ++ dktX4_tick_10
def dkwX4_tick_8 : List UInt8 := [5, 29, 96, 46, 2, 160, 0, 22, 43, 29, 3, 43, 16, 9, 29, 96, 46, 184, 0, 118, 153, 0, 7, 29]
abbrev dktX4_tick_8 : List UInt8 := dkwX4_tick_8 ++ dktX4_tick_9
def dkwX4_tick_7 : List UInt8 := [28, 96, 46, 79, 132, 2, 1, 167, 255, 196, 2, 61, 43, 16, 17, 46, 4, 100, 62, 29, 155, 0, 39, 43]
abbrev dktX4_tick_7 : List UInt8 := dkwX4_tick_7 ++ dktX4_tick_8
def dkwX4_tick_6 : List UInt8 := [79, 43, 5, 28, 96, 43, 5, 28, 96, 46, 43, 16, 16, 46, 161, 0, 8, 16, 99, 167, 0, 8, 43, 5]
abbrev dktX4_tick_6 : List UInt8 := dkwX4_tick_6 ++ dktX4_tick_7
def dkwX4_tick_5 : List UInt8 := [162, 0, 58, 43, 5, 28, 96, 46, 184, 0, 130, 153, 0, 41, 43, 5, 28, 96, 92, 46, 43, 4, 46, 96]
abbrev dktX4_tick_5 : List UInt8 := dkwX4_tick_5 ++ dktX4_tick_6
def dkwX4_tick_4 : List UInt8 := [167, 255, 214, 132, 3, 1, 167, 255, 200, 132, 2, 255, 167, 255, 188, 3, 61, 28, 43, 16, 17, 46]
abbrev dktX4_tick_4 : List UInt8 := dkwX4_tick_4 ++ dktX4_tick_5
def dkwX4_tick_3 : List UInt8 := [160, 0, 20, 43, 16, 9, 21, 4, 96, 46, 29, 160, 0, 9, 43, 21, 4, 184, 0, 126, 132, 4, 1]
abbrev dktX4_tick_3 : List UInt8 := dkwX4_tick_3 ++ dktX4_tick_4
def dkwX4_tick_2 : List UInt8 := [3, 54, 4, 21, 4, 43, 16, 17, 46, 162, 0, 39, 42, 180, 0, 44, 5, 21, 4, 96, 46, 28]
abbrev dktX4_tick_2 : List UInt8 := dkwX4_tick_2 ++ dktX4_tick_3
def dkwX4_tick_1 : List UInt8 := [132, 2, 1, 167, 255, 232, 43, 16, 16, 46, 4, 100, 61, 28, 155, 0, 70, 3, 62, 29, 5, 162, 0, 57]
abbrev dktX4_tick_1 : List UInt8 := dkwX4_tick_1 ++ dktX4_tick_2
def dkwX4_tick_0 : List UInt8 := [3, 61, 28, 43, 16, 17, 46, 162, 0, 22, 42, 180, 0, 44, 5, 28, 96, 43, 5, 28, 96, 46, 79]
abbrev dktX4_tick_0 : List UInt8 := dkwX4_tick_0 ++ dktX4_tick_1
theorem dksX4_tick_0 : cX4_tick.data.toList.drop 0 = dktX4_tick_0 := by decide +kernel
theorem dksX4_tick_1 : cX4_tick.data.toList.drop 23 = dktX4_tick_1 := dk_seg dksX4_tick_0 23 rfl rfl
theorem dksX4_tick_2 : cX4_tick.data.toList.drop 47 = dktX4_tick_2 := dk_seg dksX4_tick_1 24 rfl rfl
theorem dksX4_tick_3 : cX4_tick.data.toList.drop 69 = dktX4_tick_3 := dk_seg dksX4_tick_2 22 rfl rfl
theorem dksX4_tick_4 : cX4_tick.data.toList.drop 92 = dktX4_tick_4 := dk_seg dksX4_tick_3 23 rfl rfl
theorem dksX4_tick_5 : cX4_tick.data.toList.drop 114 = dktX4_tick_5 := dk_seg dksX4_tick_4 22 rfl rfl
theorem dksX4_tick_6 : cX4_tick.data.toList.drop 138 = dktX4_tick_6 := dk_seg dksX4_tick_5 24 rfl rfl
theorem dksX4_tick_7 : cX4_tick.data.toList.drop 162 = dktX4_tick_7 := dk_seg dksX4_tick_6 24 rfl rfl
theorem dksX4_tick_8 : cX4_tick.data.toList.drop 186 = dktX4_tick_8 := dk_seg dksX4_tick_7 24 rfl rfl
theorem dksX4_tick_9 : cX4_tick.data.toList.drop 210 = dktX4_tick_9 := dk_seg dksX4_tick_8 24 rfl rfl
theorem dksX4_tick_10 : cX4_tick.data.toList.drop 234 = dktX4_tick_10 := dk_seg dksX4_tick_9 24 rfl rfl
theorem dX4_tick_0 : decode cX4_tick 0 = .ok (.iconst 0, 1) := dk_3 (dk_at dksX4_tick_0 0 rfl rfl)
theorem dX4_tick_1 : decode cX4_tick 1 = .ok (.istore_n 2, 1) := dk_61 (dk_at dksX4_tick_0 1 rfl rfl)
theorem dX4_tick_2 : decode cX4_tick 2 = .ok (.iload_n 2, 1) := dk_28 (dk_at dksX4_tick_0 2 rfl rfl)
theorem dX4_tick_3 : decode cX4_tick 3 = .ok (.aload_n 1, 1) := dk_43 (dk_at dksX4_tick_0 3 rfl rfl)
theorem dX4_tick_4 : decode cX4_tick 4 = .ok (.bipush 17, 2) := dk_16 17 (dk_at dksX4_tick_0 4 rfl rfl)
theorem dX4_tick_6 : decode cX4_tick 6 = .ok (.iaload, 1) := dk_46 (dk_at dksX4_tick_0 6 rfl rfl)
theorem dX4_tick_7 : decode cX4_tick 7 = .ok (.if_icmp .ge 22, 3) := dk_162 0 22 (dk_at dksX4_tick_0 7 rfl rfl)
theorem dX4_tick_10 : decode cX4_tick 10 = .ok (.aload_n 0, 1) := dk_42 (dk_at dksX4_tick_0 10 rfl rfl)
theorem dX4_tick_11 : decode cX4_tick 11 = .ok (.getfield 44, 3) := dk_180 0 44 (dk_at dksX4_tick_0 11 rfl rfl)
theorem dX4_tick_14 : decode cX4_tick 14 = .ok (.iconst 2, 1) := dk_5 (dk_at dksX4_tick_0 14 rfl rfl)
theorem dX4_tick_15 : decode cX4_tick 15 = .ok (.iload_n 2, 1) := dk_28 (dk_at dksX4_tick_0 15 rfl rfl)
theorem dX4_tick_16 : decode cX4_tick 16 = .ok (.iadd, 1) := dk_96 (dk_at dksX4_tick_0 16 rfl rfl)
theorem dX4_tick_17 : decode cX4_tick 17 = .ok (.aload_n 1, 1) := dk_43 (dk_at dksX4_tick_0 17 rfl rfl)
theorem dX4_tick_18 : decode cX4_tick 18 = .ok (.iconst 2, 1) := dk_5 (dk_at dksX4_tick_0 18 rfl rfl)
theorem dX4_tick_19 : decode cX4_tick 19 = .ok (.iload_n 2, 1) := dk_28 (dk_at dksX4_tick_0 19 rfl rfl)
theorem dX4_tick_20 : decode cX4_tick 20 = .ok (.iadd, 1) := dk_96 (dk_at dksX4_tick_0 20 rfl rfl)
theorem dX4_tick_21 : decode cX4_tick 21 = .ok (.iaload, 1) := dk_46 (dk_at dksX4_tick_0 21 rfl rfl)
theorem dX4_tick_22 : decode cX4_tick 22 = .ok (.iastore, 1) := dk_79 (dk_at dksX4_tick_0 22 rfl rfl)
theorem dX4_tick_23 : decode cX4_tick 23 = .ok (.iinc 2 1, 3) := dk_132 2 1 (dk_at dksX4_tick_1 0 rfl rfl)
theorem dX4_tick_26 : decode cX4_tick 26 = .ok (.goto (-24), 3) := dk_167 255 232 (dk_at dksX4_tick_1 3 rfl rfl)
theorem dX4_tick_29 : decode cX4_tick 29 = .ok (.aload_n 1, 1) := dk_43 (dk_at dksX4_tick_1 6 rfl rfl)
theorem dX4_tick_30 : decode cX4_tick 30 = .ok (.bipush 16, 2) := dk_16 16 (dk_at dksX4_tick_1 7 rfl rfl)
theorem dX4_tick_32 : decode cX4_tick 32 = .ok (.iaload, 1) := dk_46 (dk_at dksX4_tick_1 9 rfl rfl)
theorem dX4_tick_33 : decode cX4_tick 33 = .ok (.iconst 1, 1) := dk_4 (dk_at dksX4_tick_1 10 rfl rfl)
theorem dX4_tick_34 : decode cX4_tick 34 = .ok (.isub, 1) := dk_100 (dk_at dksX4_tick_1 11 rfl rfl)
theorem dX4_tick_35 : decode cX4_tick 35 = .ok (.istore_n 2, 1) := dk_61 (dk_at dksX4_tick_1 12 rfl rfl)
theorem dX4_tick_36 : decode cX4_tick 36 = .ok (.iload_n 2, 1) := dk_28 (dk_at dksX4_tick_1 13 rfl rfl)
theorem dX4_tick_37 : decode cX4_tick 37 = .ok (.ifCond .lt 70, 3) := dk_155 0 70 (dk_at dksX4_tick_1 14 rfl rfl)
theorem dX4_tick_40 : decode cX4_tick 40 = .ok (.iconst 0, 1) := dk_3 (dk_at dksX4_tick_1 17 rfl rfl)
theorem dX4_tick_41 : decode cX4_tick 41 = .ok (.istore_n 3, 1) := dk_62 (dk_at dksX4_tick_1 18 rfl rfl)
theorem dX4_tick_42 : decode cX4_tick 42 = .ok (.iload_n 3, 1) := dk_29 (dk_at dksX4_tick_1 19 rfl rfl)
theorem dX4_tick_43 : decode cX4_tick 43 = .ok (.iconst 2, 1) := dk_5 (dk_at dksX4_tick_1 20 rfl rfl)
theorem dX4_tick_44 : decode cX4_tick 44 = .ok (.if_icmp .ge 57, 3) := dk_162 0 57 (dk_at dksX4_tick_1 21 rfl rfl)
theorem dX4_tick_47 : decode cX4_tick 47 = .ok (.iconst 0, 1) := dk_3 (dk_at dksX4_tick_2 0 rfl rfl)
theorem dX4_tick_48 : decode cX4_tick 48 = .ok (.istore 4, 2) := dk_54 4 (dk_at dksX4_tick_2 1 rfl rfl)
theorem dX4_tick_50 : decode cX4_tick 50 = .ok (.iload 4, 2) := dk_21 4 (dk_at dksX4_tick_2 3 rfl rfl)
theorem dX4_tick_52 : decode cX4_tick 52 = .ok (.aload_n 1, 1) := dk_43 (dk_at dksX4_tick_2 5 rfl rfl)
theorem dX4_tick_53 : decode cX4_tick 53 = .ok (.bipush 17, 2) := dk_16 17 (dk_at dksX4_tick_2 6 rfl rfl)
theorem dX4_tick_55 : decode cX4_tick 55 = .ok (.iaload, 1) := dk_46 (dk_at dksX4_tick_2 8 rfl rfl)
theorem dX4_tick_56 : decode cX4_tick 56 = .ok (.if_icmp .ge 39, 3) := dk_162 0 39 (dk_at dksX4_tick_2 9 rfl rfl)
theorem dX4_tick_59 : decode cX4_tick 59 = .ok (.aload_n 0, 1) := dk_42 (dk_at dksX4_tick_2 12 rfl rfl)
theorem dX4_tick_60 : decode cX4_tick 60 = .ok (.getfield 44, 3) := dk_180 0 44 (dk_at dksX4_tick_2 13 rfl rfl)
theorem dX4_tick_63 : decode cX4_tick 63 = .ok (.iconst 2, 1) := dk_5 (dk_at dksX4_tick_2 16 rfl rfl)
theorem dX4_tick_64 : decode cX4_tick 64 = .ok (.iload 4, 2) := dk_21 4 (dk_at dksX4_tick_2 17 rfl rfl)
theorem dX4_tick_66 : decode cX4_tick 66 = .ok (.iadd, 1) := dk_96 (dk_at dksX4_tick_2 19 rfl rfl)
theorem dX4_tick_67 : decode cX4_tick 67 = .ok (.iaload, 1) := dk_46 (dk_at dksX4_tick_2 20 rfl rfl)
theorem dX4_tick_68 : decode cX4_tick 68 = .ok (.iload_n 2, 1) := dk_28 (dk_at dksX4_tick_2 21 rfl rfl)
theorem dX4_tick_69 : decode cX4_tick 69 = .ok (.if_icmp .ne 20, 3) := dk_160 0 20 (dk_at dksX4_tick_3 0 rfl rfl)
theorem dX4_tick_72 : decode cX4_tick 72 = .ok (.aload_n 1, 1) := dk_43 (dk_at dksX4_tick_3 3 rfl rfl)
theorem dX4_tick_73 : decode cX4_tick 73 = .ok (.bipush 9, 2) := dk_16 9 (dk_at dksX4_tick_3 4 rfl rfl)
theorem dX4_tick_75 : decode cX4_tick 75 = .ok (.iload 4, 2) := dk_21 4 (dk_at dksX4_tick_3 6 rfl rfl)
theorem dX4_tick_77 : decode cX4_tick 77 = .ok (.iadd, 1) := dk_96 (dk_at dksX4_tick_3 8 rfl rfl)
theorem dX4_tick_78 : decode cX4_tick 78 = .ok (.iaload, 1) := dk_46 (dk_at dksX4_tick_3 9 rfl rfl)
theorem dX4_tick_79 : decode cX4_tick 79 = .ok (.iload_n 3, 1) := dk_29 (dk_at dksX4_tick_3 10 rfl rfl)
theorem dX4_tick_80 : decode cX4_tick 80 = .ok (.if_icmp .ne 9, 3) := dk_160 0 9 (dk_at dksX4_tick_3 11 rfl rfl)
theorem dX4_tick_83 : decode cX4_tick 83 = .ok (.aload_n 1, 1) := dk_43 (dk_at dksX4_tick_3 14 rfl rfl)
theorem dX4_tick_84 : decode cX4_tick 84 = .ok (.iload 4, 2) := dk_21 4 (dk_at dksX4_tick_3 15 rfl rfl)
theorem dX4_tick_86 : decode cX4_tick 86 = .ok (.invokestatic 126, 3) := dk_184 0 126 (dk_at dksX4_tick_3 17 rfl rfl)
theorem dX4_tick_89 : decode cX4_tick 89 = .ok (.iinc 4 1, 3) := dk_132 4 1 (dk_at dksX4_tick_3 20 rfl rfl)
theorem dX4_tick_92 : decode cX4_tick 92 = .ok (.goto (-42), 3) := dk_167 255 214 (dk_at dksX4_tick_4 0 rfl rfl)
theorem dX4_tick_95 : decode cX4_tick 95 = .ok (.iinc 3 1, 3) := dk_132 3 1 (dk_at dksX4_tick_4 3 rfl rfl)
theorem dX4_tick_98 : decode cX4_tick 98 = .ok (.goto (-56), 3) := dk_167 255 200 (dk_at dksX4_tick_4 6 rfl rfl)
theorem dX4_tick_101 : decode cX4_tick 101 = .ok (.iinc 2 (-1), 3) := dk_132 2 255 (dk_at dksX4_tick_4 9 rfl rfl)
theorem dX4_tick_104 : decode cX4_tick 104 = .ok (.goto (-68), 3) := dk_167 255 188 (dk_at dksX4_tick_4 12 rfl rfl)
theorem dX4_tick_107 : decode cX4_tick 107 = .ok (.iconst 0, 1) := dk_3 (dk_at dksX4_tick_4 15 rfl rfl)
theorem dX4_tick_108 : decode cX4_tick 108 = .ok (.istore_n 2, 1) := dk_61 (dk_at dksX4_tick_4 16 rfl rfl)
theorem dX4_tick_109 : decode cX4_tick 109 = .ok (.iload_n 2, 1) := dk_28 (dk_at dksX4_tick_4 17 rfl rfl)
theorem dX4_tick_110 : decode cX4_tick 110 = .ok (.aload_n 1, 1) := dk_43 (dk_at dksX4_tick_4 18 rfl rfl)
theorem dX4_tick_111 : decode cX4_tick 111 = .ok (.bipush 17, 2) := dk_16 17 (dk_at dksX4_tick_4 19 rfl rfl)
theorem dX4_tick_113 : decode cX4_tick 113 = .ok (.iaload, 1) := dk_46 (dk_at dksX4_tick_4 21 rfl rfl)
theorem dX4_tick_114 : decode cX4_tick 114 = .ok (.if_icmp .ge 58, 3) := dk_162 0 58 (dk_at dksX4_tick_5 0 rfl rfl)
theorem dX4_tick_117 : decode cX4_tick 117 = .ok (.aload_n 1, 1) := dk_43 (dk_at dksX4_tick_5 3 rfl rfl)
theorem dX4_tick_118 : decode cX4_tick 118 = .ok (.iconst 2, 1) := dk_5 (dk_at dksX4_tick_5 4 rfl rfl)
theorem dX4_tick_119 : decode cX4_tick 119 = .ok (.iload_n 2, 1) := dk_28 (dk_at dksX4_tick_5 5 rfl rfl)
theorem dX4_tick_120 : decode cX4_tick 120 = .ok (.iadd, 1) := dk_96 (dk_at dksX4_tick_5 6 rfl rfl)
theorem dX4_tick_121 : decode cX4_tick 121 = .ok (.iaload, 1) := dk_46 (dk_at dksX4_tick_5 7 rfl rfl)
theorem dX4_tick_122 : decode cX4_tick 122 = .ok (.invokestatic 130, 3) := dk_184 0 130 (dk_at dksX4_tick_5 8 rfl rfl)
theorem dX4_tick_125 : decode cX4_tick 125 = .ok (.ifCond .eq 41, 3) := dk_153 0 41 (dk_at dksX4_tick_5 11 rfl rfl)
theorem dX4_tick_128 : decode cX4_tick 128 = .ok (.aload_n 1, 1) := dk_43 (dk_at dksX4_tick_5 14 rfl rfl)
theorem dX4_tick_129 : decode cX4_tick 129 = .ok (.iconst 2, 1) := dk_5 (dk_at dksX4_tick_5 15 rfl rfl)
theorem dX4_tick_130 : decode cX4_tick 130 = .ok (.iload_n 2, 1) := dk_28 (dk_at dksX4_tick_5 16 rfl rfl)
theorem dX4_tick_131 : decode cX4_tick 131 = .ok (.iadd, 1) := dk_96 (dk_at dksX4_tick_5 17 rfl rfl)
theorem dX4_tick_132 : decode cX4_tick 132 = .ok (.dup2, 1) := dk_92 (dk_at dksX4_tick_5 18 rfl rfl)
theorem dX4_tick_133 : decode cX4_tick 133 = .ok (.iaload, 1) := dk_46 (dk_at dksX4_tick_5 19 rfl rfl)
theorem dX4_tick_134 : decode cX4_tick 134 = .ok (.aload_n 1, 1) := dk_43 (dk_at dksX4_tick_5 20 rfl rfl)
theorem dX4_tick_135 : decode cX4_tick 135 = .ok (.iconst 1, 1) := dk_4 (dk_at dksX4_tick_5 21 rfl rfl)
theorem dX4_tick_136 : decode cX4_tick 136 = .ok (.iaload, 1) := dk_46 (dk_at dksX4_tick_5 22 rfl rfl)
theorem dX4_tick_137 : decode cX4_tick 137 = .ok (.iadd, 1) := dk_96 (dk_at dksX4_tick_5 23 rfl rfl)
theorem dX4_tick_138 : decode cX4_tick 138 = .ok (.iastore, 1) := dk_79 (dk_at dksX4_tick_6 0 rfl rfl)
theorem dX4_tick_139 : decode cX4_tick 139 = .ok (.aload_n 1, 1) := dk_43 (dk_at dksX4_tick_6 1 rfl rfl)
theorem dX4_tick_140 : decode cX4_tick 140 = .ok (.iconst 2, 1) := dk_5 (dk_at dksX4_tick_6 2 rfl rfl)
theorem dX4_tick_141 : decode cX4_tick 141 = .ok (.iload_n 2, 1) := dk_28 (dk_at dksX4_tick_6 3 rfl rfl)
theorem dX4_tick_142 : decode cX4_tick 142 = .ok (.iadd, 1) := dk_96 (dk_at dksX4_tick_6 4 rfl rfl)
theorem dX4_tick_143 : decode cX4_tick 143 = .ok (.aload_n 1, 1) := dk_43 (dk_at dksX4_tick_6 5 rfl rfl)
theorem dX4_tick_144 : decode cX4_tick 144 = .ok (.iconst 2, 1) := dk_5 (dk_at dksX4_tick_6 6 rfl rfl)
theorem dX4_tick_145 : decode cX4_tick 145 = .ok (.iload_n 2, 1) := dk_28 (dk_at dksX4_tick_6 7 rfl rfl)
theorem dX4_tick_146 : decode cX4_tick 146 = .ok (.iadd, 1) := dk_96 (dk_at dksX4_tick_6 8 rfl rfl)
theorem dX4_tick_147 : decode cX4_tick 147 = .ok (.iaload, 1) := dk_46 (dk_at dksX4_tick_6 9 rfl rfl)
theorem dX4_tick_148 : decode cX4_tick 148 = .ok (.aload_n 1, 1) := dk_43 (dk_at dksX4_tick_6 10 rfl rfl)
theorem dX4_tick_149 : decode cX4_tick 149 = .ok (.bipush 16, 2) := dk_16 16 (dk_at dksX4_tick_6 11 rfl rfl)
theorem dX4_tick_151 : decode cX4_tick 151 = .ok (.iaload, 1) := dk_46 (dk_at dksX4_tick_6 13 rfl rfl)
theorem dX4_tick_152 : decode cX4_tick 152 = .ok (.if_icmp .lt 8, 3) := dk_161 0 8 (dk_at dksX4_tick_6 14 rfl rfl)
theorem dX4_tick_155 : decode cX4_tick 155 = .ok (.bipush 99, 2) := dk_16 99 (dk_at dksX4_tick_6 17 rfl rfl)
theorem dX4_tick_157 : decode cX4_tick 157 = .ok (.goto 8, 3) := dk_167 0 8 (dk_at dksX4_tick_6 19 rfl rfl)
theorem dX4_tick_160 : decode cX4_tick 160 = .ok (.aload_n 1, 1) := dk_43 (dk_at dksX4_tick_6 22 rfl rfl)
theorem dX4_tick_161 : decode cX4_tick 161 = .ok (.iconst 2, 1) := dk_5 (dk_at dksX4_tick_6 23 rfl rfl)
theorem dX4_tick_162 : decode cX4_tick 162 = .ok (.iload_n 2, 1) := dk_28 (dk_at dksX4_tick_7 0 rfl rfl)
theorem dX4_tick_163 : decode cX4_tick 163 = .ok (.iadd, 1) := dk_96 (dk_at dksX4_tick_7 1 rfl rfl)
theorem dX4_tick_164 : decode cX4_tick 164 = .ok (.iaload, 1) := dk_46 (dk_at dksX4_tick_7 2 rfl rfl)
theorem dX4_tick_165 : decode cX4_tick 165 = .ok (.iastore, 1) := dk_79 (dk_at dksX4_tick_7 3 rfl rfl)
theorem dX4_tick_166 : decode cX4_tick 166 = .ok (.iinc 2 1, 3) := dk_132 2 1 (dk_at dksX4_tick_7 4 rfl rfl)
theorem dX4_tick_169 : decode cX4_tick 169 = .ok (.goto (-60), 3) := dk_167 255 196 (dk_at dksX4_tick_7 7 rfl rfl)
theorem dX4_tick_172 : decode cX4_tick 172 = .ok (.iconst (-1), 1) := dk_2 (dk_at dksX4_tick_7 10 rfl rfl)
theorem dX4_tick_173 : decode cX4_tick 173 = .ok (.istore_n 2, 1) := dk_61 (dk_at dksX4_tick_7 11 rfl rfl)
theorem dX4_tick_174 : decode cX4_tick 174 = .ok (.aload_n 1, 1) := dk_43 (dk_at dksX4_tick_7 12 rfl rfl)
theorem dX4_tick_175 : decode cX4_tick 175 = .ok (.bipush 17, 2) := dk_16 17 (dk_at dksX4_tick_7 13 rfl rfl)
theorem dX4_tick_177 : decode cX4_tick 177 = .ok (.iaload, 1) := dk_46 (dk_at dksX4_tick_7 15 rfl rfl)
theorem dX4_tick_178 : decode cX4_tick 178 = .ok (.iconst 1, 1) := dk_4 (dk_at dksX4_tick_7 16 rfl rfl)
theorem dX4_tick_179 : decode cX4_tick 179 = .ok (.isub, 1) := dk_100 (dk_at dksX4_tick_7 17 rfl rfl)
theorem dX4_tick_180 : decode cX4_tick 180 = .ok (.istore_n 3, 1) := dk_62 (dk_at dksX4_tick_7 18 rfl rfl)
theorem dX4_tick_181 : decode cX4_tick 181 = .ok (.iload_n 3, 1) := dk_29 (dk_at dksX4_tick_7 19 rfl rfl)
theorem dX4_tick_182 : decode cX4_tick 182 = .ok (.ifCond .lt 39, 3) := dk_155 0 39 (dk_at dksX4_tick_7 20 rfl rfl)
theorem dX4_tick_185 : decode cX4_tick 185 = .ok (.aload_n 1, 1) := dk_43 (dk_at dksX4_tick_7 23 rfl rfl)
theorem dX4_tick_186 : decode cX4_tick 186 = .ok (.iconst 2, 1) := dk_5 (dk_at dksX4_tick_8 0 rfl rfl)
theorem dX4_tick_187 : decode cX4_tick 187 = .ok (.iload_n 3, 1) := dk_29 (dk_at dksX4_tick_8 1 rfl rfl)
theorem dX4_tick_188 : decode cX4_tick 188 = .ok (.iadd, 1) := dk_96 (dk_at dksX4_tick_8 2 rfl rfl)
theorem dX4_tick_189 : decode cX4_tick 189 = .ok (.iaload, 1) := dk_46 (dk_at dksX4_tick_8 3 rfl rfl)
theorem dX4_tick_190 : decode cX4_tick 190 = .ok (.iconst (-1), 1) := dk_2 (dk_at dksX4_tick_8 4 rfl rfl)
theorem dX4_tick_191 : decode cX4_tick 191 = .ok (.if_icmp .ne 22, 3) := dk_160 0 22 (dk_at dksX4_tick_8 5 rfl rfl)
theorem dX4_tick_194 : decode cX4_tick 194 = .ok (.aload_n 1, 1) := dk_43 (dk_at dksX4_tick_8 8 rfl rfl)
theorem dX4_tick_195 : decode cX4_tick 195 = .ok (.iload_n 3, 1) := dk_29 (dk_at dksX4_tick_8 9 rfl rfl)
theorem dX4_tick_196 : decode cX4_tick 196 = .ok (.iconst 0, 1) := dk_3 (dk_at dksX4_tick_8 10 rfl rfl)
theorem dX4_tick_197 : decode cX4_tick 197 = .ok (.aload_n 1, 1) := dk_43 (dk_at dksX4_tick_8 11 rfl rfl)
theorem dX4_tick_198 : decode cX4_tick 198 = .ok (.bipush 9, 2) := dk_16 9 (dk_at dksX4_tick_8 12 rfl rfl)
theorem dX4_tick_200 : decode cX4_tick 200 = .ok (.iload_n 3, 1) := dk_29 (dk_at dksX4_tick_8 14 rfl rfl)
theorem dX4_tick_201 : decode cX4_tick 201 = .ok (.iadd, 1) := dk_96 (dk_at dksX4_tick_8 15 rfl rfl)
theorem dX4_tick_202 : decode cX4_tick 202 = .ok (.iaload, 1) := dk_46 (dk_at dksX4_tick_8 16 rfl rfl)
theorem dX4_tick_203 : decode cX4_tick 203 = .ok (.invokestatic 118, 3) := dk_184 0 118 (dk_at dksX4_tick_8 17 rfl rfl)
theorem dX4_tick_206 : decode cX4_tick 206 = .ok (.ifCond .eq 7, 3) := dk_153 0 7 (dk_at dksX4_tick_8 20 rfl rfl)
theorem dX4_tick_209 : decode cX4_tick 209 = .ok (.iload_n 3, 1) := dk_29 (dk_at dksX4_tick_8 23 rfl rfl)
theorem dX4_tick_210 : decode cX4_tick 210 = .ok (.goto 4, 3) := dk_167 0 4 (dk_at dksX4_tick_9 0 rfl rfl)
theorem dX4_tick_213 : decode cX4_tick 213 = .ok (.iload_n 2, 1) := dk_28 (dk_at dksX4_tick_9 3 rfl rfl)
theorem dX4_tick_214 : decode cX4_tick 214 = .ok (.istore_n 2, 1) := dk_61 (dk_at dksX4_tick_9 4 rfl rfl)
theorem dX4_tick_215 : decode cX4_tick 215 = .ok (.iinc 3 (-1), 3) := dk_132 3 255 (dk_at dksX4_tick_9 5 rfl rfl)
theorem dX4_tick_218 : decode cX4_tick 218 = .ok (.goto (-37), 3) := dk_167 255 219 (dk_at dksX4_tick_9 8 rfl rfl)
theorem dX4_tick_221 : decode cX4_tick 221 = .ok (.iload_n 2, 1) := dk_28 (dk_at dksX4_tick_9 11 rfl rfl)
theorem dX4_tick_222 : decode cX4_tick 222 = .ok (.ifCond .lt 9, 3) := dk_155 0 9 (dk_at dksX4_tick_9 12 rfl rfl)
theorem dX4_tick_225 : decode cX4_tick 225 = .ok (.aload_n 1, 1) := dk_43 (dk_at dksX4_tick_9 15 rfl rfl)
theorem dX4_tick_226 : decode cX4_tick 226 = .ok (.iconst 2, 1) := dk_5 (dk_at dksX4_tick_9 16 rfl rfl)
theorem dX4_tick_227 : decode cX4_tick 227 = .ok (.iload_n 2, 1) := dk_28 (dk_at dksX4_tick_9 17 rfl rfl)
theorem dX4_tick_228 : decode cX4_tick 228 = .ok (.iadd, 1) := dk_96 (dk_at dksX4_tick_9 18 rfl rfl)
theorem dX4_tick_229 : decode cX4_tick 229 = .ok (.iconst 0, 1) := dk_3 (dk_at dksX4_tick_9 19 rfl rfl)
theorem dX4_tick_230 : decode cX4_tick 230 = .ok (.iastore, 1) := dk_79 (dk_at dksX4_tick_9 20 rfl rfl)
theorem dX4_tick_231 : decode cX4_tick 231 = .ok (.aload_n 1, 1) := dk_43 (dk_at dksX4_tick_9 21 rfl rfl)
theorem dX4_tick_232 : decode cX4_tick 232 = .ok (.iconst 0, 1) := dk_3 (dk_at dksX4_tick_9 22 rfl rfl)
theorem dX4_tick_233 : decode cX4_tick 233 = .ok (.dup2, 1) := dk_92 (dk_at dksX4_tick_9 23 rfl rfl)
theorem dX4_tick_234 : decode cX4_tick 234 = .ok (.iaload, 1) := dk_46 (dk_at dksX4_tick_10 0 rfl rfl)
theorem dX4_tick_235 : decode cX4_tick 235 = .ok (.iconst 1, 1) := dk_4 (dk_at dksX4_tick_10 1 rfl rfl)
theorem dX4_tick_236 : decode cX4_tick 236 = .ok (.iadd, 1) := dk_96 (dk_at dksX4_tick_10 2 rfl rfl)
theorem dX4_tick_237 : decode cX4_tick 237 = .ok (.iastore, 1) := dk_79 (dk_at dksX4_tick_10 3 rfl rfl)
theorem dX4_tick_238 : decode cX4_tick 238 = .ok (.return_, 1) := dk_177 (dk_at dksX4_tick_10 4 rfl rfl)
abbrev cX4_moves : ByteArray := prog_22_method_28_code
def yX4_moves : MethodName := ⟨RX4, "moves", "([II)V"⟩
def dkwX4_moves_3 : List UInt8 := [87, 177]
abbrev dktX4_moves_3 : List UInt8 := dkwX4_moves_3 ++ []
def dkwX4_moves_2 : List UInt8 := [153, 0, 7, 4, 167, 0, 4, 3, 62, 28, 6, 160, 0, 14, 29, 153, 0, 10, 42, 27, 4, 184, 0, 122]
abbrev dktX4_moves_2 : List UInt8 := dkwX4_moves_2 ++ dktX4_moves_3
def dkwX4_moves_1 : List UInt8 := [167, 0, 31, 28, 8, 160, 0, 25, 42, 3, 46, 5, 112, 4, 160, 0, 16, 42, 27, 2, 184, 0, 122]
abbrev dktX4_moves_1 : List UInt8 := dkwX4_moves_1 ++ dktX4_moves_2
def dkwX4_moves_0 : List UInt8 := [42, 16, 18, 27, 96, 46, 61, 28, 5, 159, 0, 8, 28, 6, 160, 0, 12, 42, 27, 4, 184, 0, 122]
abbrev dktX4_moves_0 : List UInt8 := dkwX4_moves_0 ++ dktX4_moves_1
theorem dksX4_moves_0 : cX4_moves.data.toList.drop 0 = dktX4_moves_0 := by decide +kernel
theorem dksX4_moves_1 : cX4_moves.data.toList.drop 23 = dktX4_moves_1 := dk_seg dksX4_moves_0 23 rfl rfl
theorem dksX4_moves_2 : cX4_moves.data.toList.drop 46 = dktX4_moves_2 := dk_seg dksX4_moves_1 23 rfl rfl
theorem dksX4_moves_3 : cX4_moves.data.toList.drop 70 = dktX4_moves_3 := dk_seg dksX4_moves_2 24 rfl rfl
theorem dX4_moves_0 : decode cX4_moves 0 = .ok (.aload_n 0, 1) := dk_42 (dk_at dksX4_moves_0 0 rfl rfl)
theorem dX4_moves_1 : decode cX4_moves 1 = .ok (.bipush 18, 2) := dk_16 18 (dk_at dksX4_moves_0 1 rfl rfl)
theorem dX4_moves_3 : decode cX4_moves 3 = .ok (.iload_n 1, 1) := dk_27 (dk_at dksX4_moves_0 3 rfl rfl)
theorem dX4_moves_4 : decode cX4_moves 4 = .ok (.iadd, 1) := dk_96 (dk_at dksX4_moves_0 4 rfl rfl)
theorem dX4_moves_5 : decode cX4_moves 5 = .ok (.iaload, 1) := dk_46 (dk_at dksX4_moves_0 5 rfl rfl)
theorem dX4_moves_6 : decode cX4_moves 6 = .ok (.istore_n 2, 1) := dk_61 (dk_at dksX4_moves_0 6 rfl rfl)
theorem dX4_moves_7 : decode cX4_moves 7 = .ok (.iload_n 2, 1) := dk_28 (dk_at dksX4_moves_0 7 rfl rfl)
theorem dX4_moves_8 : decode cX4_moves 8 = .ok (.iconst 2, 1) := dk_5 (dk_at dksX4_moves_0 8 rfl rfl)
theorem dX4_moves_9 : decode cX4_moves 9 = .ok (.if_icmp .eq 8, 3) := dk_159 0 8 (dk_at dksX4_moves_0 9 rfl rfl)
theorem dX4_moves_12 : decode cX4_moves 12 = .ok (.iload_n 2, 1) := dk_28 (dk_at dksX4_moves_0 12 rfl rfl)
theorem dX4_moves_13 : decode cX4_moves 13 = .ok (.iconst 3, 1) := dk_6 (dk_at dksX4_moves_0 13 rfl rfl)
theorem dX4_moves_14 : decode cX4_moves 14 = .ok (.if_icmp .ne 12, 3) := dk_160 0 12 (dk_at dksX4_moves_0 14 rfl rfl)
theorem dX4_moves_17 : decode cX4_moves 17 = .ok (.aload_n 0, 1) := dk_42 (dk_at dksX4_moves_0 17 rfl rfl)
theorem dX4_moves_18 : decode cX4_moves 18 = .ok (.iload_n 1, 1) := dk_27 (dk_at dksX4_moves_0 18 rfl rfl)
theorem dX4_moves_19 : decode cX4_moves 19 = .ok (.iconst 1, 1) := dk_4 (dk_at dksX4_moves_0 19 rfl rfl)
theorem dX4_moves_20 : decode cX4_moves 20 = .ok (.invokestatic 122, 3) := dk_184 0 122 (dk_at dksX4_moves_0 20 rfl rfl)
theorem dX4_moves_23 : decode cX4_moves 23 = .ok (.goto 31, 3) := dk_167 0 31 (dk_at dksX4_moves_1 0 rfl rfl)
theorem dX4_moves_26 : decode cX4_moves 26 = .ok (.iload_n 2, 1) := dk_28 (dk_at dksX4_moves_1 3 rfl rfl)
theorem dX4_moves_27 : decode cX4_moves 27 = .ok (.iconst 5, 1) := dk_8 (dk_at dksX4_moves_1 4 rfl rfl)
theorem dX4_moves_28 : decode cX4_moves 28 = .ok (.if_icmp .ne 25, 3) := dk_160 0 25 (dk_at dksX4_moves_1 5 rfl rfl)
theorem dX4_moves_31 : decode cX4_moves 31 = .ok (.aload_n 0, 1) := dk_42 (dk_at dksX4_moves_1 8 rfl rfl)
theorem dX4_moves_32 : decode cX4_moves 32 = .ok (.iconst 0, 1) := dk_3 (dk_at dksX4_moves_1 9 rfl rfl)
theorem dX4_moves_33 : decode cX4_moves 33 = .ok (.iaload, 1) := dk_46 (dk_at dksX4_moves_1 10 rfl rfl)
theorem dX4_moves_34 : decode cX4_moves 34 = .ok (.iconst 2, 1) := dk_5 (dk_at dksX4_moves_1 11 rfl rfl)
theorem dX4_moves_35 : decode cX4_moves 35 = .ok (.irem, 1) := dk_112 (dk_at dksX4_moves_1 12 rfl rfl)
theorem dX4_moves_36 : decode cX4_moves 36 = .ok (.iconst 1, 1) := dk_4 (dk_at dksX4_moves_1 13 rfl rfl)
theorem dX4_moves_37 : decode cX4_moves 37 = .ok (.if_icmp .ne 16, 3) := dk_160 0 16 (dk_at dksX4_moves_1 14 rfl rfl)
theorem dX4_moves_40 : decode cX4_moves 40 = .ok (.aload_n 0, 1) := dk_42 (dk_at dksX4_moves_1 17 rfl rfl)
theorem dX4_moves_41 : decode cX4_moves 41 = .ok (.iload_n 1, 1) := dk_27 (dk_at dksX4_moves_1 18 rfl rfl)
theorem dX4_moves_42 : decode cX4_moves 42 = .ok (.iconst (-1), 1) := dk_2 (dk_at dksX4_moves_1 19 rfl rfl)
theorem dX4_moves_43 : decode cX4_moves 43 = .ok (.invokestatic 122, 3) := dk_184 0 122 (dk_at dksX4_moves_1 20 rfl rfl)
theorem dX4_moves_46 : decode cX4_moves 46 = .ok (.ifCond .eq 7, 3) := dk_153 0 7 (dk_at dksX4_moves_2 0 rfl rfl)
theorem dX4_moves_49 : decode cX4_moves 49 = .ok (.iconst 1, 1) := dk_4 (dk_at dksX4_moves_2 3 rfl rfl)
theorem dX4_moves_50 : decode cX4_moves 50 = .ok (.goto 4, 3) := dk_167 0 4 (dk_at dksX4_moves_2 4 rfl rfl)
theorem dX4_moves_53 : decode cX4_moves 53 = .ok (.iconst 0, 1) := dk_3 (dk_at dksX4_moves_2 7 rfl rfl)
theorem dX4_moves_54 : decode cX4_moves 54 = .ok (.istore_n 3, 1) := dk_62 (dk_at dksX4_moves_2 8 rfl rfl)
theorem dX4_moves_55 : decode cX4_moves 55 = .ok (.iload_n 2, 1) := dk_28 (dk_at dksX4_moves_2 9 rfl rfl)
theorem dX4_moves_56 : decode cX4_moves 56 = .ok (.iconst 3, 1) := dk_6 (dk_at dksX4_moves_2 10 rfl rfl)
theorem dX4_moves_57 : decode cX4_moves 57 = .ok (.if_icmp .ne 14, 3) := dk_160 0 14 (dk_at dksX4_moves_2 11 rfl rfl)
theorem dX4_moves_60 : decode cX4_moves 60 = .ok (.iload_n 3, 1) := dk_29 (dk_at dksX4_moves_2 14 rfl rfl)
theorem dX4_moves_61 : decode cX4_moves 61 = .ok (.ifCond .eq 10, 3) := dk_153 0 10 (dk_at dksX4_moves_2 15 rfl rfl)
theorem dX4_moves_64 : decode cX4_moves 64 = .ok (.aload_n 0, 1) := dk_42 (dk_at dksX4_moves_2 18 rfl rfl)
theorem dX4_moves_65 : decode cX4_moves 65 = .ok (.iload_n 1, 1) := dk_27 (dk_at dksX4_moves_2 19 rfl rfl)
theorem dX4_moves_66 : decode cX4_moves 66 = .ok (.iconst 1, 1) := dk_4 (dk_at dksX4_moves_2 20 rfl rfl)
theorem dX4_moves_67 : decode cX4_moves 67 = .ok (.invokestatic 122, 3) := dk_184 0 122 (dk_at dksX4_moves_2 21 rfl rfl)
theorem dX4_moves_70 : decode cX4_moves 70 = .ok (.pop, 1) := dk_87 (dk_at dksX4_moves_3 0 rfl rfl)
theorem dX4_moves_71 : decode cX4_moves 71 = .ok (.return_, 1) := dk_177 (dk_at dksX4_moves_3 1 rfl rfl)
abbrev cX4_goes : ByteArray := prog_22_method_27_code
def yX4_goes : MethodName := ⟨RX4, "goes", "([III)Z"⟩
def dkwX4_goes_2 : List UInt8 := [92, 46, 21, 4, 153, 0, 7, 28, 167, 0, 4, 3, 96, 79, 21, 4, 172]
abbrev dktX4_goes_2 : List UInt8 := dkwX4_goes_2 ++ []
def dkwX4_goes_1 : List UInt8 := [29, 42, 16, 9, 27, 96, 46, 184, 0, 118, 153, 0, 7, 4, 167, 0, 4, 3, 54, 4, 42, 5, 27, 96]
abbrev dktX4_goes_1 : List UInt8 := dkwX4_goes_1 ++ dktX4_goes_2
def dkwX4_goes_0 : List UInt8 := [42, 5, 27, 96, 46, 28, 96, 62, 29, 3, 42, 16, 16, 46, 4, 100, 184, 0, 50, 153, 0, 22, 42, 27]
abbrev dktX4_goes_0 : List UInt8 := dkwX4_goes_0 ++ dktX4_goes_1
theorem dksX4_goes_0 : cX4_goes.data.toList.drop 0 = dktX4_goes_0 := by decide +kernel
theorem dksX4_goes_1 : cX4_goes.data.toList.drop 24 = dktX4_goes_1 := dk_seg dksX4_goes_0 24 rfl rfl
theorem dksX4_goes_2 : cX4_goes.data.toList.drop 48 = dktX4_goes_2 := dk_seg dksX4_goes_1 24 rfl rfl
theorem dX4_goes_0 : decode cX4_goes 0 = .ok (.aload_n 0, 1) := dk_42 (dk_at dksX4_goes_0 0 rfl rfl)
theorem dX4_goes_1 : decode cX4_goes 1 = .ok (.iconst 2, 1) := dk_5 (dk_at dksX4_goes_0 1 rfl rfl)
theorem dX4_goes_2 : decode cX4_goes 2 = .ok (.iload_n 1, 1) := dk_27 (dk_at dksX4_goes_0 2 rfl rfl)
theorem dX4_goes_3 : decode cX4_goes 3 = .ok (.iadd, 1) := dk_96 (dk_at dksX4_goes_0 3 rfl rfl)
theorem dX4_goes_4 : decode cX4_goes 4 = .ok (.iaload, 1) := dk_46 (dk_at dksX4_goes_0 4 rfl rfl)
theorem dX4_goes_5 : decode cX4_goes 5 = .ok (.iload_n 2, 1) := dk_28 (dk_at dksX4_goes_0 5 rfl rfl)
theorem dX4_goes_6 : decode cX4_goes 6 = .ok (.iadd, 1) := dk_96 (dk_at dksX4_goes_0 6 rfl rfl)
theorem dX4_goes_7 : decode cX4_goes 7 = .ok (.istore_n 3, 1) := dk_62 (dk_at dksX4_goes_0 7 rfl rfl)
theorem dX4_goes_8 : decode cX4_goes 8 = .ok (.iload_n 3, 1) := dk_29 (dk_at dksX4_goes_0 8 rfl rfl)
theorem dX4_goes_9 : decode cX4_goes 9 = .ok (.iconst 0, 1) := dk_3 (dk_at dksX4_goes_0 9 rfl rfl)
theorem dX4_goes_10 : decode cX4_goes 10 = .ok (.aload_n 0, 1) := dk_42 (dk_at dksX4_goes_0 10 rfl rfl)
theorem dX4_goes_11 : decode cX4_goes 11 = .ok (.bipush 16, 2) := dk_16 16 (dk_at dksX4_goes_0 11 rfl rfl)
theorem dX4_goes_13 : decode cX4_goes 13 = .ok (.iaload, 1) := dk_46 (dk_at dksX4_goes_0 13 rfl rfl)
theorem dX4_goes_14 : decode cX4_goes 14 = .ok (.iconst 1, 1) := dk_4 (dk_at dksX4_goes_0 14 rfl rfl)
theorem dX4_goes_15 : decode cX4_goes 15 = .ok (.isub, 1) := dk_100 (dk_at dksX4_goes_0 15 rfl rfl)
theorem dX4_goes_16 : decode cX4_goes 16 = .ok (.invokestatic 50, 3) := dk_184 0 50 (dk_at dksX4_goes_0 16 rfl rfl)
theorem dX4_goes_19 : decode cX4_goes 19 = .ok (.ifCond .eq 22, 3) := dk_153 0 22 (dk_at dksX4_goes_0 19 rfl rfl)
theorem dX4_goes_22 : decode cX4_goes 22 = .ok (.aload_n 0, 1) := dk_42 (dk_at dksX4_goes_0 22 rfl rfl)
theorem dX4_goes_23 : decode cX4_goes 23 = .ok (.iload_n 1, 1) := dk_27 (dk_at dksX4_goes_0 23 rfl rfl)
theorem dX4_goes_24 : decode cX4_goes 24 = .ok (.iload_n 3, 1) := dk_29 (dk_at dksX4_goes_1 0 rfl rfl)
theorem dX4_goes_25 : decode cX4_goes 25 = .ok (.aload_n 0, 1) := dk_42 (dk_at dksX4_goes_1 1 rfl rfl)
theorem dX4_goes_26 : decode cX4_goes 26 = .ok (.bipush 9, 2) := dk_16 9 (dk_at dksX4_goes_1 2 rfl rfl)
theorem dX4_goes_28 : decode cX4_goes 28 = .ok (.iload_n 1, 1) := dk_27 (dk_at dksX4_goes_1 4 rfl rfl)
theorem dX4_goes_29 : decode cX4_goes 29 = .ok (.iadd, 1) := dk_96 (dk_at dksX4_goes_1 5 rfl rfl)
theorem dX4_goes_30 : decode cX4_goes 30 = .ok (.iaload, 1) := dk_46 (dk_at dksX4_goes_1 6 rfl rfl)
theorem dX4_goes_31 : decode cX4_goes 31 = .ok (.invokestatic 118, 3) := dk_184 0 118 (dk_at dksX4_goes_1 7 rfl rfl)
theorem dX4_goes_34 : decode cX4_goes 34 = .ok (.ifCond .eq 7, 3) := dk_153 0 7 (dk_at dksX4_goes_1 10 rfl rfl)
theorem dX4_goes_37 : decode cX4_goes 37 = .ok (.iconst 1, 1) := dk_4 (dk_at dksX4_goes_1 13 rfl rfl)
theorem dX4_goes_38 : decode cX4_goes 38 = .ok (.goto 4, 3) := dk_167 0 4 (dk_at dksX4_goes_1 14 rfl rfl)
theorem dX4_goes_41 : decode cX4_goes 41 = .ok (.iconst 0, 1) := dk_3 (dk_at dksX4_goes_1 17 rfl rfl)
theorem dX4_goes_42 : decode cX4_goes 42 = .ok (.istore 4, 2) := dk_54 4 (dk_at dksX4_goes_1 18 rfl rfl)
theorem dX4_goes_44 : decode cX4_goes 44 = .ok (.aload_n 0, 1) := dk_42 (dk_at dksX4_goes_1 20 rfl rfl)
theorem dX4_goes_45 : decode cX4_goes 45 = .ok (.iconst 2, 1) := dk_5 (dk_at dksX4_goes_1 21 rfl rfl)
theorem dX4_goes_46 : decode cX4_goes 46 = .ok (.iload_n 1, 1) := dk_27 (dk_at dksX4_goes_1 22 rfl rfl)
theorem dX4_goes_47 : decode cX4_goes 47 = .ok (.iadd, 1) := dk_96 (dk_at dksX4_goes_1 23 rfl rfl)
theorem dX4_goes_48 : decode cX4_goes 48 = .ok (.dup2, 1) := dk_92 (dk_at dksX4_goes_2 0 rfl rfl)
theorem dX4_goes_49 : decode cX4_goes 49 = .ok (.iaload, 1) := dk_46 (dk_at dksX4_goes_2 1 rfl rfl)
theorem dX4_goes_50 : decode cX4_goes 50 = .ok (.iload 4, 2) := dk_21 4 (dk_at dksX4_goes_2 2 rfl rfl)
theorem dX4_goes_52 : decode cX4_goes 52 = .ok (.ifCond .eq 7, 3) := dk_153 0 7 (dk_at dksX4_goes_2 4 rfl rfl)
theorem dX4_goes_55 : decode cX4_goes 55 = .ok (.iload_n 2, 1) := dk_28 (dk_at dksX4_goes_2 7 rfl rfl)
theorem dX4_goes_56 : decode cX4_goes 56 = .ok (.goto 4, 3) := dk_167 0 4 (dk_at dksX4_goes_2 8 rfl rfl)
theorem dX4_goes_59 : decode cX4_goes 59 = .ok (.iconst 0, 1) := dk_3 (dk_at dksX4_goes_2 11 rfl rfl)
theorem dX4_goes_60 : decode cX4_goes 60 = .ok (.iadd, 1) := dk_96 (dk_at dksX4_goes_2 12 rfl rfl)
theorem dX4_goes_61 : decode cX4_goes 61 = .ok (.iastore, 1) := dk_79 (dk_at dksX4_goes_2 13 rfl rfl)
theorem dX4_goes_62 : decode cX4_goes 62 = .ok (.iload 4, 2) := dk_21 4 (dk_at dksX4_goes_2 14 rfl rfl)
theorem dX4_goes_64 : decode cX4_goes 64 = .ok (.ireturn, 1) := dk_172 (dk_at dksX4_goes_2 16 rfl rfl)
abbrev cX4_isFree : ByteArray := prog_22_method_26_code
def yX4_isFree : MethodName := ⟨RX4, "isFree", "([IIII)Z"⟩
def dkwX4_isFree_4 : List UInt8 := [167, 255, 172, 21, 4, 172]
abbrev dktX4_isFree_4 : List UInt8 := dkwX4_isFree_4 ++ []
def dkwX4_isFree_3 : List UInt8 := [21, 5, 96, 46, 28, 160, 0, 8, 21, 6, 154, 0, 7, 4, 167, 0, 4, 3, 54, 4, 132, 5, 1]
abbrev dktX4_isFree_3 : List UInt8 := dkwX4_isFree_3 ++ dktX4_isFree_4
def dkwX4_isFree_2 : List UInt8 := [160, 0, 7, 4, 167, 0, 4, 3, 54, 6, 21, 4, 153, 0, 28, 21, 5, 27, 159, 0, 18, 42, 5]
abbrev dktX4_isFree_2 : List UInt8 := dkwX4_isFree_2 ++ dktX4_isFree_3
def dkwX4_isFree_1 : List UInt8 := [162, 0, 25, 42, 16, 18, 21, 5, 96, 46, 7, 162, 0, 14, 42, 16, 9, 21, 5, 96, 46, 29]
abbrev dktX4_isFree_1 : List UInt8 := dkwX4_isFree_1 ++ dktX4_isFree_2
def dkwX4_isFree_0 : List UInt8 := [4, 54, 4, 3, 54, 5, 21, 5, 42, 16, 17, 46, 162, 0, 81, 42, 16, 18, 27, 96, 46, 7]
abbrev dktX4_isFree_0 : List UInt8 := dkwX4_isFree_0 ++ dktX4_isFree_1
theorem dksX4_isFree_0 : cX4_isFree.data.toList.drop 0 = dktX4_isFree_0 := by decide +kernel
theorem dksX4_isFree_1 : cX4_isFree.data.toList.drop 22 = dktX4_isFree_1 := dk_seg dksX4_isFree_0 22 rfl rfl
theorem dksX4_isFree_2 : cX4_isFree.data.toList.drop 44 = dktX4_isFree_2 := dk_seg dksX4_isFree_1 22 rfl rfl
theorem dksX4_isFree_3 : cX4_isFree.data.toList.drop 67 = dktX4_isFree_3 := dk_seg dksX4_isFree_2 23 rfl rfl
theorem dksX4_isFree_4 : cX4_isFree.data.toList.drop 90 = dktX4_isFree_4 := dk_seg dksX4_isFree_3 23 rfl rfl
theorem dX4_isFree_0 : decode cX4_isFree 0 = .ok (.iconst 1, 1) := dk_4 (dk_at dksX4_isFree_0 0 rfl rfl)
theorem dX4_isFree_1 : decode cX4_isFree 1 = .ok (.istore 4, 2) := dk_54 4 (dk_at dksX4_isFree_0 1 rfl rfl)
theorem dX4_isFree_3 : decode cX4_isFree 3 = .ok (.iconst 0, 1) := dk_3 (dk_at dksX4_isFree_0 3 rfl rfl)
theorem dX4_isFree_4 : decode cX4_isFree 4 = .ok (.istore 5, 2) := dk_54 5 (dk_at dksX4_isFree_0 4 rfl rfl)
theorem dX4_isFree_6 : decode cX4_isFree 6 = .ok (.iload 5, 2) := dk_21 5 (dk_at dksX4_isFree_0 6 rfl rfl)
theorem dX4_isFree_8 : decode cX4_isFree 8 = .ok (.aload_n 0, 1) := dk_42 (dk_at dksX4_isFree_0 8 rfl rfl)
theorem dX4_isFree_9 : decode cX4_isFree 9 = .ok (.bipush 17, 2) := dk_16 17 (dk_at dksX4_isFree_0 9 rfl rfl)
theorem dX4_isFree_11 : decode cX4_isFree 11 = .ok (.iaload, 1) := dk_46 (dk_at dksX4_isFree_0 11 rfl rfl)
theorem dX4_isFree_12 : decode cX4_isFree 12 = .ok (.if_icmp .ge 81, 3) := dk_162 0 81 (dk_at dksX4_isFree_0 12 rfl rfl)
theorem dX4_isFree_15 : decode cX4_isFree 15 = .ok (.aload_n 0, 1) := dk_42 (dk_at dksX4_isFree_0 15 rfl rfl)
theorem dX4_isFree_16 : decode cX4_isFree 16 = .ok (.bipush 18, 2) := dk_16 18 (dk_at dksX4_isFree_0 16 rfl rfl)
theorem dX4_isFree_18 : decode cX4_isFree 18 = .ok (.iload_n 1, 1) := dk_27 (dk_at dksX4_isFree_0 18 rfl rfl)
theorem dX4_isFree_19 : decode cX4_isFree 19 = .ok (.iadd, 1) := dk_96 (dk_at dksX4_isFree_0 19 rfl rfl)
theorem dX4_isFree_20 : decode cX4_isFree 20 = .ok (.iaload, 1) := dk_46 (dk_at dksX4_isFree_0 20 rfl rfl)
theorem dX4_isFree_21 : decode cX4_isFree 21 = .ok (.iconst 4, 1) := dk_7 (dk_at dksX4_isFree_0 21 rfl rfl)
theorem dX4_isFree_22 : decode cX4_isFree 22 = .ok (.if_icmp .ge 25, 3) := dk_162 0 25 (dk_at dksX4_isFree_1 0 rfl rfl)
theorem dX4_isFree_25 : decode cX4_isFree 25 = .ok (.aload_n 0, 1) := dk_42 (dk_at dksX4_isFree_1 3 rfl rfl)
theorem dX4_isFree_26 : decode cX4_isFree 26 = .ok (.bipush 18, 2) := dk_16 18 (dk_at dksX4_isFree_1 4 rfl rfl)
theorem dX4_isFree_28 : decode cX4_isFree 28 = .ok (.iload 5, 2) := dk_21 5 (dk_at dksX4_isFree_1 6 rfl rfl)
theorem dX4_isFree_30 : decode cX4_isFree 30 = .ok (.iadd, 1) := dk_96 (dk_at dksX4_isFree_1 8 rfl rfl)
theorem dX4_isFree_31 : decode cX4_isFree 31 = .ok (.iaload, 1) := dk_46 (dk_at dksX4_isFree_1 9 rfl rfl)
theorem dX4_isFree_32 : decode cX4_isFree 32 = .ok (.iconst 4, 1) := dk_7 (dk_at dksX4_isFree_1 10 rfl rfl)
theorem dX4_isFree_33 : decode cX4_isFree 33 = .ok (.if_icmp .ge 14, 3) := dk_162 0 14 (dk_at dksX4_isFree_1 11 rfl rfl)
theorem dX4_isFree_36 : decode cX4_isFree 36 = .ok (.aload_n 0, 1) := dk_42 (dk_at dksX4_isFree_1 14 rfl rfl)
theorem dX4_isFree_37 : decode cX4_isFree 37 = .ok (.bipush 9, 2) := dk_16 9 (dk_at dksX4_isFree_1 15 rfl rfl)
theorem dX4_isFree_39 : decode cX4_isFree 39 = .ok (.iload 5, 2) := dk_21 5 (dk_at dksX4_isFree_1 17 rfl rfl)
theorem dX4_isFree_41 : decode cX4_isFree 41 = .ok (.iadd, 1) := dk_96 (dk_at dksX4_isFree_1 19 rfl rfl)
theorem dX4_isFree_42 : decode cX4_isFree 42 = .ok (.iaload, 1) := dk_46 (dk_at dksX4_isFree_1 20 rfl rfl)
theorem dX4_isFree_43 : decode cX4_isFree 43 = .ok (.iload_n 3, 1) := dk_29 (dk_at dksX4_isFree_1 21 rfl rfl)
theorem dX4_isFree_44 : decode cX4_isFree 44 = .ok (.if_icmp .ne 7, 3) := dk_160 0 7 (dk_at dksX4_isFree_2 0 rfl rfl)
theorem dX4_isFree_47 : decode cX4_isFree 47 = .ok (.iconst 1, 1) := dk_4 (dk_at dksX4_isFree_2 3 rfl rfl)
theorem dX4_isFree_48 : decode cX4_isFree 48 = .ok (.goto 4, 3) := dk_167 0 4 (dk_at dksX4_isFree_2 4 rfl rfl)
theorem dX4_isFree_51 : decode cX4_isFree 51 = .ok (.iconst 0, 1) := dk_3 (dk_at dksX4_isFree_2 7 rfl rfl)
theorem dX4_isFree_52 : decode cX4_isFree 52 = .ok (.istore 6, 2) := dk_54 6 (dk_at dksX4_isFree_2 8 rfl rfl)
theorem dX4_isFree_54 : decode cX4_isFree 54 = .ok (.iload 4, 2) := dk_21 4 (dk_at dksX4_isFree_2 10 rfl rfl)
theorem dX4_isFree_56 : decode cX4_isFree 56 = .ok (.ifCond .eq 28, 3) := dk_153 0 28 (dk_at dksX4_isFree_2 12 rfl rfl)
theorem dX4_isFree_59 : decode cX4_isFree 59 = .ok (.iload 5, 2) := dk_21 5 (dk_at dksX4_isFree_2 15 rfl rfl)
theorem dX4_isFree_61 : decode cX4_isFree 61 = .ok (.iload_n 1, 1) := dk_27 (dk_at dksX4_isFree_2 17 rfl rfl)
theorem dX4_isFree_62 : decode cX4_isFree 62 = .ok (.if_icmp .eq 18, 3) := dk_159 0 18 (dk_at dksX4_isFree_2 18 rfl rfl)
theorem dX4_isFree_65 : decode cX4_isFree 65 = .ok (.aload_n 0, 1) := dk_42 (dk_at dksX4_isFree_2 21 rfl rfl)
theorem dX4_isFree_66 : decode cX4_isFree 66 = .ok (.iconst 2, 1) := dk_5 (dk_at dksX4_isFree_2 22 rfl rfl)
theorem dX4_isFree_67 : decode cX4_isFree 67 = .ok (.iload 5, 2) := dk_21 5 (dk_at dksX4_isFree_3 0 rfl rfl)
theorem dX4_isFree_69 : decode cX4_isFree 69 = .ok (.iadd, 1) := dk_96 (dk_at dksX4_isFree_3 2 rfl rfl)
theorem dX4_isFree_70 : decode cX4_isFree 70 = .ok (.iaload, 1) := dk_46 (dk_at dksX4_isFree_3 3 rfl rfl)
theorem dX4_isFree_71 : decode cX4_isFree 71 = .ok (.iload_n 2, 1) := dk_28 (dk_at dksX4_isFree_3 4 rfl rfl)
theorem dX4_isFree_72 : decode cX4_isFree 72 = .ok (.if_icmp .ne 8, 3) := dk_160 0 8 (dk_at dksX4_isFree_3 5 rfl rfl)
theorem dX4_isFree_75 : decode cX4_isFree 75 = .ok (.iload 6, 2) := dk_21 6 (dk_at dksX4_isFree_3 8 rfl rfl)
theorem dX4_isFree_77 : decode cX4_isFree 77 = .ok (.ifCond .ne 7, 3) := dk_154 0 7 (dk_at dksX4_isFree_3 10 rfl rfl)
theorem dX4_isFree_80 : decode cX4_isFree 80 = .ok (.iconst 1, 1) := dk_4 (dk_at dksX4_isFree_3 13 rfl rfl)
theorem dX4_isFree_81 : decode cX4_isFree 81 = .ok (.goto 4, 3) := dk_167 0 4 (dk_at dksX4_isFree_3 14 rfl rfl)
theorem dX4_isFree_84 : decode cX4_isFree 84 = .ok (.iconst 0, 1) := dk_3 (dk_at dksX4_isFree_3 17 rfl rfl)
theorem dX4_isFree_85 : decode cX4_isFree 85 = .ok (.istore 4, 2) := dk_54 4 (dk_at dksX4_isFree_3 18 rfl rfl)
theorem dX4_isFree_87 : decode cX4_isFree 87 = .ok (.iinc 5 1, 3) := dk_132 5 1 (dk_at dksX4_isFree_3 20 rfl rfl)
theorem dX4_isFree_90 : decode cX4_isFree 90 = .ok (.goto (-84), 3) := dk_167 255 172 (dk_at dksX4_isFree_4 0 rfl rfl)
theorem dX4_isFree_93 : decode cX4_isFree 93 = .ok (.iload 4, 2) := dk_21 4 (dk_at dksX4_isFree_4 3 rfl rfl)
theorem dX4_isFree_95 : decode cX4_isFree 95 = .ok (.ireturn, 1) := dk_172 (dk_at dksX4_isFree_4 5 rfl rfl)
abbrev cX4_isOn : ByteArray := prog_22_method_25_code
def yX4_isOn : MethodName := ⟨RX4, "isOn", "(I)Z"⟩
def dkwX4_isOn_0 : List UInt8 := [26, 2, 159, 0, 13, 26, 16, 99, 159, 0, 7, 4, 167, 0, 4, 3, 172]
abbrev dktX4_isOn_0 : List UInt8 := dkwX4_isOn_0 ++ []
theorem dksX4_isOn_0 : cX4_isOn.data.toList.drop 0 = dktX4_isOn_0 := by decide +kernel
theorem dX4_isOn_0 : decode cX4_isOn 0 = .ok (.iload_n 0, 1) := dk_26 (dk_at dksX4_isOn_0 0 rfl rfl)
theorem dX4_isOn_1 : decode cX4_isOn 1 = .ok (.iconst (-1), 1) := dk_2 (dk_at dksX4_isOn_0 1 rfl rfl)
theorem dX4_isOn_2 : decode cX4_isOn 2 = .ok (.if_icmp .eq 13, 3) := dk_159 0 13 (dk_at dksX4_isOn_0 2 rfl rfl)
theorem dX4_isOn_5 : decode cX4_isOn 5 = .ok (.iload_n 0, 1) := dk_26 (dk_at dksX4_isOn_0 5 rfl rfl)
theorem dX4_isOn_6 : decode cX4_isOn 6 = .ok (.bipush 99, 2) := dk_16 99 (dk_at dksX4_isOn_0 6 rfl rfl)
theorem dX4_isOn_8 : decode cX4_isOn 8 = .ok (.if_icmp .eq 7, 3) := dk_159 0 7 (dk_at dksX4_isOn_0 8 rfl rfl)
theorem dX4_isOn_11 : decode cX4_isOn 11 = .ok (.iconst 1, 1) := dk_4 (dk_at dksX4_isOn_0 11 rfl rfl)
theorem dX4_isOn_12 : decode cX4_isOn 12 = .ok (.goto 4, 3) := dk_167 0 4 (dk_at dksX4_isOn_0 12 rfl rfl)
theorem dX4_isOn_15 : decode cX4_isOn 15 = .ok (.iconst 0, 1) := dk_3 (dk_at dksX4_isOn_0 15 rfl rfl)
theorem dX4_isOn_16 : decode cX4_isOn 16 = .ok (.ireturn, 1) := dk_172 (dk_at dksX4_isOn_0 16 rfl rfl)
abbrev cX4_offIn : ByteArray := prog_22_method_30_code
def yX4_offIn : MethodName := ⟨RX4, "offIn", "([I)I"⟩
def dkwX4_offIn_1 : List UInt8 := [167, 0, 4, 3, 96, 60, 132, 2, 1, 167, 255, 227, 27, 172]
abbrev dktX4_offIn_1 : List UInt8 := dkwX4_offIn_1 ++ []
def dkwX4_offIn_0 : List UInt8 := [3, 60, 3, 61, 28, 42, 16, 17, 46, 162, 0, 27, 27, 42, 5, 28, 96, 46, 16, 99, 160, 0, 7, 4]
abbrev dktX4_offIn_0 : List UInt8 := dkwX4_offIn_0 ++ dktX4_offIn_1
theorem dksX4_offIn_0 : cX4_offIn.data.toList.drop 0 = dktX4_offIn_0 := by decide +kernel
theorem dksX4_offIn_1 : cX4_offIn.data.toList.drop 24 = dktX4_offIn_1 := dk_seg dksX4_offIn_0 24 rfl rfl
theorem dX4_offIn_0 : decode cX4_offIn 0 = .ok (.iconst 0, 1) := dk_3 (dk_at dksX4_offIn_0 0 rfl rfl)
theorem dX4_offIn_1 : decode cX4_offIn 1 = .ok (.istore_n 1, 1) := dk_60 (dk_at dksX4_offIn_0 1 rfl rfl)
theorem dX4_offIn_2 : decode cX4_offIn 2 = .ok (.iconst 0, 1) := dk_3 (dk_at dksX4_offIn_0 2 rfl rfl)
theorem dX4_offIn_3 : decode cX4_offIn 3 = .ok (.istore_n 2, 1) := dk_61 (dk_at dksX4_offIn_0 3 rfl rfl)
theorem dX4_offIn_4 : decode cX4_offIn 4 = .ok (.iload_n 2, 1) := dk_28 (dk_at dksX4_offIn_0 4 rfl rfl)
theorem dX4_offIn_5 : decode cX4_offIn 5 = .ok (.aload_n 0, 1) := dk_42 (dk_at dksX4_offIn_0 5 rfl rfl)
theorem dX4_offIn_6 : decode cX4_offIn 6 = .ok (.bipush 17, 2) := dk_16 17 (dk_at dksX4_offIn_0 6 rfl rfl)
theorem dX4_offIn_8 : decode cX4_offIn 8 = .ok (.iaload, 1) := dk_46 (dk_at dksX4_offIn_0 8 rfl rfl)
theorem dX4_offIn_9 : decode cX4_offIn 9 = .ok (.if_icmp .ge 27, 3) := dk_162 0 27 (dk_at dksX4_offIn_0 9 rfl rfl)
theorem dX4_offIn_12 : decode cX4_offIn 12 = .ok (.iload_n 1, 1) := dk_27 (dk_at dksX4_offIn_0 12 rfl rfl)
theorem dX4_offIn_13 : decode cX4_offIn 13 = .ok (.aload_n 0, 1) := dk_42 (dk_at dksX4_offIn_0 13 rfl rfl)
theorem dX4_offIn_14 : decode cX4_offIn 14 = .ok (.iconst 2, 1) := dk_5 (dk_at dksX4_offIn_0 14 rfl rfl)
theorem dX4_offIn_15 : decode cX4_offIn 15 = .ok (.iload_n 2, 1) := dk_28 (dk_at dksX4_offIn_0 15 rfl rfl)
theorem dX4_offIn_16 : decode cX4_offIn 16 = .ok (.iadd, 1) := dk_96 (dk_at dksX4_offIn_0 16 rfl rfl)
theorem dX4_offIn_17 : decode cX4_offIn 17 = .ok (.iaload, 1) := dk_46 (dk_at dksX4_offIn_0 17 rfl rfl)
theorem dX4_offIn_18 : decode cX4_offIn 18 = .ok (.bipush 99, 2) := dk_16 99 (dk_at dksX4_offIn_0 18 rfl rfl)
theorem dX4_offIn_20 : decode cX4_offIn 20 = .ok (.if_icmp .ne 7, 3) := dk_160 0 7 (dk_at dksX4_offIn_0 20 rfl rfl)
theorem dX4_offIn_23 : decode cX4_offIn 23 = .ok (.iconst 1, 1) := dk_4 (dk_at dksX4_offIn_0 23 rfl rfl)
theorem dX4_offIn_24 : decode cX4_offIn 24 = .ok (.goto 4, 3) := dk_167 0 4 (dk_at dksX4_offIn_1 0 rfl rfl)
theorem dX4_offIn_27 : decode cX4_offIn 27 = .ok (.iconst 0, 1) := dk_3 (dk_at dksX4_offIn_1 3 rfl rfl)
theorem dX4_offIn_28 : decode cX4_offIn 28 = .ok (.iadd, 1) := dk_96 (dk_at dksX4_offIn_1 4 rfl rfl)
theorem dX4_offIn_29 : decode cX4_offIn 29 = .ok (.istore_n 1, 1) := dk_60 (dk_at dksX4_offIn_1 5 rfl rfl)
theorem dX4_offIn_30 : decode cX4_offIn 30 = .ok (.iinc 2 1, 3) := dk_132 2 1 (dk_at dksX4_offIn_1 6 rfl rfl)
theorem dX4_offIn_33 : decode cX4_offIn 33 = .ok (.goto (-29), 3) := dk_167 255 227 (dk_at dksX4_offIn_1 9 rfl rfl)
theorem dX4_offIn_36 : decode cX4_offIn 36 = .ok (.iload_n 1, 1) := dk_27 (dk_at dksX4_offIn_1 12 rfl rfl)
theorem dX4_offIn_37 : decode cX4_offIn 37 = .ok (.ireturn, 1) := dk_172 (dk_at dksX4_offIn_1 13 rfl rfl)
abbrev cX4_speed : ByteArray := prog_22_method_32_code
def yX4_speed : MethodName := ⟨RX4, "speed", "(I)I"⟩
def dkwX4_speed_1 : List UInt8 := [182, 0, 137, 42, 180, 0, 25, 4, 46, 61, 42, 180, 0, 25, 4, 27, 79, 28, 172]
abbrev dktX4_speed_1 : List UInt8 := dkwX4_speed_1 ++ []
def dkwX4_speed_0 : List UInt8 := [42, 182, 0, 133, 154, 0, 6, 18, 136, 172, 27, 3, 5, 184, 0, 50, 154, 0, 6, 18, 65, 172, 42]
abbrev dktX4_speed_0 : List UInt8 := dkwX4_speed_0 ++ dktX4_speed_1
theorem dksX4_speed_0 : cX4_speed.data.toList.drop 0 = dktX4_speed_0 := by decide +kernel
theorem dksX4_speed_1 : cX4_speed.data.toList.drop 23 = dktX4_speed_1 := dk_seg dksX4_speed_0 23 rfl rfl
theorem dX4_speed_0 : decode cX4_speed 0 = .ok (.aload_n 0, 1) := dk_42 (dk_at dksX4_speed_0 0 rfl rfl)
theorem dX4_speed_1 : decode cX4_speed 1 = .ok (.invokevirtual 133, 3) := dk_182 0 133 (dk_at dksX4_speed_0 1 rfl rfl)
theorem dX4_speed_4 : decode cX4_speed 4 = .ok (.ifCond .ne 6, 3) := dk_154 0 6 (dk_at dksX4_speed_0 4 rfl rfl)
theorem dX4_speed_7 : decode cX4_speed 7 = .ok (.ldc 136, 2) := dk_18 136 (dk_at dksX4_speed_0 7 rfl rfl)
theorem dX4_speed_9 : decode cX4_speed 9 = .ok (.ireturn, 1) := dk_172 (dk_at dksX4_speed_0 9 rfl rfl)
theorem dX4_speed_10 : decode cX4_speed 10 = .ok (.iload_n 1, 1) := dk_27 (dk_at dksX4_speed_0 10 rfl rfl)
theorem dX4_speed_11 : decode cX4_speed 11 = .ok (.iconst 0, 1) := dk_3 (dk_at dksX4_speed_0 11 rfl rfl)
theorem dX4_speed_12 : decode cX4_speed 12 = .ok (.iconst 2, 1) := dk_5 (dk_at dksX4_speed_0 12 rfl rfl)
theorem dX4_speed_13 : decode cX4_speed 13 = .ok (.invokestatic 50, 3) := dk_184 0 50 (dk_at dksX4_speed_0 13 rfl rfl)
theorem dX4_speed_16 : decode cX4_speed 16 = .ok (.ifCond .ne 6, 3) := dk_154 0 6 (dk_at dksX4_speed_0 16 rfl rfl)
theorem dX4_speed_19 : decode cX4_speed 19 = .ok (.ldc 65, 2) := dk_18 65 (dk_at dksX4_speed_0 19 rfl rfl)
theorem dX4_speed_21 : decode cX4_speed 21 = .ok (.ireturn, 1) := dk_172 (dk_at dksX4_speed_0 21 rfl rfl)
theorem dX4_speed_22 : decode cX4_speed 22 = .ok (.aload_n 0, 1) := dk_42 (dk_at dksX4_speed_0 22 rfl rfl)
theorem dX4_speed_23 : decode cX4_speed 23 = .ok (.invokevirtual 137, 3) := dk_182 0 137 (dk_at dksX4_speed_1 0 rfl rfl)
theorem dX4_speed_26 : decode cX4_speed 26 = .ok (.aload_n 0, 1) := dk_42 (dk_at dksX4_speed_1 3 rfl rfl)
theorem dX4_speed_27 : decode cX4_speed 27 = .ok (.getfield 25, 3) := dk_180 0 25 (dk_at dksX4_speed_1 4 rfl rfl)
theorem dX4_speed_30 : decode cX4_speed 30 = .ok (.iconst 1, 1) := dk_4 (dk_at dksX4_speed_1 7 rfl rfl)
theorem dX4_speed_31 : decode cX4_speed 31 = .ok (.iaload, 1) := dk_46 (dk_at dksX4_speed_1 8 rfl rfl)
theorem dX4_speed_32 : decode cX4_speed 32 = .ok (.istore_n 2, 1) := dk_61 (dk_at dksX4_speed_1 9 rfl rfl)
theorem dX4_speed_33 : decode cX4_speed 33 = .ok (.aload_n 0, 1) := dk_42 (dk_at dksX4_speed_1 10 rfl rfl)
theorem dX4_speed_34 : decode cX4_speed 34 = .ok (.getfield 25, 3) := dk_180 0 25 (dk_at dksX4_speed_1 11 rfl rfl)
theorem dX4_speed_37 : decode cX4_speed 37 = .ok (.iconst 1, 1) := dk_4 (dk_at dksX4_speed_1 14 rfl rfl)
theorem dX4_speed_38 : decode cX4_speed 38 = .ok (.iload_n 1, 1) := dk_27 (dk_at dksX4_speed_1 15 rfl rfl)
theorem dX4_speed_39 : decode cX4_speed 39 = .ok (.iastore, 1) := dk_79 (dk_at dksX4_speed_1 16 rfl rfl)
theorem dX4_speed_40 : decode cX4_speed 40 = .ok (.iload_n 2, 1) := dk_28 (dk_at dksX4_speed_1 17 rfl rfl)
theorem dX4_speed_41 : decode cX4_speed 41 = .ok (.ireturn, 1) := dk_172 (dk_at dksX4_speed_1 18 rfl rfl)
abbrev cX4_cross : ByteArray := prog_22_method_33_code
def yX4_cross : MethodName := ⟨RX4, "cross", "(I)I"⟩
def dkwX4_cross_3 : List UInt8 := [154, 0, 6, 18, 136, 172, 42, 182, 0, 137, 42, 180, 0, 25, 16, 9, 27, 96, 28, 79, 28, 172]
abbrev dktX4_cross_3 : List UInt8 := dkwX4_cross_3 ++ []
def dkwX4_cross_2 : List UInt8 := [180, 0, 25, 16, 18, 27, 96, 46, 7, 162, 0, 19, 42, 180, 0, 25, 27, 29, 28, 184, 0, 118]
abbrev dktX4_cross_2 : List UInt8 := dkwX4_cross_2 ++ dktX4_cross_3
def dkwX4_cross_1 : List UInt8 := [180, 0, 25, 5, 27, 96, 46, 62, 29, 16, 99, 159, 0, 36, 29, 184, 0, 130, 153, 0, 32, 42]
abbrev dktX4_cross_1 : List UInt8 := dkwX4_cross_1 ++ dktX4_cross_2
def dkwX4_cross_0 : List UInt8 := [42, 27, 182, 0, 148, 154, 0, 6, 18, 65, 172, 4, 42, 180, 0, 25, 16, 9, 27, 96, 46, 100, 61, 42]
abbrev dktX4_cross_0 : List UInt8 := dkwX4_cross_0 ++ dktX4_cross_1
theorem dksX4_cross_0 : cX4_cross.data.toList.drop 0 = dktX4_cross_0 := by decide +kernel
theorem dksX4_cross_1 : cX4_cross.data.toList.drop 24 = dktX4_cross_1 := dk_seg dksX4_cross_0 24 rfl rfl
theorem dksX4_cross_2 : cX4_cross.data.toList.drop 46 = dktX4_cross_2 := dk_seg dksX4_cross_1 22 rfl rfl
theorem dksX4_cross_3 : cX4_cross.data.toList.drop 68 = dktX4_cross_3 := dk_seg dksX4_cross_2 22 rfl rfl
theorem dX4_cross_0 : decode cX4_cross 0 = .ok (.aload_n 0, 1) := dk_42 (dk_at dksX4_cross_0 0 rfl rfl)
theorem dX4_cross_1 : decode cX4_cross 1 = .ok (.iload_n 1, 1) := dk_27 (dk_at dksX4_cross_0 1 rfl rfl)
theorem dX4_cross_2 : decode cX4_cross 2 = .ok (.invokevirtual 148, 3) := dk_182 0 148 (dk_at dksX4_cross_0 2 rfl rfl)
theorem dX4_cross_5 : decode cX4_cross 5 = .ok (.ifCond .ne 6, 3) := dk_154 0 6 (dk_at dksX4_cross_0 5 rfl rfl)
theorem dX4_cross_8 : decode cX4_cross 8 = .ok (.ldc 65, 2) := dk_18 65 (dk_at dksX4_cross_0 8 rfl rfl)
theorem dX4_cross_10 : decode cX4_cross 10 = .ok (.ireturn, 1) := dk_172 (dk_at dksX4_cross_0 10 rfl rfl)
theorem dX4_cross_11 : decode cX4_cross 11 = .ok (.iconst 1, 1) := dk_4 (dk_at dksX4_cross_0 11 rfl rfl)
theorem dX4_cross_12 : decode cX4_cross 12 = .ok (.aload_n 0, 1) := dk_42 (dk_at dksX4_cross_0 12 rfl rfl)
theorem dX4_cross_13 : decode cX4_cross 13 = .ok (.getfield 25, 3) := dk_180 0 25 (dk_at dksX4_cross_0 13 rfl rfl)
theorem dX4_cross_16 : decode cX4_cross 16 = .ok (.bipush 9, 2) := dk_16 9 (dk_at dksX4_cross_0 16 rfl rfl)
theorem dX4_cross_18 : decode cX4_cross 18 = .ok (.iload_n 1, 1) := dk_27 (dk_at dksX4_cross_0 18 rfl rfl)
theorem dX4_cross_19 : decode cX4_cross 19 = .ok (.iadd, 1) := dk_96 (dk_at dksX4_cross_0 19 rfl rfl)
theorem dX4_cross_20 : decode cX4_cross 20 = .ok (.iaload, 1) := dk_46 (dk_at dksX4_cross_0 20 rfl rfl)
theorem dX4_cross_21 : decode cX4_cross 21 = .ok (.isub, 1) := dk_100 (dk_at dksX4_cross_0 21 rfl rfl)
theorem dX4_cross_22 : decode cX4_cross 22 = .ok (.istore_n 2, 1) := dk_61 (dk_at dksX4_cross_0 22 rfl rfl)
theorem dX4_cross_23 : decode cX4_cross 23 = .ok (.aload_n 0, 1) := dk_42 (dk_at dksX4_cross_0 23 rfl rfl)
theorem dX4_cross_24 : decode cX4_cross 24 = .ok (.getfield 25, 3) := dk_180 0 25 (dk_at dksX4_cross_1 0 rfl rfl)
theorem dX4_cross_27 : decode cX4_cross 27 = .ok (.iconst 2, 1) := dk_5 (dk_at dksX4_cross_1 3 rfl rfl)
theorem dX4_cross_28 : decode cX4_cross 28 = .ok (.iload_n 1, 1) := dk_27 (dk_at dksX4_cross_1 4 rfl rfl)
theorem dX4_cross_29 : decode cX4_cross 29 = .ok (.iadd, 1) := dk_96 (dk_at dksX4_cross_1 5 rfl rfl)
theorem dX4_cross_30 : decode cX4_cross 30 = .ok (.iaload, 1) := dk_46 (dk_at dksX4_cross_1 6 rfl rfl)
theorem dX4_cross_31 : decode cX4_cross 31 = .ok (.istore_n 3, 1) := dk_62 (dk_at dksX4_cross_1 7 rfl rfl)
theorem dX4_cross_32 : decode cX4_cross 32 = .ok (.iload_n 3, 1) := dk_29 (dk_at dksX4_cross_1 8 rfl rfl)
theorem dX4_cross_33 : decode cX4_cross 33 = .ok (.bipush 99, 2) := dk_16 99 (dk_at dksX4_cross_1 9 rfl rfl)
theorem dX4_cross_35 : decode cX4_cross 35 = .ok (.if_icmp .eq 36, 3) := dk_159 0 36 (dk_at dksX4_cross_1 11 rfl rfl)
theorem dX4_cross_38 : decode cX4_cross 38 = .ok (.iload_n 3, 1) := dk_29 (dk_at dksX4_cross_1 14 rfl rfl)
theorem dX4_cross_39 : decode cX4_cross 39 = .ok (.invokestatic 130, 3) := dk_184 0 130 (dk_at dksX4_cross_1 15 rfl rfl)
theorem dX4_cross_42 : decode cX4_cross 42 = .ok (.ifCond .eq 32, 3) := dk_153 0 32 (dk_at dksX4_cross_1 18 rfl rfl)
theorem dX4_cross_45 : decode cX4_cross 45 = .ok (.aload_n 0, 1) := dk_42 (dk_at dksX4_cross_1 21 rfl rfl)
theorem dX4_cross_46 : decode cX4_cross 46 = .ok (.getfield 25, 3) := dk_180 0 25 (dk_at dksX4_cross_2 0 rfl rfl)
theorem dX4_cross_49 : decode cX4_cross 49 = .ok (.bipush 18, 2) := dk_16 18 (dk_at dksX4_cross_2 3 rfl rfl)
theorem dX4_cross_51 : decode cX4_cross 51 = .ok (.iload_n 1, 1) := dk_27 (dk_at dksX4_cross_2 5 rfl rfl)
theorem dX4_cross_52 : decode cX4_cross 52 = .ok (.iadd, 1) := dk_96 (dk_at dksX4_cross_2 6 rfl rfl)
theorem dX4_cross_53 : decode cX4_cross 53 = .ok (.iaload, 1) := dk_46 (dk_at dksX4_cross_2 7 rfl rfl)
theorem dX4_cross_54 : decode cX4_cross 54 = .ok (.iconst 4, 1) := dk_7 (dk_at dksX4_cross_2 8 rfl rfl)
theorem dX4_cross_55 : decode cX4_cross 55 = .ok (.if_icmp .ge 19, 3) := dk_162 0 19 (dk_at dksX4_cross_2 9 rfl rfl)
theorem dX4_cross_58 : decode cX4_cross 58 = .ok (.aload_n 0, 1) := dk_42 (dk_at dksX4_cross_2 12 rfl rfl)
theorem dX4_cross_59 : decode cX4_cross 59 = .ok (.getfield 25, 3) := dk_180 0 25 (dk_at dksX4_cross_2 13 rfl rfl)
theorem dX4_cross_62 : decode cX4_cross 62 = .ok (.iload_n 1, 1) := dk_27 (dk_at dksX4_cross_2 16 rfl rfl)
theorem dX4_cross_63 : decode cX4_cross 63 = .ok (.iload_n 3, 1) := dk_29 (dk_at dksX4_cross_2 17 rfl rfl)
theorem dX4_cross_64 : decode cX4_cross 64 = .ok (.iload_n 2, 1) := dk_28 (dk_at dksX4_cross_2 18 rfl rfl)
theorem dX4_cross_65 : decode cX4_cross 65 = .ok (.invokestatic 118, 3) := dk_184 0 118 (dk_at dksX4_cross_2 19 rfl rfl)
theorem dX4_cross_68 : decode cX4_cross 68 = .ok (.ifCond .ne 6, 3) := dk_154 0 6 (dk_at dksX4_cross_3 0 rfl rfl)
theorem dX4_cross_71 : decode cX4_cross 71 = .ok (.ldc 136, 2) := dk_18 136 (dk_at dksX4_cross_3 3 rfl rfl)
theorem dX4_cross_73 : decode cX4_cross 73 = .ok (.ireturn, 1) := dk_172 (dk_at dksX4_cross_3 5 rfl rfl)
theorem dX4_cross_74 : decode cX4_cross 74 = .ok (.aload_n 0, 1) := dk_42 (dk_at dksX4_cross_3 6 rfl rfl)
theorem dX4_cross_75 : decode cX4_cross 75 = .ok (.invokevirtual 137, 3) := dk_182 0 137 (dk_at dksX4_cross_3 7 rfl rfl)
theorem dX4_cross_78 : decode cX4_cross 78 = .ok (.aload_n 0, 1) := dk_42 (dk_at dksX4_cross_3 10 rfl rfl)
theorem dX4_cross_79 : decode cX4_cross 79 = .ok (.getfield 25, 3) := dk_180 0 25 (dk_at dksX4_cross_3 11 rfl rfl)
theorem dX4_cross_82 : decode cX4_cross 82 = .ok (.bipush 9, 2) := dk_16 9 (dk_at dksX4_cross_3 14 rfl rfl)
theorem dX4_cross_84 : decode cX4_cross 84 = .ok (.iload_n 1, 1) := dk_27 (dk_at dksX4_cross_3 16 rfl rfl)
theorem dX4_cross_85 : decode cX4_cross 85 = .ok (.iadd, 1) := dk_96 (dk_at dksX4_cross_3 17 rfl rfl)
theorem dX4_cross_86 : decode cX4_cross 86 = .ok (.iload_n 2, 1) := dk_28 (dk_at dksX4_cross_3 18 rfl rfl)
theorem dX4_cross_87 : decode cX4_cross 87 = .ok (.iastore, 1) := dk_79 (dk_at dksX4_cross_3 19 rfl rfl)
theorem dX4_cross_88 : decode cX4_cross 88 = .ok (.iload_n 2, 1) := dk_28 (dk_at dksX4_cross_3 20 rfl rfl)
theorem dX4_cross_89 : decode cX4_cross 89 = .ok (.ireturn, 1) := dk_172 (dk_at dksX4_cross_3 21 rfl rfl)
abbrev cX4_isRider : ByteArray := prog_22_method_23_code
def yX4_isRider : MethodName := ⟨RX4, "isRider", "(I)Z"⟩
def dkwX4_isRider_0 : List UInt8 := [27, 3, 42, 180, 0, 25, 16, 17, 46, 4, 100, 184, 0, 50, 172]
abbrev dktX4_isRider_0 : List UInt8 := dkwX4_isRider_0 ++ []
theorem dksX4_isRider_0 : cX4_isRider.data.toList.drop 0 = dktX4_isRider_0 := by decide +kernel
theorem dX4_isRider_0 : decode cX4_isRider 0 = .ok (.iload_n 1, 1) := dk_27 (dk_at dksX4_isRider_0 0 rfl rfl)
theorem dX4_isRider_1 : decode cX4_isRider 1 = .ok (.iconst 0, 1) := dk_3 (dk_at dksX4_isRider_0 1 rfl rfl)
theorem dX4_isRider_2 : decode cX4_isRider 2 = .ok (.aload_n 0, 1) := dk_42 (dk_at dksX4_isRider_0 2 rfl rfl)
theorem dX4_isRider_3 : decode cX4_isRider 3 = .ok (.getfield 25, 3) := dk_180 0 25 (dk_at dksX4_isRider_0 3 rfl rfl)
theorem dX4_isRider_6 : decode cX4_isRider 6 = .ok (.bipush 17, 2) := dk_16 17 (dk_at dksX4_isRider_0 6 rfl rfl)
theorem dX4_isRider_8 : decode cX4_isRider 8 = .ok (.iaload, 1) := dk_46 (dk_at dksX4_isRider_0 8 rfl rfl)
theorem dX4_isRider_9 : decode cX4_isRider 9 = .ok (.iconst 1, 1) := dk_4 (dk_at dksX4_isRider_0 9 rfl rfl)
theorem dX4_isRider_10 : decode cX4_isRider 10 = .ok (.isub, 1) := dk_100 (dk_at dksX4_isRider_0 10 rfl rfl)
theorem dX4_isRider_11 : decode cX4_isRider 11 = .ok (.invokestatic 50, 3) := dk_184 0 50 (dk_at dksX4_isRider_0 11 rfl rfl)
theorem dX4_isRider_14 : decode cX4_isRider 14 = .ok (.ireturn, 1) := dk_172 (dk_at dksX4_isRider_0 14 rfl rfl)
abbrev cX4_take : ByteArray := prog_22_method_34_code
def yX4_take : MethodName := ⟨RX4, "take", "(I)I"⟩
def dkwX4_take_1 : List UInt8 := [160, 0, 6, 18, 136, 172, 42, 182, 0, 137, 42, 180, 0, 25, 5, 27, 96, 16, 99, 79, 28, 172]
abbrev dktX4_take_1 : List UInt8 := dkwX4_take_1 ++ []
def dkwX4_take_0 : List UInt8 := [42, 27, 182, 0, 148, 154, 0, 6, 18, 65, 172, 42, 180, 0, 25, 5, 27, 96, 46, 61, 28, 16, 99]
abbrev dktX4_take_0 : List UInt8 := dkwX4_take_0 ++ dktX4_take_1
theorem dksX4_take_0 : cX4_take.data.toList.drop 0 = dktX4_take_0 := by decide +kernel
theorem dksX4_take_1 : cX4_take.data.toList.drop 23 = dktX4_take_1 := dk_seg dksX4_take_0 23 rfl rfl
theorem dX4_take_0 : decode cX4_take 0 = .ok (.aload_n 0, 1) := dk_42 (dk_at dksX4_take_0 0 rfl rfl)
theorem dX4_take_1 : decode cX4_take 1 = .ok (.iload_n 1, 1) := dk_27 (dk_at dksX4_take_0 1 rfl rfl)
theorem dX4_take_2 : decode cX4_take 2 = .ok (.invokevirtual 148, 3) := dk_182 0 148 (dk_at dksX4_take_0 2 rfl rfl)
theorem dX4_take_5 : decode cX4_take 5 = .ok (.ifCond .ne 6, 3) := dk_154 0 6 (dk_at dksX4_take_0 5 rfl rfl)
theorem dX4_take_8 : decode cX4_take 8 = .ok (.ldc 65, 2) := dk_18 65 (dk_at dksX4_take_0 8 rfl rfl)
theorem dX4_take_10 : decode cX4_take 10 = .ok (.ireturn, 1) := dk_172 (dk_at dksX4_take_0 10 rfl rfl)
theorem dX4_take_11 : decode cX4_take 11 = .ok (.aload_n 0, 1) := dk_42 (dk_at dksX4_take_0 11 rfl rfl)
theorem dX4_take_12 : decode cX4_take 12 = .ok (.getfield 25, 3) := dk_180 0 25 (dk_at dksX4_take_0 12 rfl rfl)
theorem dX4_take_15 : decode cX4_take 15 = .ok (.iconst 2, 1) := dk_5 (dk_at dksX4_take_0 15 rfl rfl)
theorem dX4_take_16 : decode cX4_take 16 = .ok (.iload_n 1, 1) := dk_27 (dk_at dksX4_take_0 16 rfl rfl)
theorem dX4_take_17 : decode cX4_take 17 = .ok (.iadd, 1) := dk_96 (dk_at dksX4_take_0 17 rfl rfl)
theorem dX4_take_18 : decode cX4_take 18 = .ok (.iaload, 1) := dk_46 (dk_at dksX4_take_0 18 rfl rfl)
theorem dX4_take_19 : decode cX4_take 19 = .ok (.istore_n 2, 1) := dk_61 (dk_at dksX4_take_0 19 rfl rfl)
theorem dX4_take_20 : decode cX4_take 20 = .ok (.iload_n 2, 1) := dk_28 (dk_at dksX4_take_0 20 rfl rfl)
theorem dX4_take_21 : decode cX4_take 21 = .ok (.bipush 99, 2) := dk_16 99 (dk_at dksX4_take_0 21 rfl rfl)
theorem dX4_take_23 : decode cX4_take 23 = .ok (.if_icmp .ne 6, 3) := dk_160 0 6 (dk_at dksX4_take_1 0 rfl rfl)
theorem dX4_take_26 : decode cX4_take 26 = .ok (.ldc 136, 2) := dk_18 136 (dk_at dksX4_take_1 3 rfl rfl)
theorem dX4_take_28 : decode cX4_take 28 = .ok (.ireturn, 1) := dk_172 (dk_at dksX4_take_1 5 rfl rfl)
theorem dX4_take_29 : decode cX4_take 29 = .ok (.aload_n 0, 1) := dk_42 (dk_at dksX4_take_1 6 rfl rfl)
theorem dX4_take_30 : decode cX4_take 30 = .ok (.invokevirtual 137, 3) := dk_182 0 137 (dk_at dksX4_take_1 7 rfl rfl)
theorem dX4_take_33 : decode cX4_take 33 = .ok (.aload_n 0, 1) := dk_42 (dk_at dksX4_take_1 10 rfl rfl)
theorem dX4_take_34 : decode cX4_take 34 = .ok (.getfield 25, 3) := dk_180 0 25 (dk_at dksX4_take_1 11 rfl rfl)
theorem dX4_take_37 : decode cX4_take 37 = .ok (.iconst 2, 1) := dk_5 (dk_at dksX4_take_1 14 rfl rfl)
theorem dX4_take_38 : decode cX4_take 38 = .ok (.iload_n 1, 1) := dk_27 (dk_at dksX4_take_1 15 rfl rfl)
theorem dX4_take_39 : decode cX4_take 39 = .ok (.iadd, 1) := dk_96 (dk_at dksX4_take_1 16 rfl rfl)
theorem dX4_take_40 : decode cX4_take 40 = .ok (.bipush 99, 2) := dk_16 99 (dk_at dksX4_take_1 17 rfl rfl)
theorem dX4_take_42 : decode cX4_take 42 = .ok (.iastore, 1) := dk_79 (dk_at dksX4_take_1 19 rfl rfl)
theorem dX4_take_43 : decode cX4_take 43 = .ok (.iload_n 2, 1) := dk_28 (dk_at dksX4_take_1 20 rfl rfl)
theorem dX4_take_44 : decode cX4_take 44 = .ok (.ireturn, 1) := dk_172 (dk_at dksX4_take_1 21 rfl rfl)
abbrev cX4_again : ByteArray := prog_22_method_35_code
def yX4_again : MethodName := ⟨RX4, "again", "(II)I"⟩
def dkwX4_again_2 : List UInt8 := [79, 42, 180, 0, 25, 16, 9, 27, 96, 28, 79, 42, 180, 0, 25, 184, 0, 144, 172]
abbrev dktX4_again_2 : List UInt8 := dkwX4_again_2 ++ []
def dkwX4_again_1 : List UInt8 := [5, 27, 96, 46, 16, 99, 159, 0, 6, 18, 136, 172, 42, 182, 0, 137, 42, 180, 0, 25, 5, 27, 96, 2]
abbrev dktX4_again_1 : List UInt8 := dkwX4_again_1 ++ dktX4_again_2
def dkwX4_again_0 : List UInt8 := [42, 27, 182, 0, 148, 153, 0, 12, 28, 3, 4, 184, 0, 50, 154, 0, 6, 18, 65, 172, 42, 180, 0, 25]
abbrev dktX4_again_0 : List UInt8 := dkwX4_again_0 ++ dktX4_again_1
theorem dksX4_again_0 : cX4_again.data.toList.drop 0 = dktX4_again_0 := by decide +kernel
theorem dksX4_again_1 : cX4_again.data.toList.drop 24 = dktX4_again_1 := dk_seg dksX4_again_0 24 rfl rfl
theorem dksX4_again_2 : cX4_again.data.toList.drop 48 = dktX4_again_2 := dk_seg dksX4_again_1 24 rfl rfl
theorem dX4_again_0 : decode cX4_again 0 = .ok (.aload_n 0, 1) := dk_42 (dk_at dksX4_again_0 0 rfl rfl)
theorem dX4_again_1 : decode cX4_again 1 = .ok (.iload_n 1, 1) := dk_27 (dk_at dksX4_again_0 1 rfl rfl)
theorem dX4_again_2 : decode cX4_again 2 = .ok (.invokevirtual 148, 3) := dk_182 0 148 (dk_at dksX4_again_0 2 rfl rfl)
theorem dX4_again_5 : decode cX4_again 5 = .ok (.ifCond .eq 12, 3) := dk_153 0 12 (dk_at dksX4_again_0 5 rfl rfl)
theorem dX4_again_8 : decode cX4_again 8 = .ok (.iload_n 2, 1) := dk_28 (dk_at dksX4_again_0 8 rfl rfl)
theorem dX4_again_9 : decode cX4_again 9 = .ok (.iconst 0, 1) := dk_3 (dk_at dksX4_again_0 9 rfl rfl)
theorem dX4_again_10 : decode cX4_again 10 = .ok (.iconst 1, 1) := dk_4 (dk_at dksX4_again_0 10 rfl rfl)
theorem dX4_again_11 : decode cX4_again 11 = .ok (.invokestatic 50, 3) := dk_184 0 50 (dk_at dksX4_again_0 11 rfl rfl)
theorem dX4_again_14 : decode cX4_again 14 = .ok (.ifCond .ne 6, 3) := dk_154 0 6 (dk_at dksX4_again_0 14 rfl rfl)
theorem dX4_again_17 : decode cX4_again 17 = .ok (.ldc 65, 2) := dk_18 65 (dk_at dksX4_again_0 17 rfl rfl)
theorem dX4_again_19 : decode cX4_again 19 = .ok (.ireturn, 1) := dk_172 (dk_at dksX4_again_0 19 rfl rfl)
theorem dX4_again_20 : decode cX4_again 20 = .ok (.aload_n 0, 1) := dk_42 (dk_at dksX4_again_0 20 rfl rfl)
theorem dX4_again_21 : decode cX4_again 21 = .ok (.getfield 25, 3) := dk_180 0 25 (dk_at dksX4_again_0 21 rfl rfl)
theorem dX4_again_24 : decode cX4_again 24 = .ok (.iconst 2, 1) := dk_5 (dk_at dksX4_again_1 0 rfl rfl)
theorem dX4_again_25 : decode cX4_again 25 = .ok (.iload_n 1, 1) := dk_27 (dk_at dksX4_again_1 1 rfl rfl)
theorem dX4_again_26 : decode cX4_again 26 = .ok (.iadd, 1) := dk_96 (dk_at dksX4_again_1 2 rfl rfl)
theorem dX4_again_27 : decode cX4_again 27 = .ok (.iaload, 1) := dk_46 (dk_at dksX4_again_1 3 rfl rfl)
theorem dX4_again_28 : decode cX4_again 28 = .ok (.bipush 99, 2) := dk_16 99 (dk_at dksX4_again_1 4 rfl rfl)
theorem dX4_again_30 : decode cX4_again 30 = .ok (.if_icmp .eq 6, 3) := dk_159 0 6 (dk_at dksX4_again_1 6 rfl rfl)
theorem dX4_again_33 : decode cX4_again 33 = .ok (.ldc 136, 2) := dk_18 136 (dk_at dksX4_again_1 9 rfl rfl)
theorem dX4_again_35 : decode cX4_again 35 = .ok (.ireturn, 1) := dk_172 (dk_at dksX4_again_1 11 rfl rfl)
theorem dX4_again_36 : decode cX4_again 36 = .ok (.aload_n 0, 1) := dk_42 (dk_at dksX4_again_1 12 rfl rfl)
theorem dX4_again_37 : decode cX4_again 37 = .ok (.invokevirtual 137, 3) := dk_182 0 137 (dk_at dksX4_again_1 13 rfl rfl)
theorem dX4_again_40 : decode cX4_again 40 = .ok (.aload_n 0, 1) := dk_42 (dk_at dksX4_again_1 16 rfl rfl)
theorem dX4_again_41 : decode cX4_again 41 = .ok (.getfield 25, 3) := dk_180 0 25 (dk_at dksX4_again_1 17 rfl rfl)
theorem dX4_again_44 : decode cX4_again 44 = .ok (.iconst 2, 1) := dk_5 (dk_at dksX4_again_1 20 rfl rfl)
theorem dX4_again_45 : decode cX4_again 45 = .ok (.iload_n 1, 1) := dk_27 (dk_at dksX4_again_1 21 rfl rfl)
theorem dX4_again_46 : decode cX4_again 46 = .ok (.iadd, 1) := dk_96 (dk_at dksX4_again_1 22 rfl rfl)
theorem dX4_again_47 : decode cX4_again 47 = .ok (.iconst (-1), 1) := dk_2 (dk_at dksX4_again_1 23 rfl rfl)
theorem dX4_again_48 : decode cX4_again 48 = .ok (.iastore, 1) := dk_79 (dk_at dksX4_again_2 0 rfl rfl)
theorem dX4_again_49 : decode cX4_again 49 = .ok (.aload_n 0, 1) := dk_42 (dk_at dksX4_again_2 1 rfl rfl)
theorem dX4_again_50 : decode cX4_again 50 = .ok (.getfield 25, 3) := dk_180 0 25 (dk_at dksX4_again_2 2 rfl rfl)
theorem dX4_again_53 : decode cX4_again 53 = .ok (.bipush 9, 2) := dk_16 9 (dk_at dksX4_again_2 5 rfl rfl)
theorem dX4_again_55 : decode cX4_again 55 = .ok (.iload_n 1, 1) := dk_27 (dk_at dksX4_again_2 7 rfl rfl)
theorem dX4_again_56 : decode cX4_again 56 = .ok (.iadd, 1) := dk_96 (dk_at dksX4_again_2 8 rfl rfl)
theorem dX4_again_57 : decode cX4_again 57 = .ok (.iload_n 2, 1) := dk_28 (dk_at dksX4_again_2 9 rfl rfl)
theorem dX4_again_58 : decode cX4_again 58 = .ok (.iastore, 1) := dk_79 (dk_at dksX4_again_2 10 rfl rfl)
theorem dX4_again_59 : decode cX4_again 59 = .ok (.aload_n 0, 1) := dk_42 (dk_at dksX4_again_2 11 rfl rfl)
theorem dX4_again_60 : decode cX4_again 60 = .ok (.getfield 25, 3) := dk_180 0 25 (dk_at dksX4_again_2 12 rfl rfl)
theorem dX4_again_63 : decode cX4_again 63 = .ok (.invokestatic 144, 3) := dk_184 0 144 (dk_at dksX4_again_2 15 rfl rfl)
theorem dX4_again_66 : decode cX4_again 66 = .ok (.ireturn, 1) := dk_172 (dk_at dksX4_again_2 18 rfl rfl)
abbrev cX4_undo : ByteArray := prog_22_method_36_code
def yX4_undo : MethodName := ⟨RX4, "undo", "()I"⟩
def dkwX4_undo_2 : List UInt8 := [79, 132, 1, 1, 167, 255, 227, 42, 180, 0, 115, 172]
abbrev dktX4_undo_2 : List UInt8 := dkwX4_undo_2 ++ []
def dkwX4_undo_1 : List UInt8 := [16, 16, 162, 0, 29, 42, 180, 0, 25, 27, 42, 180, 0, 38, 16, 16, 42, 180, 0, 115, 104, 27, 96, 46]
abbrev dktX4_undo_1 : List UInt8 := dkwX4_undo_1 ++ dktX4_undo_2
def dkwX4_undo_0 : List UInt8 := [42, 180, 0, 115, 154, 0, 6, 18, 136, 172, 42, 89, 180, 0, 115, 4, 100, 181, 0, 115, 3, 60, 27]
abbrev dktX4_undo_0 : List UInt8 := dkwX4_undo_0 ++ dktX4_undo_1
theorem dksX4_undo_0 : cX4_undo.data.toList.drop 0 = dktX4_undo_0 := by decide +kernel
theorem dksX4_undo_1 : cX4_undo.data.toList.drop 23 = dktX4_undo_1 := dk_seg dksX4_undo_0 23 rfl rfl
theorem dksX4_undo_2 : cX4_undo.data.toList.drop 47 = dktX4_undo_2 := dk_seg dksX4_undo_1 24 rfl rfl
theorem dX4_undo_0 : decode cX4_undo 0 = .ok (.aload_n 0, 1) := dk_42 (dk_at dksX4_undo_0 0 rfl rfl)
theorem dX4_undo_1 : decode cX4_undo 1 = .ok (.getfield 115, 3) := dk_180 0 115 (dk_at dksX4_undo_0 1 rfl rfl)
theorem dX4_undo_4 : decode cX4_undo 4 = .ok (.ifCond .ne 6, 3) := dk_154 0 6 (dk_at dksX4_undo_0 4 rfl rfl)
theorem dX4_undo_7 : decode cX4_undo 7 = .ok (.ldc 136, 2) := dk_18 136 (dk_at dksX4_undo_0 7 rfl rfl)
theorem dX4_undo_9 : decode cX4_undo 9 = .ok (.ireturn, 1) := dk_172 (dk_at dksX4_undo_0 9 rfl rfl)
theorem dX4_undo_10 : decode cX4_undo 10 = .ok (.aload_n 0, 1) := dk_42 (dk_at dksX4_undo_0 10 rfl rfl)
theorem dX4_undo_11 : decode cX4_undo 11 = .ok (.dup, 1) := dk_89 (dk_at dksX4_undo_0 11 rfl rfl)
theorem dX4_undo_12 : decode cX4_undo 12 = .ok (.getfield 115, 3) := dk_180 0 115 (dk_at dksX4_undo_0 12 rfl rfl)
theorem dX4_undo_15 : decode cX4_undo 15 = .ok (.iconst 1, 1) := dk_4 (dk_at dksX4_undo_0 15 rfl rfl)
theorem dX4_undo_16 : decode cX4_undo 16 = .ok (.isub, 1) := dk_100 (dk_at dksX4_undo_0 16 rfl rfl)
theorem dX4_undo_17 : decode cX4_undo 17 = .ok (.putfield 115, 3) := dk_181 0 115 (dk_at dksX4_undo_0 17 rfl rfl)
theorem dX4_undo_20 : decode cX4_undo 20 = .ok (.iconst 0, 1) := dk_3 (dk_at dksX4_undo_0 20 rfl rfl)
theorem dX4_undo_21 : decode cX4_undo 21 = .ok (.istore_n 1, 1) := dk_60 (dk_at dksX4_undo_0 21 rfl rfl)
theorem dX4_undo_22 : decode cX4_undo 22 = .ok (.iload_n 1, 1) := dk_27 (dk_at dksX4_undo_0 22 rfl rfl)
theorem dX4_undo_23 : decode cX4_undo 23 = .ok (.bipush 16, 2) := dk_16 16 (dk_at dksX4_undo_1 0 rfl rfl)
theorem dX4_undo_25 : decode cX4_undo 25 = .ok (.if_icmp .ge 29, 3) := dk_162 0 29 (dk_at dksX4_undo_1 2 rfl rfl)
theorem dX4_undo_28 : decode cX4_undo 28 = .ok (.aload_n 0, 1) := dk_42 (dk_at dksX4_undo_1 5 rfl rfl)
theorem dX4_undo_29 : decode cX4_undo 29 = .ok (.getfield 25, 3) := dk_180 0 25 (dk_at dksX4_undo_1 6 rfl rfl)
theorem dX4_undo_32 : decode cX4_undo 32 = .ok (.iload_n 1, 1) := dk_27 (dk_at dksX4_undo_1 9 rfl rfl)
theorem dX4_undo_33 : decode cX4_undo 33 = .ok (.aload_n 0, 1) := dk_42 (dk_at dksX4_undo_1 10 rfl rfl)
theorem dX4_undo_34 : decode cX4_undo 34 = .ok (.getfield 38, 3) := dk_180 0 38 (dk_at dksX4_undo_1 11 rfl rfl)
theorem dX4_undo_37 : decode cX4_undo 37 = .ok (.bipush 16, 2) := dk_16 16 (dk_at dksX4_undo_1 14 rfl rfl)
theorem dX4_undo_39 : decode cX4_undo 39 = .ok (.aload_n 0, 1) := dk_42 (dk_at dksX4_undo_1 16 rfl rfl)
theorem dX4_undo_40 : decode cX4_undo 40 = .ok (.getfield 115, 3) := dk_180 0 115 (dk_at dksX4_undo_1 17 rfl rfl)
theorem dX4_undo_43 : decode cX4_undo 43 = .ok (.imul, 1) := dk_104 (dk_at dksX4_undo_1 20 rfl rfl)
theorem dX4_undo_44 : decode cX4_undo 44 = .ok (.iload_n 1, 1) := dk_27 (dk_at dksX4_undo_1 21 rfl rfl)
theorem dX4_undo_45 : decode cX4_undo 45 = .ok (.iadd, 1) := dk_96 (dk_at dksX4_undo_1 22 rfl rfl)
theorem dX4_undo_46 : decode cX4_undo 46 = .ok (.iaload, 1) := dk_46 (dk_at dksX4_undo_1 23 rfl rfl)
theorem dX4_undo_47 : decode cX4_undo 47 = .ok (.iastore, 1) := dk_79 (dk_at dksX4_undo_2 0 rfl rfl)
theorem dX4_undo_48 : decode cX4_undo 48 = .ok (.iinc 1 1, 3) := dk_132 1 1 (dk_at dksX4_undo_2 1 rfl rfl)
theorem dX4_undo_51 : decode cX4_undo 51 = .ok (.goto (-29), 3) := dk_167 255 227 (dk_at dksX4_undo_2 4 rfl rfl)
theorem dX4_undo_54 : decode cX4_undo 54 = .ok (.aload_n 0, 1) := dk_42 (dk_at dksX4_undo_2 7 rfl rfl)
theorem dX4_undo_55 : decode cX4_undo 55 = .ok (.getfield 115, 3) := dk_180 0 115 (dk_at dksX4_undo_2 8 rfl rfl)
theorem dX4_undo_58 : decode cX4_undo 58 = .ok (.ireturn, 1) := dk_172 (dk_at dksX4_undo_2 11 rfl rfl)
abbrev cX4_rider : ByteArray := prog_22_method_37_code
def yX4_rider : MethodName := ⟨RX4, "rider", "(II)I"⟩
def dkwX4_rider_5 : List UInt8 := [184, 0, 118, 153, 0, 7, 4, 167, 0, 4, 3, 172, 18, 65, 172]
abbrev dktX4_rider_5 : List UInt8 := dkwX4_rider_5 ++ []
def dkwX4_rider_4 : List UInt8 := [4, 100, 162, 0, 30, 42, 180, 0, 25, 27, 29, 4, 96, 42, 180, 0, 25, 16, 9, 27, 96, 46]
abbrev dktX4_rider_4 : List UInt8 := dkwX4_rider_4 ++ dktX4_rider_5
def dkwX4_rider_3 : List UInt8 := [161, 0, 7, 4, 167, 0, 4, 3, 172, 29, 184, 0, 130, 153, 0, 43, 29, 42, 180, 0, 25, 16, 16, 46]
abbrev dktX4_rider_3 : List UInt8 := dkwX4_rider_3 ++ dktX4_rider_4
def dkwX4_rider_2 : List UInt8 := [29, 172, 42, 180, 0, 25, 16, 9, 27, 96, 46, 172, 42, 180, 0, 25, 16, 18, 27, 96, 46, 7]
abbrev dktX4_rider_2 : List UInt8 := dkwX4_rider_2 ++ dktX4_rider_3
def dkwX4_rider_1 : List UInt8 := [170, 0, 0, 0, 0, 0, 111, 0, 0, 0, 0, 0, 0, 0, 3, 0, 0, 0, 31, 0, 0, 0, 33, 0, 0, 0, 43, 0, 0, 0, 62]
abbrev dktX4_rider_1 : List UInt8 := dkwX4_rider_1 ++ dktX4_rider_2
def dkwX4_rider_0 : List UInt8 := [42, 27, 182, 0, 148, 154, 0, 6, 18, 65, 172, 42, 180, 0, 25, 5, 27, 96, 46, 62, 28]
abbrev dktX4_rider_0 : List UInt8 := dkwX4_rider_0 ++ dktX4_rider_1
theorem dksX4_rider_0 : cX4_rider.data.toList.drop 0 = dktX4_rider_0 := by decide +kernel
theorem dksX4_rider_1 : cX4_rider.data.toList.drop 21 = dktX4_rider_1 := dk_seg dksX4_rider_0 21 rfl rfl
theorem dksX4_rider_2 : cX4_rider.data.toList.drop 52 = dktX4_rider_2 := dk_seg dksX4_rider_1 31 rfl rfl
theorem dksX4_rider_3 : cX4_rider.data.toList.drop 74 = dktX4_rider_3 := dk_seg dksX4_rider_2 22 rfl rfl
theorem dksX4_rider_4 : cX4_rider.data.toList.drop 98 = dktX4_rider_4 := dk_seg dksX4_rider_3 24 rfl rfl
theorem dksX4_rider_5 : cX4_rider.data.toList.drop 120 = dktX4_rider_5 := dk_seg dksX4_rider_4 22 rfl rfl
theorem dX4_rider_0 : decode cX4_rider 0 = .ok (.aload_n 0, 1) := dk_42 (dk_at dksX4_rider_0 0 rfl rfl)
theorem dX4_rider_1 : decode cX4_rider 1 = .ok (.iload_n 1, 1) := dk_27 (dk_at dksX4_rider_0 1 rfl rfl)
theorem dX4_rider_2 : decode cX4_rider 2 = .ok (.invokevirtual 148, 3) := dk_182 0 148 (dk_at dksX4_rider_0 2 rfl rfl)
theorem dX4_rider_5 : decode cX4_rider 5 = .ok (.ifCond .ne 6, 3) := dk_154 0 6 (dk_at dksX4_rider_0 5 rfl rfl)
theorem dX4_rider_8 : decode cX4_rider 8 = .ok (.ldc 65, 2) := dk_18 65 (dk_at dksX4_rider_0 8 rfl rfl)
theorem dX4_rider_10 : decode cX4_rider 10 = .ok (.ireturn, 1) := dk_172 (dk_at dksX4_rider_0 10 rfl rfl)
theorem dX4_rider_11 : decode cX4_rider 11 = .ok (.aload_n 0, 1) := dk_42 (dk_at dksX4_rider_0 11 rfl rfl)
theorem dX4_rider_12 : decode cX4_rider 12 = .ok (.getfield 25, 3) := dk_180 0 25 (dk_at dksX4_rider_0 12 rfl rfl)
theorem dX4_rider_15 : decode cX4_rider 15 = .ok (.iconst 2, 1) := dk_5 (dk_at dksX4_rider_0 15 rfl rfl)
theorem dX4_rider_16 : decode cX4_rider 16 = .ok (.iload_n 1, 1) := dk_27 (dk_at dksX4_rider_0 16 rfl rfl)
theorem dX4_rider_17 : decode cX4_rider 17 = .ok (.iadd, 1) := dk_96 (dk_at dksX4_rider_0 17 rfl rfl)
theorem dX4_rider_18 : decode cX4_rider 18 = .ok (.iaload, 1) := dk_46 (dk_at dksX4_rider_0 18 rfl rfl)
theorem dX4_rider_19 : decode cX4_rider 19 = .ok (.istore_n 3, 1) := dk_62 (dk_at dksX4_rider_0 19 rfl rfl)
theorem dX4_rider_20 : decode cX4_rider 20 = .ok (.iload_n 2, 1) := dk_28 (dk_at dksX4_rider_0 20 rfl rfl)
theorem dX4_rider_21 : decode cX4_rider 21 = .ok (.tableswitch 111 0 3 #[31, 33, 43, 62], 31) := by decide +kernel
theorem dX4_rider_52 : decode cX4_rider 52 = .ok (.iload_n 3, 1) := dk_29 (dk_at dksX4_rider_2 0 rfl rfl)
theorem dX4_rider_53 : decode cX4_rider 53 = .ok (.ireturn, 1) := dk_172 (dk_at dksX4_rider_2 1 rfl rfl)
theorem dX4_rider_54 : decode cX4_rider 54 = .ok (.aload_n 0, 1) := dk_42 (dk_at dksX4_rider_2 2 rfl rfl)
theorem dX4_rider_55 : decode cX4_rider 55 = .ok (.getfield 25, 3) := dk_180 0 25 (dk_at dksX4_rider_2 3 rfl rfl)
theorem dX4_rider_58 : decode cX4_rider 58 = .ok (.bipush 9, 2) := dk_16 9 (dk_at dksX4_rider_2 6 rfl rfl)
theorem dX4_rider_60 : decode cX4_rider 60 = .ok (.iload_n 1, 1) := dk_27 (dk_at dksX4_rider_2 8 rfl rfl)
theorem dX4_rider_61 : decode cX4_rider 61 = .ok (.iadd, 1) := dk_96 (dk_at dksX4_rider_2 9 rfl rfl)
theorem dX4_rider_62 : decode cX4_rider 62 = .ok (.iaload, 1) := dk_46 (dk_at dksX4_rider_2 10 rfl rfl)
theorem dX4_rider_63 : decode cX4_rider 63 = .ok (.ireturn, 1) := dk_172 (dk_at dksX4_rider_2 11 rfl rfl)
theorem dX4_rider_64 : decode cX4_rider 64 = .ok (.aload_n 0, 1) := dk_42 (dk_at dksX4_rider_2 12 rfl rfl)
theorem dX4_rider_65 : decode cX4_rider 65 = .ok (.getfield 25, 3) := dk_180 0 25 (dk_at dksX4_rider_2 13 rfl rfl)
theorem dX4_rider_68 : decode cX4_rider 68 = .ok (.bipush 18, 2) := dk_16 18 (dk_at dksX4_rider_2 16 rfl rfl)
theorem dX4_rider_70 : decode cX4_rider 70 = .ok (.iload_n 1, 1) := dk_27 (dk_at dksX4_rider_2 18 rfl rfl)
theorem dX4_rider_71 : decode cX4_rider 71 = .ok (.iadd, 1) := dk_96 (dk_at dksX4_rider_2 19 rfl rfl)
theorem dX4_rider_72 : decode cX4_rider 72 = .ok (.iaload, 1) := dk_46 (dk_at dksX4_rider_2 20 rfl rfl)
theorem dX4_rider_73 : decode cX4_rider 73 = .ok (.iconst 4, 1) := dk_7 (dk_at dksX4_rider_2 21 rfl rfl)
theorem dX4_rider_74 : decode cX4_rider 74 = .ok (.if_icmp .lt 7, 3) := dk_161 0 7 (dk_at dksX4_rider_3 0 rfl rfl)
theorem dX4_rider_77 : decode cX4_rider 77 = .ok (.iconst 1, 1) := dk_4 (dk_at dksX4_rider_3 3 rfl rfl)
theorem dX4_rider_78 : decode cX4_rider 78 = .ok (.goto 4, 3) := dk_167 0 4 (dk_at dksX4_rider_3 4 rfl rfl)
theorem dX4_rider_81 : decode cX4_rider 81 = .ok (.iconst 0, 1) := dk_3 (dk_at dksX4_rider_3 7 rfl rfl)
theorem dX4_rider_82 : decode cX4_rider 82 = .ok (.ireturn, 1) := dk_172 (dk_at dksX4_rider_3 8 rfl rfl)
theorem dX4_rider_83 : decode cX4_rider 83 = .ok (.iload_n 3, 1) := dk_29 (dk_at dksX4_rider_3 9 rfl rfl)
theorem dX4_rider_84 : decode cX4_rider 84 = .ok (.invokestatic 130, 3) := dk_184 0 130 (dk_at dksX4_rider_3 10 rfl rfl)
theorem dX4_rider_87 : decode cX4_rider 87 = .ok (.ifCond .eq 43, 3) := dk_153 0 43 (dk_at dksX4_rider_3 13 rfl rfl)
theorem dX4_rider_90 : decode cX4_rider 90 = .ok (.iload_n 3, 1) := dk_29 (dk_at dksX4_rider_3 16 rfl rfl)
theorem dX4_rider_91 : decode cX4_rider 91 = .ok (.aload_n 0, 1) := dk_42 (dk_at dksX4_rider_3 17 rfl rfl)
theorem dX4_rider_92 : decode cX4_rider 92 = .ok (.getfield 25, 3) := dk_180 0 25 (dk_at dksX4_rider_3 18 rfl rfl)
theorem dX4_rider_95 : decode cX4_rider 95 = .ok (.bipush 16, 2) := dk_16 16 (dk_at dksX4_rider_3 21 rfl rfl)
theorem dX4_rider_97 : decode cX4_rider 97 = .ok (.iaload, 1) := dk_46 (dk_at dksX4_rider_3 23 rfl rfl)
theorem dX4_rider_98 : decode cX4_rider 98 = .ok (.iconst 1, 1) := dk_4 (dk_at dksX4_rider_4 0 rfl rfl)
theorem dX4_rider_99 : decode cX4_rider 99 = .ok (.isub, 1) := dk_100 (dk_at dksX4_rider_4 1 rfl rfl)
theorem dX4_rider_100 : decode cX4_rider 100 = .ok (.if_icmp .ge 30, 3) := dk_162 0 30 (dk_at dksX4_rider_4 2 rfl rfl)
theorem dX4_rider_103 : decode cX4_rider 103 = .ok (.aload_n 0, 1) := dk_42 (dk_at dksX4_rider_4 5 rfl rfl)
theorem dX4_rider_104 : decode cX4_rider 104 = .ok (.getfield 25, 3) := dk_180 0 25 (dk_at dksX4_rider_4 6 rfl rfl)
theorem dX4_rider_107 : decode cX4_rider 107 = .ok (.iload_n 1, 1) := dk_27 (dk_at dksX4_rider_4 9 rfl rfl)
theorem dX4_rider_108 : decode cX4_rider 108 = .ok (.iload_n 3, 1) := dk_29 (dk_at dksX4_rider_4 10 rfl rfl)
theorem dX4_rider_109 : decode cX4_rider 109 = .ok (.iconst 1, 1) := dk_4 (dk_at dksX4_rider_4 11 rfl rfl)
theorem dX4_rider_110 : decode cX4_rider 110 = .ok (.iadd, 1) := dk_96 (dk_at dksX4_rider_4 12 rfl rfl)
theorem dX4_rider_111 : decode cX4_rider 111 = .ok (.aload_n 0, 1) := dk_42 (dk_at dksX4_rider_4 13 rfl rfl)
theorem dX4_rider_112 : decode cX4_rider 112 = .ok (.getfield 25, 3) := dk_180 0 25 (dk_at dksX4_rider_4 14 rfl rfl)
theorem dX4_rider_115 : decode cX4_rider 115 = .ok (.bipush 9, 2) := dk_16 9 (dk_at dksX4_rider_4 17 rfl rfl)
theorem dX4_rider_117 : decode cX4_rider 117 = .ok (.iload_n 1, 1) := dk_27 (dk_at dksX4_rider_4 19 rfl rfl)
theorem dX4_rider_118 : decode cX4_rider 118 = .ok (.iadd, 1) := dk_96 (dk_at dksX4_rider_4 20 rfl rfl)
theorem dX4_rider_119 : decode cX4_rider 119 = .ok (.iaload, 1) := dk_46 (dk_at dksX4_rider_4 21 rfl rfl)
theorem dX4_rider_120 : decode cX4_rider 120 = .ok (.invokestatic 118, 3) := dk_184 0 118 (dk_at dksX4_rider_5 0 rfl rfl)
theorem dX4_rider_123 : decode cX4_rider 123 = .ok (.ifCond .eq 7, 3) := dk_153 0 7 (dk_at dksX4_rider_5 3 rfl rfl)
theorem dX4_rider_126 : decode cX4_rider 126 = .ok (.iconst 1, 1) := dk_4 (dk_at dksX4_rider_5 6 rfl rfl)
theorem dX4_rider_127 : decode cX4_rider 127 = .ok (.goto 4, 3) := dk_167 0 4 (dk_at dksX4_rider_5 7 rfl rfl)
theorem dX4_rider_130 : decode cX4_rider 130 = .ok (.iconst 0, 1) := dk_3 (dk_at dksX4_rider_5 10 rfl rfl)
theorem dX4_rider_131 : decode cX4_rider 131 = .ok (.ireturn, 1) := dk_172 (dk_at dksX4_rider_5 11 rfl rfl)
theorem dX4_rider_132 : decode cX4_rider 132 = .ok (.ldc 65, 2) := dk_18 65 (dk_at dksX4_rider_5 12 rfl rfl)
theorem dX4_rider_134 : decode cX4_rider 134 = .ok (.ireturn, 1) := dk_172 (dk_at dksX4_rider_5 14 rfl rfl)
abbrev cX4_step : ByteArray := prog_22_method_38_code
def yX4_step : MethodName := ⟨RX4, "step", "(II)I"⟩
def dkwX4_step_4 : List UInt8 := [29, 21, 5, 153, 0, 10, 4, 21, 4, 120, 167, 0, 4, 3, 128, 62, 132, 4, 1, 167, 255, 177, 29, 172]
abbrev dktX4_step_4 : List UInt8 := dkwX4_step_4 ++ []
def dkwX4_step_3 : List UInt8 := [162, 0, 17, 42, 180, 0, 25, 16, 9, 21, 4, 96, 46, 28, 160, 0, 7, 4, 167, 0, 4, 3, 54, 5]
abbrev dktX4_step_3 : List UInt8 := dkwX4_step_3 ++ dktX4_step_4
def dkwX4_step_2 : List UInt8 := [180, 0, 25, 5, 21, 4, 96, 46, 27, 160, 0, 35, 42, 180, 0, 25, 16, 18, 21, 4, 96, 46, 7]
abbrev dktX4_step_2 : List UInt8 := dkwX4_step_2 ++ dktX4_step_3
def dkwX4_step_1 : List UInt8 := [154, 0, 6, 18, 65, 172, 3, 62, 3, 54, 4, 21, 4, 42, 180, 0, 25, 16, 17, 46, 162, 0, 73, 42]
abbrev dktX4_step_1 : List UInt8 := dkwX4_step_1 ++ dktX4_step_2
def dkwX4_step_0 : List UInt8 := [27, 3, 42, 180, 0, 25, 16, 16, 46, 4, 100, 184, 0, 50, 153, 0, 12, 28, 3, 4, 184, 0, 50]
abbrev dktX4_step_0 : List UInt8 := dkwX4_step_0 ++ dktX4_step_1
theorem dksX4_step_0 : cX4_step.data.toList.drop 0 = dktX4_step_0 := by decide +kernel
theorem dksX4_step_1 : cX4_step.data.toList.drop 23 = dktX4_step_1 := dk_seg dksX4_step_0 23 rfl rfl
theorem dksX4_step_2 : cX4_step.data.toList.drop 47 = dktX4_step_2 := dk_seg dksX4_step_1 24 rfl rfl
theorem dksX4_step_3 : cX4_step.data.toList.drop 70 = dktX4_step_3 := dk_seg dksX4_step_2 23 rfl rfl
theorem dksX4_step_4 : cX4_step.data.toList.drop 94 = dktX4_step_4 := dk_seg dksX4_step_3 24 rfl rfl
theorem dX4_step_0 : decode cX4_step 0 = .ok (.iload_n 1, 1) := dk_27 (dk_at dksX4_step_0 0 rfl rfl)
theorem dX4_step_1 : decode cX4_step 1 = .ok (.iconst 0, 1) := dk_3 (dk_at dksX4_step_0 1 rfl rfl)
theorem dX4_step_2 : decode cX4_step 2 = .ok (.aload_n 0, 1) := dk_42 (dk_at dksX4_step_0 2 rfl rfl)
theorem dX4_step_3 : decode cX4_step 3 = .ok (.getfield 25, 3) := dk_180 0 25 (dk_at dksX4_step_0 3 rfl rfl)
theorem dX4_step_6 : decode cX4_step 6 = .ok (.bipush 16, 2) := dk_16 16 (dk_at dksX4_step_0 6 rfl rfl)
theorem dX4_step_8 : decode cX4_step 8 = .ok (.iaload, 1) := dk_46 (dk_at dksX4_step_0 8 rfl rfl)
theorem dX4_step_9 : decode cX4_step 9 = .ok (.iconst 1, 1) := dk_4 (dk_at dksX4_step_0 9 rfl rfl)
theorem dX4_step_10 : decode cX4_step 10 = .ok (.isub, 1) := dk_100 (dk_at dksX4_step_0 10 rfl rfl)
theorem dX4_step_11 : decode cX4_step 11 = .ok (.invokestatic 50, 3) := dk_184 0 50 (dk_at dksX4_step_0 11 rfl rfl)
theorem dX4_step_14 : decode cX4_step 14 = .ok (.ifCond .eq 12, 3) := dk_153 0 12 (dk_at dksX4_step_0 14 rfl rfl)
theorem dX4_step_17 : decode cX4_step 17 = .ok (.iload_n 2, 1) := dk_28 (dk_at dksX4_step_0 17 rfl rfl)
theorem dX4_step_18 : decode cX4_step 18 = .ok (.iconst 0, 1) := dk_3 (dk_at dksX4_step_0 18 rfl rfl)
theorem dX4_step_19 : decode cX4_step 19 = .ok (.iconst 1, 1) := dk_4 (dk_at dksX4_step_0 19 rfl rfl)
theorem dX4_step_20 : decode cX4_step 20 = .ok (.invokestatic 50, 3) := dk_184 0 50 (dk_at dksX4_step_0 20 rfl rfl)
theorem dX4_step_23 : decode cX4_step 23 = .ok (.ifCond .ne 6, 3) := dk_154 0 6 (dk_at dksX4_step_1 0 rfl rfl)
theorem dX4_step_26 : decode cX4_step 26 = .ok (.ldc 65, 2) := dk_18 65 (dk_at dksX4_step_1 3 rfl rfl)
theorem dX4_step_28 : decode cX4_step 28 = .ok (.ireturn, 1) := dk_172 (dk_at dksX4_step_1 5 rfl rfl)
theorem dX4_step_29 : decode cX4_step 29 = .ok (.iconst 0, 1) := dk_3 (dk_at dksX4_step_1 6 rfl rfl)
theorem dX4_step_30 : decode cX4_step 30 = .ok (.istore_n 3, 1) := dk_62 (dk_at dksX4_step_1 7 rfl rfl)
theorem dX4_step_31 : decode cX4_step 31 = .ok (.iconst 0, 1) := dk_3 (dk_at dksX4_step_1 8 rfl rfl)
theorem dX4_step_32 : decode cX4_step 32 = .ok (.istore 4, 2) := dk_54 4 (dk_at dksX4_step_1 9 rfl rfl)
theorem dX4_step_34 : decode cX4_step 34 = .ok (.iload 4, 2) := dk_21 4 (dk_at dksX4_step_1 11 rfl rfl)
theorem dX4_step_36 : decode cX4_step 36 = .ok (.aload_n 0, 1) := dk_42 (dk_at dksX4_step_1 13 rfl rfl)
theorem dX4_step_37 : decode cX4_step 37 = .ok (.getfield 25, 3) := dk_180 0 25 (dk_at dksX4_step_1 14 rfl rfl)
theorem dX4_step_40 : decode cX4_step 40 = .ok (.bipush 17, 2) := dk_16 17 (dk_at dksX4_step_1 17 rfl rfl)
theorem dX4_step_42 : decode cX4_step 42 = .ok (.iaload, 1) := dk_46 (dk_at dksX4_step_1 19 rfl rfl)
theorem dX4_step_43 : decode cX4_step 43 = .ok (.if_icmp .ge 73, 3) := dk_162 0 73 (dk_at dksX4_step_1 20 rfl rfl)
theorem dX4_step_46 : decode cX4_step 46 = .ok (.aload_n 0, 1) := dk_42 (dk_at dksX4_step_1 23 rfl rfl)
theorem dX4_step_47 : decode cX4_step 47 = .ok (.getfield 25, 3) := dk_180 0 25 (dk_at dksX4_step_2 0 rfl rfl)
theorem dX4_step_50 : decode cX4_step 50 = .ok (.iconst 2, 1) := dk_5 (dk_at dksX4_step_2 3 rfl rfl)
theorem dX4_step_51 : decode cX4_step 51 = .ok (.iload 4, 2) := dk_21 4 (dk_at dksX4_step_2 4 rfl rfl)
theorem dX4_step_53 : decode cX4_step 53 = .ok (.iadd, 1) := dk_96 (dk_at dksX4_step_2 6 rfl rfl)
theorem dX4_step_54 : decode cX4_step 54 = .ok (.iaload, 1) := dk_46 (dk_at dksX4_step_2 7 rfl rfl)
theorem dX4_step_55 : decode cX4_step 55 = .ok (.iload_n 1, 1) := dk_27 (dk_at dksX4_step_2 8 rfl rfl)
theorem dX4_step_56 : decode cX4_step 56 = .ok (.if_icmp .ne 35, 3) := dk_160 0 35 (dk_at dksX4_step_2 9 rfl rfl)
theorem dX4_step_59 : decode cX4_step 59 = .ok (.aload_n 0, 1) := dk_42 (dk_at dksX4_step_2 12 rfl rfl)
theorem dX4_step_60 : decode cX4_step 60 = .ok (.getfield 25, 3) := dk_180 0 25 (dk_at dksX4_step_2 13 rfl rfl)
theorem dX4_step_63 : decode cX4_step 63 = .ok (.bipush 18, 2) := dk_16 18 (dk_at dksX4_step_2 16 rfl rfl)
theorem dX4_step_65 : decode cX4_step 65 = .ok (.iload 4, 2) := dk_21 4 (dk_at dksX4_step_2 18 rfl rfl)
theorem dX4_step_67 : decode cX4_step 67 = .ok (.iadd, 1) := dk_96 (dk_at dksX4_step_2 20 rfl rfl)
theorem dX4_step_68 : decode cX4_step 68 = .ok (.iaload, 1) := dk_46 (dk_at dksX4_step_2 21 rfl rfl)
theorem dX4_step_69 : decode cX4_step 69 = .ok (.iconst 4, 1) := dk_7 (dk_at dksX4_step_2 22 rfl rfl)
theorem dX4_step_70 : decode cX4_step 70 = .ok (.if_icmp .ge 17, 3) := dk_162 0 17 (dk_at dksX4_step_3 0 rfl rfl)
theorem dX4_step_73 : decode cX4_step 73 = .ok (.aload_n 0, 1) := dk_42 (dk_at dksX4_step_3 3 rfl rfl)
theorem dX4_step_74 : decode cX4_step 74 = .ok (.getfield 25, 3) := dk_180 0 25 (dk_at dksX4_step_3 4 rfl rfl)
theorem dX4_step_77 : decode cX4_step 77 = .ok (.bipush 9, 2) := dk_16 9 (dk_at dksX4_step_3 7 rfl rfl)
theorem dX4_step_79 : decode cX4_step 79 = .ok (.iload 4, 2) := dk_21 4 (dk_at dksX4_step_3 9 rfl rfl)
theorem dX4_step_81 : decode cX4_step 81 = .ok (.iadd, 1) := dk_96 (dk_at dksX4_step_3 11 rfl rfl)
theorem dX4_step_82 : decode cX4_step 82 = .ok (.iaload, 1) := dk_46 (dk_at dksX4_step_3 12 rfl rfl)
theorem dX4_step_83 : decode cX4_step 83 = .ok (.iload_n 2, 1) := dk_28 (dk_at dksX4_step_3 13 rfl rfl)
theorem dX4_step_84 : decode cX4_step 84 = .ok (.if_icmp .ne 7, 3) := dk_160 0 7 (dk_at dksX4_step_3 14 rfl rfl)
theorem dX4_step_87 : decode cX4_step 87 = .ok (.iconst 1, 1) := dk_4 (dk_at dksX4_step_3 17 rfl rfl)
theorem dX4_step_88 : decode cX4_step 88 = .ok (.goto 4, 3) := dk_167 0 4 (dk_at dksX4_step_3 18 rfl rfl)
theorem dX4_step_91 : decode cX4_step 91 = .ok (.iconst 0, 1) := dk_3 (dk_at dksX4_step_3 21 rfl rfl)
theorem dX4_step_92 : decode cX4_step 92 = .ok (.istore 5, 2) := dk_54 5 (dk_at dksX4_step_3 22 rfl rfl)
theorem dX4_step_94 : decode cX4_step 94 = .ok (.iload_n 3, 1) := dk_29 (dk_at dksX4_step_4 0 rfl rfl)
theorem dX4_step_95 : decode cX4_step 95 = .ok (.iload 5, 2) := dk_21 5 (dk_at dksX4_step_4 1 rfl rfl)
theorem dX4_step_97 : decode cX4_step 97 = .ok (.ifCond .eq 10, 3) := dk_153 0 10 (dk_at dksX4_step_4 3 rfl rfl)
theorem dX4_step_100 : decode cX4_step 100 = .ok (.iconst 1, 1) := dk_4 (dk_at dksX4_step_4 6 rfl rfl)
theorem dX4_step_101 : decode cX4_step 101 = .ok (.iload 4, 2) := dk_21 4 (dk_at dksX4_step_4 7 rfl rfl)
theorem dX4_step_103 : decode cX4_step 103 = .ok (.ishl, 1) := dk_120 (dk_at dksX4_step_4 9 rfl rfl)
theorem dX4_step_104 : decode cX4_step 104 = .ok (.goto 4, 3) := dk_167 0 4 (dk_at dksX4_step_4 10 rfl rfl)
theorem dX4_step_107 : decode cX4_step 107 = .ok (.iconst 0, 1) := dk_3 (dk_at dksX4_step_4 13 rfl rfl)
theorem dX4_step_108 : decode cX4_step 108 = .ok (.ior, 1) := dk_128 (dk_at dksX4_step_4 14 rfl rfl)
theorem dX4_step_109 : decode cX4_step 109 = .ok (.istore_n 3, 1) := dk_62 (dk_at dksX4_step_4 15 rfl rfl)
theorem dX4_step_110 : decode cX4_step 110 = .ok (.iinc 4 1, 3) := dk_132 4 1 (dk_at dksX4_step_4 16 rfl rfl)
theorem dX4_step_113 : decode cX4_step 113 = .ok (.goto (-79), 3) := dk_167 255 177 (dk_at dksX4_step_4 19 rfl rfl)
theorem dX4_step_116 : decode cX4_step 116 = .ok (.iload_n 3, 1) := dk_29 (dk_at dksX4_step_4 22 rfl rfl)
theorem dX4_step_117 : decode cX4_step 117 = .ok (.ireturn, 1) := dk_172 (dk_at dksX4_step_4 23 rfl rfl)
abbrev cX4_ahead : ByteArray := prog_22_method_40_code
def yX4_ahead : MethodName := ⟨RX4, "ahead", "(II)I"⟩
def dkwX4_ahead_2 : List UInt8 := [42, 180, 0, 41, 5, 27, 96, 46, 172]
abbrev dktX4_ahead_2 : List UInt8 := dkwX4_ahead_2 ++ []
def dkwX4_ahead_1 : List UInt8 := [182, 0, 151, 3, 62, 29, 28, 162, 0, 17, 42, 42, 180, 0, 41, 182, 0, 140, 132, 3, 1, 167, 255, 240]
abbrev dktX4_ahead_1 : List UInt8 := dkwX4_ahead_1 ++ dktX4_ahead_2
def dkwX4_ahead_0 : List UInt8 := [42, 27, 182, 0, 148, 153, 0, 13, 28, 3, 16, 60, 184, 0, 50, 154, 0, 6, 18, 65, 172, 42]
abbrev dktX4_ahead_0 : List UInt8 := dkwX4_ahead_0 ++ dktX4_ahead_1
theorem dksX4_ahead_0 : cX4_ahead.data.toList.drop 0 = dktX4_ahead_0 := by decide +kernel
theorem dksX4_ahead_1 : cX4_ahead.data.toList.drop 22 = dktX4_ahead_1 := dk_seg dksX4_ahead_0 22 rfl rfl
theorem dksX4_ahead_2 : cX4_ahead.data.toList.drop 46 = dktX4_ahead_2 := dk_seg dksX4_ahead_1 24 rfl rfl
theorem dX4_ahead_0 : decode cX4_ahead 0 = .ok (.aload_n 0, 1) := dk_42 (dk_at dksX4_ahead_0 0 rfl rfl)
theorem dX4_ahead_1 : decode cX4_ahead 1 = .ok (.iload_n 1, 1) := dk_27 (dk_at dksX4_ahead_0 1 rfl rfl)
theorem dX4_ahead_2 : decode cX4_ahead 2 = .ok (.invokevirtual 148, 3) := dk_182 0 148 (dk_at dksX4_ahead_0 2 rfl rfl)
theorem dX4_ahead_5 : decode cX4_ahead 5 = .ok (.ifCond .eq 13, 3) := dk_153 0 13 (dk_at dksX4_ahead_0 5 rfl rfl)
theorem dX4_ahead_8 : decode cX4_ahead 8 = .ok (.iload_n 2, 1) := dk_28 (dk_at dksX4_ahead_0 8 rfl rfl)
theorem dX4_ahead_9 : decode cX4_ahead 9 = .ok (.iconst 0, 1) := dk_3 (dk_at dksX4_ahead_0 9 rfl rfl)
theorem dX4_ahead_10 : decode cX4_ahead 10 = .ok (.bipush 60, 2) := dk_16 60 (dk_at dksX4_ahead_0 10 rfl rfl)
theorem dX4_ahead_12 : decode cX4_ahead 12 = .ok (.invokestatic 50, 3) := dk_184 0 50 (dk_at dksX4_ahead_0 12 rfl rfl)
theorem dX4_ahead_15 : decode cX4_ahead 15 = .ok (.ifCond .ne 6, 3) := dk_154 0 6 (dk_at dksX4_ahead_0 15 rfl rfl)
theorem dX4_ahead_18 : decode cX4_ahead 18 = .ok (.ldc 65, 2) := dk_18 65 (dk_at dksX4_ahead_0 18 rfl rfl)
theorem dX4_ahead_20 : decode cX4_ahead 20 = .ok (.ireturn, 1) := dk_172 (dk_at dksX4_ahead_0 20 rfl rfl)
theorem dX4_ahead_21 : decode cX4_ahead 21 = .ok (.aload_n 0, 1) := dk_42 (dk_at dksX4_ahead_0 21 rfl rfl)
theorem dX4_ahead_22 : decode cX4_ahead 22 = .ok (.invokevirtual 151, 3) := dk_182 0 151 (dk_at dksX4_ahead_1 0 rfl rfl)
theorem dX4_ahead_25 : decode cX4_ahead 25 = .ok (.iconst 0, 1) := dk_3 (dk_at dksX4_ahead_1 3 rfl rfl)
theorem dX4_ahead_26 : decode cX4_ahead 26 = .ok (.istore_n 3, 1) := dk_62 (dk_at dksX4_ahead_1 4 rfl rfl)
theorem dX4_ahead_27 : decode cX4_ahead 27 = .ok (.iload_n 3, 1) := dk_29 (dk_at dksX4_ahead_1 5 rfl rfl)
theorem dX4_ahead_28 : decode cX4_ahead 28 = .ok (.iload_n 2, 1) := dk_28 (dk_at dksX4_ahead_1 6 rfl rfl)
theorem dX4_ahead_29 : decode cX4_ahead 29 = .ok (.if_icmp .ge 17, 3) := dk_162 0 17 (dk_at dksX4_ahead_1 7 rfl rfl)
theorem dX4_ahead_32 : decode cX4_ahead 32 = .ok (.aload_n 0, 1) := dk_42 (dk_at dksX4_ahead_1 10 rfl rfl)
theorem dX4_ahead_33 : decode cX4_ahead 33 = .ok (.aload_n 0, 1) := dk_42 (dk_at dksX4_ahead_1 11 rfl rfl)
theorem dX4_ahead_34 : decode cX4_ahead 34 = .ok (.getfield 41, 3) := dk_180 0 41 (dk_at dksX4_ahead_1 12 rfl rfl)
theorem dX4_ahead_37 : decode cX4_ahead 37 = .ok (.invokevirtual 140, 3) := dk_182 0 140 (dk_at dksX4_ahead_1 15 rfl rfl)
theorem dX4_ahead_40 : decode cX4_ahead 40 = .ok (.iinc 3 1, 3) := dk_132 3 1 (dk_at dksX4_ahead_1 18 rfl rfl)
theorem dX4_ahead_43 : decode cX4_ahead 43 = .ok (.goto (-16), 3) := dk_167 255 240 (dk_at dksX4_ahead_1 21 rfl rfl)
theorem dX4_ahead_46 : decode cX4_ahead 46 = .ok (.aload_n 0, 1) := dk_42 (dk_at dksX4_ahead_2 0 rfl rfl)
theorem dX4_ahead_47 : decode cX4_ahead 47 = .ok (.getfield 41, 3) := dk_180 0 41 (dk_at dksX4_ahead_2 1 rfl rfl)
theorem dX4_ahead_50 : decode cX4_ahead 50 = .ok (.iconst 2, 1) := dk_5 (dk_at dksX4_ahead_2 4 rfl rfl)
theorem dX4_ahead_51 : decode cX4_ahead 51 = .ok (.iload_n 1, 1) := dk_27 (dk_at dksX4_ahead_2 5 rfl rfl)
theorem dX4_ahead_52 : decode cX4_ahead 52 = .ok (.iadd, 1) := dk_96 (dk_at dksX4_ahead_2 6 rfl rfl)
theorem dX4_ahead_53 : decode cX4_ahead 53 = .ok (.iaload, 1) := dk_46 (dk_at dksX4_ahead_2 7 rfl rfl)
theorem dX4_ahead_54 : decode cX4_ahead 54 = .ok (.ireturn, 1) := dk_172 (dk_at dksX4_ahead_2 8 rfl rfl)
abbrev cX4_starts : ByteArray := prog_22_method_39_code
def yX4_starts : MethodName := ⟨RX4, "starts", "()V"⟩
def dkwX4_starts_1 : List UInt8 := [167, 255, 235, 177]
abbrev dktX4_starts_1 : List UInt8 := dkwX4_starts_1 ++ []
def dkwX4_starts_0 : List UInt8 := [3, 60, 27, 16, 25, 162, 0, 21, 42, 180, 0, 41, 27, 42, 180, 0, 25, 27, 46, 79, 132, 1, 1]
abbrev dktX4_starts_0 : List UInt8 := dkwX4_starts_0 ++ dktX4_starts_1
theorem dksX4_starts_0 : cX4_starts.data.toList.drop 0 = dktX4_starts_0 := by decide +kernel
theorem dksX4_starts_1 : cX4_starts.data.toList.drop 23 = dktX4_starts_1 := dk_seg dksX4_starts_0 23 rfl rfl
theorem dX4_starts_0 : decode cX4_starts 0 = .ok (.iconst 0, 1) := dk_3 (dk_at dksX4_starts_0 0 rfl rfl)
theorem dX4_starts_1 : decode cX4_starts 1 = .ok (.istore_n 1, 1) := dk_60 (dk_at dksX4_starts_0 1 rfl rfl)
theorem dX4_starts_2 : decode cX4_starts 2 = .ok (.iload_n 1, 1) := dk_27 (dk_at dksX4_starts_0 2 rfl rfl)
theorem dX4_starts_3 : decode cX4_starts 3 = .ok (.bipush 25, 2) := dk_16 25 (dk_at dksX4_starts_0 3 rfl rfl)
theorem dX4_starts_5 : decode cX4_starts 5 = .ok (.if_icmp .ge 21, 3) := dk_162 0 21 (dk_at dksX4_starts_0 5 rfl rfl)
theorem dX4_starts_8 : decode cX4_starts 8 = .ok (.aload_n 0, 1) := dk_42 (dk_at dksX4_starts_0 8 rfl rfl)
theorem dX4_starts_9 : decode cX4_starts 9 = .ok (.getfield 41, 3) := dk_180 0 41 (dk_at dksX4_starts_0 9 rfl rfl)
theorem dX4_starts_12 : decode cX4_starts 12 = .ok (.iload_n 1, 1) := dk_27 (dk_at dksX4_starts_0 12 rfl rfl)
theorem dX4_starts_13 : decode cX4_starts 13 = .ok (.aload_n 0, 1) := dk_42 (dk_at dksX4_starts_0 13 rfl rfl)
theorem dX4_starts_14 : decode cX4_starts 14 = .ok (.getfield 25, 3) := dk_180 0 25 (dk_at dksX4_starts_0 14 rfl rfl)
theorem dX4_starts_17 : decode cX4_starts 17 = .ok (.iload_n 1, 1) := dk_27 (dk_at dksX4_starts_0 17 rfl rfl)
theorem dX4_starts_18 : decode cX4_starts 18 = .ok (.iaload, 1) := dk_46 (dk_at dksX4_starts_0 18 rfl rfl)
theorem dX4_starts_19 : decode cX4_starts 19 = .ok (.iastore, 1) := dk_79 (dk_at dksX4_starts_0 19 rfl rfl)
theorem dX4_starts_20 : decode cX4_starts 20 = .ok (.iinc 1 1, 3) := dk_132 1 1 (dk_at dksX4_starts_0 20 rfl rfl)
theorem dX4_starts_23 : decode cX4_starts 23 = .ok (.goto (-21), 3) := dk_167 255 235 (dk_at dksX4_starts_1 0 rfl rfl)
theorem dX4_starts_26 : decode cX4_starts 26 = .ok (.return_, 1) := dk_177 (dk_at dksX4_starts_1 3 rfl rfl)
abbrev cX4_later : ByteArray := prog_22_method_41_code
def yX4_later : MethodName := ⟨RX4, "later", "(II)I"⟩
def dkwX4_later_5 : List UInt8 := [154, 0, 13, 42, 180, 0, 41, 184, 0, 144, 167, 0, 4, 29, 172]
abbrev dktX4_later_5 : List UInt8 := dkwX4_later_5 ++ []
def dkwX4_later_4 : List UInt8 := [180, 0, 41, 5, 21, 4, 96, 46, 120, 167, 0, 4, 3, 128, 62, 132, 4, 1, 167, 255, 208, 28]
abbrev dktX4_later_4 : List UInt8 := dkwX4_later_4 ++ dktX4_later_5
def dkwX4_later_3 : List UInt8 := [16, 17, 46, 162, 0, 42, 29, 42, 180, 0, 41, 5, 21, 4, 96, 46, 184, 0, 130, 153, 0, 17, 4, 42]
abbrev dktX4_later_3 : List UInt8 := dkwX4_later_3 ++ dktX4_later_4
def dkwX4_later_2 : List UInt8 := [180, 0, 41, 182, 0, 140, 132, 3, 1, 167, 255, 240, 3, 62, 3, 54, 4, 21, 4, 42, 180, 0, 25]
abbrev dktX4_later_2 : List UInt8 := dkwX4_later_2 ++ dktX4_later_3
def dkwX4_later_1 : List UInt8 := [184, 0, 50, 154, 0, 6, 18, 65, 172, 42, 182, 0, 151, 3, 62, 29, 27, 162, 0, 17, 42, 42]
abbrev dktX4_later_1 : List UInt8 := dkwX4_later_1 ++ dktX4_later_2
def dkwX4_later_0 : List UInt8 := [42, 182, 0, 133, 154, 0, 6, 18, 136, 172, 27, 3, 16, 60, 184, 0, 50, 153, 0, 12, 28, 3, 4]
abbrev dktX4_later_0 : List UInt8 := dkwX4_later_0 ++ dktX4_later_1
theorem dksX4_later_0 : cX4_later.data.toList.drop 0 = dktX4_later_0 := by decide +kernel
theorem dksX4_later_1 : cX4_later.data.toList.drop 23 = dktX4_later_1 := dk_seg dksX4_later_0 23 rfl rfl
theorem dksX4_later_2 : cX4_later.data.toList.drop 45 = dktX4_later_2 := dk_seg dksX4_later_1 22 rfl rfl
theorem dksX4_later_3 : cX4_later.data.toList.drop 68 = dktX4_later_3 := dk_seg dksX4_later_2 23 rfl rfl
theorem dksX4_later_4 : cX4_later.data.toList.drop 92 = dktX4_later_4 := dk_seg dksX4_later_3 24 rfl rfl
theorem dksX4_later_5 : cX4_later.data.toList.drop 114 = dktX4_later_5 := dk_seg dksX4_later_4 22 rfl rfl
theorem dX4_later_0 : decode cX4_later 0 = .ok (.aload_n 0, 1) := dk_42 (dk_at dksX4_later_0 0 rfl rfl)
theorem dX4_later_1 : decode cX4_later 1 = .ok (.invokevirtual 133, 3) := dk_182 0 133 (dk_at dksX4_later_0 1 rfl rfl)
theorem dX4_later_4 : decode cX4_later 4 = .ok (.ifCond .ne 6, 3) := dk_154 0 6 (dk_at dksX4_later_0 4 rfl rfl)
theorem dX4_later_7 : decode cX4_later 7 = .ok (.ldc 136, 2) := dk_18 136 (dk_at dksX4_later_0 7 rfl rfl)
theorem dX4_later_9 : decode cX4_later 9 = .ok (.ireturn, 1) := dk_172 (dk_at dksX4_later_0 9 rfl rfl)
theorem dX4_later_10 : decode cX4_later 10 = .ok (.iload_n 1, 1) := dk_27 (dk_at dksX4_later_0 10 rfl rfl)
theorem dX4_later_11 : decode cX4_later 11 = .ok (.iconst 0, 1) := dk_3 (dk_at dksX4_later_0 11 rfl rfl)
theorem dX4_later_12 : decode cX4_later 12 = .ok (.bipush 60, 2) := dk_16 60 (dk_at dksX4_later_0 12 rfl rfl)
theorem dX4_later_14 : decode cX4_later 14 = .ok (.invokestatic 50, 3) := dk_184 0 50 (dk_at dksX4_later_0 14 rfl rfl)
theorem dX4_later_17 : decode cX4_later 17 = .ok (.ifCond .eq 12, 3) := dk_153 0 12 (dk_at dksX4_later_0 17 rfl rfl)
theorem dX4_later_20 : decode cX4_later 20 = .ok (.iload_n 2, 1) := dk_28 (dk_at dksX4_later_0 20 rfl rfl)
theorem dX4_later_21 : decode cX4_later 21 = .ok (.iconst 0, 1) := dk_3 (dk_at dksX4_later_0 21 rfl rfl)
theorem dX4_later_22 : decode cX4_later 22 = .ok (.iconst 1, 1) := dk_4 (dk_at dksX4_later_0 22 rfl rfl)
theorem dX4_later_23 : decode cX4_later 23 = .ok (.invokestatic 50, 3) := dk_184 0 50 (dk_at dksX4_later_1 0 rfl rfl)
theorem dX4_later_26 : decode cX4_later 26 = .ok (.ifCond .ne 6, 3) := dk_154 0 6 (dk_at dksX4_later_1 3 rfl rfl)
theorem dX4_later_29 : decode cX4_later 29 = .ok (.ldc 65, 2) := dk_18 65 (dk_at dksX4_later_1 6 rfl rfl)
theorem dX4_later_31 : decode cX4_later 31 = .ok (.ireturn, 1) := dk_172 (dk_at dksX4_later_1 8 rfl rfl)
theorem dX4_later_32 : decode cX4_later 32 = .ok (.aload_n 0, 1) := dk_42 (dk_at dksX4_later_1 9 rfl rfl)
theorem dX4_later_33 : decode cX4_later 33 = .ok (.invokevirtual 151, 3) := dk_182 0 151 (dk_at dksX4_later_1 10 rfl rfl)
theorem dX4_later_36 : decode cX4_later 36 = .ok (.iconst 0, 1) := dk_3 (dk_at dksX4_later_1 13 rfl rfl)
theorem dX4_later_37 : decode cX4_later 37 = .ok (.istore_n 3, 1) := dk_62 (dk_at dksX4_later_1 14 rfl rfl)
theorem dX4_later_38 : decode cX4_later 38 = .ok (.iload_n 3, 1) := dk_29 (dk_at dksX4_later_1 15 rfl rfl)
theorem dX4_later_39 : decode cX4_later 39 = .ok (.iload_n 1, 1) := dk_27 (dk_at dksX4_later_1 16 rfl rfl)
theorem dX4_later_40 : decode cX4_later 40 = .ok (.if_icmp .ge 17, 3) := dk_162 0 17 (dk_at dksX4_later_1 17 rfl rfl)
theorem dX4_later_43 : decode cX4_later 43 = .ok (.aload_n 0, 1) := dk_42 (dk_at dksX4_later_1 20 rfl rfl)
theorem dX4_later_44 : decode cX4_later 44 = .ok (.aload_n 0, 1) := dk_42 (dk_at dksX4_later_1 21 rfl rfl)
theorem dX4_later_45 : decode cX4_later 45 = .ok (.getfield 41, 3) := dk_180 0 41 (dk_at dksX4_later_2 0 rfl rfl)
theorem dX4_later_48 : decode cX4_later 48 = .ok (.invokevirtual 140, 3) := dk_182 0 140 (dk_at dksX4_later_2 3 rfl rfl)
theorem dX4_later_51 : decode cX4_later 51 = .ok (.iinc 3 1, 3) := dk_132 3 1 (dk_at dksX4_later_2 6 rfl rfl)
theorem dX4_later_54 : decode cX4_later 54 = .ok (.goto (-16), 3) := dk_167 255 240 (dk_at dksX4_later_2 9 rfl rfl)
theorem dX4_later_57 : decode cX4_later 57 = .ok (.iconst 0, 1) := dk_3 (dk_at dksX4_later_2 12 rfl rfl)
theorem dX4_later_58 : decode cX4_later 58 = .ok (.istore_n 3, 1) := dk_62 (dk_at dksX4_later_2 13 rfl rfl)
theorem dX4_later_59 : decode cX4_later 59 = .ok (.iconst 0, 1) := dk_3 (dk_at dksX4_later_2 14 rfl rfl)
theorem dX4_later_60 : decode cX4_later 60 = .ok (.istore 4, 2) := dk_54 4 (dk_at dksX4_later_2 15 rfl rfl)
theorem dX4_later_62 : decode cX4_later 62 = .ok (.iload 4, 2) := dk_21 4 (dk_at dksX4_later_2 17 rfl rfl)
theorem dX4_later_64 : decode cX4_later 64 = .ok (.aload_n 0, 1) := dk_42 (dk_at dksX4_later_2 19 rfl rfl)
theorem dX4_later_65 : decode cX4_later 65 = .ok (.getfield 25, 3) := dk_180 0 25 (dk_at dksX4_later_2 20 rfl rfl)
theorem dX4_later_68 : decode cX4_later 68 = .ok (.bipush 17, 2) := dk_16 17 (dk_at dksX4_later_3 0 rfl rfl)
theorem dX4_later_70 : decode cX4_later 70 = .ok (.iaload, 1) := dk_46 (dk_at dksX4_later_3 2 rfl rfl)
theorem dX4_later_71 : decode cX4_later 71 = .ok (.if_icmp .ge 42, 3) := dk_162 0 42 (dk_at dksX4_later_3 3 rfl rfl)
theorem dX4_later_74 : decode cX4_later 74 = .ok (.iload_n 3, 1) := dk_29 (dk_at dksX4_later_3 6 rfl rfl)
theorem dX4_later_75 : decode cX4_later 75 = .ok (.aload_n 0, 1) := dk_42 (dk_at dksX4_later_3 7 rfl rfl)
theorem dX4_later_76 : decode cX4_later 76 = .ok (.getfield 41, 3) := dk_180 0 41 (dk_at dksX4_later_3 8 rfl rfl)
theorem dX4_later_79 : decode cX4_later 79 = .ok (.iconst 2, 1) := dk_5 (dk_at dksX4_later_3 11 rfl rfl)
theorem dX4_later_80 : decode cX4_later 80 = .ok (.iload 4, 2) := dk_21 4 (dk_at dksX4_later_3 12 rfl rfl)
theorem dX4_later_82 : decode cX4_later 82 = .ok (.iadd, 1) := dk_96 (dk_at dksX4_later_3 14 rfl rfl)
theorem dX4_later_83 : decode cX4_later 83 = .ok (.iaload, 1) := dk_46 (dk_at dksX4_later_3 15 rfl rfl)
theorem dX4_later_84 : decode cX4_later 84 = .ok (.invokestatic 130, 3) := dk_184 0 130 (dk_at dksX4_later_3 16 rfl rfl)
theorem dX4_later_87 : decode cX4_later 87 = .ok (.ifCond .eq 17, 3) := dk_153 0 17 (dk_at dksX4_later_3 19 rfl rfl)
theorem dX4_later_90 : decode cX4_later 90 = .ok (.iconst 1, 1) := dk_4 (dk_at dksX4_later_3 22 rfl rfl)
theorem dX4_later_91 : decode cX4_later 91 = .ok (.aload_n 0, 1) := dk_42 (dk_at dksX4_later_3 23 rfl rfl)
theorem dX4_later_92 : decode cX4_later 92 = .ok (.getfield 41, 3) := dk_180 0 41 (dk_at dksX4_later_4 0 rfl rfl)
theorem dX4_later_95 : decode cX4_later 95 = .ok (.iconst 2, 1) := dk_5 (dk_at dksX4_later_4 3 rfl rfl)
theorem dX4_later_96 : decode cX4_later 96 = .ok (.iload 4, 2) := dk_21 4 (dk_at dksX4_later_4 4 rfl rfl)
theorem dX4_later_98 : decode cX4_later 98 = .ok (.iadd, 1) := dk_96 (dk_at dksX4_later_4 6 rfl rfl)
theorem dX4_later_99 : decode cX4_later 99 = .ok (.iaload, 1) := dk_46 (dk_at dksX4_later_4 7 rfl rfl)
theorem dX4_later_100 : decode cX4_later 100 = .ok (.ishl, 1) := dk_120 (dk_at dksX4_later_4 8 rfl rfl)
theorem dX4_later_101 : decode cX4_later 101 = .ok (.goto 4, 3) := dk_167 0 4 (dk_at dksX4_later_4 9 rfl rfl)
theorem dX4_later_104 : decode cX4_later 104 = .ok (.iconst 0, 1) := dk_3 (dk_at dksX4_later_4 12 rfl rfl)
theorem dX4_later_105 : decode cX4_later 105 = .ok (.ior, 1) := dk_128 (dk_at dksX4_later_4 13 rfl rfl)
theorem dX4_later_106 : decode cX4_later 106 = .ok (.istore_n 3, 1) := dk_62 (dk_at dksX4_later_4 14 rfl rfl)
theorem dX4_later_107 : decode cX4_later 107 = .ok (.iinc 4 1, 3) := dk_132 4 1 (dk_at dksX4_later_4 15 rfl rfl)
theorem dX4_later_110 : decode cX4_later 110 = .ok (.goto (-48), 3) := dk_167 255 208 (dk_at dksX4_later_4 18 rfl rfl)
theorem dX4_later_113 : decode cX4_later 113 = .ok (.iload_n 2, 1) := dk_28 (dk_at dksX4_later_4 21 rfl rfl)
theorem dX4_later_114 : decode cX4_later 114 = .ok (.ifCond .ne 13, 3) := dk_154 0 13 (dk_at dksX4_later_5 0 rfl rfl)
theorem dX4_later_117 : decode cX4_later 117 = .ok (.aload_n 0, 1) := dk_42 (dk_at dksX4_later_5 3 rfl rfl)
theorem dX4_later_118 : decode cX4_later 118 = .ok (.getfield 41, 3) := dk_180 0 41 (dk_at dksX4_later_5 4 rfl rfl)
theorem dX4_later_121 : decode cX4_later 121 = .ok (.invokestatic 144, 3) := dk_184 0 144 (dk_at dksX4_later_5 7 rfl rfl)
theorem dX4_later_124 : decode cX4_later 124 = .ok (.goto 4, 3) := dk_167 0 4 (dk_at dksX4_later_5 10 rfl rfl)
theorem dX4_later_127 : decode cX4_later 127 = .ok (.iload_n 3, 1) := dk_29 (dk_at dksX4_later_5 13 rfl rfl)
theorem dX4_later_128 : decode cX4_later 128 = .ok (.ireturn, 1) := dk_172 (dk_at dksX4_later_5 14 rfl rfl)
abbrev cX4_off : ByteArray := prog_22_method_42_code
def yX4_off : MethodName := ⟨RX4, "off", "(I)I"⟩
def dkwX4_off_2 : List UInt8 := [132, 2, 1, 167, 255, 224, 18, 154, 172]
abbrev dktX4_off_2 : List UInt8 := dkwX4_off_2 ++ []
def dkwX4_off_1 : List UInt8 := [180, 0, 41, 5, 27, 96, 46, 16, 99, 160, 0, 5, 28, 172, 42, 42, 180, 0, 41, 182, 0, 140]
abbrev dktX4_off_1 : List UInt8 := dkwX4_off_1 ++ dktX4_off_2
def dkwX4_off_0 : List UInt8 := [42, 27, 182, 0, 148, 154, 0, 6, 18, 65, 172, 42, 182, 0, 151, 3, 61, 28, 16, 60, 163, 0, 32, 42]
abbrev dktX4_off_0 : List UInt8 := dkwX4_off_0 ++ dktX4_off_1
theorem dksX4_off_0 : cX4_off.data.toList.drop 0 = dktX4_off_0 := by decide +kernel
theorem dksX4_off_1 : cX4_off.data.toList.drop 24 = dktX4_off_1 := dk_seg dksX4_off_0 24 rfl rfl
theorem dksX4_off_2 : cX4_off.data.toList.drop 46 = dktX4_off_2 := dk_seg dksX4_off_1 22 rfl rfl
theorem dX4_off_0 : decode cX4_off 0 = .ok (.aload_n 0, 1) := dk_42 (dk_at dksX4_off_0 0 rfl rfl)
theorem dX4_off_1 : decode cX4_off 1 = .ok (.iload_n 1, 1) := dk_27 (dk_at dksX4_off_0 1 rfl rfl)
theorem dX4_off_2 : decode cX4_off 2 = .ok (.invokevirtual 148, 3) := dk_182 0 148 (dk_at dksX4_off_0 2 rfl rfl)
theorem dX4_off_5 : decode cX4_off 5 = .ok (.ifCond .ne 6, 3) := dk_154 0 6 (dk_at dksX4_off_0 5 rfl rfl)
theorem dX4_off_8 : decode cX4_off 8 = .ok (.ldc 65, 2) := dk_18 65 (dk_at dksX4_off_0 8 rfl rfl)
theorem dX4_off_10 : decode cX4_off 10 = .ok (.ireturn, 1) := dk_172 (dk_at dksX4_off_0 10 rfl rfl)
theorem dX4_off_11 : decode cX4_off 11 = .ok (.aload_n 0, 1) := dk_42 (dk_at dksX4_off_0 11 rfl rfl)
theorem dX4_off_12 : decode cX4_off 12 = .ok (.invokevirtual 151, 3) := dk_182 0 151 (dk_at dksX4_off_0 12 rfl rfl)
theorem dX4_off_15 : decode cX4_off 15 = .ok (.iconst 0, 1) := dk_3 (dk_at dksX4_off_0 15 rfl rfl)
theorem dX4_off_16 : decode cX4_off 16 = .ok (.istore_n 2, 1) := dk_61 (dk_at dksX4_off_0 16 rfl rfl)
theorem dX4_off_17 : decode cX4_off 17 = .ok (.iload_n 2, 1) := dk_28 (dk_at dksX4_off_0 17 rfl rfl)
theorem dX4_off_18 : decode cX4_off 18 = .ok (.bipush 60, 2) := dk_16 60 (dk_at dksX4_off_0 18 rfl rfl)
theorem dX4_off_20 : decode cX4_off 20 = .ok (.if_icmp .gt 32, 3) := dk_163 0 32 (dk_at dksX4_off_0 20 rfl rfl)
theorem dX4_off_23 : decode cX4_off 23 = .ok (.aload_n 0, 1) := dk_42 (dk_at dksX4_off_0 23 rfl rfl)
theorem dX4_off_24 : decode cX4_off 24 = .ok (.getfield 41, 3) := dk_180 0 41 (dk_at dksX4_off_1 0 rfl rfl)
theorem dX4_off_27 : decode cX4_off 27 = .ok (.iconst 2, 1) := dk_5 (dk_at dksX4_off_1 3 rfl rfl)
theorem dX4_off_28 : decode cX4_off 28 = .ok (.iload_n 1, 1) := dk_27 (dk_at dksX4_off_1 4 rfl rfl)
theorem dX4_off_29 : decode cX4_off 29 = .ok (.iadd, 1) := dk_96 (dk_at dksX4_off_1 5 rfl rfl)
theorem dX4_off_30 : decode cX4_off 30 = .ok (.iaload, 1) := dk_46 (dk_at dksX4_off_1 6 rfl rfl)
theorem dX4_off_31 : decode cX4_off 31 = .ok (.bipush 99, 2) := dk_16 99 (dk_at dksX4_off_1 7 rfl rfl)
theorem dX4_off_33 : decode cX4_off 33 = .ok (.if_icmp .ne 5, 3) := dk_160 0 5 (dk_at dksX4_off_1 9 rfl rfl)
theorem dX4_off_36 : decode cX4_off 36 = .ok (.iload_n 2, 1) := dk_28 (dk_at dksX4_off_1 12 rfl rfl)
theorem dX4_off_37 : decode cX4_off 37 = .ok (.ireturn, 1) := dk_172 (dk_at dksX4_off_1 13 rfl rfl)
theorem dX4_off_38 : decode cX4_off 38 = .ok (.aload_n 0, 1) := dk_42 (dk_at dksX4_off_1 14 rfl rfl)
theorem dX4_off_39 : decode cX4_off 39 = .ok (.aload_n 0, 1) := dk_42 (dk_at dksX4_off_1 15 rfl rfl)
theorem dX4_off_40 : decode cX4_off 40 = .ok (.getfield 41, 3) := dk_180 0 41 (dk_at dksX4_off_1 16 rfl rfl)
theorem dX4_off_43 : decode cX4_off 43 = .ok (.invokevirtual 140, 3) := dk_182 0 140 (dk_at dksX4_off_1 19 rfl rfl)
theorem dX4_off_46 : decode cX4_off 46 = .ok (.iinc 2 1, 3) := dk_132 2 1 (dk_at dksX4_off_2 0 rfl rfl)
theorem dX4_off_49 : decode cX4_off 49 = .ok (.goto (-32), 3) := dk_167 255 224 (dk_at dksX4_off_2 3 rfl rfl)
theorem dX4_off_52 : decode cX4_off 52 = .ok (.ldc 154, 2) := dk_18 154 (dk_at dksX4_off_2 6 rfl rfl)
theorem dX4_off_54 : decode cX4_off 54 = .ok (.ireturn, 1) := dk_172 (dk_at dksX4_off_2 8 rfl rfl)
abbrev cX4_clear : ByteArray := prog_22_method_44_code
def yX4_clear : MethodName := ⟨RX4, "clear", "()I"⟩
def dkwX4_clear_0 : List UInt8 := [42, 182, 0, 133, 154, 0, 6, 18, 136, 172, 42, 182, 0, 151, 42, 182, 0, 155, 172]
abbrev dktX4_clear_0 : List UInt8 := dkwX4_clear_0 ++ []
theorem dksX4_clear_0 : cX4_clear.data.toList.drop 0 = dktX4_clear_0 := by decide +kernel
theorem dX4_clear_0 : decode cX4_clear 0 = .ok (.aload_n 0, 1) := dk_42 (dk_at dksX4_clear_0 0 rfl rfl)
theorem dX4_clear_1 : decode cX4_clear 1 = .ok (.invokevirtual 133, 3) := dk_182 0 133 (dk_at dksX4_clear_0 1 rfl rfl)
theorem dX4_clear_4 : decode cX4_clear 4 = .ok (.ifCond .ne 6, 3) := dk_154 0 6 (dk_at dksX4_clear_0 4 rfl rfl)
theorem dX4_clear_7 : decode cX4_clear 7 = .ok (.ldc 136, 2) := dk_18 136 (dk_at dksX4_clear_0 7 rfl rfl)
theorem dX4_clear_9 : decode cX4_clear 9 = .ok (.ireturn, 1) := dk_172 (dk_at dksX4_clear_0 9 rfl rfl)
theorem dX4_clear_10 : decode cX4_clear 10 = .ok (.aload_n 0, 1) := dk_42 (dk_at dksX4_clear_0 10 rfl rfl)
theorem dX4_clear_11 : decode cX4_clear 11 = .ok (.invokevirtual 151, 3) := dk_182 0 151 (dk_at dksX4_clear_0 11 rfl rfl)
theorem dX4_clear_14 : decode cX4_clear 14 = .ok (.aload_n 0, 1) := dk_42 (dk_at dksX4_clear_0 14 rfl rfl)
theorem dX4_clear_15 : decode cX4_clear 15 = .ok (.invokevirtual 155, 3) := dk_182 0 155 (dk_at dksX4_clear_0 15 rfl rfl)
theorem dX4_clear_18 : decode cX4_clear 18 = .ok (.ireturn, 1) := dk_172 (dk_at dksX4_clear_0 18 rfl rfl)
abbrev cX4_clears : ByteArray := prog_22_method_43_code
def yX4_clears : MethodName := ⟨RX4, "clears", "()I"⟩
def dkwX4_clears_1 : List UInt8 := [160, 0, 5, 27, 172, 42, 42, 180, 0, 41, 182, 0, 140, 132, 1, 1, 167, 255, 220, 18, 154, 172]
abbrev dktX4_clears_1 : List UInt8 := dkwX4_clears_1 ++ []
def dkwX4_clears_0 : List UInt8 := [3, 60, 27, 16, 60, 163, 0, 36, 42, 180, 0, 41, 184, 0, 144, 42, 180, 0, 41, 16, 17, 46]
abbrev dktX4_clears_0 : List UInt8 := dkwX4_clears_0 ++ dktX4_clears_1
theorem dksX4_clears_0 : cX4_clears.data.toList.drop 0 = dktX4_clears_0 := by decide +kernel
theorem dksX4_clears_1 : cX4_clears.data.toList.drop 22 = dktX4_clears_1 := dk_seg dksX4_clears_0 22 rfl rfl
theorem dX4_clears_0 : decode cX4_clears 0 = .ok (.iconst 0, 1) := dk_3 (dk_at dksX4_clears_0 0 rfl rfl)
theorem dX4_clears_1 : decode cX4_clears 1 = .ok (.istore_n 1, 1) := dk_60 (dk_at dksX4_clears_0 1 rfl rfl)
theorem dX4_clears_2 : decode cX4_clears 2 = .ok (.iload_n 1, 1) := dk_27 (dk_at dksX4_clears_0 2 rfl rfl)
theorem dX4_clears_3 : decode cX4_clears 3 = .ok (.bipush 60, 2) := dk_16 60 (dk_at dksX4_clears_0 3 rfl rfl)
theorem dX4_clears_5 : decode cX4_clears 5 = .ok (.if_icmp .gt 36, 3) := dk_163 0 36 (dk_at dksX4_clears_0 5 rfl rfl)
theorem dX4_clears_8 : decode cX4_clears 8 = .ok (.aload_n 0, 1) := dk_42 (dk_at dksX4_clears_0 8 rfl rfl)
theorem dX4_clears_9 : decode cX4_clears 9 = .ok (.getfield 41, 3) := dk_180 0 41 (dk_at dksX4_clears_0 9 rfl rfl)
theorem dX4_clears_12 : decode cX4_clears 12 = .ok (.invokestatic 144, 3) := dk_184 0 144 (dk_at dksX4_clears_0 12 rfl rfl)
theorem dX4_clears_15 : decode cX4_clears 15 = .ok (.aload_n 0, 1) := dk_42 (dk_at dksX4_clears_0 15 rfl rfl)
theorem dX4_clears_16 : decode cX4_clears 16 = .ok (.getfield 41, 3) := dk_180 0 41 (dk_at dksX4_clears_0 16 rfl rfl)
theorem dX4_clears_19 : decode cX4_clears 19 = .ok (.bipush 17, 2) := dk_16 17 (dk_at dksX4_clears_0 19 rfl rfl)
theorem dX4_clears_21 : decode cX4_clears 21 = .ok (.iaload, 1) := dk_46 (dk_at dksX4_clears_0 21 rfl rfl)
theorem dX4_clears_22 : decode cX4_clears 22 = .ok (.if_icmp .ne 5, 3) := dk_160 0 5 (dk_at dksX4_clears_1 0 rfl rfl)
theorem dX4_clears_25 : decode cX4_clears 25 = .ok (.iload_n 1, 1) := dk_27 (dk_at dksX4_clears_1 3 rfl rfl)
theorem dX4_clears_26 : decode cX4_clears 26 = .ok (.ireturn, 1) := dk_172 (dk_at dksX4_clears_1 4 rfl rfl)
theorem dX4_clears_27 : decode cX4_clears 27 = .ok (.aload_n 0, 1) := dk_42 (dk_at dksX4_clears_1 5 rfl rfl)
theorem dX4_clears_28 : decode cX4_clears 28 = .ok (.aload_n 0, 1) := dk_42 (dk_at dksX4_clears_1 6 rfl rfl)
theorem dX4_clears_29 : decode cX4_clears 29 = .ok (.getfield 41, 3) := dk_180 0 41 (dk_at dksX4_clears_1 7 rfl rfl)
theorem dX4_clears_32 : decode cX4_clears 32 = .ok (.invokevirtual 140, 3) := dk_182 0 140 (dk_at dksX4_clears_1 10 rfl rfl)
theorem dX4_clears_35 : decode cX4_clears 35 = .ok (.iinc 1 1, 3) := dk_132 1 1 (dk_at dksX4_clears_1 13 rfl rfl)
theorem dX4_clears_38 : decode cX4_clears 38 = .ok (.goto (-36), 3) := dk_167 255 220 (dk_at dksX4_clears_1 16 rfl rfl)
theorem dX4_clears_41 : decode cX4_clears 41 = .ok (.ldc 154, 2) := dk_18 154 (dk_at dksX4_clears_1 19 rfl rfl)
theorem dX4_clears_43 : decode cX4_clears 43 = .ok (.ireturn, 1) := dk_172 (dk_at dksX4_clears_1 21 rfl rfl)
abbrev cX4_sorting : ByteArray := prog_22_method_47_code
def yX4_sorting : MethodName := ⟨RX4, "sorting", "(I)I"⟩
def dkwX4_sorting_8 : List UInt8 := [167, 255, 106, 27, 154, 0, 8, 21, 4, 167, 0, 4, 29, 172]
abbrev dktX4_sorting_8 : List UInt8 := dkwX4_sorting_8 ++ []
def dkwX4_sorting_7 : List UInt8 := [167, 0, 4, 29, 62, 21, 7, 153, 0, 8, 21, 6, 167, 0, 5, 21, 4, 54, 4, 132, 5, 1]
abbrev dktX4_sorting_7 : List UInt8 := dkwX4_sorting_7 ++ dktX4_sorting_8
def dkwX4_sorting_6 : List UInt8 := [159, 0, 10, 21, 6, 21, 4, 162, 0, 7, 4, 167, 0, 4, 3, 54, 7, 21, 7, 153, 0, 8, 21, 5]
abbrev dktX4_sorting_6 : List UInt8 := dkwX4_sorting_6 ++ dktX4_sorting_7
def dkwX4_sorting_5 : List UInt8 := [132, 6, 1, 167, 255, 202, 42, 182, 0, 155, 54, 6, 21, 6, 18, 154, 159, 0, 21, 21, 4, 18, 154]
abbrev dktX4_sorting_5 : List UInt8 := dkwX4_sorting_5 ++ dktX4_sorting_6
def dkwX4_sorting_4 : List UInt8 := [153, 0, 13, 21, 5, 21, 6, 122, 4, 126, 167, 0, 13, 42, 180, 0, 41, 16, 9, 21, 6, 96, 46, 79]
abbrev dktX4_sorting_4 : List UInt8 := dkwX4_sorting_4 ++ dktX4_sorting_5
def dkwX4_sorting_3 : List UInt8 := [180, 0, 25, 16, 17, 46, 162, 0, 48, 42, 180, 0, 41, 16, 9, 21, 6, 96, 28, 21, 6, 184, 0, 162]
abbrev dktX4_sorting_3 : List UInt8 := dkwX4_sorting_3 ++ dktX4_sorting_4
def dkwX4_sorting_2 : List UInt8 := [120, 162, 0, 142, 21, 5, 28, 2, 130, 126, 154, 0, 127, 42, 182, 0, 151, 3, 54, 6, 21, 6, 42]
abbrev dktX4_sorting_2 : List UInt8 := dkwX4_sorting_2 ++ dktX4_sorting_3
def dkwX4_sorting_1 : List UInt8 := [182, 0, 159, 61, 18, 154, 62, 18, 154, 54, 4, 3, 54, 5, 21, 5, 4, 42, 180, 0, 25, 16, 17, 46]
abbrev dktX4_sorting_1 : List UInt8 := dkwX4_sorting_1 ++ dktX4_sorting_2
def dkwX4_sorting_0 : List UInt8 := [42, 182, 0, 133, 154, 0, 6, 18, 136, 172, 27, 3, 4, 184, 0, 50, 154, 0, 6, 18, 65, 172, 42]
abbrev dktX4_sorting_0 : List UInt8 := dkwX4_sorting_0 ++ dktX4_sorting_1
theorem dksX4_sorting_0 : cX4_sorting.data.toList.drop 0 = dktX4_sorting_0 := by decide +kernel
theorem dksX4_sorting_1 : cX4_sorting.data.toList.drop 23 = dktX4_sorting_1 := dk_seg dksX4_sorting_0 23 rfl rfl
theorem dksX4_sorting_2 : cX4_sorting.data.toList.drop 47 = dktX4_sorting_2 := dk_seg dksX4_sorting_1 24 rfl rfl
theorem dksX4_sorting_3 : cX4_sorting.data.toList.drop 70 = dktX4_sorting_3 := dk_seg dksX4_sorting_2 23 rfl rfl
theorem dksX4_sorting_4 : cX4_sorting.data.toList.drop 94 = dktX4_sorting_4 := dk_seg dksX4_sorting_3 24 rfl rfl
theorem dksX4_sorting_5 : cX4_sorting.data.toList.drop 118 = dktX4_sorting_5 := dk_seg dksX4_sorting_4 24 rfl rfl
theorem dksX4_sorting_6 : cX4_sorting.data.toList.drop 141 = dktX4_sorting_6 := dk_seg dksX4_sorting_5 23 rfl rfl
theorem dksX4_sorting_7 : cX4_sorting.data.toList.drop 165 = dktX4_sorting_7 := dk_seg dksX4_sorting_6 24 rfl rfl
theorem dksX4_sorting_8 : cX4_sorting.data.toList.drop 187 = dktX4_sorting_8 := dk_seg dksX4_sorting_7 22 rfl rfl
theorem dX4_sorting_0 : decode cX4_sorting 0 = .ok (.aload_n 0, 1) := dk_42 (dk_at dksX4_sorting_0 0 rfl rfl)
theorem dX4_sorting_1 : decode cX4_sorting 1 = .ok (.invokevirtual 133, 3) := dk_182 0 133 (dk_at dksX4_sorting_0 1 rfl rfl)
theorem dX4_sorting_4 : decode cX4_sorting 4 = .ok (.ifCond .ne 6, 3) := dk_154 0 6 (dk_at dksX4_sorting_0 4 rfl rfl)
theorem dX4_sorting_7 : decode cX4_sorting 7 = .ok (.ldc 136, 2) := dk_18 136 (dk_at dksX4_sorting_0 7 rfl rfl)
theorem dX4_sorting_9 : decode cX4_sorting 9 = .ok (.ireturn, 1) := dk_172 (dk_at dksX4_sorting_0 9 rfl rfl)
theorem dX4_sorting_10 : decode cX4_sorting 10 = .ok (.iload_n 1, 1) := dk_27 (dk_at dksX4_sorting_0 10 rfl rfl)
theorem dX4_sorting_11 : decode cX4_sorting 11 = .ok (.iconst 0, 1) := dk_3 (dk_at dksX4_sorting_0 11 rfl rfl)
theorem dX4_sorting_12 : decode cX4_sorting 12 = .ok (.iconst 1, 1) := dk_4 (dk_at dksX4_sorting_0 12 rfl rfl)
theorem dX4_sorting_13 : decode cX4_sorting 13 = .ok (.invokestatic 50, 3) := dk_184 0 50 (dk_at dksX4_sorting_0 13 rfl rfl)
theorem dX4_sorting_16 : decode cX4_sorting 16 = .ok (.ifCond .ne 6, 3) := dk_154 0 6 (dk_at dksX4_sorting_0 16 rfl rfl)
theorem dX4_sorting_19 : decode cX4_sorting 19 = .ok (.ldc 65, 2) := dk_18 65 (dk_at dksX4_sorting_0 19 rfl rfl)
theorem dX4_sorting_21 : decode cX4_sorting 21 = .ok (.ireturn, 1) := dk_172 (dk_at dksX4_sorting_0 21 rfl rfl)
theorem dX4_sorting_22 : decode cX4_sorting 22 = .ok (.aload_n 0, 1) := dk_42 (dk_at dksX4_sorting_0 22 rfl rfl)
theorem dX4_sorting_23 : decode cX4_sorting 23 = .ok (.invokevirtual 159, 3) := dk_182 0 159 (dk_at dksX4_sorting_1 0 rfl rfl)
theorem dX4_sorting_26 : decode cX4_sorting 26 = .ok (.istore_n 2, 1) := dk_61 (dk_at dksX4_sorting_1 3 rfl rfl)
theorem dX4_sorting_27 : decode cX4_sorting 27 = .ok (.ldc 154, 2) := dk_18 154 (dk_at dksX4_sorting_1 4 rfl rfl)
theorem dX4_sorting_29 : decode cX4_sorting 29 = .ok (.istore_n 3, 1) := dk_62 (dk_at dksX4_sorting_1 6 rfl rfl)
theorem dX4_sorting_30 : decode cX4_sorting 30 = .ok (.ldc 154, 2) := dk_18 154 (dk_at dksX4_sorting_1 7 rfl rfl)
theorem dX4_sorting_32 : decode cX4_sorting 32 = .ok (.istore 4, 2) := dk_54 4 (dk_at dksX4_sorting_1 9 rfl rfl)
theorem dX4_sorting_34 : decode cX4_sorting 34 = .ok (.iconst 0, 1) := dk_3 (dk_at dksX4_sorting_1 11 rfl rfl)
theorem dX4_sorting_35 : decode cX4_sorting 35 = .ok (.istore 5, 2) := dk_54 5 (dk_at dksX4_sorting_1 12 rfl rfl)
theorem dX4_sorting_37 : decode cX4_sorting 37 = .ok (.iload 5, 2) := dk_21 5 (dk_at dksX4_sorting_1 14 rfl rfl)
theorem dX4_sorting_39 : decode cX4_sorting 39 = .ok (.iconst 1, 1) := dk_4 (dk_at dksX4_sorting_1 16 rfl rfl)
theorem dX4_sorting_40 : decode cX4_sorting 40 = .ok (.aload_n 0, 1) := dk_42 (dk_at dksX4_sorting_1 17 rfl rfl)
theorem dX4_sorting_41 : decode cX4_sorting 41 = .ok (.getfield 25, 3) := dk_180 0 25 (dk_at dksX4_sorting_1 18 rfl rfl)
theorem dX4_sorting_44 : decode cX4_sorting 44 = .ok (.bipush 17, 2) := dk_16 17 (dk_at dksX4_sorting_1 21 rfl rfl)
theorem dX4_sorting_46 : decode cX4_sorting 46 = .ok (.iaload, 1) := dk_46 (dk_at dksX4_sorting_1 23 rfl rfl)
theorem dX4_sorting_47 : decode cX4_sorting 47 = .ok (.ishl, 1) := dk_120 (dk_at dksX4_sorting_2 0 rfl rfl)
theorem dX4_sorting_48 : decode cX4_sorting 48 = .ok (.if_icmp .ge 142, 3) := dk_162 0 142 (dk_at dksX4_sorting_2 1 rfl rfl)
theorem dX4_sorting_51 : decode cX4_sorting 51 = .ok (.iload 5, 2) := dk_21 5 (dk_at dksX4_sorting_2 4 rfl rfl)
theorem dX4_sorting_53 : decode cX4_sorting 53 = .ok (.iload_n 2, 1) := dk_28 (dk_at dksX4_sorting_2 6 rfl rfl)
theorem dX4_sorting_54 : decode cX4_sorting 54 = .ok (.iconst (-1), 1) := dk_2 (dk_at dksX4_sorting_2 7 rfl rfl)
theorem dX4_sorting_55 : decode cX4_sorting 55 = .ok (.ixor, 1) := dk_130 (dk_at dksX4_sorting_2 8 rfl rfl)
theorem dX4_sorting_56 : decode cX4_sorting 56 = .ok (.iand, 1) := dk_126 (dk_at dksX4_sorting_2 9 rfl rfl)
theorem dX4_sorting_57 : decode cX4_sorting 57 = .ok (.ifCond .ne 127, 3) := dk_154 0 127 (dk_at dksX4_sorting_2 10 rfl rfl)
theorem dX4_sorting_60 : decode cX4_sorting 60 = .ok (.aload_n 0, 1) := dk_42 (dk_at dksX4_sorting_2 13 rfl rfl)
theorem dX4_sorting_61 : decode cX4_sorting 61 = .ok (.invokevirtual 151, 3) := dk_182 0 151 (dk_at dksX4_sorting_2 14 rfl rfl)
theorem dX4_sorting_64 : decode cX4_sorting 64 = .ok (.iconst 0, 1) := dk_3 (dk_at dksX4_sorting_2 17 rfl rfl)
theorem dX4_sorting_65 : decode cX4_sorting 65 = .ok (.istore 6, 2) := dk_54 6 (dk_at dksX4_sorting_2 18 rfl rfl)
theorem dX4_sorting_67 : decode cX4_sorting 67 = .ok (.iload 6, 2) := dk_21 6 (dk_at dksX4_sorting_2 20 rfl rfl)
theorem dX4_sorting_69 : decode cX4_sorting 69 = .ok (.aload_n 0, 1) := dk_42 (dk_at dksX4_sorting_2 22 rfl rfl)
theorem dX4_sorting_70 : decode cX4_sorting 70 = .ok (.getfield 25, 3) := dk_180 0 25 (dk_at dksX4_sorting_3 0 rfl rfl)
theorem dX4_sorting_73 : decode cX4_sorting 73 = .ok (.bipush 17, 2) := dk_16 17 (dk_at dksX4_sorting_3 3 rfl rfl)
theorem dX4_sorting_75 : decode cX4_sorting 75 = .ok (.iaload, 1) := dk_46 (dk_at dksX4_sorting_3 5 rfl rfl)
theorem dX4_sorting_76 : decode cX4_sorting 76 = .ok (.if_icmp .ge 48, 3) := dk_162 0 48 (dk_at dksX4_sorting_3 6 rfl rfl)
theorem dX4_sorting_79 : decode cX4_sorting 79 = .ok (.aload_n 0, 1) := dk_42 (dk_at dksX4_sorting_3 9 rfl rfl)
theorem dX4_sorting_80 : decode cX4_sorting 80 = .ok (.getfield 41, 3) := dk_180 0 41 (dk_at dksX4_sorting_3 10 rfl rfl)
theorem dX4_sorting_83 : decode cX4_sorting 83 = .ok (.bipush 9, 2) := dk_16 9 (dk_at dksX4_sorting_3 13 rfl rfl)
theorem dX4_sorting_85 : decode cX4_sorting 85 = .ok (.iload 6, 2) := dk_21 6 (dk_at dksX4_sorting_3 15 rfl rfl)
theorem dX4_sorting_87 : decode cX4_sorting 87 = .ok (.iadd, 1) := dk_96 (dk_at dksX4_sorting_3 17 rfl rfl)
theorem dX4_sorting_88 : decode cX4_sorting 88 = .ok (.iload_n 2, 1) := dk_28 (dk_at dksX4_sorting_3 18 rfl rfl)
theorem dX4_sorting_89 : decode cX4_sorting 89 = .ok (.iload 6, 2) := dk_21 6 (dk_at dksX4_sorting_3 19 rfl rfl)
theorem dX4_sorting_91 : decode cX4_sorting 91 = .ok (.invokestatic 162, 3) := dk_184 0 162 (dk_at dksX4_sorting_3 21 rfl rfl)
theorem dX4_sorting_94 : decode cX4_sorting 94 = .ok (.ifCond .eq 13, 3) := dk_153 0 13 (dk_at dksX4_sorting_4 0 rfl rfl)
theorem dX4_sorting_97 : decode cX4_sorting 97 = .ok (.iload 5, 2) := dk_21 5 (dk_at dksX4_sorting_4 3 rfl rfl)
theorem dX4_sorting_99 : decode cX4_sorting 99 = .ok (.iload 6, 2) := dk_21 6 (dk_at dksX4_sorting_4 5 rfl rfl)
theorem dX4_sorting_101 : decode cX4_sorting 101 = .ok (.ishr, 1) := dk_122 (dk_at dksX4_sorting_4 7 rfl rfl)
theorem dX4_sorting_102 : decode cX4_sorting 102 = .ok (.iconst 1, 1) := dk_4 (dk_at dksX4_sorting_4 8 rfl rfl)
theorem dX4_sorting_103 : decode cX4_sorting 103 = .ok (.iand, 1) := dk_126 (dk_at dksX4_sorting_4 9 rfl rfl)
theorem dX4_sorting_104 : decode cX4_sorting 104 = .ok (.goto 13, 3) := dk_167 0 13 (dk_at dksX4_sorting_4 10 rfl rfl)
theorem dX4_sorting_107 : decode cX4_sorting 107 = .ok (.aload_n 0, 1) := dk_42 (dk_at dksX4_sorting_4 13 rfl rfl)
theorem dX4_sorting_108 : decode cX4_sorting 108 = .ok (.getfield 41, 3) := dk_180 0 41 (dk_at dksX4_sorting_4 14 rfl rfl)
theorem dX4_sorting_111 : decode cX4_sorting 111 = .ok (.bipush 9, 2) := dk_16 9 (dk_at dksX4_sorting_4 17 rfl rfl)
theorem dX4_sorting_113 : decode cX4_sorting 113 = .ok (.iload 6, 2) := dk_21 6 (dk_at dksX4_sorting_4 19 rfl rfl)
theorem dX4_sorting_115 : decode cX4_sorting 115 = .ok (.iadd, 1) := dk_96 (dk_at dksX4_sorting_4 21 rfl rfl)
theorem dX4_sorting_116 : decode cX4_sorting 116 = .ok (.iaload, 1) := dk_46 (dk_at dksX4_sorting_4 22 rfl rfl)
theorem dX4_sorting_117 : decode cX4_sorting 117 = .ok (.iastore, 1) := dk_79 (dk_at dksX4_sorting_4 23 rfl rfl)
theorem dX4_sorting_118 : decode cX4_sorting 118 = .ok (.iinc 6 1, 3) := dk_132 6 1 (dk_at dksX4_sorting_5 0 rfl rfl)
theorem dX4_sorting_121 : decode cX4_sorting 121 = .ok (.goto (-54), 3) := dk_167 255 202 (dk_at dksX4_sorting_5 3 rfl rfl)
theorem dX4_sorting_124 : decode cX4_sorting 124 = .ok (.aload_n 0, 1) := dk_42 (dk_at dksX4_sorting_5 6 rfl rfl)
theorem dX4_sorting_125 : decode cX4_sorting 125 = .ok (.invokevirtual 155, 3) := dk_182 0 155 (dk_at dksX4_sorting_5 7 rfl rfl)
theorem dX4_sorting_128 : decode cX4_sorting 128 = .ok (.istore 6, 2) := dk_54 6 (dk_at dksX4_sorting_5 10 rfl rfl)
theorem dX4_sorting_130 : decode cX4_sorting 130 = .ok (.iload 6, 2) := dk_21 6 (dk_at dksX4_sorting_5 12 rfl rfl)
theorem dX4_sorting_132 : decode cX4_sorting 132 = .ok (.ldc 154, 2) := dk_18 154 (dk_at dksX4_sorting_5 14 rfl rfl)
theorem dX4_sorting_134 : decode cX4_sorting 134 = .ok (.if_icmp .eq 21, 3) := dk_159 0 21 (dk_at dksX4_sorting_5 16 rfl rfl)
theorem dX4_sorting_137 : decode cX4_sorting 137 = .ok (.iload 4, 2) := dk_21 4 (dk_at dksX4_sorting_5 19 rfl rfl)
theorem dX4_sorting_139 : decode cX4_sorting 139 = .ok (.ldc 154, 2) := dk_18 154 (dk_at dksX4_sorting_5 21 rfl rfl)
theorem dX4_sorting_141 : decode cX4_sorting 141 = .ok (.if_icmp .eq 10, 3) := dk_159 0 10 (dk_at dksX4_sorting_6 0 rfl rfl)
theorem dX4_sorting_144 : decode cX4_sorting 144 = .ok (.iload 6, 2) := dk_21 6 (dk_at dksX4_sorting_6 3 rfl rfl)
theorem dX4_sorting_146 : decode cX4_sorting 146 = .ok (.iload 4, 2) := dk_21 4 (dk_at dksX4_sorting_6 5 rfl rfl)
theorem dX4_sorting_148 : decode cX4_sorting 148 = .ok (.if_icmp .ge 7, 3) := dk_162 0 7 (dk_at dksX4_sorting_6 7 rfl rfl)
theorem dX4_sorting_151 : decode cX4_sorting 151 = .ok (.iconst 1, 1) := dk_4 (dk_at dksX4_sorting_6 10 rfl rfl)
theorem dX4_sorting_152 : decode cX4_sorting 152 = .ok (.goto 4, 3) := dk_167 0 4 (dk_at dksX4_sorting_6 11 rfl rfl)
theorem dX4_sorting_155 : decode cX4_sorting 155 = .ok (.iconst 0, 1) := dk_3 (dk_at dksX4_sorting_6 14 rfl rfl)
theorem dX4_sorting_156 : decode cX4_sorting 156 = .ok (.istore 7, 2) := dk_54 7 (dk_at dksX4_sorting_6 15 rfl rfl)
theorem dX4_sorting_158 : decode cX4_sorting 158 = .ok (.iload 7, 2) := dk_21 7 (dk_at dksX4_sorting_6 17 rfl rfl)
theorem dX4_sorting_160 : decode cX4_sorting 160 = .ok (.ifCond .eq 8, 3) := dk_153 0 8 (dk_at dksX4_sorting_6 19 rfl rfl)
theorem dX4_sorting_163 : decode cX4_sorting 163 = .ok (.iload 5, 2) := dk_21 5 (dk_at dksX4_sorting_6 22 rfl rfl)
theorem dX4_sorting_165 : decode cX4_sorting 165 = .ok (.goto 4, 3) := dk_167 0 4 (dk_at dksX4_sorting_7 0 rfl rfl)
theorem dX4_sorting_168 : decode cX4_sorting 168 = .ok (.iload_n 3, 1) := dk_29 (dk_at dksX4_sorting_7 3 rfl rfl)
theorem dX4_sorting_169 : decode cX4_sorting 169 = .ok (.istore_n 3, 1) := dk_62 (dk_at dksX4_sorting_7 4 rfl rfl)
theorem dX4_sorting_170 : decode cX4_sorting 170 = .ok (.iload 7, 2) := dk_21 7 (dk_at dksX4_sorting_7 5 rfl rfl)
theorem dX4_sorting_172 : decode cX4_sorting 172 = .ok (.ifCond .eq 8, 3) := dk_153 0 8 (dk_at dksX4_sorting_7 7 rfl rfl)
theorem dX4_sorting_175 : decode cX4_sorting 175 = .ok (.iload 6, 2) := dk_21 6 (dk_at dksX4_sorting_7 10 rfl rfl)
theorem dX4_sorting_177 : decode cX4_sorting 177 = .ok (.goto 5, 3) := dk_167 0 5 (dk_at dksX4_sorting_7 12 rfl rfl)
theorem dX4_sorting_180 : decode cX4_sorting 180 = .ok (.iload 4, 2) := dk_21 4 (dk_at dksX4_sorting_7 15 rfl rfl)
theorem dX4_sorting_182 : decode cX4_sorting 182 = .ok (.istore 4, 2) := dk_54 4 (dk_at dksX4_sorting_7 17 rfl rfl)
theorem dX4_sorting_184 : decode cX4_sorting 184 = .ok (.iinc 5 1, 3) := dk_132 5 1 (dk_at dksX4_sorting_7 19 rfl rfl)
theorem dX4_sorting_187 : decode cX4_sorting 187 = .ok (.goto (-150), 3) := dk_167 255 106 (dk_at dksX4_sorting_8 0 rfl rfl)
theorem dX4_sorting_190 : decode cX4_sorting 190 = .ok (.iload_n 1, 1) := dk_27 (dk_at dksX4_sorting_8 3 rfl rfl)
theorem dX4_sorting_191 : decode cX4_sorting 191 = .ok (.ifCond .ne 8, 3) := dk_154 0 8 (dk_at dksX4_sorting_8 4 rfl rfl)
theorem dX4_sorting_194 : decode cX4_sorting 194 = .ok (.iload 4, 2) := dk_21 4 (dk_at dksX4_sorting_8 7 rfl rfl)
theorem dX4_sorting_196 : decode cX4_sorting 196 = .ok (.goto 4, 3) := dk_167 0 4 (dk_at dksX4_sorting_8 9 rfl rfl)
theorem dX4_sorting_199 : decode cX4_sorting 199 = .ok (.iload_n 3, 1) := dk_29 (dk_at dksX4_sorting_8 12 rfl rfl)
theorem dX4_sorting_200 : decode cX4_sorting 200 = .ok (.ireturn, 1) := dk_172 (dk_at dksX4_sorting_8 13 rfl rfl)
abbrev cX4_queued : ByteArray := prog_22_method_45_code
def yX4_queued : MethodName := ⟨RX4, "queued", "()I"⟩
def dkwX4_queued_1 : List UInt8 := [2, 160, 0, 9, 4, 28, 120, 167, 0, 4, 3, 128, 60, 132, 2, 1, 167, 255, 220, 27, 172]
abbrev dktX4_queued_1 : List UInt8 := dkwX4_queued_1 ++ []
def dkwX4_queued_0 : List UInt8 := [3, 60, 3, 61, 28, 42, 180, 0, 25, 16, 17, 46, 162, 0, 31, 27, 42, 180, 0, 25, 5, 28, 96, 46]
abbrev dktX4_queued_0 : List UInt8 := dkwX4_queued_0 ++ dktX4_queued_1
theorem dksX4_queued_0 : cX4_queued.data.toList.drop 0 = dktX4_queued_0 := by decide +kernel
theorem dksX4_queued_1 : cX4_queued.data.toList.drop 24 = dktX4_queued_1 := dk_seg dksX4_queued_0 24 rfl rfl
theorem dX4_queued_0 : decode cX4_queued 0 = .ok (.iconst 0, 1) := dk_3 (dk_at dksX4_queued_0 0 rfl rfl)
theorem dX4_queued_1 : decode cX4_queued 1 = .ok (.istore_n 1, 1) := dk_60 (dk_at dksX4_queued_0 1 rfl rfl)
theorem dX4_queued_2 : decode cX4_queued 2 = .ok (.iconst 0, 1) := dk_3 (dk_at dksX4_queued_0 2 rfl rfl)
theorem dX4_queued_3 : decode cX4_queued 3 = .ok (.istore_n 2, 1) := dk_61 (dk_at dksX4_queued_0 3 rfl rfl)
theorem dX4_queued_4 : decode cX4_queued 4 = .ok (.iload_n 2, 1) := dk_28 (dk_at dksX4_queued_0 4 rfl rfl)
theorem dX4_queued_5 : decode cX4_queued 5 = .ok (.aload_n 0, 1) := dk_42 (dk_at dksX4_queued_0 5 rfl rfl)
theorem dX4_queued_6 : decode cX4_queued 6 = .ok (.getfield 25, 3) := dk_180 0 25 (dk_at dksX4_queued_0 6 rfl rfl)
theorem dX4_queued_9 : decode cX4_queued 9 = .ok (.bipush 17, 2) := dk_16 17 (dk_at dksX4_queued_0 9 rfl rfl)
theorem dX4_queued_11 : decode cX4_queued 11 = .ok (.iaload, 1) := dk_46 (dk_at dksX4_queued_0 11 rfl rfl)
theorem dX4_queued_12 : decode cX4_queued 12 = .ok (.if_icmp .ge 31, 3) := dk_162 0 31 (dk_at dksX4_queued_0 12 rfl rfl)
theorem dX4_queued_15 : decode cX4_queued 15 = .ok (.iload_n 1, 1) := dk_27 (dk_at dksX4_queued_0 15 rfl rfl)
theorem dX4_queued_16 : decode cX4_queued 16 = .ok (.aload_n 0, 1) := dk_42 (dk_at dksX4_queued_0 16 rfl rfl)
theorem dX4_queued_17 : decode cX4_queued 17 = .ok (.getfield 25, 3) := dk_180 0 25 (dk_at dksX4_queued_0 17 rfl rfl)
theorem dX4_queued_20 : decode cX4_queued 20 = .ok (.iconst 2, 1) := dk_5 (dk_at dksX4_queued_0 20 rfl rfl)
theorem dX4_queued_21 : decode cX4_queued 21 = .ok (.iload_n 2, 1) := dk_28 (dk_at dksX4_queued_0 21 rfl rfl)
theorem dX4_queued_22 : decode cX4_queued 22 = .ok (.iadd, 1) := dk_96 (dk_at dksX4_queued_0 22 rfl rfl)
theorem dX4_queued_23 : decode cX4_queued 23 = .ok (.iaload, 1) := dk_46 (dk_at dksX4_queued_0 23 rfl rfl)
theorem dX4_queued_24 : decode cX4_queued 24 = .ok (.iconst (-1), 1) := dk_2 (dk_at dksX4_queued_1 0 rfl rfl)
theorem dX4_queued_25 : decode cX4_queued 25 = .ok (.if_icmp .ne 9, 3) := dk_160 0 9 (dk_at dksX4_queued_1 1 rfl rfl)
theorem dX4_queued_28 : decode cX4_queued 28 = .ok (.iconst 1, 1) := dk_4 (dk_at dksX4_queued_1 4 rfl rfl)
theorem dX4_queued_29 : decode cX4_queued 29 = .ok (.iload_n 2, 1) := dk_28 (dk_at dksX4_queued_1 5 rfl rfl)
theorem dX4_queued_30 : decode cX4_queued 30 = .ok (.ishl, 1) := dk_120 (dk_at dksX4_queued_1 6 rfl rfl)
theorem dX4_queued_31 : decode cX4_queued 31 = .ok (.goto 4, 3) := dk_167 0 4 (dk_at dksX4_queued_1 7 rfl rfl)
theorem dX4_queued_34 : decode cX4_queued 34 = .ok (.iconst 0, 1) := dk_3 (dk_at dksX4_queued_1 10 rfl rfl)
theorem dX4_queued_35 : decode cX4_queued 35 = .ok (.ior, 1) := dk_128 (dk_at dksX4_queued_1 11 rfl rfl)
theorem dX4_queued_36 : decode cX4_queued 36 = .ok (.istore_n 1, 1) := dk_60 (dk_at dksX4_queued_1 12 rfl rfl)
theorem dX4_queued_37 : decode cX4_queued 37 = .ok (.iinc 2 1, 3) := dk_132 2 1 (dk_at dksX4_queued_1 13 rfl rfl)
theorem dX4_queued_40 : decode cX4_queued 40 = .ok (.goto (-36), 3) := dk_167 255 220 (dk_at dksX4_queued_1 16 rfl rfl)
theorem dX4_queued_43 : decode cX4_queued 43 = .ok (.iload_n 1, 1) := dk_27 (dk_at dksX4_queued_1 19 rfl rfl)
theorem dX4_queued_44 : decode cX4_queued 44 = .ok (.ireturn, 1) := dk_172 (dk_at dksX4_queued_1 20 rfl rfl)
abbrev cX4_has : ByteArray := prog_22_method_46_code
def yX4_has : MethodName := ⟨RX4, "has", "(II)Z"⟩
def dkwX4_has_0 : List UInt8 := [26, 27, 122, 4, 126, 4, 160, 0, 7, 4, 167, 0, 4, 3, 172]
abbrev dktX4_has_0 : List UInt8 := dkwX4_has_0 ++ []
theorem dksX4_has_0 : cX4_has.data.toList.drop 0 = dktX4_has_0 := by decide +kernel
theorem dX4_has_0 : decode cX4_has 0 = .ok (.iload_n 0, 1) := dk_26 (dk_at dksX4_has_0 0 rfl rfl)
theorem dX4_has_1 : decode cX4_has 1 = .ok (.iload_n 1, 1) := dk_27 (dk_at dksX4_has_0 1 rfl rfl)
theorem dX4_has_2 : decode cX4_has 2 = .ok (.ishr, 1) := dk_122 (dk_at dksX4_has_0 2 rfl rfl)
theorem dX4_has_3 : decode cX4_has 3 = .ok (.iconst 1, 1) := dk_4 (dk_at dksX4_has_0 3 rfl rfl)
theorem dX4_has_4 : decode cX4_has 4 = .ok (.iand, 1) := dk_126 (dk_at dksX4_has_0 4 rfl rfl)
theorem dX4_has_5 : decode cX4_has 5 = .ok (.iconst 1, 1) := dk_4 (dk_at dksX4_has_0 5 rfl rfl)
theorem dX4_has_6 : decode cX4_has 6 = .ok (.if_icmp .ne 7, 3) := dk_160 0 7 (dk_at dksX4_has_0 6 rfl rfl)
theorem dX4_has_9 : decode cX4_has 9 = .ok (.iconst 1, 1) := dk_4 (dk_at dksX4_has_0 9 rfl rfl)
theorem dX4_has_10 : decode cX4_has 10 = .ok (.goto 4, 3) := dk_167 0 4 (dk_at dksX4_has_0 10 rfl rfl)
theorem dX4_has_13 : decode cX4_has 13 = .ok (.iconst 0, 1) := dk_3 (dk_at dksX4_has_0 13 rfl rfl)
theorem dX4_has_14 : decode cX4_has 14 = .ok (.ireturn, 1) := dk_172 (dk_at dksX4_has_0 14 rfl rfl)
abbrev cX4_taken : ByteArray := prog_22_method_48_code
def yX4_taken : MethodName := ⟨RX4, "taken", "(I)I"⟩
def dkwX4_taken_4 : List UInt8 := [61, 132, 4, 1, 167, 255, 195, 29, 18, 154, 159, 0, 7, 27, 154, 0, 7, 29, 167, 0, 4, 28, 172]
abbrev dktX4_taken_4 : List UInt8 := dkwX4_taken_4 ++ []
def dkwX4_taken_3 : List UInt8 := [21, 5, 18, 154, 159, 0, 21, 28, 18, 154, 159, 0, 9, 21, 5, 28, 162, 0, 9, 21, 4, 62, 21, 5]
abbrev dktX4_taken_3 : List UInt8 := dkwX4_taken_3 ++ dktX4_taken_4
def dkwX4_taken_2 : List UInt8 := [162, 0, 55, 42, 182, 0, 151, 42, 180, 0, 41, 5, 21, 4, 96, 16, 99, 79, 42, 182, 0, 155, 54, 5]
abbrev dktX4_taken_2 : List UInt8 := dkwX4_taken_2 ++ dktX4_taken_3
def dkwX4_taken_1 : List UInt8 := [182, 0, 151, 42, 182, 0, 155, 61, 18, 154, 62, 3, 54, 4, 21, 4, 42, 180, 0, 25, 16, 17, 46]
abbrev dktX4_taken_1 : List UInt8 := dkwX4_taken_1 ++ dktX4_taken_2
def dkwX4_taken_0 : List UInt8 := [42, 182, 0, 133, 154, 0, 6, 18, 136, 172, 27, 3, 4, 184, 0, 50, 154, 0, 6, 18, 65, 172, 42]
abbrev dktX4_taken_0 : List UInt8 := dkwX4_taken_0 ++ dktX4_taken_1
theorem dksX4_taken_0 : cX4_taken.data.toList.drop 0 = dktX4_taken_0 := by decide +kernel
theorem dksX4_taken_1 : cX4_taken.data.toList.drop 23 = dktX4_taken_1 := dk_seg dksX4_taken_0 23 rfl rfl
theorem dksX4_taken_2 : cX4_taken.data.toList.drop 46 = dktX4_taken_2 := dk_seg dksX4_taken_1 23 rfl rfl
theorem dksX4_taken_3 : cX4_taken.data.toList.drop 70 = dktX4_taken_3 := dk_seg dksX4_taken_2 24 rfl rfl
theorem dksX4_taken_4 : cX4_taken.data.toList.drop 94 = dktX4_taken_4 := dk_seg dksX4_taken_3 24 rfl rfl
theorem dX4_taken_0 : decode cX4_taken 0 = .ok (.aload_n 0, 1) := dk_42 (dk_at dksX4_taken_0 0 rfl rfl)
theorem dX4_taken_1 : decode cX4_taken 1 = .ok (.invokevirtual 133, 3) := dk_182 0 133 (dk_at dksX4_taken_0 1 rfl rfl)
theorem dX4_taken_4 : decode cX4_taken 4 = .ok (.ifCond .ne 6, 3) := dk_154 0 6 (dk_at dksX4_taken_0 4 rfl rfl)
theorem dX4_taken_7 : decode cX4_taken 7 = .ok (.ldc 136, 2) := dk_18 136 (dk_at dksX4_taken_0 7 rfl rfl)
theorem dX4_taken_9 : decode cX4_taken 9 = .ok (.ireturn, 1) := dk_172 (dk_at dksX4_taken_0 9 rfl rfl)
theorem dX4_taken_10 : decode cX4_taken 10 = .ok (.iload_n 1, 1) := dk_27 (dk_at dksX4_taken_0 10 rfl rfl)
theorem dX4_taken_11 : decode cX4_taken 11 = .ok (.iconst 0, 1) := dk_3 (dk_at dksX4_taken_0 11 rfl rfl)
theorem dX4_taken_12 : decode cX4_taken 12 = .ok (.iconst 1, 1) := dk_4 (dk_at dksX4_taken_0 12 rfl rfl)
theorem dX4_taken_13 : decode cX4_taken 13 = .ok (.invokestatic 50, 3) := dk_184 0 50 (dk_at dksX4_taken_0 13 rfl rfl)
theorem dX4_taken_16 : decode cX4_taken 16 = .ok (.ifCond .ne 6, 3) := dk_154 0 6 (dk_at dksX4_taken_0 16 rfl rfl)
theorem dX4_taken_19 : decode cX4_taken 19 = .ok (.ldc 65, 2) := dk_18 65 (dk_at dksX4_taken_0 19 rfl rfl)
theorem dX4_taken_21 : decode cX4_taken 21 = .ok (.ireturn, 1) := dk_172 (dk_at dksX4_taken_0 21 rfl rfl)
theorem dX4_taken_22 : decode cX4_taken 22 = .ok (.aload_n 0, 1) := dk_42 (dk_at dksX4_taken_0 22 rfl rfl)
theorem dX4_taken_23 : decode cX4_taken 23 = .ok (.invokevirtual 151, 3) := dk_182 0 151 (dk_at dksX4_taken_1 0 rfl rfl)
theorem dX4_taken_26 : decode cX4_taken 26 = .ok (.aload_n 0, 1) := dk_42 (dk_at dksX4_taken_1 3 rfl rfl)
theorem dX4_taken_27 : decode cX4_taken 27 = .ok (.invokevirtual 155, 3) := dk_182 0 155 (dk_at dksX4_taken_1 4 rfl rfl)
theorem dX4_taken_30 : decode cX4_taken 30 = .ok (.istore_n 2, 1) := dk_61 (dk_at dksX4_taken_1 7 rfl rfl)
theorem dX4_taken_31 : decode cX4_taken 31 = .ok (.ldc 154, 2) := dk_18 154 (dk_at dksX4_taken_1 8 rfl rfl)
theorem dX4_taken_33 : decode cX4_taken 33 = .ok (.istore_n 3, 1) := dk_62 (dk_at dksX4_taken_1 10 rfl rfl)
theorem dX4_taken_34 : decode cX4_taken 34 = .ok (.iconst 0, 1) := dk_3 (dk_at dksX4_taken_1 11 rfl rfl)
theorem dX4_taken_35 : decode cX4_taken 35 = .ok (.istore 4, 2) := dk_54 4 (dk_at dksX4_taken_1 12 rfl rfl)
theorem dX4_taken_37 : decode cX4_taken 37 = .ok (.iload 4, 2) := dk_21 4 (dk_at dksX4_taken_1 14 rfl rfl)
theorem dX4_taken_39 : decode cX4_taken 39 = .ok (.aload_n 0, 1) := dk_42 (dk_at dksX4_taken_1 16 rfl rfl)
theorem dX4_taken_40 : decode cX4_taken 40 = .ok (.getfield 25, 3) := dk_180 0 25 (dk_at dksX4_taken_1 17 rfl rfl)
theorem dX4_taken_43 : decode cX4_taken 43 = .ok (.bipush 17, 2) := dk_16 17 (dk_at dksX4_taken_1 20 rfl rfl)
theorem dX4_taken_45 : decode cX4_taken 45 = .ok (.iaload, 1) := dk_46 (dk_at dksX4_taken_1 22 rfl rfl)
theorem dX4_taken_46 : decode cX4_taken 46 = .ok (.if_icmp .ge 55, 3) := dk_162 0 55 (dk_at dksX4_taken_2 0 rfl rfl)
theorem dX4_taken_49 : decode cX4_taken 49 = .ok (.aload_n 0, 1) := dk_42 (dk_at dksX4_taken_2 3 rfl rfl)
theorem dX4_taken_50 : decode cX4_taken 50 = .ok (.invokevirtual 151, 3) := dk_182 0 151 (dk_at dksX4_taken_2 4 rfl rfl)
theorem dX4_taken_53 : decode cX4_taken 53 = .ok (.aload_n 0, 1) := dk_42 (dk_at dksX4_taken_2 7 rfl rfl)
theorem dX4_taken_54 : decode cX4_taken 54 = .ok (.getfield 41, 3) := dk_180 0 41 (dk_at dksX4_taken_2 8 rfl rfl)
theorem dX4_taken_57 : decode cX4_taken 57 = .ok (.iconst 2, 1) := dk_5 (dk_at dksX4_taken_2 11 rfl rfl)
theorem dX4_taken_58 : decode cX4_taken 58 = .ok (.iload 4, 2) := dk_21 4 (dk_at dksX4_taken_2 12 rfl rfl)
theorem dX4_taken_60 : decode cX4_taken 60 = .ok (.iadd, 1) := dk_96 (dk_at dksX4_taken_2 14 rfl rfl)
theorem dX4_taken_61 : decode cX4_taken 61 = .ok (.bipush 99, 2) := dk_16 99 (dk_at dksX4_taken_2 15 rfl rfl)
theorem dX4_taken_63 : decode cX4_taken 63 = .ok (.iastore, 1) := dk_79 (dk_at dksX4_taken_2 17 rfl rfl)
theorem dX4_taken_64 : decode cX4_taken 64 = .ok (.aload_n 0, 1) := dk_42 (dk_at dksX4_taken_2 18 rfl rfl)
theorem dX4_taken_65 : decode cX4_taken 65 = .ok (.invokevirtual 155, 3) := dk_182 0 155 (dk_at dksX4_taken_2 19 rfl rfl)
theorem dX4_taken_68 : decode cX4_taken 68 = .ok (.istore 5, 2) := dk_54 5 (dk_at dksX4_taken_2 22 rfl rfl)
theorem dX4_taken_70 : decode cX4_taken 70 = .ok (.iload 5, 2) := dk_21 5 (dk_at dksX4_taken_3 0 rfl rfl)
theorem dX4_taken_72 : decode cX4_taken 72 = .ok (.ldc 154, 2) := dk_18 154 (dk_at dksX4_taken_3 2 rfl rfl)
theorem dX4_taken_74 : decode cX4_taken 74 = .ok (.if_icmp .eq 21, 3) := dk_159 0 21 (dk_at dksX4_taken_3 4 rfl rfl)
theorem dX4_taken_77 : decode cX4_taken 77 = .ok (.iload_n 2, 1) := dk_28 (dk_at dksX4_taken_3 7 rfl rfl)
theorem dX4_taken_78 : decode cX4_taken 78 = .ok (.ldc 154, 2) := dk_18 154 (dk_at dksX4_taken_3 8 rfl rfl)
theorem dX4_taken_80 : decode cX4_taken 80 = .ok (.if_icmp .eq 9, 3) := dk_159 0 9 (dk_at dksX4_taken_3 10 rfl rfl)
theorem dX4_taken_83 : decode cX4_taken 83 = .ok (.iload 5, 2) := dk_21 5 (dk_at dksX4_taken_3 13 rfl rfl)
theorem dX4_taken_85 : decode cX4_taken 85 = .ok (.iload_n 2, 1) := dk_28 (dk_at dksX4_taken_3 15 rfl rfl)
theorem dX4_taken_86 : decode cX4_taken 86 = .ok (.if_icmp .ge 9, 3) := dk_162 0 9 (dk_at dksX4_taken_3 16 rfl rfl)
theorem dX4_taken_89 : decode cX4_taken 89 = .ok (.iload 4, 2) := dk_21 4 (dk_at dksX4_taken_3 19 rfl rfl)
theorem dX4_taken_91 : decode cX4_taken 91 = .ok (.istore_n 3, 1) := dk_62 (dk_at dksX4_taken_3 21 rfl rfl)
theorem dX4_taken_92 : decode cX4_taken 92 = .ok (.iload 5, 2) := dk_21 5 (dk_at dksX4_taken_3 22 rfl rfl)
theorem dX4_taken_94 : decode cX4_taken 94 = .ok (.istore_n 2, 1) := dk_61 (dk_at dksX4_taken_4 0 rfl rfl)
theorem dX4_taken_95 : decode cX4_taken 95 = .ok (.iinc 4 1, 3) := dk_132 4 1 (dk_at dksX4_taken_4 1 rfl rfl)
theorem dX4_taken_98 : decode cX4_taken 98 = .ok (.goto (-61), 3) := dk_167 255 195 (dk_at dksX4_taken_4 4 rfl rfl)
theorem dX4_taken_101 : decode cX4_taken 101 = .ok (.iload_n 3, 1) := dk_29 (dk_at dksX4_taken_4 7 rfl rfl)
theorem dX4_taken_102 : decode cX4_taken 102 = .ok (.ldc 154, 2) := dk_18 154 (dk_at dksX4_taken_4 8 rfl rfl)
theorem dX4_taken_104 : decode cX4_taken 104 = .ok (.if_icmp .eq 7, 3) := dk_159 0 7 (dk_at dksX4_taken_4 10 rfl rfl)
theorem dX4_taken_107 : decode cX4_taken 107 = .ok (.iload_n 1, 1) := dk_27 (dk_at dksX4_taken_4 13 rfl rfl)
theorem dX4_taken_108 : decode cX4_taken 108 = .ok (.ifCond .ne 7, 3) := dk_154 0 7 (dk_at dksX4_taken_4 14 rfl rfl)
theorem dX4_taken_111 : decode cX4_taken 111 = .ok (.iload_n 3, 1) := dk_29 (dk_at dksX4_taken_4 17 rfl rfl)
theorem dX4_taken_112 : decode cX4_taken 112 = .ok (.goto 4, 3) := dk_167 0 4 (dk_at dksX4_taken_4 18 rfl rfl)
theorem dX4_taken_115 : decode cX4_taken 115 = .ok (.iload_n 2, 1) := dk_28 (dk_at dksX4_taken_4 21 rfl rfl)
theorem dX4_taken_116 : decode cX4_taken 116 = .ok (.ireturn, 1) := dk_172 (dk_at dksX4_taken_4 22 rfl rfl)
abbrev cX4_pace : ByteArray := prog_22_method_49_code
def yX4_pace : MethodName := ⟨RX4, "pace", "(III)I"⟩
def dkwX4_pace_10 : List UInt8 := [29, 2, 160, 0, 8, 21, 6, 167, 0, 7, 21, 5, 6, 112, 172]
abbrev dktX4_pace_10 : List UInt8 := dkwX4_pace_10 ++ []
def dkwX4_pace_9 : List UInt8 := [54, 7, 21, 7, 29, 164, 0, 19, 29, 155, 0, 15, 21, 5, 6, 108, 54, 5, 132, 7, 255, 167, 255, 237]
abbrev dktX4_pace_9 : List UInt8 := dkwX4_pace_9 ++ dktX4_pace_10
def dkwX4_pace_8 : List UInt8 := [132, 7, 1, 167, 255, 127, 21, 5, 18, 154, 159, 0, 8, 29, 28, 161, 0, 6, 18, 154, 172, 28, 4, 100]
abbrev dktX4_pace_8 : List UInt8 := dkwX4_pace_8 ++ dktX4_pace_9
def dkwX4_pace_7 : List UInt8 := [21, 7, 167, 0, 5, 21, 5, 54, 5, 21, 10, 153, 0, 8, 21, 9, 167, 0, 5, 21, 6, 54, 6]
abbrev dktX4_pace_7 : List UInt8 := dkwX4_pace_7 ++ dktX4_pace_8
def dkwX4_pace_6 : List UInt8 := [16, 99, 160, 0, 14, 21, 9, 21, 6, 162, 0, 7, 4, 167, 0, 4, 3, 54, 10, 21, 10, 153, 0, 8]
abbrev dktX4_pace_6 : List UInt8 := dkwX4_pace_6 ++ dktX4_pace_7
def dkwX4_pace_5 : List UInt8 := [54, 9, 42, 42, 180, 0, 41, 182, 0, 140, 132, 10, 1, 167, 255, 209, 42, 180, 0, 41, 5, 27, 96, 46]
abbrev dktX4_pace_5 : List UInt8 := dkwX4_pace_5 ++ dktX4_pace_6
def dkwX4_pace_4 : List UInt8 := [54, 8, 42, 180, 0, 41, 4, 21, 7, 21, 8, 108, 6, 112, 79, 21, 9, 42, 180, 0, 41, 4, 46, 96]
abbrev dktX4_pace_4 : List UInt8 := dkwX4_pace_4 ++ dktX4_pace_5
def dkwX4_pace_3 : List UInt8 := [182, 0, 151, 21, 4, 54, 8, 3, 54, 9, 3, 54, 10, 21, 10, 28, 162, 0, 47, 21, 8, 6, 108]
abbrev dktX4_pace_3 : List UInt8 := dkwX4_pace_3 ++ dktX4_pace_4
def dkwX4_pace_2 : List UInt8 := [167, 255, 241, 18, 154, 54, 5, 16, 99, 54, 6, 3, 54, 7, 21, 7, 21, 4, 162, 0, 128, 42]
abbrev dktX4_pace_2 : List UInt8 := dkwX4_pace_2 ++ dktX4_pace_3
def dkwX4_pace_1 : List UInt8 := [18, 65, 172, 4, 54, 4, 3, 54, 5, 21, 5, 28, 162, 0, 15, 21, 4, 6, 104, 54, 4, 132, 5, 1]
abbrev dktX4_pace_1 : List UInt8 := dkwX4_pace_1 ++ dktX4_pace_2
def dkwX4_pace_0 : List UInt8 := [42, 27, 182, 0, 148, 153, 0, 18, 28, 4, 16, 6, 184, 0, 50, 153, 0, 8, 29, 2, 162, 0, 6]
abbrev dktX4_pace_0 : List UInt8 := dkwX4_pace_0 ++ dktX4_pace_1
theorem dksX4_pace_0 : cX4_pace.data.toList.drop 0 = dktX4_pace_0 := by decide +kernel
theorem dksX4_pace_1 : cX4_pace.data.toList.drop 23 = dktX4_pace_1 := dk_seg dksX4_pace_0 23 rfl rfl
theorem dksX4_pace_2 : cX4_pace.data.toList.drop 47 = dktX4_pace_2 := dk_seg dksX4_pace_1 24 rfl rfl
theorem dksX4_pace_3 : cX4_pace.data.toList.drop 69 = dktX4_pace_3 := dk_seg dksX4_pace_2 22 rfl rfl
theorem dksX4_pace_4 : cX4_pace.data.toList.drop 92 = dktX4_pace_4 := dk_seg dksX4_pace_3 23 rfl rfl
theorem dksX4_pace_5 : cX4_pace.data.toList.drop 116 = dktX4_pace_5 := dk_seg dksX4_pace_4 24 rfl rfl
theorem dksX4_pace_6 : cX4_pace.data.toList.drop 140 = dktX4_pace_6 := dk_seg dksX4_pace_5 24 rfl rfl
theorem dksX4_pace_7 : cX4_pace.data.toList.drop 164 = dktX4_pace_7 := dk_seg dksX4_pace_6 24 rfl rfl
theorem dksX4_pace_8 : cX4_pace.data.toList.drop 187 = dktX4_pace_8 := dk_seg dksX4_pace_7 23 rfl rfl
theorem dksX4_pace_9 : cX4_pace.data.toList.drop 211 = dktX4_pace_9 := dk_seg dksX4_pace_8 24 rfl rfl
theorem dksX4_pace_10 : cX4_pace.data.toList.drop 235 = dktX4_pace_10 := dk_seg dksX4_pace_9 24 rfl rfl
theorem dX4_pace_0 : decode cX4_pace 0 = .ok (.aload_n 0, 1) := dk_42 (dk_at dksX4_pace_0 0 rfl rfl)
theorem dX4_pace_1 : decode cX4_pace 1 = .ok (.iload_n 1, 1) := dk_27 (dk_at dksX4_pace_0 1 rfl rfl)
theorem dX4_pace_2 : decode cX4_pace 2 = .ok (.invokevirtual 148, 3) := dk_182 0 148 (dk_at dksX4_pace_0 2 rfl rfl)
theorem dX4_pace_5 : decode cX4_pace 5 = .ok (.ifCond .eq 18, 3) := dk_153 0 18 (dk_at dksX4_pace_0 5 rfl rfl)
theorem dX4_pace_8 : decode cX4_pace 8 = .ok (.iload_n 2, 1) := dk_28 (dk_at dksX4_pace_0 8 rfl rfl)
theorem dX4_pace_9 : decode cX4_pace 9 = .ok (.iconst 1, 1) := dk_4 (dk_at dksX4_pace_0 9 rfl rfl)
theorem dX4_pace_10 : decode cX4_pace 10 = .ok (.bipush 6, 2) := dk_16 6 (dk_at dksX4_pace_0 10 rfl rfl)
theorem dX4_pace_12 : decode cX4_pace 12 = .ok (.invokestatic 50, 3) := dk_184 0 50 (dk_at dksX4_pace_0 12 rfl rfl)
theorem dX4_pace_15 : decode cX4_pace 15 = .ok (.ifCond .eq 8, 3) := dk_153 0 8 (dk_at dksX4_pace_0 15 rfl rfl)
theorem dX4_pace_18 : decode cX4_pace 18 = .ok (.iload_n 3, 1) := dk_29 (dk_at dksX4_pace_0 18 rfl rfl)
theorem dX4_pace_19 : decode cX4_pace 19 = .ok (.iconst (-1), 1) := dk_2 (dk_at dksX4_pace_0 19 rfl rfl)
theorem dX4_pace_20 : decode cX4_pace 20 = .ok (.if_icmp .ge 6, 3) := dk_162 0 6 (dk_at dksX4_pace_0 20 rfl rfl)
theorem dX4_pace_23 : decode cX4_pace 23 = .ok (.ldc 65, 2) := dk_18 65 (dk_at dksX4_pace_1 0 rfl rfl)
theorem dX4_pace_25 : decode cX4_pace 25 = .ok (.ireturn, 1) := dk_172 (dk_at dksX4_pace_1 2 rfl rfl)
theorem dX4_pace_26 : decode cX4_pace 26 = .ok (.iconst 1, 1) := dk_4 (dk_at dksX4_pace_1 3 rfl rfl)
theorem dX4_pace_27 : decode cX4_pace 27 = .ok (.istore 4, 2) := dk_54 4 (dk_at dksX4_pace_1 4 rfl rfl)
theorem dX4_pace_29 : decode cX4_pace 29 = .ok (.iconst 0, 1) := dk_3 (dk_at dksX4_pace_1 6 rfl rfl)
theorem dX4_pace_30 : decode cX4_pace 30 = .ok (.istore 5, 2) := dk_54 5 (dk_at dksX4_pace_1 7 rfl rfl)
theorem dX4_pace_32 : decode cX4_pace 32 = .ok (.iload 5, 2) := dk_21 5 (dk_at dksX4_pace_1 9 rfl rfl)
theorem dX4_pace_34 : decode cX4_pace 34 = .ok (.iload_n 2, 1) := dk_28 (dk_at dksX4_pace_1 11 rfl rfl)
theorem dX4_pace_35 : decode cX4_pace 35 = .ok (.if_icmp .ge 15, 3) := dk_162 0 15 (dk_at dksX4_pace_1 12 rfl rfl)
theorem dX4_pace_38 : decode cX4_pace 38 = .ok (.iload 4, 2) := dk_21 4 (dk_at dksX4_pace_1 15 rfl rfl)
theorem dX4_pace_40 : decode cX4_pace 40 = .ok (.iconst 3, 1) := dk_6 (dk_at dksX4_pace_1 17 rfl rfl)
theorem dX4_pace_41 : decode cX4_pace 41 = .ok (.imul, 1) := dk_104 (dk_at dksX4_pace_1 18 rfl rfl)
theorem dX4_pace_42 : decode cX4_pace 42 = .ok (.istore 4, 2) := dk_54 4 (dk_at dksX4_pace_1 19 rfl rfl)
theorem dX4_pace_44 : decode cX4_pace 44 = .ok (.iinc 5 1, 3) := dk_132 5 1 (dk_at dksX4_pace_1 21 rfl rfl)
theorem dX4_pace_47 : decode cX4_pace 47 = .ok (.goto (-15), 3) := dk_167 255 241 (dk_at dksX4_pace_2 0 rfl rfl)
theorem dX4_pace_50 : decode cX4_pace 50 = .ok (.ldc 154, 2) := dk_18 154 (dk_at dksX4_pace_2 3 rfl rfl)
theorem dX4_pace_52 : decode cX4_pace 52 = .ok (.istore 5, 2) := dk_54 5 (dk_at dksX4_pace_2 5 rfl rfl)
theorem dX4_pace_54 : decode cX4_pace 54 = .ok (.bipush 99, 2) := dk_16 99 (dk_at dksX4_pace_2 7 rfl rfl)
theorem dX4_pace_56 : decode cX4_pace 56 = .ok (.istore 6, 2) := dk_54 6 (dk_at dksX4_pace_2 9 rfl rfl)
theorem dX4_pace_58 : decode cX4_pace 58 = .ok (.iconst 0, 1) := dk_3 (dk_at dksX4_pace_2 11 rfl rfl)
theorem dX4_pace_59 : decode cX4_pace 59 = .ok (.istore 7, 2) := dk_54 7 (dk_at dksX4_pace_2 12 rfl rfl)
theorem dX4_pace_61 : decode cX4_pace 61 = .ok (.iload 7, 2) := dk_21 7 (dk_at dksX4_pace_2 14 rfl rfl)
theorem dX4_pace_63 : decode cX4_pace 63 = .ok (.iload 4, 2) := dk_21 4 (dk_at dksX4_pace_2 16 rfl rfl)
theorem dX4_pace_65 : decode cX4_pace 65 = .ok (.if_icmp .ge 128, 3) := dk_162 0 128 (dk_at dksX4_pace_2 18 rfl rfl)
theorem dX4_pace_68 : decode cX4_pace 68 = .ok (.aload_n 0, 1) := dk_42 (dk_at dksX4_pace_2 21 rfl rfl)
theorem dX4_pace_69 : decode cX4_pace 69 = .ok (.invokevirtual 151, 3) := dk_182 0 151 (dk_at dksX4_pace_3 0 rfl rfl)
theorem dX4_pace_72 : decode cX4_pace 72 = .ok (.iload 4, 2) := dk_21 4 (dk_at dksX4_pace_3 3 rfl rfl)
theorem dX4_pace_74 : decode cX4_pace 74 = .ok (.istore 8, 2) := dk_54 8 (dk_at dksX4_pace_3 5 rfl rfl)
theorem dX4_pace_76 : decode cX4_pace 76 = .ok (.iconst 0, 1) := dk_3 (dk_at dksX4_pace_3 7 rfl rfl)
theorem dX4_pace_77 : decode cX4_pace 77 = .ok (.istore 9, 2) := dk_54 9 (dk_at dksX4_pace_3 8 rfl rfl)
theorem dX4_pace_79 : decode cX4_pace 79 = .ok (.iconst 0, 1) := dk_3 (dk_at dksX4_pace_3 10 rfl rfl)
theorem dX4_pace_80 : decode cX4_pace 80 = .ok (.istore 10, 2) := dk_54 10 (dk_at dksX4_pace_3 11 rfl rfl)
theorem dX4_pace_82 : decode cX4_pace 82 = .ok (.iload 10, 2) := dk_21 10 (dk_at dksX4_pace_3 13 rfl rfl)
theorem dX4_pace_84 : decode cX4_pace 84 = .ok (.iload_n 2, 1) := dk_28 (dk_at dksX4_pace_3 15 rfl rfl)
theorem dX4_pace_85 : decode cX4_pace 85 = .ok (.if_icmp .ge 47, 3) := dk_162 0 47 (dk_at dksX4_pace_3 16 rfl rfl)
theorem dX4_pace_88 : decode cX4_pace 88 = .ok (.iload 8, 2) := dk_21 8 (dk_at dksX4_pace_3 19 rfl rfl)
theorem dX4_pace_90 : decode cX4_pace 90 = .ok (.iconst 3, 1) := dk_6 (dk_at dksX4_pace_3 21 rfl rfl)
theorem dX4_pace_91 : decode cX4_pace 91 = .ok (.idiv, 1) := dk_108 (dk_at dksX4_pace_3 22 rfl rfl)
theorem dX4_pace_92 : decode cX4_pace 92 = .ok (.istore 8, 2) := dk_54 8 (dk_at dksX4_pace_4 0 rfl rfl)
theorem dX4_pace_94 : decode cX4_pace 94 = .ok (.aload_n 0, 1) := dk_42 (dk_at dksX4_pace_4 2 rfl rfl)
theorem dX4_pace_95 : decode cX4_pace 95 = .ok (.getfield 41, 3) := dk_180 0 41 (dk_at dksX4_pace_4 3 rfl rfl)
theorem dX4_pace_98 : decode cX4_pace 98 = .ok (.iconst 1, 1) := dk_4 (dk_at dksX4_pace_4 6 rfl rfl)
theorem dX4_pace_99 : decode cX4_pace 99 = .ok (.iload 7, 2) := dk_21 7 (dk_at dksX4_pace_4 7 rfl rfl)
theorem dX4_pace_101 : decode cX4_pace 101 = .ok (.iload 8, 2) := dk_21 8 (dk_at dksX4_pace_4 9 rfl rfl)
theorem dX4_pace_103 : decode cX4_pace 103 = .ok (.idiv, 1) := dk_108 (dk_at dksX4_pace_4 11 rfl rfl)
theorem dX4_pace_104 : decode cX4_pace 104 = .ok (.iconst 3, 1) := dk_6 (dk_at dksX4_pace_4 12 rfl rfl)
theorem dX4_pace_105 : decode cX4_pace 105 = .ok (.irem, 1) := dk_112 (dk_at dksX4_pace_4 13 rfl rfl)
theorem dX4_pace_106 : decode cX4_pace 106 = .ok (.iastore, 1) := dk_79 (dk_at dksX4_pace_4 14 rfl rfl)
theorem dX4_pace_107 : decode cX4_pace 107 = .ok (.iload 9, 2) := dk_21 9 (dk_at dksX4_pace_4 15 rfl rfl)
theorem dX4_pace_109 : decode cX4_pace 109 = .ok (.aload_n 0, 1) := dk_42 (dk_at dksX4_pace_4 17 rfl rfl)
theorem dX4_pace_110 : decode cX4_pace 110 = .ok (.getfield 41, 3) := dk_180 0 41 (dk_at dksX4_pace_4 18 rfl rfl)
theorem dX4_pace_113 : decode cX4_pace 113 = .ok (.iconst 1, 1) := dk_4 (dk_at dksX4_pace_4 21 rfl rfl)
theorem dX4_pace_114 : decode cX4_pace 114 = .ok (.iaload, 1) := dk_46 (dk_at dksX4_pace_4 22 rfl rfl)
theorem dX4_pace_115 : decode cX4_pace 115 = .ok (.iadd, 1) := dk_96 (dk_at dksX4_pace_4 23 rfl rfl)
theorem dX4_pace_116 : decode cX4_pace 116 = .ok (.istore 9, 2) := dk_54 9 (dk_at dksX4_pace_5 0 rfl rfl)
theorem dX4_pace_118 : decode cX4_pace 118 = .ok (.aload_n 0, 1) := dk_42 (dk_at dksX4_pace_5 2 rfl rfl)
theorem dX4_pace_119 : decode cX4_pace 119 = .ok (.aload_n 0, 1) := dk_42 (dk_at dksX4_pace_5 3 rfl rfl)
theorem dX4_pace_120 : decode cX4_pace 120 = .ok (.getfield 41, 3) := dk_180 0 41 (dk_at dksX4_pace_5 4 rfl rfl)
theorem dX4_pace_123 : decode cX4_pace 123 = .ok (.invokevirtual 140, 3) := dk_182 0 140 (dk_at dksX4_pace_5 7 rfl rfl)
theorem dX4_pace_126 : decode cX4_pace 126 = .ok (.iinc 10 1, 3) := dk_132 10 1 (dk_at dksX4_pace_5 10 rfl rfl)
theorem dX4_pace_129 : decode cX4_pace 129 = .ok (.goto (-47), 3) := dk_167 255 209 (dk_at dksX4_pace_5 13 rfl rfl)
theorem dX4_pace_132 : decode cX4_pace 132 = .ok (.aload_n 0, 1) := dk_42 (dk_at dksX4_pace_5 16 rfl rfl)
theorem dX4_pace_133 : decode cX4_pace 133 = .ok (.getfield 41, 3) := dk_180 0 41 (dk_at dksX4_pace_5 17 rfl rfl)
theorem dX4_pace_136 : decode cX4_pace 136 = .ok (.iconst 2, 1) := dk_5 (dk_at dksX4_pace_5 20 rfl rfl)
theorem dX4_pace_137 : decode cX4_pace 137 = .ok (.iload_n 1, 1) := dk_27 (dk_at dksX4_pace_5 21 rfl rfl)
theorem dX4_pace_138 : decode cX4_pace 138 = .ok (.iadd, 1) := dk_96 (dk_at dksX4_pace_5 22 rfl rfl)
theorem dX4_pace_139 : decode cX4_pace 139 = .ok (.iaload, 1) := dk_46 (dk_at dksX4_pace_5 23 rfl rfl)
theorem dX4_pace_140 : decode cX4_pace 140 = .ok (.bipush 99, 2) := dk_16 99 (dk_at dksX4_pace_6 0 rfl rfl)
theorem dX4_pace_142 : decode cX4_pace 142 = .ok (.if_icmp .ne 14, 3) := dk_160 0 14 (dk_at dksX4_pace_6 2 rfl rfl)
theorem dX4_pace_145 : decode cX4_pace 145 = .ok (.iload 9, 2) := dk_21 9 (dk_at dksX4_pace_6 5 rfl rfl)
theorem dX4_pace_147 : decode cX4_pace 147 = .ok (.iload 6, 2) := dk_21 6 (dk_at dksX4_pace_6 7 rfl rfl)
theorem dX4_pace_149 : decode cX4_pace 149 = .ok (.if_icmp .ge 7, 3) := dk_162 0 7 (dk_at dksX4_pace_6 9 rfl rfl)
theorem dX4_pace_152 : decode cX4_pace 152 = .ok (.iconst 1, 1) := dk_4 (dk_at dksX4_pace_6 12 rfl rfl)
theorem dX4_pace_153 : decode cX4_pace 153 = .ok (.goto 4, 3) := dk_167 0 4 (dk_at dksX4_pace_6 13 rfl rfl)
theorem dX4_pace_156 : decode cX4_pace 156 = .ok (.iconst 0, 1) := dk_3 (dk_at dksX4_pace_6 16 rfl rfl)
theorem dX4_pace_157 : decode cX4_pace 157 = .ok (.istore 10, 2) := dk_54 10 (dk_at dksX4_pace_6 17 rfl rfl)
theorem dX4_pace_159 : decode cX4_pace 159 = .ok (.iload 10, 2) := dk_21 10 (dk_at dksX4_pace_6 19 rfl rfl)
theorem dX4_pace_161 : decode cX4_pace 161 = .ok (.ifCond .eq 8, 3) := dk_153 0 8 (dk_at dksX4_pace_6 21 rfl rfl)
theorem dX4_pace_164 : decode cX4_pace 164 = .ok (.iload 7, 2) := dk_21 7 (dk_at dksX4_pace_7 0 rfl rfl)
theorem dX4_pace_166 : decode cX4_pace 166 = .ok (.goto 5, 3) := dk_167 0 5 (dk_at dksX4_pace_7 2 rfl rfl)
theorem dX4_pace_169 : decode cX4_pace 169 = .ok (.iload 5, 2) := dk_21 5 (dk_at dksX4_pace_7 5 rfl rfl)
theorem dX4_pace_171 : decode cX4_pace 171 = .ok (.istore 5, 2) := dk_54 5 (dk_at dksX4_pace_7 7 rfl rfl)
theorem dX4_pace_173 : decode cX4_pace 173 = .ok (.iload 10, 2) := dk_21 10 (dk_at dksX4_pace_7 9 rfl rfl)
theorem dX4_pace_175 : decode cX4_pace 175 = .ok (.ifCond .eq 8, 3) := dk_153 0 8 (dk_at dksX4_pace_7 11 rfl rfl)
theorem dX4_pace_178 : decode cX4_pace 178 = .ok (.iload 9, 2) := dk_21 9 (dk_at dksX4_pace_7 14 rfl rfl)
theorem dX4_pace_180 : decode cX4_pace 180 = .ok (.goto 5, 3) := dk_167 0 5 (dk_at dksX4_pace_7 16 rfl rfl)
theorem dX4_pace_183 : decode cX4_pace 183 = .ok (.iload 6, 2) := dk_21 6 (dk_at dksX4_pace_7 19 rfl rfl)
theorem dX4_pace_185 : decode cX4_pace 185 = .ok (.istore 6, 2) := dk_54 6 (dk_at dksX4_pace_7 21 rfl rfl)
theorem dX4_pace_187 : decode cX4_pace 187 = .ok (.iinc 7 1, 3) := dk_132 7 1 (dk_at dksX4_pace_8 0 rfl rfl)
theorem dX4_pace_190 : decode cX4_pace 190 = .ok (.goto (-129), 3) := dk_167 255 127 (dk_at dksX4_pace_8 3 rfl rfl)
theorem dX4_pace_193 : decode cX4_pace 193 = .ok (.iload 5, 2) := dk_21 5 (dk_at dksX4_pace_8 6 rfl rfl)
theorem dX4_pace_195 : decode cX4_pace 195 = .ok (.ldc 154, 2) := dk_18 154 (dk_at dksX4_pace_8 8 rfl rfl)
theorem dX4_pace_197 : decode cX4_pace 197 = .ok (.if_icmp .eq 8, 3) := dk_159 0 8 (dk_at dksX4_pace_8 10 rfl rfl)
theorem dX4_pace_200 : decode cX4_pace 200 = .ok (.iload_n 3, 1) := dk_29 (dk_at dksX4_pace_8 13 rfl rfl)
theorem dX4_pace_201 : decode cX4_pace 201 = .ok (.iload_n 2, 1) := dk_28 (dk_at dksX4_pace_8 14 rfl rfl)
theorem dX4_pace_202 : decode cX4_pace 202 = .ok (.if_icmp .lt 6, 3) := dk_161 0 6 (dk_at dksX4_pace_8 15 rfl rfl)
theorem dX4_pace_205 : decode cX4_pace 205 = .ok (.ldc 154, 2) := dk_18 154 (dk_at dksX4_pace_8 18 rfl rfl)
theorem dX4_pace_207 : decode cX4_pace 207 = .ok (.ireturn, 1) := dk_172 (dk_at dksX4_pace_8 20 rfl rfl)
theorem dX4_pace_208 : decode cX4_pace 208 = .ok (.iload_n 2, 1) := dk_28 (dk_at dksX4_pace_8 21 rfl rfl)
theorem dX4_pace_209 : decode cX4_pace 209 = .ok (.iconst 1, 1) := dk_4 (dk_at dksX4_pace_8 22 rfl rfl)
theorem dX4_pace_210 : decode cX4_pace 210 = .ok (.isub, 1) := dk_100 (dk_at dksX4_pace_8 23 rfl rfl)
theorem dX4_pace_211 : decode cX4_pace 211 = .ok (.istore 7, 2) := dk_54 7 (dk_at dksX4_pace_9 0 rfl rfl)
theorem dX4_pace_213 : decode cX4_pace 213 = .ok (.iload 7, 2) := dk_21 7 (dk_at dksX4_pace_9 2 rfl rfl)
theorem dX4_pace_215 : decode cX4_pace 215 = .ok (.iload_n 3, 1) := dk_29 (dk_at dksX4_pace_9 4 rfl rfl)
theorem dX4_pace_216 : decode cX4_pace 216 = .ok (.if_icmp .le 19, 3) := dk_164 0 19 (dk_at dksX4_pace_9 5 rfl rfl)
theorem dX4_pace_219 : decode cX4_pace 219 = .ok (.iload_n 3, 1) := dk_29 (dk_at dksX4_pace_9 8 rfl rfl)
theorem dX4_pace_220 : decode cX4_pace 220 = .ok (.ifCond .lt 15, 3) := dk_155 0 15 (dk_at dksX4_pace_9 9 rfl rfl)
theorem dX4_pace_223 : decode cX4_pace 223 = .ok (.iload 5, 2) := dk_21 5 (dk_at dksX4_pace_9 12 rfl rfl)
theorem dX4_pace_225 : decode cX4_pace 225 = .ok (.iconst 3, 1) := dk_6 (dk_at dksX4_pace_9 14 rfl rfl)
theorem dX4_pace_226 : decode cX4_pace 226 = .ok (.idiv, 1) := dk_108 (dk_at dksX4_pace_9 15 rfl rfl)
theorem dX4_pace_227 : decode cX4_pace 227 = .ok (.istore 5, 2) := dk_54 5 (dk_at dksX4_pace_9 16 rfl rfl)
theorem dX4_pace_229 : decode cX4_pace 229 = .ok (.iinc 7 (-1), 3) := dk_132 7 255 (dk_at dksX4_pace_9 18 rfl rfl)
theorem dX4_pace_232 : decode cX4_pace 232 = .ok (.goto (-19), 3) := dk_167 255 237 (dk_at dksX4_pace_9 21 rfl rfl)
theorem dX4_pace_235 : decode cX4_pace 235 = .ok (.iload_n 3, 1) := dk_29 (dk_at dksX4_pace_10 0 rfl rfl)
theorem dX4_pace_236 : decode cX4_pace 236 = .ok (.iconst (-1), 1) := dk_2 (dk_at dksX4_pace_10 1 rfl rfl)
theorem dX4_pace_237 : decode cX4_pace 237 = .ok (.if_icmp .ne 8, 3) := dk_160 0 8 (dk_at dksX4_pace_10 2 rfl rfl)
theorem dX4_pace_240 : decode cX4_pace 240 = .ok (.iload 6, 2) := dk_21 6 (dk_at dksX4_pace_10 5 rfl rfl)
theorem dX4_pace_242 : decode cX4_pace 242 = .ok (.goto 7, 3) := dk_167 0 7 (dk_at dksX4_pace_10 7 rfl rfl)
theorem dX4_pace_245 : decode cX4_pace 245 = .ok (.iload 5, 2) := dk_21 5 (dk_at dksX4_pace_10 10 rfl rfl)
theorem dX4_pace_247 : decode cX4_pace 247 = .ok (.iconst 3, 1) := dk_6 (dk_at dksX4_pace_10 12 rfl rfl)
theorem dX4_pace_248 : decode cX4_pace 248 = .ok (.irem, 1) := dk_112 (dk_at dksX4_pace_10 13 rfl rfl)
theorem dX4_pace_249 : decode cX4_pace 249 = .ok (.ireturn, 1) := dk_172 (dk_at dksX4_pace_10 14 rfl rfl)
abbrev cX4_fits : ByteArray := prog_22_method_51_code
def yX4_fits : MethodName := ⟨RX4, "fits", "(IIIII)I"⟩
def dkwX4_fits_12 : List UInt8 := [54, 6, 132, 11, 1, 167, 255, 123, 42, 21, 6, 182, 0, 67, 172]
abbrev dktX4_fits_12 : List UInt8 := dkwX4_fits_12 ++ []
def dkwX4_fits_11 : List UInt8 := [153, 0, 22, 42, 27, 21, 7, 21, 4, 182, 0, 166, 153, 0, 10, 4, 21, 11, 120, 167, 0, 4, 3, 128]
abbrev dktX4_fits_11 : List UInt8 := dkwX4_fits_11 ++ dktX4_fits_12
def dkwX4_fits_10 : List UInt8 := [153, 0, 7, 4, 167, 0, 4, 3, 54, 13, 42, 180, 0, 41, 21, 12, 21, 11, 79, 21, 6, 21, 13]
abbrev dktX4_fits_10 : List UInt8 := dkwX4_fits_10 ++ dktX4_fits_11
def dkwX4_fits_9 : List UInt8 := [21, 10, 153, 0, 29, 42, 180, 0, 25, 27, 21, 11, 42, 180, 0, 25, 16, 9, 27, 96, 46, 184, 0, 118]
abbrev dktX4_fits_9 : List UInt8 := dkwX4_fits_9 ++ dktX4_fits_10
def dkwX4_fits_8 : List UInt8 := [167, 0, 16, 21, 5, 5, 160, 0, 7, 4, 167, 0, 6, 5, 27, 96, 54, 12, 21, 5, 6, 161, 0, 30]
abbrev dktX4_fits_8 : List UInt8 := dkwX4_fits_8 ++ dktX4_fits_9
def dkwX4_fits_7 : List UInt8 := [21, 5, 154, 0, 10, 16, 18, 27, 96, 167, 0, 29, 21, 5, 4, 160, 0, 10, 16, 9, 27, 96]
abbrev dktX4_fits_7 : List UInt8 := dkwX4_fits_7 ++ dktX4_fits_8
def dkwX4_fits_6 : List UInt8 := [27, 96, 46, 184, 0, 130, 54, 10, 21, 8, 54, 11, 21, 11, 21, 9, 163, 0, 132, 42, 182, 0, 151]
abbrev dktX4_fits_6 : List UInt8 := dkwX4_fits_6 ++ dktX4_fits_7
def dkwX4_fits_5 : List UInt8 := [5, 160, 0, 7, 5, 167, 0, 12, 42, 180, 0, 25, 16, 16, 46, 4, 100, 54, 9, 42, 180, 0, 25, 5]
abbrev dktX4_fits_5 : List UInt8 := dkwX4_fits_5 ++ dktX4_fits_6
def dkwX4_fits_4 : List UInt8 := [3, 54, 8, 21, 5, 154, 0, 7, 8, 167, 0, 32, 21, 5, 4, 160, 0, 7, 4, 167, 0, 22, 21, 5]
abbrev dktX4_fits_4 : List UInt8 := dkwX4_fits_4 ++ dktX4_fits_5
def dkwX4_fits_3 : List UInt8 := [182, 0, 67, 172, 3, 54, 6, 16, 40, 28, 104, 29, 96, 54, 7, 21, 5, 154, 0, 7, 4, 167, 0, 4]
abbrev dktX4_fits_3 : List UInt8 := dkwX4_fits_3 ++ dktX4_fits_4
def dkwX4_fits_2 : List UInt8 := [156, 0, 10, 42, 18, 55, 182, 0, 67, 172, 42, 28, 29, 21, 4, 182, 0, 71, 154, 0, 10, 42, 18, 74]
abbrev dktX4_fits_2 : List UInt8 := dkwX4_fits_2 ++ dktX4_fits_3
def dkwX4_fits_1 : List UInt8 := [153, 0, 13, 21, 5, 3, 6, 184, 0, 50, 154, 0, 6, 18, 65, 172, 42, 180, 0, 7, 28, 46]
abbrev dktX4_fits_1 : List UInt8 := dkwX4_fits_1 ++ dktX4_fits_2
def dkwX4_fits_0 : List UInt8 := [42, 27, 182, 0, 148, 153, 0, 31, 28, 184, 0, 61, 153, 0, 24, 21, 4, 4, 16, 12, 184, 0, 50]
abbrev dktX4_fits_0 : List UInt8 := dkwX4_fits_0 ++ dktX4_fits_1
theorem dksX4_fits_0 : cX4_fits.data.toList.drop 0 = dktX4_fits_0 := by decide +kernel
theorem dksX4_fits_1 : cX4_fits.data.toList.drop 23 = dktX4_fits_1 := dk_seg dksX4_fits_0 23 rfl rfl
theorem dksX4_fits_2 : cX4_fits.data.toList.drop 45 = dktX4_fits_2 := dk_seg dksX4_fits_1 22 rfl rfl
theorem dksX4_fits_3 : cX4_fits.data.toList.drop 69 = dktX4_fits_3 := dk_seg dksX4_fits_2 24 rfl rfl
theorem dksX4_fits_4 : cX4_fits.data.toList.drop 93 = dktX4_fits_4 := dk_seg dksX4_fits_3 24 rfl rfl
theorem dksX4_fits_5 : cX4_fits.data.toList.drop 117 = dktX4_fits_5 := dk_seg dksX4_fits_4 24 rfl rfl
theorem dksX4_fits_6 : cX4_fits.data.toList.drop 141 = dktX4_fits_6 := dk_seg dksX4_fits_5 24 rfl rfl
theorem dksX4_fits_7 : cX4_fits.data.toList.drop 164 = dktX4_fits_7 := dk_seg dksX4_fits_6 23 rfl rfl
theorem dksX4_fits_8 : cX4_fits.data.toList.drop 186 = dktX4_fits_8 := dk_seg dksX4_fits_7 22 rfl rfl
theorem dksX4_fits_9 : cX4_fits.data.toList.drop 210 = dktX4_fits_9 := dk_seg dksX4_fits_8 24 rfl rfl
theorem dksX4_fits_10 : cX4_fits.data.toList.drop 234 = dktX4_fits_10 := dk_seg dksX4_fits_9 24 rfl rfl
theorem dksX4_fits_11 : cX4_fits.data.toList.drop 257 = dktX4_fits_11 := dk_seg dksX4_fits_10 23 rfl rfl
theorem dksX4_fits_12 : cX4_fits.data.toList.drop 281 = dktX4_fits_12 := dk_seg dksX4_fits_11 24 rfl rfl
theorem dX4_fits_0 : decode cX4_fits 0 = .ok (.aload_n 0, 1) := dk_42 (dk_at dksX4_fits_0 0 rfl rfl)
theorem dX4_fits_1 : decode cX4_fits 1 = .ok (.iload_n 1, 1) := dk_27 (dk_at dksX4_fits_0 1 rfl rfl)
theorem dX4_fits_2 : decode cX4_fits 2 = .ok (.invokevirtual 148, 3) := dk_182 0 148 (dk_at dksX4_fits_0 2 rfl rfl)
theorem dX4_fits_5 : decode cX4_fits 5 = .ok (.ifCond .eq 31, 3) := dk_153 0 31 (dk_at dksX4_fits_0 5 rfl rfl)
theorem dX4_fits_8 : decode cX4_fits 8 = .ok (.iload_n 2, 1) := dk_28 (dk_at dksX4_fits_0 8 rfl rfl)
theorem dX4_fits_9 : decode cX4_fits 9 = .ok (.invokestatic 61, 3) := dk_184 0 61 (dk_at dksX4_fits_0 9 rfl rfl)
theorem dX4_fits_12 : decode cX4_fits 12 = .ok (.ifCond .eq 24, 3) := dk_153 0 24 (dk_at dksX4_fits_0 12 rfl rfl)
theorem dX4_fits_15 : decode cX4_fits 15 = .ok (.iload 4, 2) := dk_21 4 (dk_at dksX4_fits_0 15 rfl rfl)
theorem dX4_fits_17 : decode cX4_fits 17 = .ok (.iconst 1, 1) := dk_4 (dk_at dksX4_fits_0 17 rfl rfl)
theorem dX4_fits_18 : decode cX4_fits 18 = .ok (.bipush 12, 2) := dk_16 12 (dk_at dksX4_fits_0 18 rfl rfl)
theorem dX4_fits_20 : decode cX4_fits 20 = .ok (.invokestatic 50, 3) := dk_184 0 50 (dk_at dksX4_fits_0 20 rfl rfl)
theorem dX4_fits_23 : decode cX4_fits 23 = .ok (.ifCond .eq 13, 3) := dk_153 0 13 (dk_at dksX4_fits_1 0 rfl rfl)
theorem dX4_fits_26 : decode cX4_fits 26 = .ok (.iload 5, 2) := dk_21 5 (dk_at dksX4_fits_1 3 rfl rfl)
theorem dX4_fits_28 : decode cX4_fits 28 = .ok (.iconst 0, 1) := dk_3 (dk_at dksX4_fits_1 5 rfl rfl)
theorem dX4_fits_29 : decode cX4_fits 29 = .ok (.iconst 3, 1) := dk_6 (dk_at dksX4_fits_1 6 rfl rfl)
theorem dX4_fits_30 : decode cX4_fits 30 = .ok (.invokestatic 50, 3) := dk_184 0 50 (dk_at dksX4_fits_1 7 rfl rfl)
theorem dX4_fits_33 : decode cX4_fits 33 = .ok (.ifCond .ne 6, 3) := dk_154 0 6 (dk_at dksX4_fits_1 10 rfl rfl)
theorem dX4_fits_36 : decode cX4_fits 36 = .ok (.ldc 65, 2) := dk_18 65 (dk_at dksX4_fits_1 13 rfl rfl)
theorem dX4_fits_38 : decode cX4_fits 38 = .ok (.ireturn, 1) := dk_172 (dk_at dksX4_fits_1 15 rfl rfl)
theorem dX4_fits_39 : decode cX4_fits 39 = .ok (.aload_n 0, 1) := dk_42 (dk_at dksX4_fits_1 16 rfl rfl)
theorem dX4_fits_40 : decode cX4_fits 40 = .ok (.getfield 7, 3) := dk_180 0 7 (dk_at dksX4_fits_1 17 rfl rfl)
theorem dX4_fits_43 : decode cX4_fits 43 = .ok (.iload_n 2, 1) := dk_28 (dk_at dksX4_fits_1 20 rfl rfl)
theorem dX4_fits_44 : decode cX4_fits 44 = .ok (.iaload, 1) := dk_46 (dk_at dksX4_fits_1 21 rfl rfl)
theorem dX4_fits_45 : decode cX4_fits 45 = .ok (.ifCond .ge 10, 3) := dk_156 0 10 (dk_at dksX4_fits_2 0 rfl rfl)
theorem dX4_fits_48 : decode cX4_fits 48 = .ok (.aload_n 0, 1) := dk_42 (dk_at dksX4_fits_2 3 rfl rfl)
theorem dX4_fits_49 : decode cX4_fits 49 = .ok (.ldc 55, 2) := dk_18 55 (dk_at dksX4_fits_2 4 rfl rfl)
theorem dX4_fits_51 : decode cX4_fits 51 = .ok (.invokevirtual 67, 3) := dk_182 0 67 (dk_at dksX4_fits_2 6 rfl rfl)
theorem dX4_fits_54 : decode cX4_fits 54 = .ok (.ireturn, 1) := dk_172 (dk_at dksX4_fits_2 9 rfl rfl)
theorem dX4_fits_55 : decode cX4_fits 55 = .ok (.aload_n 0, 1) := dk_42 (dk_at dksX4_fits_2 10 rfl rfl)
theorem dX4_fits_56 : decode cX4_fits 56 = .ok (.iload_n 2, 1) := dk_28 (dk_at dksX4_fits_2 11 rfl rfl)
theorem dX4_fits_57 : decode cX4_fits 57 = .ok (.iload_n 3, 1) := dk_29 (dk_at dksX4_fits_2 12 rfl rfl)
theorem dX4_fits_58 : decode cX4_fits 58 = .ok (.iload 4, 2) := dk_21 4 (dk_at dksX4_fits_2 13 rfl rfl)
theorem dX4_fits_60 : decode cX4_fits 60 = .ok (.invokevirtual 71, 3) := dk_182 0 71 (dk_at dksX4_fits_2 15 rfl rfl)
theorem dX4_fits_63 : decode cX4_fits 63 = .ok (.ifCond .ne 10, 3) := dk_154 0 10 (dk_at dksX4_fits_2 18 rfl rfl)
theorem dX4_fits_66 : decode cX4_fits 66 = .ok (.aload_n 0, 1) := dk_42 (dk_at dksX4_fits_2 21 rfl rfl)
theorem dX4_fits_67 : decode cX4_fits 67 = .ok (.ldc 74, 2) := dk_18 74 (dk_at dksX4_fits_2 22 rfl rfl)
theorem dX4_fits_69 : decode cX4_fits 69 = .ok (.invokevirtual 67, 3) := dk_182 0 67 (dk_at dksX4_fits_3 0 rfl rfl)
theorem dX4_fits_72 : decode cX4_fits 72 = .ok (.ireturn, 1) := dk_172 (dk_at dksX4_fits_3 3 rfl rfl)
theorem dX4_fits_73 : decode cX4_fits 73 = .ok (.iconst 0, 1) := dk_3 (dk_at dksX4_fits_3 4 rfl rfl)
theorem dX4_fits_74 : decode cX4_fits 74 = .ok (.istore 6, 2) := dk_54 6 (dk_at dksX4_fits_3 5 rfl rfl)
theorem dX4_fits_76 : decode cX4_fits 76 = .ok (.bipush 40, 2) := dk_16 40 (dk_at dksX4_fits_3 7 rfl rfl)
theorem dX4_fits_78 : decode cX4_fits 78 = .ok (.iload_n 2, 1) := dk_28 (dk_at dksX4_fits_3 9 rfl rfl)
theorem dX4_fits_79 : decode cX4_fits 79 = .ok (.imul, 1) := dk_104 (dk_at dksX4_fits_3 10 rfl rfl)
theorem dX4_fits_80 : decode cX4_fits 80 = .ok (.iload_n 3, 1) := dk_29 (dk_at dksX4_fits_3 11 rfl rfl)
theorem dX4_fits_81 : decode cX4_fits 81 = .ok (.iadd, 1) := dk_96 (dk_at dksX4_fits_3 12 rfl rfl)
theorem dX4_fits_82 : decode cX4_fits 82 = .ok (.istore 7, 2) := dk_54 7 (dk_at dksX4_fits_3 13 rfl rfl)
theorem dX4_fits_84 : decode cX4_fits 84 = .ok (.iload 5, 2) := dk_21 5 (dk_at dksX4_fits_3 15 rfl rfl)
theorem dX4_fits_86 : decode cX4_fits 86 = .ok (.ifCond .ne 7, 3) := dk_154 0 7 (dk_at dksX4_fits_3 17 rfl rfl)
theorem dX4_fits_89 : decode cX4_fits 89 = .ok (.iconst 1, 1) := dk_4 (dk_at dksX4_fits_3 20 rfl rfl)
theorem dX4_fits_90 : decode cX4_fits 90 = .ok (.goto 4, 3) := dk_167 0 4 (dk_at dksX4_fits_3 21 rfl rfl)
theorem dX4_fits_93 : decode cX4_fits 93 = .ok (.iconst 0, 1) := dk_3 (dk_at dksX4_fits_4 0 rfl rfl)
theorem dX4_fits_94 : decode cX4_fits 94 = .ok (.istore 8, 2) := dk_54 8 (dk_at dksX4_fits_4 1 rfl rfl)
theorem dX4_fits_96 : decode cX4_fits 96 = .ok (.iload 5, 2) := dk_21 5 (dk_at dksX4_fits_4 3 rfl rfl)
theorem dX4_fits_98 : decode cX4_fits 98 = .ok (.ifCond .ne 7, 3) := dk_154 0 7 (dk_at dksX4_fits_4 5 rfl rfl)
theorem dX4_fits_101 : decode cX4_fits 101 = .ok (.iconst 5, 1) := dk_8 (dk_at dksX4_fits_4 8 rfl rfl)
theorem dX4_fits_102 : decode cX4_fits 102 = .ok (.goto 32, 3) := dk_167 0 32 (dk_at dksX4_fits_4 9 rfl rfl)
theorem dX4_fits_105 : decode cX4_fits 105 = .ok (.iload 5, 2) := dk_21 5 (dk_at dksX4_fits_4 12 rfl rfl)
theorem dX4_fits_107 : decode cX4_fits 107 = .ok (.iconst 1, 1) := dk_4 (dk_at dksX4_fits_4 14 rfl rfl)
theorem dX4_fits_108 : decode cX4_fits 108 = .ok (.if_icmp .ne 7, 3) := dk_160 0 7 (dk_at dksX4_fits_4 15 rfl rfl)
theorem dX4_fits_111 : decode cX4_fits 111 = .ok (.iconst 1, 1) := dk_4 (dk_at dksX4_fits_4 18 rfl rfl)
theorem dX4_fits_112 : decode cX4_fits 112 = .ok (.goto 22, 3) := dk_167 0 22 (dk_at dksX4_fits_4 19 rfl rfl)
theorem dX4_fits_115 : decode cX4_fits 115 = .ok (.iload 5, 2) := dk_21 5 (dk_at dksX4_fits_4 22 rfl rfl)
theorem dX4_fits_117 : decode cX4_fits 117 = .ok (.iconst 2, 1) := dk_5 (dk_at dksX4_fits_5 0 rfl rfl)
theorem dX4_fits_118 : decode cX4_fits 118 = .ok (.if_icmp .ne 7, 3) := dk_160 0 7 (dk_at dksX4_fits_5 1 rfl rfl)
theorem dX4_fits_121 : decode cX4_fits 121 = .ok (.iconst 2, 1) := dk_5 (dk_at dksX4_fits_5 4 rfl rfl)
theorem dX4_fits_122 : decode cX4_fits 122 = .ok (.goto 12, 3) := dk_167 0 12 (dk_at dksX4_fits_5 5 rfl rfl)
theorem dX4_fits_125 : decode cX4_fits 125 = .ok (.aload_n 0, 1) := dk_42 (dk_at dksX4_fits_5 8 rfl rfl)
theorem dX4_fits_126 : decode cX4_fits 126 = .ok (.getfield 25, 3) := dk_180 0 25 (dk_at dksX4_fits_5 9 rfl rfl)
theorem dX4_fits_129 : decode cX4_fits 129 = .ok (.bipush 16, 2) := dk_16 16 (dk_at dksX4_fits_5 12 rfl rfl)
theorem dX4_fits_131 : decode cX4_fits 131 = .ok (.iaload, 1) := dk_46 (dk_at dksX4_fits_5 14 rfl rfl)
theorem dX4_fits_132 : decode cX4_fits 132 = .ok (.iconst 1, 1) := dk_4 (dk_at dksX4_fits_5 15 rfl rfl)
theorem dX4_fits_133 : decode cX4_fits 133 = .ok (.isub, 1) := dk_100 (dk_at dksX4_fits_5 16 rfl rfl)
theorem dX4_fits_134 : decode cX4_fits 134 = .ok (.istore 9, 2) := dk_54 9 (dk_at dksX4_fits_5 17 rfl rfl)
theorem dX4_fits_136 : decode cX4_fits 136 = .ok (.aload_n 0, 1) := dk_42 (dk_at dksX4_fits_5 19 rfl rfl)
theorem dX4_fits_137 : decode cX4_fits 137 = .ok (.getfield 25, 3) := dk_180 0 25 (dk_at dksX4_fits_5 20 rfl rfl)
theorem dX4_fits_140 : decode cX4_fits 140 = .ok (.iconst 2, 1) := dk_5 (dk_at dksX4_fits_5 23 rfl rfl)
theorem dX4_fits_141 : decode cX4_fits 141 = .ok (.iload_n 1, 1) := dk_27 (dk_at dksX4_fits_6 0 rfl rfl)
theorem dX4_fits_142 : decode cX4_fits 142 = .ok (.iadd, 1) := dk_96 (dk_at dksX4_fits_6 1 rfl rfl)
theorem dX4_fits_143 : decode cX4_fits 143 = .ok (.iaload, 1) := dk_46 (dk_at dksX4_fits_6 2 rfl rfl)
theorem dX4_fits_144 : decode cX4_fits 144 = .ok (.invokestatic 130, 3) := dk_184 0 130 (dk_at dksX4_fits_6 3 rfl rfl)
theorem dX4_fits_147 : decode cX4_fits 147 = .ok (.istore 10, 2) := dk_54 10 (dk_at dksX4_fits_6 6 rfl rfl)
theorem dX4_fits_149 : decode cX4_fits 149 = .ok (.iload 8, 2) := dk_21 8 (dk_at dksX4_fits_6 8 rfl rfl)
theorem dX4_fits_151 : decode cX4_fits 151 = .ok (.istore 11, 2) := dk_54 11 (dk_at dksX4_fits_6 10 rfl rfl)
theorem dX4_fits_153 : decode cX4_fits 153 = .ok (.iload 11, 2) := dk_21 11 (dk_at dksX4_fits_6 12 rfl rfl)
theorem dX4_fits_155 : decode cX4_fits 155 = .ok (.iload 9, 2) := dk_21 9 (dk_at dksX4_fits_6 14 rfl rfl)
theorem dX4_fits_157 : decode cX4_fits 157 = .ok (.if_icmp .gt 132, 3) := dk_163 0 132 (dk_at dksX4_fits_6 16 rfl rfl)
theorem dX4_fits_160 : decode cX4_fits 160 = .ok (.aload_n 0, 1) := dk_42 (dk_at dksX4_fits_6 19 rfl rfl)
theorem dX4_fits_161 : decode cX4_fits 161 = .ok (.invokevirtual 151, 3) := dk_182 0 151 (dk_at dksX4_fits_6 20 rfl rfl)
theorem dX4_fits_164 : decode cX4_fits 164 = .ok (.iload 5, 2) := dk_21 5 (dk_at dksX4_fits_7 0 rfl rfl)
theorem dX4_fits_166 : decode cX4_fits 166 = .ok (.ifCond .ne 10, 3) := dk_154 0 10 (dk_at dksX4_fits_7 2 rfl rfl)
theorem dX4_fits_169 : decode cX4_fits 169 = .ok (.bipush 18, 2) := dk_16 18 (dk_at dksX4_fits_7 5 rfl rfl)
theorem dX4_fits_171 : decode cX4_fits 171 = .ok (.iload_n 1, 1) := dk_27 (dk_at dksX4_fits_7 7 rfl rfl)
theorem dX4_fits_172 : decode cX4_fits 172 = .ok (.iadd, 1) := dk_96 (dk_at dksX4_fits_7 8 rfl rfl)
theorem dX4_fits_173 : decode cX4_fits 173 = .ok (.goto 29, 3) := dk_167 0 29 (dk_at dksX4_fits_7 9 rfl rfl)
theorem dX4_fits_176 : decode cX4_fits 176 = .ok (.iload 5, 2) := dk_21 5 (dk_at dksX4_fits_7 12 rfl rfl)
theorem dX4_fits_178 : decode cX4_fits 178 = .ok (.iconst 1, 1) := dk_4 (dk_at dksX4_fits_7 14 rfl rfl)
theorem dX4_fits_179 : decode cX4_fits 179 = .ok (.if_icmp .ne 10, 3) := dk_160 0 10 (dk_at dksX4_fits_7 15 rfl rfl)
theorem dX4_fits_182 : decode cX4_fits 182 = .ok (.bipush 9, 2) := dk_16 9 (dk_at dksX4_fits_7 18 rfl rfl)
theorem dX4_fits_184 : decode cX4_fits 184 = .ok (.iload_n 1, 1) := dk_27 (dk_at dksX4_fits_7 20 rfl rfl)
theorem dX4_fits_185 : decode cX4_fits 185 = .ok (.iadd, 1) := dk_96 (dk_at dksX4_fits_7 21 rfl rfl)
theorem dX4_fits_186 : decode cX4_fits 186 = .ok (.goto 16, 3) := dk_167 0 16 (dk_at dksX4_fits_8 0 rfl rfl)
theorem dX4_fits_189 : decode cX4_fits 189 = .ok (.iload 5, 2) := dk_21 5 (dk_at dksX4_fits_8 3 rfl rfl)
theorem dX4_fits_191 : decode cX4_fits 191 = .ok (.iconst 2, 1) := dk_5 (dk_at dksX4_fits_8 5 rfl rfl)
theorem dX4_fits_192 : decode cX4_fits 192 = .ok (.if_icmp .ne 7, 3) := dk_160 0 7 (dk_at dksX4_fits_8 6 rfl rfl)
theorem dX4_fits_195 : decode cX4_fits 195 = .ok (.iconst 1, 1) := dk_4 (dk_at dksX4_fits_8 9 rfl rfl)
theorem dX4_fits_196 : decode cX4_fits 196 = .ok (.goto 6, 3) := dk_167 0 6 (dk_at dksX4_fits_8 10 rfl rfl)
theorem dX4_fits_199 : decode cX4_fits 199 = .ok (.iconst 2, 1) := dk_5 (dk_at dksX4_fits_8 13 rfl rfl)
theorem dX4_fits_200 : decode cX4_fits 200 = .ok (.iload_n 1, 1) := dk_27 (dk_at dksX4_fits_8 14 rfl rfl)
theorem dX4_fits_201 : decode cX4_fits 201 = .ok (.iadd, 1) := dk_96 (dk_at dksX4_fits_8 15 rfl rfl)
theorem dX4_fits_202 : decode cX4_fits 202 = .ok (.istore 12, 2) := dk_54 12 (dk_at dksX4_fits_8 16 rfl rfl)
theorem dX4_fits_204 : decode cX4_fits 204 = .ok (.iload 5, 2) := dk_21 5 (dk_at dksX4_fits_8 18 rfl rfl)
theorem dX4_fits_206 : decode cX4_fits 206 = .ok (.iconst 3, 1) := dk_6 (dk_at dksX4_fits_8 20 rfl rfl)
theorem dX4_fits_207 : decode cX4_fits 207 = .ok (.if_icmp .lt 30, 3) := dk_161 0 30 (dk_at dksX4_fits_8 21 rfl rfl)
theorem dX4_fits_210 : decode cX4_fits 210 = .ok (.iload 10, 2) := dk_21 10 (dk_at dksX4_fits_9 0 rfl rfl)
theorem dX4_fits_212 : decode cX4_fits 212 = .ok (.ifCond .eq 29, 3) := dk_153 0 29 (dk_at dksX4_fits_9 2 rfl rfl)
theorem dX4_fits_215 : decode cX4_fits 215 = .ok (.aload_n 0, 1) := dk_42 (dk_at dksX4_fits_9 5 rfl rfl)
theorem dX4_fits_216 : decode cX4_fits 216 = .ok (.getfield 25, 3) := dk_180 0 25 (dk_at dksX4_fits_9 6 rfl rfl)
theorem dX4_fits_219 : decode cX4_fits 219 = .ok (.iload_n 1, 1) := dk_27 (dk_at dksX4_fits_9 9 rfl rfl)
theorem dX4_fits_220 : decode cX4_fits 220 = .ok (.iload 11, 2) := dk_21 11 (dk_at dksX4_fits_9 10 rfl rfl)
theorem dX4_fits_222 : decode cX4_fits 222 = .ok (.aload_n 0, 1) := dk_42 (dk_at dksX4_fits_9 12 rfl rfl)
theorem dX4_fits_223 : decode cX4_fits 223 = .ok (.getfield 25, 3) := dk_180 0 25 (dk_at dksX4_fits_9 13 rfl rfl)
theorem dX4_fits_226 : decode cX4_fits 226 = .ok (.bipush 9, 2) := dk_16 9 (dk_at dksX4_fits_9 16 rfl rfl)
theorem dX4_fits_228 : decode cX4_fits 228 = .ok (.iload_n 1, 1) := dk_27 (dk_at dksX4_fits_9 18 rfl rfl)
theorem dX4_fits_229 : decode cX4_fits 229 = .ok (.iadd, 1) := dk_96 (dk_at dksX4_fits_9 19 rfl rfl)
theorem dX4_fits_230 : decode cX4_fits 230 = .ok (.iaload, 1) := dk_46 (dk_at dksX4_fits_9 20 rfl rfl)
theorem dX4_fits_231 : decode cX4_fits 231 = .ok (.invokestatic 118, 3) := dk_184 0 118 (dk_at dksX4_fits_9 21 rfl rfl)
theorem dX4_fits_234 : decode cX4_fits 234 = .ok (.ifCond .eq 7, 3) := dk_153 0 7 (dk_at dksX4_fits_10 0 rfl rfl)
theorem dX4_fits_237 : decode cX4_fits 237 = .ok (.iconst 1, 1) := dk_4 (dk_at dksX4_fits_10 3 rfl rfl)
theorem dX4_fits_238 : decode cX4_fits 238 = .ok (.goto 4, 3) := dk_167 0 4 (dk_at dksX4_fits_10 4 rfl rfl)
theorem dX4_fits_241 : decode cX4_fits 241 = .ok (.iconst 0, 1) := dk_3 (dk_at dksX4_fits_10 7 rfl rfl)
theorem dX4_fits_242 : decode cX4_fits 242 = .ok (.istore 13, 2) := dk_54 13 (dk_at dksX4_fits_10 8 rfl rfl)
theorem dX4_fits_244 : decode cX4_fits 244 = .ok (.aload_n 0, 1) := dk_42 (dk_at dksX4_fits_10 10 rfl rfl)
theorem dX4_fits_245 : decode cX4_fits 245 = .ok (.getfield 41, 3) := dk_180 0 41 (dk_at dksX4_fits_10 11 rfl rfl)
theorem dX4_fits_248 : decode cX4_fits 248 = .ok (.iload 12, 2) := dk_21 12 (dk_at dksX4_fits_10 14 rfl rfl)
theorem dX4_fits_250 : decode cX4_fits 250 = .ok (.iload 11, 2) := dk_21 11 (dk_at dksX4_fits_10 16 rfl rfl)
theorem dX4_fits_252 : decode cX4_fits 252 = .ok (.iastore, 1) := dk_79 (dk_at dksX4_fits_10 18 rfl rfl)
theorem dX4_fits_253 : decode cX4_fits 253 = .ok (.iload 6, 2) := dk_21 6 (dk_at dksX4_fits_10 19 rfl rfl)
theorem dX4_fits_255 : decode cX4_fits 255 = .ok (.iload 13, 2) := dk_21 13 (dk_at dksX4_fits_10 21 rfl rfl)
theorem dX4_fits_257 : decode cX4_fits 257 = .ok (.ifCond .eq 22, 3) := dk_153 0 22 (dk_at dksX4_fits_11 0 rfl rfl)
theorem dX4_fits_260 : decode cX4_fits 260 = .ok (.aload_n 0, 1) := dk_42 (dk_at dksX4_fits_11 3 rfl rfl)
theorem dX4_fits_261 : decode cX4_fits 261 = .ok (.iload_n 1, 1) := dk_27 (dk_at dksX4_fits_11 4 rfl rfl)
theorem dX4_fits_262 : decode cX4_fits 262 = .ok (.iload 7, 2) := dk_21 7 (dk_at dksX4_fits_11 5 rfl rfl)
theorem dX4_fits_264 : decode cX4_fits 264 = .ok (.iload 4, 2) := dk_21 4 (dk_at dksX4_fits_11 7 rfl rfl)
theorem dX4_fits_266 : decode cX4_fits 266 = .ok (.invokevirtual 166, 3) := dk_182 0 166 (dk_at dksX4_fits_11 9 rfl rfl)
theorem dX4_fits_269 : decode cX4_fits 269 = .ok (.ifCond .eq 10, 3) := dk_153 0 10 (dk_at dksX4_fits_11 12 rfl rfl)
theorem dX4_fits_272 : decode cX4_fits 272 = .ok (.iconst 1, 1) := dk_4 (dk_at dksX4_fits_11 15 rfl rfl)
theorem dX4_fits_273 : decode cX4_fits 273 = .ok (.iload 11, 2) := dk_21 11 (dk_at dksX4_fits_11 16 rfl rfl)
theorem dX4_fits_275 : decode cX4_fits 275 = .ok (.ishl, 1) := dk_120 (dk_at dksX4_fits_11 18 rfl rfl)
theorem dX4_fits_276 : decode cX4_fits 276 = .ok (.goto 4, 3) := dk_167 0 4 (dk_at dksX4_fits_11 19 rfl rfl)
theorem dX4_fits_279 : decode cX4_fits 279 = .ok (.iconst 0, 1) := dk_3 (dk_at dksX4_fits_11 22 rfl rfl)
theorem dX4_fits_280 : decode cX4_fits 280 = .ok (.ior, 1) := dk_128 (dk_at dksX4_fits_11 23 rfl rfl)
theorem dX4_fits_281 : decode cX4_fits 281 = .ok (.istore 6, 2) := dk_54 6 (dk_at dksX4_fits_12 0 rfl rfl)
theorem dX4_fits_283 : decode cX4_fits 283 = .ok (.iinc 11 1, 3) := dk_132 11 1 (dk_at dksX4_fits_12 2 rfl rfl)
theorem dX4_fits_286 : decode cX4_fits 286 = .ok (.goto (-133), 3) := dk_167 255 123 (dk_at dksX4_fits_12 5 rfl rfl)
theorem dX4_fits_289 : decode cX4_fits 289 = .ok (.aload_n 0, 1) := dk_42 (dk_at dksX4_fits_12 8 rfl rfl)
theorem dX4_fits_290 : decode cX4_fits 290 = .ok (.iload 6, 2) := dk_21 6 (dk_at dksX4_fits_12 9 rfl rfl)
theorem dX4_fits_292 : decode cX4_fits 292 = .ok (.invokevirtual 67, 3) := dk_182 0 67 (dk_at dksX4_fits_12 11 rfl rfl)
theorem dX4_fits_295 : decode cX4_fits 295 = .ok (.ireturn, 1) := dk_172 (dk_at dksX4_fits_12 14 rfl rfl)
abbrev cX4_isSo : ByteArray := prog_22_method_50_code
def yX4_isSo : MethodName := ⟨RX4, "isSo", "(III)Z"⟩
def dkwX4_isSo_2 : List UInt8 := [167, 0, 4, 3, 54, 4, 132, 5, 1, 167, 255, 207, 21, 4, 172]
abbrev dktX4_isSo_2 : List UInt8 := dkwX4_isSo_2 ++ []
def dkwX4_isSo_1 : List UInt8 := [153, 0, 27, 42, 180, 0, 41, 5, 27, 96, 46, 42, 180, 0, 16, 28, 21, 5, 96, 46, 160, 0, 7, 4]
abbrev dktX4_isSo_1 : List UInt8 := dkwX4_isSo_1 ++ dktX4_isSo_2
def dkwX4_isSo_0 : List UInt8 := [4, 54, 4, 3, 54, 5, 21, 5, 29, 162, 0, 49, 42, 42, 180, 0, 41, 182, 0, 140, 21, 4]
abbrev dktX4_isSo_0 : List UInt8 := dkwX4_isSo_0 ++ dktX4_isSo_1
theorem dksX4_isSo_0 : cX4_isSo.data.toList.drop 0 = dktX4_isSo_0 := by decide +kernel
theorem dksX4_isSo_1 : cX4_isSo.data.toList.drop 22 = dktX4_isSo_1 := dk_seg dksX4_isSo_0 22 rfl rfl
theorem dksX4_isSo_2 : cX4_isSo.data.toList.drop 46 = dktX4_isSo_2 := dk_seg dksX4_isSo_1 24 rfl rfl
theorem dX4_isSo_0 : decode cX4_isSo 0 = .ok (.iconst 1, 1) := dk_4 (dk_at dksX4_isSo_0 0 rfl rfl)
theorem dX4_isSo_1 : decode cX4_isSo 1 = .ok (.istore 4, 2) := dk_54 4 (dk_at dksX4_isSo_0 1 rfl rfl)
theorem dX4_isSo_3 : decode cX4_isSo 3 = .ok (.iconst 0, 1) := dk_3 (dk_at dksX4_isSo_0 3 rfl rfl)
theorem dX4_isSo_4 : decode cX4_isSo 4 = .ok (.istore 5, 2) := dk_54 5 (dk_at dksX4_isSo_0 4 rfl rfl)
theorem dX4_isSo_6 : decode cX4_isSo 6 = .ok (.iload 5, 2) := dk_21 5 (dk_at dksX4_isSo_0 6 rfl rfl)
theorem dX4_isSo_8 : decode cX4_isSo 8 = .ok (.iload_n 3, 1) := dk_29 (dk_at dksX4_isSo_0 8 rfl rfl)
theorem dX4_isSo_9 : decode cX4_isSo 9 = .ok (.if_icmp .ge 49, 3) := dk_162 0 49 (dk_at dksX4_isSo_0 9 rfl rfl)
theorem dX4_isSo_12 : decode cX4_isSo 12 = .ok (.aload_n 0, 1) := dk_42 (dk_at dksX4_isSo_0 12 rfl rfl)
theorem dX4_isSo_13 : decode cX4_isSo 13 = .ok (.aload_n 0, 1) := dk_42 (dk_at dksX4_isSo_0 13 rfl rfl)
theorem dX4_isSo_14 : decode cX4_isSo 14 = .ok (.getfield 41, 3) := dk_180 0 41 (dk_at dksX4_isSo_0 14 rfl rfl)
theorem dX4_isSo_17 : decode cX4_isSo 17 = .ok (.invokevirtual 140, 3) := dk_182 0 140 (dk_at dksX4_isSo_0 17 rfl rfl)
theorem dX4_isSo_20 : decode cX4_isSo 20 = .ok (.iload 4, 2) := dk_21 4 (dk_at dksX4_isSo_0 20 rfl rfl)
theorem dX4_isSo_22 : decode cX4_isSo 22 = .ok (.ifCond .eq 27, 3) := dk_153 0 27 (dk_at dksX4_isSo_1 0 rfl rfl)
theorem dX4_isSo_25 : decode cX4_isSo 25 = .ok (.aload_n 0, 1) := dk_42 (dk_at dksX4_isSo_1 3 rfl rfl)
theorem dX4_isSo_26 : decode cX4_isSo 26 = .ok (.getfield 41, 3) := dk_180 0 41 (dk_at dksX4_isSo_1 4 rfl rfl)
theorem dX4_isSo_29 : decode cX4_isSo 29 = .ok (.iconst 2, 1) := dk_5 (dk_at dksX4_isSo_1 7 rfl rfl)
theorem dX4_isSo_30 : decode cX4_isSo 30 = .ok (.iload_n 1, 1) := dk_27 (dk_at dksX4_isSo_1 8 rfl rfl)
theorem dX4_isSo_31 : decode cX4_isSo 31 = .ok (.iadd, 1) := dk_96 (dk_at dksX4_isSo_1 9 rfl rfl)
theorem dX4_isSo_32 : decode cX4_isSo 32 = .ok (.iaload, 1) := dk_46 (dk_at dksX4_isSo_1 10 rfl rfl)
theorem dX4_isSo_33 : decode cX4_isSo 33 = .ok (.aload_n 0, 1) := dk_42 (dk_at dksX4_isSo_1 11 rfl rfl)
theorem dX4_isSo_34 : decode cX4_isSo 34 = .ok (.getfield 16, 3) := dk_180 0 16 (dk_at dksX4_isSo_1 12 rfl rfl)
theorem dX4_isSo_37 : decode cX4_isSo 37 = .ok (.iload_n 2, 1) := dk_28 (dk_at dksX4_isSo_1 15 rfl rfl)
theorem dX4_isSo_38 : decode cX4_isSo 38 = .ok (.iload 5, 2) := dk_21 5 (dk_at dksX4_isSo_1 16 rfl rfl)
theorem dX4_isSo_40 : decode cX4_isSo 40 = .ok (.iadd, 1) := dk_96 (dk_at dksX4_isSo_1 18 rfl rfl)
theorem dX4_isSo_41 : decode cX4_isSo 41 = .ok (.iaload, 1) := dk_46 (dk_at dksX4_isSo_1 19 rfl rfl)
theorem dX4_isSo_42 : decode cX4_isSo 42 = .ok (.if_icmp .ne 7, 3) := dk_160 0 7 (dk_at dksX4_isSo_1 20 rfl rfl)
theorem dX4_isSo_45 : decode cX4_isSo 45 = .ok (.iconst 1, 1) := dk_4 (dk_at dksX4_isSo_1 23 rfl rfl)
theorem dX4_isSo_46 : decode cX4_isSo 46 = .ok (.goto 4, 3) := dk_167 0 4 (dk_at dksX4_isSo_2 0 rfl rfl)
theorem dX4_isSo_49 : decode cX4_isSo 49 = .ok (.iconst 0, 1) := dk_3 (dk_at dksX4_isSo_2 3 rfl rfl)
theorem dX4_isSo_50 : decode cX4_isSo 50 = .ok (.istore 4, 2) := dk_54 4 (dk_at dksX4_isSo_2 4 rfl rfl)
theorem dX4_isSo_52 : decode cX4_isSo 52 = .ok (.iinc 5 1, 3) := dk_132 5 1 (dk_at dksX4_isSo_2 6 rfl rfl)
theorem dX4_isSo_55 : decode cX4_isSo 55 = .ok (.goto (-49), 3) := dk_167 255 207 (dk_at dksX4_isSo_2 9 rfl rfl)
theorem dX4_isSo_58 : decode cX4_isSo 58 = .ok (.iload 4, 2) := dk_21 4 (dk_at dksX4_isSo_2 12 rfl rfl)
theorem dX4_isSo_60 : decode cX4_isSo 60 = .ok (.ireturn, 1) := dk_172 (dk_at dksX4_isSo_2 14 rfl rfl)
abbrev cX4_absent : ByteArray := prog_22_method_52_code
def yX4_absent : MethodName := ⟨RX4, "absent", "(IIII)I"⟩
def dkwX4_absent_13 : List UInt8 := [21, 8, 108, 167, 0, 8, 21, 7, 21, 8, 108, 172]
abbrev dktX4_absent_13 : List UInt8 := dkwX4_absent_13 ++ []
def dkwX4_absent_12 : List UInt8 := [21, 9, 112, 54, 10, 21, 9, 54, 8, 21, 10, 54, 9, 167, 255, 236, 21, 4, 154, 0, 11, 21, 6]
abbrev dktX4_absent_12 : List UInt8 := dkwX4_absent_12 ++ dktX4_absent_13
def dkwX4_absent_11 : List UInt8 := [54, 7, 132, 8, 1, 167, 255, 220, 21, 6, 54, 8, 21, 7, 54, 9, 21, 9, 158, 0, 21, 21, 8]
abbrev dktX4_absent_11 : List UInt8 := dkwX4_absent_11 ++ dktX4_absent_12
def dkwX4_absent_10 : List UInt8 := [46, 162, 0, 30, 21, 7, 21, 5, 21, 8, 184, 0, 162, 153, 0, 8, 16, 10, 167, 0, 4, 4, 104]
abbrev dktX4_absent_10 : List UInt8 := dkwX4_absent_10 ++ dktX4_absent_11
def dkwX4_absent_9 : List UInt8 := [167, 0, 4, 3, 96, 54, 6, 132, 8, 1, 167, 255, 96, 3, 54, 8, 21, 8, 42, 180, 0, 25, 16, 17]
abbrev dktX4_absent_9 : List UInt8 := dkwX4_absent_9 ++ dktX4_absent_10
def dkwX4_absent_8 : List UInt8 := [132, 10, 1, 167, 255, 239, 21, 6, 42, 180, 0, 41, 5, 27, 96, 46, 16, 99, 160, 0, 8, 21, 9]
abbrev dktX4_absent_8 : List UInt8 := dkwX4_absent_8 ++ dktX4_absent_9
def dkwX4_absent_7 : List UInt8 := [132, 10, 1, 167, 255, 183, 3, 54, 10, 21, 10, 28, 162, 0, 17, 42, 42, 180, 0, 41, 182, 0, 140]
abbrev dktX4_absent_7 : List UInt8 := dkwX4_absent_7 ++ dktX4_absent_8
def dkwX4_absent_6 : List UInt8 := [180, 0, 41, 5, 21, 10, 96, 21, 8, 21, 10, 184, 0, 162, 153, 0, 8, 16, 99, 167, 0, 4, 2, 79]
abbrev dktX4_absent_6 : List UInt8 := dkwX4_absent_6 ++ dktX4_absent_7
def dkwX4_absent_5 : List UInt8 := [21, 8, 21, 10, 184, 0, 162, 153, 0, 7, 29, 167, 0, 7, 16, 10, 29, 100, 104, 54, 9, 42]
abbrev dktX4_absent_5 : List UInt8 := dkwX4_absent_5 ++ dktX4_absent_6
def dkwX4_absent_4 : List UInt8 := [21, 10, 42, 180, 0, 25, 16, 17, 46, 162, 0, 67, 21, 5, 21, 10, 184, 0, 162, 153, 0, 51, 21, 9]
abbrev dktX4_absent_4 : List UInt8 := dkwX4_absent_4 ++ dktX4_absent_5
def dkwX4_absent_3 : List UInt8 := [162, 0, 152, 21, 8, 21, 5, 2, 130, 126, 154, 0, 136, 42, 182, 0, 151, 4, 54, 9, 3, 54, 10]
abbrev dktX4_absent_3 : List UInt8 := dkwX4_absent_3 ++ dktX4_absent_4
def dkwX4_absent_2 : List UInt8 := [54, 5, 3, 54, 6, 4, 54, 7, 3, 54, 8, 21, 8, 4, 42, 180, 0, 25, 16, 17, 46, 120]
abbrev dktX4_absent_2 : List UInt8 := dkwX4_absent_2 ++ dktX4_absent_3
def dkwX4_absent_1 : List UInt8 := [184, 0, 50, 153, 0, 13, 21, 4, 3, 4, 184, 0, 50, 154, 0, 6, 18, 65, 172, 42, 182, 0, 159]
abbrev dktX4_absent_1 : List UInt8 := dkwX4_absent_1 ++ dktX4_absent_2
def dkwX4_absent_0 : List UInt8 := [42, 27, 182, 0, 148, 153, 0, 33, 28, 3, 16, 60, 184, 0, 50, 153, 0, 23, 29, 3, 16, 10]
abbrev dktX4_absent_0 : List UInt8 := dkwX4_absent_0 ++ dktX4_absent_1
theorem dksX4_absent_0 : cX4_absent.data.toList.drop 0 = dktX4_absent_0 := by decide +kernel
theorem dksX4_absent_1 : cX4_absent.data.toList.drop 22 = dktX4_absent_1 := dk_seg dksX4_absent_0 22 rfl rfl
theorem dksX4_absent_2 : cX4_absent.data.toList.drop 45 = dktX4_absent_2 := dk_seg dksX4_absent_1 23 rfl rfl
theorem dksX4_absent_3 : cX4_absent.data.toList.drop 67 = dktX4_absent_3 := dk_seg dksX4_absent_2 22 rfl rfl
theorem dksX4_absent_4 : cX4_absent.data.toList.drop 90 = dktX4_absent_4 := dk_seg dksX4_absent_3 23 rfl rfl
theorem dksX4_absent_5 : cX4_absent.data.toList.drop 114 = dktX4_absent_5 := dk_seg dksX4_absent_4 24 rfl rfl
theorem dksX4_absent_6 : cX4_absent.data.toList.drop 136 = dktX4_absent_6 := dk_seg dksX4_absent_5 22 rfl rfl
theorem dksX4_absent_7 : cX4_absent.data.toList.drop 160 = dktX4_absent_7 := dk_seg dksX4_absent_6 24 rfl rfl
theorem dksX4_absent_8 : cX4_absent.data.toList.drop 183 = dktX4_absent_8 := dk_seg dksX4_absent_7 23 rfl rfl
theorem dksX4_absent_9 : cX4_absent.data.toList.drop 206 = dktX4_absent_9 := dk_seg dksX4_absent_8 23 rfl rfl
theorem dksX4_absent_10 : cX4_absent.data.toList.drop 230 = dktX4_absent_10 := dk_seg dksX4_absent_9 24 rfl rfl
theorem dksX4_absent_11 : cX4_absent.data.toList.drop 253 = dktX4_absent_11 := dk_seg dksX4_absent_10 23 rfl rfl
theorem dksX4_absent_12 : cX4_absent.data.toList.drop 276 = dktX4_absent_12 := dk_seg dksX4_absent_11 23 rfl rfl
theorem dksX4_absent_13 : cX4_absent.data.toList.drop 299 = dktX4_absent_13 := dk_seg dksX4_absent_12 23 rfl rfl
theorem dX4_absent_0 : decode cX4_absent 0 = .ok (.aload_n 0, 1) := dk_42 (dk_at dksX4_absent_0 0 rfl rfl)
theorem dX4_absent_1 : decode cX4_absent 1 = .ok (.iload_n 1, 1) := dk_27 (dk_at dksX4_absent_0 1 rfl rfl)
theorem dX4_absent_2 : decode cX4_absent 2 = .ok (.invokevirtual 148, 3) := dk_182 0 148 (dk_at dksX4_absent_0 2 rfl rfl)
theorem dX4_absent_5 : decode cX4_absent 5 = .ok (.ifCond .eq 33, 3) := dk_153 0 33 (dk_at dksX4_absent_0 5 rfl rfl)
theorem dX4_absent_8 : decode cX4_absent 8 = .ok (.iload_n 2, 1) := dk_28 (dk_at dksX4_absent_0 8 rfl rfl)
theorem dX4_absent_9 : decode cX4_absent 9 = .ok (.iconst 0, 1) := dk_3 (dk_at dksX4_absent_0 9 rfl rfl)
theorem dX4_absent_10 : decode cX4_absent 10 = .ok (.bipush 60, 2) := dk_16 60 (dk_at dksX4_absent_0 10 rfl rfl)
theorem dX4_absent_12 : decode cX4_absent 12 = .ok (.invokestatic 50, 3) := dk_184 0 50 (dk_at dksX4_absent_0 12 rfl rfl)
theorem dX4_absent_15 : decode cX4_absent 15 = .ok (.ifCond .eq 23, 3) := dk_153 0 23 (dk_at dksX4_absent_0 15 rfl rfl)
theorem dX4_absent_18 : decode cX4_absent 18 = .ok (.iload_n 3, 1) := dk_29 (dk_at dksX4_absent_0 18 rfl rfl)
theorem dX4_absent_19 : decode cX4_absent 19 = .ok (.iconst 0, 1) := dk_3 (dk_at dksX4_absent_0 19 rfl rfl)
theorem dX4_absent_20 : decode cX4_absent 20 = .ok (.bipush 10, 2) := dk_16 10 (dk_at dksX4_absent_0 20 rfl rfl)
theorem dX4_absent_22 : decode cX4_absent 22 = .ok (.invokestatic 50, 3) := dk_184 0 50 (dk_at dksX4_absent_1 0 rfl rfl)
theorem dX4_absent_25 : decode cX4_absent 25 = .ok (.ifCond .eq 13, 3) := dk_153 0 13 (dk_at dksX4_absent_1 3 rfl rfl)
theorem dX4_absent_28 : decode cX4_absent 28 = .ok (.iload 4, 2) := dk_21 4 (dk_at dksX4_absent_1 6 rfl rfl)
theorem dX4_absent_30 : decode cX4_absent 30 = .ok (.iconst 0, 1) := dk_3 (dk_at dksX4_absent_1 8 rfl rfl)
theorem dX4_absent_31 : decode cX4_absent 31 = .ok (.iconst 1, 1) := dk_4 (dk_at dksX4_absent_1 9 rfl rfl)
theorem dX4_absent_32 : decode cX4_absent 32 = .ok (.invokestatic 50, 3) := dk_184 0 50 (dk_at dksX4_absent_1 10 rfl rfl)
theorem dX4_absent_35 : decode cX4_absent 35 = .ok (.ifCond .ne 6, 3) := dk_154 0 6 (dk_at dksX4_absent_1 13 rfl rfl)
theorem dX4_absent_38 : decode cX4_absent 38 = .ok (.ldc 65, 2) := dk_18 65 (dk_at dksX4_absent_1 16 rfl rfl)
theorem dX4_absent_40 : decode cX4_absent 40 = .ok (.ireturn, 1) := dk_172 (dk_at dksX4_absent_1 18 rfl rfl)
theorem dX4_absent_41 : decode cX4_absent 41 = .ok (.aload_n 0, 1) := dk_42 (dk_at dksX4_absent_1 19 rfl rfl)
theorem dX4_absent_42 : decode cX4_absent 42 = .ok (.invokevirtual 159, 3) := dk_182 0 159 (dk_at dksX4_absent_1 20 rfl rfl)
theorem dX4_absent_45 : decode cX4_absent 45 = .ok (.istore 5, 2) := dk_54 5 (dk_at dksX4_absent_2 0 rfl rfl)
theorem dX4_absent_47 : decode cX4_absent 47 = .ok (.iconst 0, 1) := dk_3 (dk_at dksX4_absent_2 2 rfl rfl)
theorem dX4_absent_48 : decode cX4_absent 48 = .ok (.istore 6, 2) := dk_54 6 (dk_at dksX4_absent_2 3 rfl rfl)
theorem dX4_absent_50 : decode cX4_absent 50 = .ok (.iconst 1, 1) := dk_4 (dk_at dksX4_absent_2 5 rfl rfl)
theorem dX4_absent_51 : decode cX4_absent 51 = .ok (.istore 7, 2) := dk_54 7 (dk_at dksX4_absent_2 6 rfl rfl)
theorem dX4_absent_53 : decode cX4_absent 53 = .ok (.iconst 0, 1) := dk_3 (dk_at dksX4_absent_2 8 rfl rfl)
theorem dX4_absent_54 : decode cX4_absent 54 = .ok (.istore 8, 2) := dk_54 8 (dk_at dksX4_absent_2 9 rfl rfl)
theorem dX4_absent_56 : decode cX4_absent 56 = .ok (.iload 8, 2) := dk_21 8 (dk_at dksX4_absent_2 11 rfl rfl)
theorem dX4_absent_58 : decode cX4_absent 58 = .ok (.iconst 1, 1) := dk_4 (dk_at dksX4_absent_2 13 rfl rfl)
theorem dX4_absent_59 : decode cX4_absent 59 = .ok (.aload_n 0, 1) := dk_42 (dk_at dksX4_absent_2 14 rfl rfl)
theorem dX4_absent_60 : decode cX4_absent 60 = .ok (.getfield 25, 3) := dk_180 0 25 (dk_at dksX4_absent_2 15 rfl rfl)
theorem dX4_absent_63 : decode cX4_absent 63 = .ok (.bipush 17, 2) := dk_16 17 (dk_at dksX4_absent_2 18 rfl rfl)
theorem dX4_absent_65 : decode cX4_absent 65 = .ok (.iaload, 1) := dk_46 (dk_at dksX4_absent_2 20 rfl rfl)
theorem dX4_absent_66 : decode cX4_absent 66 = .ok (.ishl, 1) := dk_120 (dk_at dksX4_absent_2 21 rfl rfl)
theorem dX4_absent_67 : decode cX4_absent 67 = .ok (.if_icmp .ge 152, 3) := dk_162 0 152 (dk_at dksX4_absent_3 0 rfl rfl)
theorem dX4_absent_70 : decode cX4_absent 70 = .ok (.iload 8, 2) := dk_21 8 (dk_at dksX4_absent_3 3 rfl rfl)
theorem dX4_absent_72 : decode cX4_absent 72 = .ok (.iload 5, 2) := dk_21 5 (dk_at dksX4_absent_3 5 rfl rfl)
theorem dX4_absent_74 : decode cX4_absent 74 = .ok (.iconst (-1), 1) := dk_2 (dk_at dksX4_absent_3 7 rfl rfl)
theorem dX4_absent_75 : decode cX4_absent 75 = .ok (.ixor, 1) := dk_130 (dk_at dksX4_absent_3 8 rfl rfl)
theorem dX4_absent_76 : decode cX4_absent 76 = .ok (.iand, 1) := dk_126 (dk_at dksX4_absent_3 9 rfl rfl)
theorem dX4_absent_77 : decode cX4_absent 77 = .ok (.ifCond .ne 136, 3) := dk_154 0 136 (dk_at dksX4_absent_3 10 rfl rfl)
theorem dX4_absent_80 : decode cX4_absent 80 = .ok (.aload_n 0, 1) := dk_42 (dk_at dksX4_absent_3 13 rfl rfl)
theorem dX4_absent_81 : decode cX4_absent 81 = .ok (.invokevirtual 151, 3) := dk_182 0 151 (dk_at dksX4_absent_3 14 rfl rfl)
theorem dX4_absent_84 : decode cX4_absent 84 = .ok (.iconst 1, 1) := dk_4 (dk_at dksX4_absent_3 17 rfl rfl)
theorem dX4_absent_85 : decode cX4_absent 85 = .ok (.istore 9, 2) := dk_54 9 (dk_at dksX4_absent_3 18 rfl rfl)
theorem dX4_absent_87 : decode cX4_absent 87 = .ok (.iconst 0, 1) := dk_3 (dk_at dksX4_absent_3 20 rfl rfl)
theorem dX4_absent_88 : decode cX4_absent 88 = .ok (.istore 10, 2) := dk_54 10 (dk_at dksX4_absent_3 21 rfl rfl)
theorem dX4_absent_90 : decode cX4_absent 90 = .ok (.iload 10, 2) := dk_21 10 (dk_at dksX4_absent_4 0 rfl rfl)
theorem dX4_absent_92 : decode cX4_absent 92 = .ok (.aload_n 0, 1) := dk_42 (dk_at dksX4_absent_4 2 rfl rfl)
theorem dX4_absent_93 : decode cX4_absent 93 = .ok (.getfield 25, 3) := dk_180 0 25 (dk_at dksX4_absent_4 3 rfl rfl)
theorem dX4_absent_96 : decode cX4_absent 96 = .ok (.bipush 17, 2) := dk_16 17 (dk_at dksX4_absent_4 6 rfl rfl)
theorem dX4_absent_98 : decode cX4_absent 98 = .ok (.iaload, 1) := dk_46 (dk_at dksX4_absent_4 8 rfl rfl)
theorem dX4_absent_99 : decode cX4_absent 99 = .ok (.if_icmp .ge 67, 3) := dk_162 0 67 (dk_at dksX4_absent_4 9 rfl rfl)
theorem dX4_absent_102 : decode cX4_absent 102 = .ok (.iload 5, 2) := dk_21 5 (dk_at dksX4_absent_4 12 rfl rfl)
theorem dX4_absent_104 : decode cX4_absent 104 = .ok (.iload 10, 2) := dk_21 10 (dk_at dksX4_absent_4 14 rfl rfl)
theorem dX4_absent_106 : decode cX4_absent 106 = .ok (.invokestatic 162, 3) := dk_184 0 162 (dk_at dksX4_absent_4 16 rfl rfl)
theorem dX4_absent_109 : decode cX4_absent 109 = .ok (.ifCond .eq 51, 3) := dk_153 0 51 (dk_at dksX4_absent_4 19 rfl rfl)
theorem dX4_absent_112 : decode cX4_absent 112 = .ok (.iload 9, 2) := dk_21 9 (dk_at dksX4_absent_4 22 rfl rfl)
theorem dX4_absent_114 : decode cX4_absent 114 = .ok (.iload 8, 2) := dk_21 8 (dk_at dksX4_absent_5 0 rfl rfl)
theorem dX4_absent_116 : decode cX4_absent 116 = .ok (.iload 10, 2) := dk_21 10 (dk_at dksX4_absent_5 2 rfl rfl)
theorem dX4_absent_118 : decode cX4_absent 118 = .ok (.invokestatic 162, 3) := dk_184 0 162 (dk_at dksX4_absent_5 4 rfl rfl)
theorem dX4_absent_121 : decode cX4_absent 121 = .ok (.ifCond .eq 7, 3) := dk_153 0 7 (dk_at dksX4_absent_5 7 rfl rfl)
theorem dX4_absent_124 : decode cX4_absent 124 = .ok (.iload_n 3, 1) := dk_29 (dk_at dksX4_absent_5 10 rfl rfl)
theorem dX4_absent_125 : decode cX4_absent 125 = .ok (.goto 7, 3) := dk_167 0 7 (dk_at dksX4_absent_5 11 rfl rfl)
theorem dX4_absent_128 : decode cX4_absent 128 = .ok (.bipush 10, 2) := dk_16 10 (dk_at dksX4_absent_5 14 rfl rfl)
theorem dX4_absent_130 : decode cX4_absent 130 = .ok (.iload_n 3, 1) := dk_29 (dk_at dksX4_absent_5 16 rfl rfl)
theorem dX4_absent_131 : decode cX4_absent 131 = .ok (.isub, 1) := dk_100 (dk_at dksX4_absent_5 17 rfl rfl)
theorem dX4_absent_132 : decode cX4_absent 132 = .ok (.imul, 1) := dk_104 (dk_at dksX4_absent_5 18 rfl rfl)
theorem dX4_absent_133 : decode cX4_absent 133 = .ok (.istore 9, 2) := dk_54 9 (dk_at dksX4_absent_5 19 rfl rfl)
theorem dX4_absent_135 : decode cX4_absent 135 = .ok (.aload_n 0, 1) := dk_42 (dk_at dksX4_absent_5 21 rfl rfl)
theorem dX4_absent_136 : decode cX4_absent 136 = .ok (.getfield 41, 3) := dk_180 0 41 (dk_at dksX4_absent_6 0 rfl rfl)
theorem dX4_absent_139 : decode cX4_absent 139 = .ok (.iconst 2, 1) := dk_5 (dk_at dksX4_absent_6 3 rfl rfl)
theorem dX4_absent_140 : decode cX4_absent 140 = .ok (.iload 10, 2) := dk_21 10 (dk_at dksX4_absent_6 4 rfl rfl)
theorem dX4_absent_142 : decode cX4_absent 142 = .ok (.iadd, 1) := dk_96 (dk_at dksX4_absent_6 6 rfl rfl)
theorem dX4_absent_143 : decode cX4_absent 143 = .ok (.iload 8, 2) := dk_21 8 (dk_at dksX4_absent_6 7 rfl rfl)
theorem dX4_absent_145 : decode cX4_absent 145 = .ok (.iload 10, 2) := dk_21 10 (dk_at dksX4_absent_6 9 rfl rfl)
theorem dX4_absent_147 : decode cX4_absent 147 = .ok (.invokestatic 162, 3) := dk_184 0 162 (dk_at dksX4_absent_6 11 rfl rfl)
theorem dX4_absent_150 : decode cX4_absent 150 = .ok (.ifCond .eq 8, 3) := dk_153 0 8 (dk_at dksX4_absent_6 14 rfl rfl)
theorem dX4_absent_153 : decode cX4_absent 153 = .ok (.bipush 99, 2) := dk_16 99 (dk_at dksX4_absent_6 17 rfl rfl)
theorem dX4_absent_155 : decode cX4_absent 155 = .ok (.goto 4, 3) := dk_167 0 4 (dk_at dksX4_absent_6 19 rfl rfl)
theorem dX4_absent_158 : decode cX4_absent 158 = .ok (.iconst (-1), 1) := dk_2 (dk_at dksX4_absent_6 22 rfl rfl)
theorem dX4_absent_159 : decode cX4_absent 159 = .ok (.iastore, 1) := dk_79 (dk_at dksX4_absent_6 23 rfl rfl)
theorem dX4_absent_160 : decode cX4_absent 160 = .ok (.iinc 10 1, 3) := dk_132 10 1 (dk_at dksX4_absent_7 0 rfl rfl)
theorem dX4_absent_163 : decode cX4_absent 163 = .ok (.goto (-73), 3) := dk_167 255 183 (dk_at dksX4_absent_7 3 rfl rfl)
theorem dX4_absent_166 : decode cX4_absent 166 = .ok (.iconst 0, 1) := dk_3 (dk_at dksX4_absent_7 6 rfl rfl)
theorem dX4_absent_167 : decode cX4_absent 167 = .ok (.istore 10, 2) := dk_54 10 (dk_at dksX4_absent_7 7 rfl rfl)
theorem dX4_absent_169 : decode cX4_absent 169 = .ok (.iload 10, 2) := dk_21 10 (dk_at dksX4_absent_7 9 rfl rfl)
theorem dX4_absent_171 : decode cX4_absent 171 = .ok (.iload_n 2, 1) := dk_28 (dk_at dksX4_absent_7 11 rfl rfl)
theorem dX4_absent_172 : decode cX4_absent 172 = .ok (.if_icmp .ge 17, 3) := dk_162 0 17 (dk_at dksX4_absent_7 12 rfl rfl)
theorem dX4_absent_175 : decode cX4_absent 175 = .ok (.aload_n 0, 1) := dk_42 (dk_at dksX4_absent_7 15 rfl rfl)
theorem dX4_absent_176 : decode cX4_absent 176 = .ok (.aload_n 0, 1) := dk_42 (dk_at dksX4_absent_7 16 rfl rfl)
theorem dX4_absent_177 : decode cX4_absent 177 = .ok (.getfield 41, 3) := dk_180 0 41 (dk_at dksX4_absent_7 17 rfl rfl)
theorem dX4_absent_180 : decode cX4_absent 180 = .ok (.invokevirtual 140, 3) := dk_182 0 140 (dk_at dksX4_absent_7 20 rfl rfl)
theorem dX4_absent_183 : decode cX4_absent 183 = .ok (.iinc 10 1, 3) := dk_132 10 1 (dk_at dksX4_absent_8 0 rfl rfl)
theorem dX4_absent_186 : decode cX4_absent 186 = .ok (.goto (-17), 3) := dk_167 255 239 (dk_at dksX4_absent_8 3 rfl rfl)
theorem dX4_absent_189 : decode cX4_absent 189 = .ok (.iload 6, 2) := dk_21 6 (dk_at dksX4_absent_8 6 rfl rfl)
theorem dX4_absent_191 : decode cX4_absent 191 = .ok (.aload_n 0, 1) := dk_42 (dk_at dksX4_absent_8 8 rfl rfl)
theorem dX4_absent_192 : decode cX4_absent 192 = .ok (.getfield 41, 3) := dk_180 0 41 (dk_at dksX4_absent_8 9 rfl rfl)
theorem dX4_absent_195 : decode cX4_absent 195 = .ok (.iconst 2, 1) := dk_5 (dk_at dksX4_absent_8 12 rfl rfl)
theorem dX4_absent_196 : decode cX4_absent 196 = .ok (.iload_n 1, 1) := dk_27 (dk_at dksX4_absent_8 13 rfl rfl)
theorem dX4_absent_197 : decode cX4_absent 197 = .ok (.iadd, 1) := dk_96 (dk_at dksX4_absent_8 14 rfl rfl)
theorem dX4_absent_198 : decode cX4_absent 198 = .ok (.iaload, 1) := dk_46 (dk_at dksX4_absent_8 15 rfl rfl)
theorem dX4_absent_199 : decode cX4_absent 199 = .ok (.bipush 99, 2) := dk_16 99 (dk_at dksX4_absent_8 16 rfl rfl)
theorem dX4_absent_201 : decode cX4_absent 201 = .ok (.if_icmp .ne 8, 3) := dk_160 0 8 (dk_at dksX4_absent_8 18 rfl rfl)
theorem dX4_absent_204 : decode cX4_absent 204 = .ok (.iload 9, 2) := dk_21 9 (dk_at dksX4_absent_8 21 rfl rfl)
theorem dX4_absent_206 : decode cX4_absent 206 = .ok (.goto 4, 3) := dk_167 0 4 (dk_at dksX4_absent_9 0 rfl rfl)
theorem dX4_absent_209 : decode cX4_absent 209 = .ok (.iconst 0, 1) := dk_3 (dk_at dksX4_absent_9 3 rfl rfl)
theorem dX4_absent_210 : decode cX4_absent 210 = .ok (.iadd, 1) := dk_96 (dk_at dksX4_absent_9 4 rfl rfl)
theorem dX4_absent_211 : decode cX4_absent 211 = .ok (.istore 6, 2) := dk_54 6 (dk_at dksX4_absent_9 5 rfl rfl)
theorem dX4_absent_213 : decode cX4_absent 213 = .ok (.iinc 8 1, 3) := dk_132 8 1 (dk_at dksX4_absent_9 7 rfl rfl)
theorem dX4_absent_216 : decode cX4_absent 216 = .ok (.goto (-160), 3) := dk_167 255 96 (dk_at dksX4_absent_9 10 rfl rfl)
theorem dX4_absent_219 : decode cX4_absent 219 = .ok (.iconst 0, 1) := dk_3 (dk_at dksX4_absent_9 13 rfl rfl)
theorem dX4_absent_220 : decode cX4_absent 220 = .ok (.istore 8, 2) := dk_54 8 (dk_at dksX4_absent_9 14 rfl rfl)
theorem dX4_absent_222 : decode cX4_absent 222 = .ok (.iload 8, 2) := dk_21 8 (dk_at dksX4_absent_9 16 rfl rfl)
theorem dX4_absent_224 : decode cX4_absent 224 = .ok (.aload_n 0, 1) := dk_42 (dk_at dksX4_absent_9 18 rfl rfl)
theorem dX4_absent_225 : decode cX4_absent 225 = .ok (.getfield 25, 3) := dk_180 0 25 (dk_at dksX4_absent_9 19 rfl rfl)
theorem dX4_absent_228 : decode cX4_absent 228 = .ok (.bipush 17, 2) := dk_16 17 (dk_at dksX4_absent_9 22 rfl rfl)
theorem dX4_absent_230 : decode cX4_absent 230 = .ok (.iaload, 1) := dk_46 (dk_at dksX4_absent_10 0 rfl rfl)
theorem dX4_absent_231 : decode cX4_absent 231 = .ok (.if_icmp .ge 30, 3) := dk_162 0 30 (dk_at dksX4_absent_10 1 rfl rfl)
theorem dX4_absent_234 : decode cX4_absent 234 = .ok (.iload 7, 2) := dk_21 7 (dk_at dksX4_absent_10 4 rfl rfl)
theorem dX4_absent_236 : decode cX4_absent 236 = .ok (.iload 5, 2) := dk_21 5 (dk_at dksX4_absent_10 6 rfl rfl)
theorem dX4_absent_238 : decode cX4_absent 238 = .ok (.iload 8, 2) := dk_21 8 (dk_at dksX4_absent_10 8 rfl rfl)
theorem dX4_absent_240 : decode cX4_absent 240 = .ok (.invokestatic 162, 3) := dk_184 0 162 (dk_at dksX4_absent_10 10 rfl rfl)
theorem dX4_absent_243 : decode cX4_absent 243 = .ok (.ifCond .eq 8, 3) := dk_153 0 8 (dk_at dksX4_absent_10 13 rfl rfl)
theorem dX4_absent_246 : decode cX4_absent 246 = .ok (.bipush 10, 2) := dk_16 10 (dk_at dksX4_absent_10 16 rfl rfl)
theorem dX4_absent_248 : decode cX4_absent 248 = .ok (.goto 4, 3) := dk_167 0 4 (dk_at dksX4_absent_10 18 rfl rfl)
theorem dX4_absent_251 : decode cX4_absent 251 = .ok (.iconst 1, 1) := dk_4 (dk_at dksX4_absent_10 21 rfl rfl)
theorem dX4_absent_252 : decode cX4_absent 252 = .ok (.imul, 1) := dk_104 (dk_at dksX4_absent_10 22 rfl rfl)
theorem dX4_absent_253 : decode cX4_absent 253 = .ok (.istore 7, 2) := dk_54 7 (dk_at dksX4_absent_11 0 rfl rfl)
theorem dX4_absent_255 : decode cX4_absent 255 = .ok (.iinc 8 1, 3) := dk_132 8 1 (dk_at dksX4_absent_11 2 rfl rfl)
theorem dX4_absent_258 : decode cX4_absent 258 = .ok (.goto (-36), 3) := dk_167 255 220 (dk_at dksX4_absent_11 5 rfl rfl)
theorem dX4_absent_261 : decode cX4_absent 261 = .ok (.iload 6, 2) := dk_21 6 (dk_at dksX4_absent_11 8 rfl rfl)
theorem dX4_absent_263 : decode cX4_absent 263 = .ok (.istore 8, 2) := dk_54 8 (dk_at dksX4_absent_11 10 rfl rfl)
theorem dX4_absent_265 : decode cX4_absent 265 = .ok (.iload 7, 2) := dk_21 7 (dk_at dksX4_absent_11 12 rfl rfl)
theorem dX4_absent_267 : decode cX4_absent 267 = .ok (.istore 9, 2) := dk_54 9 (dk_at dksX4_absent_11 14 rfl rfl)
theorem dX4_absent_269 : decode cX4_absent 269 = .ok (.iload 9, 2) := dk_21 9 (dk_at dksX4_absent_11 16 rfl rfl)
theorem dX4_absent_271 : decode cX4_absent 271 = .ok (.ifCond .le 21, 3) := dk_158 0 21 (dk_at dksX4_absent_11 18 rfl rfl)
theorem dX4_absent_274 : decode cX4_absent 274 = .ok (.iload 8, 2) := dk_21 8 (dk_at dksX4_absent_11 21 rfl rfl)
theorem dX4_absent_276 : decode cX4_absent 276 = .ok (.iload 9, 2) := dk_21 9 (dk_at dksX4_absent_12 0 rfl rfl)
theorem dX4_absent_278 : decode cX4_absent 278 = .ok (.irem, 1) := dk_112 (dk_at dksX4_absent_12 2 rfl rfl)
theorem dX4_absent_279 : decode cX4_absent 279 = .ok (.istore 10, 2) := dk_54 10 (dk_at dksX4_absent_12 3 rfl rfl)
theorem dX4_absent_281 : decode cX4_absent 281 = .ok (.iload 9, 2) := dk_21 9 (dk_at dksX4_absent_12 5 rfl rfl)
theorem dX4_absent_283 : decode cX4_absent 283 = .ok (.istore 8, 2) := dk_54 8 (dk_at dksX4_absent_12 7 rfl rfl)
theorem dX4_absent_285 : decode cX4_absent 285 = .ok (.iload 10, 2) := dk_21 10 (dk_at dksX4_absent_12 9 rfl rfl)
theorem dX4_absent_287 : decode cX4_absent 287 = .ok (.istore 9, 2) := dk_54 9 (dk_at dksX4_absent_12 11 rfl rfl)
theorem dX4_absent_289 : decode cX4_absent 289 = .ok (.goto (-20), 3) := dk_167 255 236 (dk_at dksX4_absent_12 13 rfl rfl)
theorem dX4_absent_292 : decode cX4_absent 292 = .ok (.iload 4, 2) := dk_21 4 (dk_at dksX4_absent_12 16 rfl rfl)
theorem dX4_absent_294 : decode cX4_absent 294 = .ok (.ifCond .ne 11, 3) := dk_154 0 11 (dk_at dksX4_absent_12 18 rfl rfl)
theorem dX4_absent_297 : decode cX4_absent 297 = .ok (.iload 6, 2) := dk_21 6 (dk_at dksX4_absent_12 21 rfl rfl)
theorem dX4_absent_299 : decode cX4_absent 299 = .ok (.iload 8, 2) := dk_21 8 (dk_at dksX4_absent_13 0 rfl rfl)
theorem dX4_absent_301 : decode cX4_absent 301 = .ok (.idiv, 1) := dk_108 (dk_at dksX4_absent_13 2 rfl rfl)
theorem dX4_absent_302 : decode cX4_absent 302 = .ok (.goto 8, 3) := dk_167 0 8 (dk_at dksX4_absent_13 3 rfl rfl)
theorem dX4_absent_305 : decode cX4_absent 305 = .ok (.iload 7, 2) := dk_21 7 (dk_at dksX4_absent_13 6 rfl rfl)
theorem dX4_absent_307 : decode cX4_absent 307 = .ok (.iload 8, 2) := dk_21 8 (dk_at dksX4_absent_13 8 rfl rfl)
theorem dX4_absent_309 : decode cX4_absent 309 = .ok (.idiv, 1) := dk_108 (dk_at dksX4_absent_13 10 rfl rfl)
theorem dX4_absent_310 : decode cX4_absent 310 = .ok (.ireturn, 1) := dk_172 (dk_at dksX4_absent_13 11 rfl rfl)
abbrev cX4_drawn : ByteArray := prog_22_method_53_code
def yX4_drawn : MethodName := ⟨RX4, "drawn", "(III)I"⟩
def dkwX4_drawn_9 : List UInt8 := [184, 0, 144, 172]
abbrev dktX4_drawn_9 : List UInt8 := dkwX4_drawn_9 ++ []
def dkwX4_drawn_8 : List UInt8 := [100, 96, 54, 6, 132, 7, 1, 167, 255, 115, 29, 154, 0, 8, 21, 6, 167, 0, 10, 42, 180, 0, 41]
abbrev dktX4_drawn_8 : List UInt8 := dkwX4_drawn_8 ++ dktX4_drawn_9
def dkwX4_drawn_7 : List UInt8 := [184, 0, 144, 54, 9, 42, 42, 180, 0, 41, 182, 0, 140, 21, 6, 42, 180, 0, 41, 184, 0, 144, 21, 9]
abbrev dktX4_drawn_7 : List UInt8 := dkwX4_drawn_7 ++ dktX4_drawn_8
def dkwX4_drawn_6 : List UInt8 := [2, 79, 42, 180, 0, 41, 16, 9, 21, 8, 96, 22, 4, 20, 0, 178, 113, 136, 79, 42, 180, 0, 41]
abbrev dktX4_drawn_6 : List UInt8 := dkwX4_drawn_6 ++ dktX4_drawn_7
def dkwX4_drawn_5 : List UInt8 := [54, 8, 42, 180, 0, 41, 5, 21, 8, 96, 46, 16, 99, 160, 0, 30, 42, 180, 0, 41, 5, 21, 8, 96]
abbrev dktX4_drawn_5 : List UInt8 := dkwX4_drawn_5 ++ dktX4_drawn_6
def dkwX4_drawn_4 : List UInt8 := [136, 167, 0, 9, 42, 180, 0, 41, 4, 46, 79, 22, 4, 42, 180, 0, 41, 16, 17, 46, 133, 113, 136]
abbrev dktX4_drawn_4 : List UInt8 := dkwX4_drawn_4 ++ dktX4_drawn_5
def dkwX4_drawn_3 : List UInt8 := [55, 4, 42, 180, 0, 41, 4, 22, 4, 20, 0, 174, 113, 9, 148, 154, 0, 13, 22, 4, 20, 0, 176, 113]
abbrev dktX4_drawn_3 : List UInt8 := dkwX4_drawn_3 ++ dktX4_drawn_4
def dkwX4_drawn_2 : List UInt8 := [55, 4, 3, 54, 6, 3, 54, 7, 21, 7, 27, 162, 0, 141, 22, 4, 20, 0, 170, 105, 20, 0, 172, 113]
abbrev dktX4_drawn_2 : List UInt8 := dkwX4_drawn_2 ++ dktX4_drawn_3
def dkwX4_drawn_1 : List UInt8 := [184, 0, 50, 153, 0, 12, 29, 3, 4, 184, 0, 50, 154, 0, 6, 18, 65, 172, 42, 182, 0, 151, 28, 133]
abbrev dktX4_drawn_1 : List UInt8 := dkwX4_drawn_1 ++ dktX4_drawn_2
def dkwX4_drawn_0 : List UInt8 := [42, 182, 0, 133, 154, 0, 6, 18, 136, 172, 27, 3, 16, 60, 184, 0, 50, 153, 0, 22, 28, 4, 18, 169]
abbrev dktX4_drawn_0 : List UInt8 := dkwX4_drawn_0 ++ dktX4_drawn_1
theorem dksX4_drawn_0 : cX4_drawn.data.toList.drop 0 = dktX4_drawn_0 := by decide +kernel
theorem dksX4_drawn_1 : cX4_drawn.data.toList.drop 24 = dktX4_drawn_1 := dk_seg dksX4_drawn_0 24 rfl rfl
theorem dksX4_drawn_2 : cX4_drawn.data.toList.drop 48 = dktX4_drawn_2 := dk_seg dksX4_drawn_1 24 rfl rfl
theorem dksX4_drawn_3 : cX4_drawn.data.toList.drop 72 = dktX4_drawn_3 := dk_seg dksX4_drawn_2 24 rfl rfl
theorem dksX4_drawn_4 : cX4_drawn.data.toList.drop 96 = dktX4_drawn_4 := dk_seg dksX4_drawn_3 24 rfl rfl
theorem dksX4_drawn_5 : cX4_drawn.data.toList.drop 119 = dktX4_drawn_5 := dk_seg dksX4_drawn_4 23 rfl rfl
theorem dksX4_drawn_6 : cX4_drawn.data.toList.drop 143 = dktX4_drawn_6 := dk_seg dksX4_drawn_5 24 rfl rfl
theorem dksX4_drawn_7 : cX4_drawn.data.toList.drop 166 = dktX4_drawn_7 := dk_seg dksX4_drawn_6 23 rfl rfl
theorem dksX4_drawn_8 : cX4_drawn.data.toList.drop 190 = dktX4_drawn_8 := dk_seg dksX4_drawn_7 24 rfl rfl
theorem dksX4_drawn_9 : cX4_drawn.data.toList.drop 213 = dktX4_drawn_9 := dk_seg dksX4_drawn_8 23 rfl rfl
theorem dX4_drawn_0 : decode cX4_drawn 0 = .ok (.aload_n 0, 1) := dk_42 (dk_at dksX4_drawn_0 0 rfl rfl)
theorem dX4_drawn_1 : decode cX4_drawn 1 = .ok (.invokevirtual 133, 3) := dk_182 0 133 (dk_at dksX4_drawn_0 1 rfl rfl)
theorem dX4_drawn_4 : decode cX4_drawn 4 = .ok (.ifCond .ne 6, 3) := dk_154 0 6 (dk_at dksX4_drawn_0 4 rfl rfl)
theorem dX4_drawn_7 : decode cX4_drawn 7 = .ok (.ldc 136, 2) := dk_18 136 (dk_at dksX4_drawn_0 7 rfl rfl)
theorem dX4_drawn_9 : decode cX4_drawn 9 = .ok (.ireturn, 1) := dk_172 (dk_at dksX4_drawn_0 9 rfl rfl)
theorem dX4_drawn_10 : decode cX4_drawn 10 = .ok (.iload_n 1, 1) := dk_27 (dk_at dksX4_drawn_0 10 rfl rfl)
theorem dX4_drawn_11 : decode cX4_drawn 11 = .ok (.iconst 0, 1) := dk_3 (dk_at dksX4_drawn_0 11 rfl rfl)
theorem dX4_drawn_12 : decode cX4_drawn 12 = .ok (.bipush 60, 2) := dk_16 60 (dk_at dksX4_drawn_0 12 rfl rfl)
theorem dX4_drawn_14 : decode cX4_drawn 14 = .ok (.invokestatic 50, 3) := dk_184 0 50 (dk_at dksX4_drawn_0 14 rfl rfl)
theorem dX4_drawn_17 : decode cX4_drawn 17 = .ok (.ifCond .eq 22, 3) := dk_153 0 22 (dk_at dksX4_drawn_0 17 rfl rfl)
theorem dX4_drawn_20 : decode cX4_drawn 20 = .ok (.iload_n 2, 1) := dk_28 (dk_at dksX4_drawn_0 20 rfl rfl)
theorem dX4_drawn_21 : decode cX4_drawn 21 = .ok (.iconst 1, 1) := dk_4 (dk_at dksX4_drawn_0 21 rfl rfl)
theorem dX4_drawn_22 : decode cX4_drawn 22 = .ok (.ldc 169, 2) := dk_18 169 (dk_at dksX4_drawn_0 22 rfl rfl)
theorem dX4_drawn_24 : decode cX4_drawn 24 = .ok (.invokestatic 50, 3) := dk_184 0 50 (dk_at dksX4_drawn_1 0 rfl rfl)
theorem dX4_drawn_27 : decode cX4_drawn 27 = .ok (.ifCond .eq 12, 3) := dk_153 0 12 (dk_at dksX4_drawn_1 3 rfl rfl)
theorem dX4_drawn_30 : decode cX4_drawn 30 = .ok (.iload_n 3, 1) := dk_29 (dk_at dksX4_drawn_1 6 rfl rfl)
theorem dX4_drawn_31 : decode cX4_drawn 31 = .ok (.iconst 0, 1) := dk_3 (dk_at dksX4_drawn_1 7 rfl rfl)
theorem dX4_drawn_32 : decode cX4_drawn 32 = .ok (.iconst 1, 1) := dk_4 (dk_at dksX4_drawn_1 8 rfl rfl)
theorem dX4_drawn_33 : decode cX4_drawn 33 = .ok (.invokestatic 50, 3) := dk_184 0 50 (dk_at dksX4_drawn_1 9 rfl rfl)
theorem dX4_drawn_36 : decode cX4_drawn 36 = .ok (.ifCond .ne 6, 3) := dk_154 0 6 (dk_at dksX4_drawn_1 12 rfl rfl)
theorem dX4_drawn_39 : decode cX4_drawn 39 = .ok (.ldc 65, 2) := dk_18 65 (dk_at dksX4_drawn_1 15 rfl rfl)
theorem dX4_drawn_41 : decode cX4_drawn 41 = .ok (.ireturn, 1) := dk_172 (dk_at dksX4_drawn_1 17 rfl rfl)
theorem dX4_drawn_42 : decode cX4_drawn 42 = .ok (.aload_n 0, 1) := dk_42 (dk_at dksX4_drawn_1 18 rfl rfl)
theorem dX4_drawn_43 : decode cX4_drawn 43 = .ok (.invokevirtual 151, 3) := dk_182 0 151 (dk_at dksX4_drawn_1 19 rfl rfl)
theorem dX4_drawn_46 : decode cX4_drawn 46 = .ok (.iload_n 2, 1) := dk_28 (dk_at dksX4_drawn_1 22 rfl rfl)
theorem dX4_drawn_47 : decode cX4_drawn 47 = .ok (.i2l, 1) := dk_133 (dk_at dksX4_drawn_1 23 rfl rfl)
theorem dX4_drawn_48 : decode cX4_drawn 48 = .ok (.lstore 4, 2) := dk_55 4 (dk_at dksX4_drawn_2 0 rfl rfl)
theorem dX4_drawn_50 : decode cX4_drawn 50 = .ok (.iconst 0, 1) := dk_3 (dk_at dksX4_drawn_2 2 rfl rfl)
theorem dX4_drawn_51 : decode cX4_drawn 51 = .ok (.istore 6, 2) := dk_54 6 (dk_at dksX4_drawn_2 3 rfl rfl)
theorem dX4_drawn_53 : decode cX4_drawn 53 = .ok (.iconst 0, 1) := dk_3 (dk_at dksX4_drawn_2 5 rfl rfl)
theorem dX4_drawn_54 : decode cX4_drawn 54 = .ok (.istore 7, 2) := dk_54 7 (dk_at dksX4_drawn_2 6 rfl rfl)
theorem dX4_drawn_56 : decode cX4_drawn 56 = .ok (.iload 7, 2) := dk_21 7 (dk_at dksX4_drawn_2 8 rfl rfl)
theorem dX4_drawn_58 : decode cX4_drawn 58 = .ok (.iload_n 1, 1) := dk_27 (dk_at dksX4_drawn_2 10 rfl rfl)
theorem dX4_drawn_59 : decode cX4_drawn 59 = .ok (.if_icmp .ge 141, 3) := dk_162 0 141 (dk_at dksX4_drawn_2 11 rfl rfl)
theorem dX4_drawn_62 : decode cX4_drawn 62 = .ok (.lload 4, 2) := dk_22 4 (dk_at dksX4_drawn_2 14 rfl rfl)
theorem dX4_drawn_64 : decode cX4_drawn 64 = .ok (.ldc2_w 170, 3) := dk_20 0 170 (dk_at dksX4_drawn_2 16 rfl rfl)
theorem dX4_drawn_67 : decode cX4_drawn 67 = .ok (.lmul, 1) := dk_105 (dk_at dksX4_drawn_2 19 rfl rfl)
theorem dX4_drawn_68 : decode cX4_drawn 68 = .ok (.ldc2_w 172, 3) := dk_20 0 172 (dk_at dksX4_drawn_2 20 rfl rfl)
theorem dX4_drawn_71 : decode cX4_drawn 71 = .ok (.lrem, 1) := dk_113 (dk_at dksX4_drawn_2 23 rfl rfl)
theorem dX4_drawn_72 : decode cX4_drawn 72 = .ok (.lstore 4, 2) := dk_55 4 (dk_at dksX4_drawn_3 0 rfl rfl)
theorem dX4_drawn_74 : decode cX4_drawn 74 = .ok (.aload_n 0, 1) := dk_42 (dk_at dksX4_drawn_3 2 rfl rfl)
theorem dX4_drawn_75 : decode cX4_drawn 75 = .ok (.getfield 41, 3) := dk_180 0 41 (dk_at dksX4_drawn_3 3 rfl rfl)
theorem dX4_drawn_78 : decode cX4_drawn 78 = .ok (.iconst 1, 1) := dk_4 (dk_at dksX4_drawn_3 6 rfl rfl)
theorem dX4_drawn_79 : decode cX4_drawn 79 = .ok (.lload 4, 2) := dk_22 4 (dk_at dksX4_drawn_3 7 rfl rfl)
theorem dX4_drawn_81 : decode cX4_drawn 81 = .ok (.ldc2_w 174, 3) := dk_20 0 174 (dk_at dksX4_drawn_3 9 rfl rfl)
theorem dX4_drawn_84 : decode cX4_drawn 84 = .ok (.lrem, 1) := dk_113 (dk_at dksX4_drawn_3 12 rfl rfl)
theorem dX4_drawn_85 : decode cX4_drawn 85 = .ok (.lconst 0, 1) := dk_9 (dk_at dksX4_drawn_3 13 rfl rfl)
theorem dX4_drawn_86 : decode cX4_drawn 86 = .ok (.lcmp, 1) := dk_148 (dk_at dksX4_drawn_3 14 rfl rfl)
theorem dX4_drawn_87 : decode cX4_drawn 87 = .ok (.ifCond .ne 13, 3) := dk_154 0 13 (dk_at dksX4_drawn_3 15 rfl rfl)
theorem dX4_drawn_90 : decode cX4_drawn 90 = .ok (.lload 4, 2) := dk_22 4 (dk_at dksX4_drawn_3 18 rfl rfl)
theorem dX4_drawn_92 : decode cX4_drawn 92 = .ok (.ldc2_w 176, 3) := dk_20 0 176 (dk_at dksX4_drawn_3 20 rfl rfl)
theorem dX4_drawn_95 : decode cX4_drawn 95 = .ok (.lrem, 1) := dk_113 (dk_at dksX4_drawn_3 23 rfl rfl)
theorem dX4_drawn_96 : decode cX4_drawn 96 = .ok (.l2i, 1) := dk_136 (dk_at dksX4_drawn_4 0 rfl rfl)
theorem dX4_drawn_97 : decode cX4_drawn 97 = .ok (.goto 9, 3) := dk_167 0 9 (dk_at dksX4_drawn_4 1 rfl rfl)
theorem dX4_drawn_100 : decode cX4_drawn 100 = .ok (.aload_n 0, 1) := dk_42 (dk_at dksX4_drawn_4 4 rfl rfl)
theorem dX4_drawn_101 : decode cX4_drawn 101 = .ok (.getfield 41, 3) := dk_180 0 41 (dk_at dksX4_drawn_4 5 rfl rfl)
theorem dX4_drawn_104 : decode cX4_drawn 104 = .ok (.iconst 1, 1) := dk_4 (dk_at dksX4_drawn_4 8 rfl rfl)
theorem dX4_drawn_105 : decode cX4_drawn 105 = .ok (.iaload, 1) := dk_46 (dk_at dksX4_drawn_4 9 rfl rfl)
theorem dX4_drawn_106 : decode cX4_drawn 106 = .ok (.iastore, 1) := dk_79 (dk_at dksX4_drawn_4 10 rfl rfl)
theorem dX4_drawn_107 : decode cX4_drawn 107 = .ok (.lload 4, 2) := dk_22 4 (dk_at dksX4_drawn_4 11 rfl rfl)
theorem dX4_drawn_109 : decode cX4_drawn 109 = .ok (.aload_n 0, 1) := dk_42 (dk_at dksX4_drawn_4 13 rfl rfl)
theorem dX4_drawn_110 : decode cX4_drawn 110 = .ok (.getfield 41, 3) := dk_180 0 41 (dk_at dksX4_drawn_4 14 rfl rfl)
theorem dX4_drawn_113 : decode cX4_drawn 113 = .ok (.bipush 17, 2) := dk_16 17 (dk_at dksX4_drawn_4 17 rfl rfl)
theorem dX4_drawn_115 : decode cX4_drawn 115 = .ok (.iaload, 1) := dk_46 (dk_at dksX4_drawn_4 19 rfl rfl)
theorem dX4_drawn_116 : decode cX4_drawn 116 = .ok (.i2l, 1) := dk_133 (dk_at dksX4_drawn_4 20 rfl rfl)
theorem dX4_drawn_117 : decode cX4_drawn 117 = .ok (.lrem, 1) := dk_113 (dk_at dksX4_drawn_4 21 rfl rfl)
theorem dX4_drawn_118 : decode cX4_drawn 118 = .ok (.l2i, 1) := dk_136 (dk_at dksX4_drawn_4 22 rfl rfl)
theorem dX4_drawn_119 : decode cX4_drawn 119 = .ok (.istore 8, 2) := dk_54 8 (dk_at dksX4_drawn_5 0 rfl rfl)
theorem dX4_drawn_121 : decode cX4_drawn 121 = .ok (.aload_n 0, 1) := dk_42 (dk_at dksX4_drawn_5 2 rfl rfl)
theorem dX4_drawn_122 : decode cX4_drawn 122 = .ok (.getfield 41, 3) := dk_180 0 41 (dk_at dksX4_drawn_5 3 rfl rfl)
theorem dX4_drawn_125 : decode cX4_drawn 125 = .ok (.iconst 2, 1) := dk_5 (dk_at dksX4_drawn_5 6 rfl rfl)
theorem dX4_drawn_126 : decode cX4_drawn 126 = .ok (.iload 8, 2) := dk_21 8 (dk_at dksX4_drawn_5 7 rfl rfl)
theorem dX4_drawn_128 : decode cX4_drawn 128 = .ok (.iadd, 1) := dk_96 (dk_at dksX4_drawn_5 9 rfl rfl)
theorem dX4_drawn_129 : decode cX4_drawn 129 = .ok (.iaload, 1) := dk_46 (dk_at dksX4_drawn_5 10 rfl rfl)
theorem dX4_drawn_130 : decode cX4_drawn 130 = .ok (.bipush 99, 2) := dk_16 99 (dk_at dksX4_drawn_5 11 rfl rfl)
theorem dX4_drawn_132 : decode cX4_drawn 132 = .ok (.if_icmp .ne 30, 3) := dk_160 0 30 (dk_at dksX4_drawn_5 13 rfl rfl)
theorem dX4_drawn_135 : decode cX4_drawn 135 = .ok (.aload_n 0, 1) := dk_42 (dk_at dksX4_drawn_5 16 rfl rfl)
theorem dX4_drawn_136 : decode cX4_drawn 136 = .ok (.getfield 41, 3) := dk_180 0 41 (dk_at dksX4_drawn_5 17 rfl rfl)
theorem dX4_drawn_139 : decode cX4_drawn 139 = .ok (.iconst 2, 1) := dk_5 (dk_at dksX4_drawn_5 20 rfl rfl)
theorem dX4_drawn_140 : decode cX4_drawn 140 = .ok (.iload 8, 2) := dk_21 8 (dk_at dksX4_drawn_5 21 rfl rfl)
theorem dX4_drawn_142 : decode cX4_drawn 142 = .ok (.iadd, 1) := dk_96 (dk_at dksX4_drawn_5 23 rfl rfl)
theorem dX4_drawn_143 : decode cX4_drawn 143 = .ok (.iconst (-1), 1) := dk_2 (dk_at dksX4_drawn_6 0 rfl rfl)
theorem dX4_drawn_144 : decode cX4_drawn 144 = .ok (.iastore, 1) := dk_79 (dk_at dksX4_drawn_6 1 rfl rfl)
theorem dX4_drawn_145 : decode cX4_drawn 145 = .ok (.aload_n 0, 1) := dk_42 (dk_at dksX4_drawn_6 2 rfl rfl)
theorem dX4_drawn_146 : decode cX4_drawn 146 = .ok (.getfield 41, 3) := dk_180 0 41 (dk_at dksX4_drawn_6 3 rfl rfl)
theorem dX4_drawn_149 : decode cX4_drawn 149 = .ok (.bipush 9, 2) := dk_16 9 (dk_at dksX4_drawn_6 6 rfl rfl)
theorem dX4_drawn_151 : decode cX4_drawn 151 = .ok (.iload 8, 2) := dk_21 8 (dk_at dksX4_drawn_6 8 rfl rfl)
theorem dX4_drawn_153 : decode cX4_drawn 153 = .ok (.iadd, 1) := dk_96 (dk_at dksX4_drawn_6 10 rfl rfl)
theorem dX4_drawn_154 : decode cX4_drawn 154 = .ok (.lload 4, 2) := dk_22 4 (dk_at dksX4_drawn_6 11 rfl rfl)
theorem dX4_drawn_156 : decode cX4_drawn 156 = .ok (.ldc2_w 178, 3) := dk_20 0 178 (dk_at dksX4_drawn_6 13 rfl rfl)
theorem dX4_drawn_159 : decode cX4_drawn 159 = .ok (.lrem, 1) := dk_113 (dk_at dksX4_drawn_6 16 rfl rfl)
theorem dX4_drawn_160 : decode cX4_drawn 160 = .ok (.l2i, 1) := dk_136 (dk_at dksX4_drawn_6 17 rfl rfl)
theorem dX4_drawn_161 : decode cX4_drawn 161 = .ok (.iastore, 1) := dk_79 (dk_at dksX4_drawn_6 18 rfl rfl)
theorem dX4_drawn_162 : decode cX4_drawn 162 = .ok (.aload_n 0, 1) := dk_42 (dk_at dksX4_drawn_6 19 rfl rfl)
theorem dX4_drawn_163 : decode cX4_drawn 163 = .ok (.getfield 41, 3) := dk_180 0 41 (dk_at dksX4_drawn_6 20 rfl rfl)
theorem dX4_drawn_166 : decode cX4_drawn 166 = .ok (.invokestatic 144, 3) := dk_184 0 144 (dk_at dksX4_drawn_7 0 rfl rfl)
theorem dX4_drawn_169 : decode cX4_drawn 169 = .ok (.istore 9, 2) := dk_54 9 (dk_at dksX4_drawn_7 3 rfl rfl)
theorem dX4_drawn_171 : decode cX4_drawn 171 = .ok (.aload_n 0, 1) := dk_42 (dk_at dksX4_drawn_7 5 rfl rfl)
theorem dX4_drawn_172 : decode cX4_drawn 172 = .ok (.aload_n 0, 1) := dk_42 (dk_at dksX4_drawn_7 6 rfl rfl)
theorem dX4_drawn_173 : decode cX4_drawn 173 = .ok (.getfield 41, 3) := dk_180 0 41 (dk_at dksX4_drawn_7 7 rfl rfl)
theorem dX4_drawn_176 : decode cX4_drawn 176 = .ok (.invokevirtual 140, 3) := dk_182 0 140 (dk_at dksX4_drawn_7 10 rfl rfl)
theorem dX4_drawn_179 : decode cX4_drawn 179 = .ok (.iload 6, 2) := dk_21 6 (dk_at dksX4_drawn_7 13 rfl rfl)
theorem dX4_drawn_181 : decode cX4_drawn 181 = .ok (.aload_n 0, 1) := dk_42 (dk_at dksX4_drawn_7 15 rfl rfl)
theorem dX4_drawn_182 : decode cX4_drawn 182 = .ok (.getfield 41, 3) := dk_180 0 41 (dk_at dksX4_drawn_7 16 rfl rfl)
theorem dX4_drawn_185 : decode cX4_drawn 185 = .ok (.invokestatic 144, 3) := dk_184 0 144 (dk_at dksX4_drawn_7 19 rfl rfl)
theorem dX4_drawn_188 : decode cX4_drawn 188 = .ok (.iload 9, 2) := dk_21 9 (dk_at dksX4_drawn_7 22 rfl rfl)
theorem dX4_drawn_190 : decode cX4_drawn 190 = .ok (.isub, 1) := dk_100 (dk_at dksX4_drawn_8 0 rfl rfl)
theorem dX4_drawn_191 : decode cX4_drawn 191 = .ok (.iadd, 1) := dk_96 (dk_at dksX4_drawn_8 1 rfl rfl)
theorem dX4_drawn_192 : decode cX4_drawn 192 = .ok (.istore 6, 2) := dk_54 6 (dk_at dksX4_drawn_8 2 rfl rfl)
theorem dX4_drawn_194 : decode cX4_drawn 194 = .ok (.iinc 7 1, 3) := dk_132 7 1 (dk_at dksX4_drawn_8 4 rfl rfl)
theorem dX4_drawn_197 : decode cX4_drawn 197 = .ok (.goto (-141), 3) := dk_167 255 115 (dk_at dksX4_drawn_8 7 rfl rfl)
theorem dX4_drawn_200 : decode cX4_drawn 200 = .ok (.iload_n 3, 1) := dk_29 (dk_at dksX4_drawn_8 10 rfl rfl)
theorem dX4_drawn_201 : decode cX4_drawn 201 = .ok (.ifCond .ne 8, 3) := dk_154 0 8 (dk_at dksX4_drawn_8 11 rfl rfl)
theorem dX4_drawn_204 : decode cX4_drawn 204 = .ok (.iload 6, 2) := dk_21 6 (dk_at dksX4_drawn_8 14 rfl rfl)
theorem dX4_drawn_206 : decode cX4_drawn 206 = .ok (.goto 10, 3) := dk_167 0 10 (dk_at dksX4_drawn_8 16 rfl rfl)
theorem dX4_drawn_209 : decode cX4_drawn 209 = .ok (.aload_n 0, 1) := dk_42 (dk_at dksX4_drawn_8 19 rfl rfl)
theorem dX4_drawn_210 : decode cX4_drawn 210 = .ok (.getfield 41, 3) := dk_180 0 41 (dk_at dksX4_drawn_8 20 rfl rfl)
theorem dX4_drawn_213 : decode cX4_drawn 213 = .ok (.invokestatic 144, 3) := dk_184 0 144 (dk_at dksX4_drawn_9 0 rfl rfl)
theorem dX4_drawn_216 : decode cX4_drawn 216 = .ok (.ireturn, 1) := dk_172 (dk_at dksX4_drawn_9 3 rfl rfl)
abbrev cX4_image : ByteArray := prog_22_method_54_code
def yX4_image : MethodName := ⟨RX4, "image", "(I)I"⟩
def dkwX4_image_2 : List UInt8 := [132, 2, 1, 167, 255, 230, 42, 180, 0, 34, 27, 4, 84, 4, 172]
abbrev dktX4_image_2 : List UInt8 := dkwX4_image_2 ++ []
def dkwX4_image_1 : List UInt8 := [28, 16, 25, 162, 0, 26, 42, 180, 0, 31, 16, 25, 27, 104, 28, 96, 42, 180, 0, 25, 28, 46, 79]
abbrev dktX4_image_1 : List UInt8 := dkwX4_image_1 ++ dktX4_image_2
def dkwX4_image_0 : List UInt8 := [27, 3, 4, 184, 0, 50, 154, 0, 6, 18, 65, 172, 42, 182, 0, 133, 154, 0, 6, 18, 136, 172, 3, 61]
abbrev dktX4_image_0 : List UInt8 := dkwX4_image_0 ++ dktX4_image_1
theorem dksX4_image_0 : cX4_image.data.toList.drop 0 = dktX4_image_0 := by decide +kernel
theorem dksX4_image_1 : cX4_image.data.toList.drop 24 = dktX4_image_1 := dk_seg dksX4_image_0 24 rfl rfl
theorem dksX4_image_2 : cX4_image.data.toList.drop 47 = dktX4_image_2 := dk_seg dksX4_image_1 23 rfl rfl
theorem dX4_image_0 : decode cX4_image 0 = .ok (.iload_n 1, 1) := dk_27 (dk_at dksX4_image_0 0 rfl rfl)
theorem dX4_image_1 : decode cX4_image 1 = .ok (.iconst 0, 1) := dk_3 (dk_at dksX4_image_0 1 rfl rfl)
theorem dX4_image_2 : decode cX4_image 2 = .ok (.iconst 1, 1) := dk_4 (dk_at dksX4_image_0 2 rfl rfl)
theorem dX4_image_3 : decode cX4_image 3 = .ok (.invokestatic 50, 3) := dk_184 0 50 (dk_at dksX4_image_0 3 rfl rfl)
theorem dX4_image_6 : decode cX4_image 6 = .ok (.ifCond .ne 6, 3) := dk_154 0 6 (dk_at dksX4_image_0 6 rfl rfl)
theorem dX4_image_9 : decode cX4_image 9 = .ok (.ldc 65, 2) := dk_18 65 (dk_at dksX4_image_0 9 rfl rfl)
theorem dX4_image_11 : decode cX4_image 11 = .ok (.ireturn, 1) := dk_172 (dk_at dksX4_image_0 11 rfl rfl)
theorem dX4_image_12 : decode cX4_image 12 = .ok (.aload_n 0, 1) := dk_42 (dk_at dksX4_image_0 12 rfl rfl)
theorem dX4_image_13 : decode cX4_image 13 = .ok (.invokevirtual 133, 3) := dk_182 0 133 (dk_at dksX4_image_0 13 rfl rfl)
theorem dX4_image_16 : decode cX4_image 16 = .ok (.ifCond .ne 6, 3) := dk_154 0 6 (dk_at dksX4_image_0 16 rfl rfl)
theorem dX4_image_19 : decode cX4_image 19 = .ok (.ldc 136, 2) := dk_18 136 (dk_at dksX4_image_0 19 rfl rfl)
theorem dX4_image_21 : decode cX4_image 21 = .ok (.ireturn, 1) := dk_172 (dk_at dksX4_image_0 21 rfl rfl)
theorem dX4_image_22 : decode cX4_image 22 = .ok (.iconst 0, 1) := dk_3 (dk_at dksX4_image_0 22 rfl rfl)
theorem dX4_image_23 : decode cX4_image 23 = .ok (.istore_n 2, 1) := dk_61 (dk_at dksX4_image_0 23 rfl rfl)
theorem dX4_image_24 : decode cX4_image 24 = .ok (.iload_n 2, 1) := dk_28 (dk_at dksX4_image_1 0 rfl rfl)
theorem dX4_image_25 : decode cX4_image 25 = .ok (.bipush 25, 2) := dk_16 25 (dk_at dksX4_image_1 1 rfl rfl)
theorem dX4_image_27 : decode cX4_image 27 = .ok (.if_icmp .ge 26, 3) := dk_162 0 26 (dk_at dksX4_image_1 3 rfl rfl)
theorem dX4_image_30 : decode cX4_image 30 = .ok (.aload_n 0, 1) := dk_42 (dk_at dksX4_image_1 6 rfl rfl)
theorem dX4_image_31 : decode cX4_image 31 = .ok (.getfield 31, 3) := dk_180 0 31 (dk_at dksX4_image_1 7 rfl rfl)
theorem dX4_image_34 : decode cX4_image 34 = .ok (.bipush 25, 2) := dk_16 25 (dk_at dksX4_image_1 10 rfl rfl)
theorem dX4_image_36 : decode cX4_image 36 = .ok (.iload_n 1, 1) := dk_27 (dk_at dksX4_image_1 12 rfl rfl)
theorem dX4_image_37 : decode cX4_image 37 = .ok (.imul, 1) := dk_104 (dk_at dksX4_image_1 13 rfl rfl)
theorem dX4_image_38 : decode cX4_image 38 = .ok (.iload_n 2, 1) := dk_28 (dk_at dksX4_image_1 14 rfl rfl)
theorem dX4_image_39 : decode cX4_image 39 = .ok (.iadd, 1) := dk_96 (dk_at dksX4_image_1 15 rfl rfl)
theorem dX4_image_40 : decode cX4_image 40 = .ok (.aload_n 0, 1) := dk_42 (dk_at dksX4_image_1 16 rfl rfl)
theorem dX4_image_41 : decode cX4_image 41 = .ok (.getfield 25, 3) := dk_180 0 25 (dk_at dksX4_image_1 17 rfl rfl)
theorem dX4_image_44 : decode cX4_image 44 = .ok (.iload_n 2, 1) := dk_28 (dk_at dksX4_image_1 20 rfl rfl)
theorem dX4_image_45 : decode cX4_image 45 = .ok (.iaload, 1) := dk_46 (dk_at dksX4_image_1 21 rfl rfl)
theorem dX4_image_46 : decode cX4_image 46 = .ok (.iastore, 1) := dk_79 (dk_at dksX4_image_1 22 rfl rfl)
theorem dX4_image_47 : decode cX4_image 47 = .ok (.iinc 2 1, 3) := dk_132 2 1 (dk_at dksX4_image_2 0 rfl rfl)
theorem dX4_image_50 : decode cX4_image 50 = .ok (.goto (-26), 3) := dk_167 255 230 (dk_at dksX4_image_2 3 rfl rfl)
theorem dX4_image_53 : decode cX4_image 53 = .ok (.aload_n 0, 1) := dk_42 (dk_at dksX4_image_2 6 rfl rfl)
theorem dX4_image_54 : decode cX4_image 54 = .ok (.getfield 34, 3) := dk_180 0 34 (dk_at dksX4_image_2 7 rfl rfl)
theorem dX4_image_57 : decode cX4_image 57 = .ok (.iload_n 1, 1) := dk_27 (dk_at dksX4_image_2 10 rfl rfl)
theorem dX4_image_58 : decode cX4_image 58 = .ok (.iconst 1, 1) := dk_4 (dk_at dksX4_image_2 11 rfl rfl)
theorem dX4_image_59 : decode cX4_image 59 = .ok (.bastore, 1) := dk_84 (dk_at dksX4_image_2 12 rfl rfl)
theorem dX4_image_60 : decode cX4_image 60 = .ok (.iconst 1, 1) := dk_4 (dk_at dksX4_image_2 13 rfl rfl)
theorem dX4_image_61 : decode cX4_image 61 = .ok (.ireturn, 1) := dk_172 (dk_at dksX4_image_2 14 rfl rfl)
abbrev cX4_restore : ByteArray := prog_22_method_55_code
def yX4_restore : MethodName := ⟨RX4, "restore", "(I)I"⟩
def dkwX4_restore_2 : List UInt8 := [79, 132, 2, 1, 167, 255, 230, 42, 3, 181, 0, 115, 4, 172]
abbrev dktX4_restore_2 : List UInt8 := dkwX4_restore_2 ++ []
def dkwX4_restore_1 : List UInt8 := [3, 61, 28, 16, 25, 162, 0, 26, 42, 180, 0, 25, 28, 42, 180, 0, 31, 16, 25, 27, 104, 28, 96, 46]
abbrev dktX4_restore_1 : List UInt8 := dkwX4_restore_1 ++ dktX4_restore_2
def dkwX4_restore_0 : List UInt8 := [27, 3, 4, 184, 0, 50, 154, 0, 6, 18, 65, 172, 42, 180, 0, 34, 27, 51, 154, 0, 6, 18, 136, 172]
abbrev dktX4_restore_0 : List UInt8 := dkwX4_restore_0 ++ dktX4_restore_1
theorem dksX4_restore_0 : cX4_restore.data.toList.drop 0 = dktX4_restore_0 := by decide +kernel
theorem dksX4_restore_1 : cX4_restore.data.toList.drop 24 = dktX4_restore_1 := dk_seg dksX4_restore_0 24 rfl rfl
theorem dksX4_restore_2 : cX4_restore.data.toList.drop 48 = dktX4_restore_2 := dk_seg dksX4_restore_1 24 rfl rfl
theorem dX4_restore_0 : decode cX4_restore 0 = .ok (.iload_n 1, 1) := dk_27 (dk_at dksX4_restore_0 0 rfl rfl)
theorem dX4_restore_1 : decode cX4_restore 1 = .ok (.iconst 0, 1) := dk_3 (dk_at dksX4_restore_0 1 rfl rfl)
theorem dX4_restore_2 : decode cX4_restore 2 = .ok (.iconst 1, 1) := dk_4 (dk_at dksX4_restore_0 2 rfl rfl)
theorem dX4_restore_3 : decode cX4_restore 3 = .ok (.invokestatic 50, 3) := dk_184 0 50 (dk_at dksX4_restore_0 3 rfl rfl)
theorem dX4_restore_6 : decode cX4_restore 6 = .ok (.ifCond .ne 6, 3) := dk_154 0 6 (dk_at dksX4_restore_0 6 rfl rfl)
theorem dX4_restore_9 : decode cX4_restore 9 = .ok (.ldc 65, 2) := dk_18 65 (dk_at dksX4_restore_0 9 rfl rfl)
theorem dX4_restore_11 : decode cX4_restore 11 = .ok (.ireturn, 1) := dk_172 (dk_at dksX4_restore_0 11 rfl rfl)
theorem dX4_restore_12 : decode cX4_restore 12 = .ok (.aload_n 0, 1) := dk_42 (dk_at dksX4_restore_0 12 rfl rfl)
theorem dX4_restore_13 : decode cX4_restore 13 = .ok (.getfield 34, 3) := dk_180 0 34 (dk_at dksX4_restore_0 13 rfl rfl)
theorem dX4_restore_16 : decode cX4_restore 16 = .ok (.iload_n 1, 1) := dk_27 (dk_at dksX4_restore_0 16 rfl rfl)
theorem dX4_restore_17 : decode cX4_restore 17 = .ok (.baload, 1) := dk_51 (dk_at dksX4_restore_0 17 rfl rfl)
theorem dX4_restore_18 : decode cX4_restore 18 = .ok (.ifCond .ne 6, 3) := dk_154 0 6 (dk_at dksX4_restore_0 18 rfl rfl)
theorem dX4_restore_21 : decode cX4_restore 21 = .ok (.ldc 136, 2) := dk_18 136 (dk_at dksX4_restore_0 21 rfl rfl)
theorem dX4_restore_23 : decode cX4_restore 23 = .ok (.ireturn, 1) := dk_172 (dk_at dksX4_restore_0 23 rfl rfl)
theorem dX4_restore_24 : decode cX4_restore 24 = .ok (.iconst 0, 1) := dk_3 (dk_at dksX4_restore_1 0 rfl rfl)
theorem dX4_restore_25 : decode cX4_restore 25 = .ok (.istore_n 2, 1) := dk_61 (dk_at dksX4_restore_1 1 rfl rfl)
theorem dX4_restore_26 : decode cX4_restore 26 = .ok (.iload_n 2, 1) := dk_28 (dk_at dksX4_restore_1 2 rfl rfl)
theorem dX4_restore_27 : decode cX4_restore 27 = .ok (.bipush 25, 2) := dk_16 25 (dk_at dksX4_restore_1 3 rfl rfl)
theorem dX4_restore_29 : decode cX4_restore 29 = .ok (.if_icmp .ge 26, 3) := dk_162 0 26 (dk_at dksX4_restore_1 5 rfl rfl)
theorem dX4_restore_32 : decode cX4_restore 32 = .ok (.aload_n 0, 1) := dk_42 (dk_at dksX4_restore_1 8 rfl rfl)
theorem dX4_restore_33 : decode cX4_restore 33 = .ok (.getfield 25, 3) := dk_180 0 25 (dk_at dksX4_restore_1 9 rfl rfl)
theorem dX4_restore_36 : decode cX4_restore 36 = .ok (.iload_n 2, 1) := dk_28 (dk_at dksX4_restore_1 12 rfl rfl)
theorem dX4_restore_37 : decode cX4_restore 37 = .ok (.aload_n 0, 1) := dk_42 (dk_at dksX4_restore_1 13 rfl rfl)
theorem dX4_restore_38 : decode cX4_restore 38 = .ok (.getfield 31, 3) := dk_180 0 31 (dk_at dksX4_restore_1 14 rfl rfl)
theorem dX4_restore_41 : decode cX4_restore 41 = .ok (.bipush 25, 2) := dk_16 25 (dk_at dksX4_restore_1 17 rfl rfl)
theorem dX4_restore_43 : decode cX4_restore 43 = .ok (.iload_n 1, 1) := dk_27 (dk_at dksX4_restore_1 19 rfl rfl)
theorem dX4_restore_44 : decode cX4_restore 44 = .ok (.imul, 1) := dk_104 (dk_at dksX4_restore_1 20 rfl rfl)
theorem dX4_restore_45 : decode cX4_restore 45 = .ok (.iload_n 2, 1) := dk_28 (dk_at dksX4_restore_1 21 rfl rfl)
theorem dX4_restore_46 : decode cX4_restore 46 = .ok (.iadd, 1) := dk_96 (dk_at dksX4_restore_1 22 rfl rfl)
theorem dX4_restore_47 : decode cX4_restore 47 = .ok (.iaload, 1) := dk_46 (dk_at dksX4_restore_1 23 rfl rfl)
theorem dX4_restore_48 : decode cX4_restore 48 = .ok (.iastore, 1) := dk_79 (dk_at dksX4_restore_2 0 rfl rfl)
theorem dX4_restore_49 : decode cX4_restore 49 = .ok (.iinc 2 1, 3) := dk_132 2 1 (dk_at dksX4_restore_2 1 rfl rfl)
theorem dX4_restore_52 : decode cX4_restore 52 = .ok (.goto (-26), 3) := dk_167 255 230 (dk_at dksX4_restore_2 4 rfl rfl)
theorem dX4_restore_55 : decode cX4_restore 55 = .ok (.aload_n 0, 1) := dk_42 (dk_at dksX4_restore_2 7 rfl rfl)
theorem dX4_restore_56 : decode cX4_restore 56 = .ok (.iconst 0, 1) := dk_3 (dk_at dksX4_restore_2 8 rfl rfl)
theorem dX4_restore_57 : decode cX4_restore 57 = .ok (.putfield 115, 3) := dk_181 0 115 (dk_at dksX4_restore_2 9 rfl rfl)
theorem dX4_restore_60 : decode cX4_restore 60 = .ok (.iconst 1, 1) := dk_4 (dk_at dksX4_restore_2 12 rfl rfl)
theorem dX4_restore_61 : decode cX4_restore 61 = .ok (.ireturn, 1) := dk_172 (dk_at dksX4_restore_2 13 rfl rfl)
abbrev cX4_kind : ByteArray := prog_22_method_56_code
def yX4_kind : MethodName := ⟨RX4, "kind", "(I)I"⟩
def dkwX4_kind_0 : List UInt8 := [42, 27, 182, 0, 148, 153, 0, 15, 42, 180, 0, 25, 16, 18, 27, 96, 46, 167, 0, 5, 18, 65, 172]
abbrev dktX4_kind_0 : List UInt8 := dkwX4_kind_0 ++ []
theorem dksX4_kind_0 : cX4_kind.data.toList.drop 0 = dktX4_kind_0 := by decide +kernel
theorem dX4_kind_0 : decode cX4_kind 0 = .ok (.aload_n 0, 1) := dk_42 (dk_at dksX4_kind_0 0 rfl rfl)
theorem dX4_kind_1 : decode cX4_kind 1 = .ok (.iload_n 1, 1) := dk_27 (dk_at dksX4_kind_0 1 rfl rfl)
theorem dX4_kind_2 : decode cX4_kind 2 = .ok (.invokevirtual 148, 3) := dk_182 0 148 (dk_at dksX4_kind_0 2 rfl rfl)
theorem dX4_kind_5 : decode cX4_kind 5 = .ok (.ifCond .eq 15, 3) := dk_153 0 15 (dk_at dksX4_kind_0 5 rfl rfl)
theorem dX4_kind_8 : decode cX4_kind 8 = .ok (.aload_n 0, 1) := dk_42 (dk_at dksX4_kind_0 8 rfl rfl)
theorem dX4_kind_9 : decode cX4_kind 9 = .ok (.getfield 25, 3) := dk_180 0 25 (dk_at dksX4_kind_0 9 rfl rfl)
theorem dX4_kind_12 : decode cX4_kind 12 = .ok (.bipush 18, 2) := dk_16 18 (dk_at dksX4_kind_0 12 rfl rfl)
theorem dX4_kind_14 : decode cX4_kind 14 = .ok (.iload_n 1, 1) := dk_27 (dk_at dksX4_kind_0 14 rfl rfl)
theorem dX4_kind_15 : decode cX4_kind 15 = .ok (.iadd, 1) := dk_96 (dk_at dksX4_kind_0 15 rfl rfl)
theorem dX4_kind_16 : decode cX4_kind 16 = .ok (.iaload, 1) := dk_46 (dk_at dksX4_kind_0 16 rfl rfl)
theorem dX4_kind_17 : decode cX4_kind 17 = .ok (.goto 5, 3) := dk_167 0 5 (dk_at dksX4_kind_0 17 rfl rfl)
theorem dX4_kind_20 : decode cX4_kind 20 = .ok (.ldc 65, 2) := dk_18 65 (dk_at dksX4_kind_0 20 rfl rfl)
theorem dX4_kind_22 : decode cX4_kind 22 = .ok (.ireturn, 1) := dk_172 (dk_at dksX4_kind_0 22 rfl rfl)
abbrev cX4_as : ByteArray := prog_22_method_57_code
def yX4_as : MethodName := ⟨RX4, "as", "(II)I"⟩
def dkwX4_as_3 : List UInt8 := [153, 0, 7, 27, 167, 0, 5, 18, 180, 182, 0, 67, 172]
abbrev dktX4_as_3 : List UInt8 := dkwX4_as_3 ++ []
def dkwX4_as_2 : List UInt8 := [161, 0, 13, 28, 7, 160, 0, 12, 29, 8, 160, 0, 7, 4, 167, 0, 4, 3, 54, 4, 42, 21, 4]
abbrev dktX4_as_2 : List UInt8 := dkwX4_as_2 ++ dktX4_as_3
def dkwX4_as_1 : List UInt8 := [16, 18, 27, 96, 46, 62, 28, 153, 0, 28, 28, 29, 159, 0, 23, 28, 4, 160, 0, 8, 29, 7]
abbrev dktX4_as_1 : List UInt8 := dkwX4_as_1 ++ dktX4_as_2
def dkwX4_as_0 : List UInt8 := [42, 27, 182, 0, 148, 153, 0, 12, 28, 3, 8, 184, 0, 50, 154, 0, 6, 18, 65, 172, 42, 180, 0, 25]
abbrev dktX4_as_0 : List UInt8 := dkwX4_as_0 ++ dktX4_as_1
theorem dksX4_as_0 : cX4_as.data.toList.drop 0 = dktX4_as_0 := by decide +kernel
theorem dksX4_as_1 : cX4_as.data.toList.drop 24 = dktX4_as_1 := dk_seg dksX4_as_0 24 rfl rfl
theorem dksX4_as_2 : cX4_as.data.toList.drop 46 = dktX4_as_2 := dk_seg dksX4_as_1 22 rfl rfl
theorem dksX4_as_3 : cX4_as.data.toList.drop 69 = dktX4_as_3 := dk_seg dksX4_as_2 23 rfl rfl
theorem dX4_as_0 : decode cX4_as 0 = .ok (.aload_n 0, 1) := dk_42 (dk_at dksX4_as_0 0 rfl rfl)
theorem dX4_as_1 : decode cX4_as 1 = .ok (.iload_n 1, 1) := dk_27 (dk_at dksX4_as_0 1 rfl rfl)
theorem dX4_as_2 : decode cX4_as 2 = .ok (.invokevirtual 148, 3) := dk_182 0 148 (dk_at dksX4_as_0 2 rfl rfl)
theorem dX4_as_5 : decode cX4_as 5 = .ok (.ifCond .eq 12, 3) := dk_153 0 12 (dk_at dksX4_as_0 5 rfl rfl)
theorem dX4_as_8 : decode cX4_as 8 = .ok (.iload_n 2, 1) := dk_28 (dk_at dksX4_as_0 8 rfl rfl)
theorem dX4_as_9 : decode cX4_as 9 = .ok (.iconst 0, 1) := dk_3 (dk_at dksX4_as_0 9 rfl rfl)
theorem dX4_as_10 : decode cX4_as 10 = .ok (.iconst 5, 1) := dk_8 (dk_at dksX4_as_0 10 rfl rfl)
theorem dX4_as_11 : decode cX4_as 11 = .ok (.invokestatic 50, 3) := dk_184 0 50 (dk_at dksX4_as_0 11 rfl rfl)
theorem dX4_as_14 : decode cX4_as 14 = .ok (.ifCond .ne 6, 3) := dk_154 0 6 (dk_at dksX4_as_0 14 rfl rfl)
theorem dX4_as_17 : decode cX4_as 17 = .ok (.ldc 65, 2) := dk_18 65 (dk_at dksX4_as_0 17 rfl rfl)
theorem dX4_as_19 : decode cX4_as 19 = .ok (.ireturn, 1) := dk_172 (dk_at dksX4_as_0 19 rfl rfl)
theorem dX4_as_20 : decode cX4_as 20 = .ok (.aload_n 0, 1) := dk_42 (dk_at dksX4_as_0 20 rfl rfl)
theorem dX4_as_21 : decode cX4_as 21 = .ok (.getfield 25, 3) := dk_180 0 25 (dk_at dksX4_as_0 21 rfl rfl)
theorem dX4_as_24 : decode cX4_as 24 = .ok (.bipush 18, 2) := dk_16 18 (dk_at dksX4_as_1 0 rfl rfl)
theorem dX4_as_26 : decode cX4_as 26 = .ok (.iload_n 1, 1) := dk_27 (dk_at dksX4_as_1 2 rfl rfl)
theorem dX4_as_27 : decode cX4_as 27 = .ok (.iadd, 1) := dk_96 (dk_at dksX4_as_1 3 rfl rfl)
theorem dX4_as_28 : decode cX4_as 28 = .ok (.iaload, 1) := dk_46 (dk_at dksX4_as_1 4 rfl rfl)
theorem dX4_as_29 : decode cX4_as 29 = .ok (.istore_n 3, 1) := dk_62 (dk_at dksX4_as_1 5 rfl rfl)
theorem dX4_as_30 : decode cX4_as 30 = .ok (.iload_n 2, 1) := dk_28 (dk_at dksX4_as_1 6 rfl rfl)
theorem dX4_as_31 : decode cX4_as 31 = .ok (.ifCond .eq 28, 3) := dk_153 0 28 (dk_at dksX4_as_1 7 rfl rfl)
theorem dX4_as_34 : decode cX4_as 34 = .ok (.iload_n 2, 1) := dk_28 (dk_at dksX4_as_1 10 rfl rfl)
theorem dX4_as_35 : decode cX4_as 35 = .ok (.iload_n 3, 1) := dk_29 (dk_at dksX4_as_1 11 rfl rfl)
theorem dX4_as_36 : decode cX4_as 36 = .ok (.if_icmp .eq 23, 3) := dk_159 0 23 (dk_at dksX4_as_1 12 rfl rfl)
theorem dX4_as_39 : decode cX4_as 39 = .ok (.iload_n 2, 1) := dk_28 (dk_at dksX4_as_1 15 rfl rfl)
theorem dX4_as_40 : decode cX4_as 40 = .ok (.iconst 1, 1) := dk_4 (dk_at dksX4_as_1 16 rfl rfl)
theorem dX4_as_41 : decode cX4_as 41 = .ok (.if_icmp .ne 8, 3) := dk_160 0 8 (dk_at dksX4_as_1 17 rfl rfl)
theorem dX4_as_44 : decode cX4_as 44 = .ok (.iload_n 3, 1) := dk_29 (dk_at dksX4_as_1 20 rfl rfl)
theorem dX4_as_45 : decode cX4_as 45 = .ok (.iconst 4, 1) := dk_7 (dk_at dksX4_as_1 21 rfl rfl)
theorem dX4_as_46 : decode cX4_as 46 = .ok (.if_icmp .lt 13, 3) := dk_161 0 13 (dk_at dksX4_as_2 0 rfl rfl)
theorem dX4_as_49 : decode cX4_as 49 = .ok (.iload_n 2, 1) := dk_28 (dk_at dksX4_as_2 3 rfl rfl)
theorem dX4_as_50 : decode cX4_as 50 = .ok (.iconst 4, 1) := dk_7 (dk_at dksX4_as_2 4 rfl rfl)
theorem dX4_as_51 : decode cX4_as 51 = .ok (.if_icmp .ne 12, 3) := dk_160 0 12 (dk_at dksX4_as_2 5 rfl rfl)
theorem dX4_as_54 : decode cX4_as 54 = .ok (.iload_n 3, 1) := dk_29 (dk_at dksX4_as_2 8 rfl rfl)
theorem dX4_as_55 : decode cX4_as 55 = .ok (.iconst 5, 1) := dk_8 (dk_at dksX4_as_2 9 rfl rfl)
theorem dX4_as_56 : decode cX4_as 56 = .ok (.if_icmp .ne 7, 3) := dk_160 0 7 (dk_at dksX4_as_2 10 rfl rfl)
theorem dX4_as_59 : decode cX4_as 59 = .ok (.iconst 1, 1) := dk_4 (dk_at dksX4_as_2 13 rfl rfl)
theorem dX4_as_60 : decode cX4_as 60 = .ok (.goto 4, 3) := dk_167 0 4 (dk_at dksX4_as_2 14 rfl rfl)
theorem dX4_as_63 : decode cX4_as 63 = .ok (.iconst 0, 1) := dk_3 (dk_at dksX4_as_2 17 rfl rfl)
theorem dX4_as_64 : decode cX4_as 64 = .ok (.istore 4, 2) := dk_54 4 (dk_at dksX4_as_2 18 rfl rfl)
theorem dX4_as_66 : decode cX4_as 66 = .ok (.aload_n 0, 1) := dk_42 (dk_at dksX4_as_2 20 rfl rfl)
theorem dX4_as_67 : decode cX4_as 67 = .ok (.iload 4, 2) := dk_21 4 (dk_at dksX4_as_2 21 rfl rfl)
theorem dX4_as_69 : decode cX4_as 69 = .ok (.ifCond .eq 7, 3) := dk_153 0 7 (dk_at dksX4_as_3 0 rfl rfl)
theorem dX4_as_72 : decode cX4_as 72 = .ok (.iload_n 1, 1) := dk_27 (dk_at dksX4_as_3 3 rfl rfl)
theorem dX4_as_73 : decode cX4_as 73 = .ok (.goto 5, 3) := dk_167 0 5 (dk_at dksX4_as_3 4 rfl rfl)
theorem dX4_as_76 : decode cX4_as 76 = .ok (.ldc 180, 2) := dk_18 180 (dk_at dksX4_as_3 7 rfl rfl)
theorem dX4_as_78 : decode cX4_as 78 = .ok (.invokevirtual 67, 3) := dk_182 0 67 (dk_at dksX4_as_3 9 rfl rfl)
theorem dX4_as_81 : decode cX4_as 81 = .ok (.ireturn, 1) := dk_172 (dk_at dksX4_as_3 12 rfl rfl)
abbrev cX4_ask : ByteArray := prog_22_method_61_code
def yX4_ask : MethodName := ⟨RX4, "ask", "(II)I"⟩
def dkwX4_ask_3 : List UInt8 := [182, 0, 191, 100, 172]
abbrev dktX4_ask_3 : List UInt8 := dkwX4_ask_3 ++ []
def dkwX4_ask_2 : List UInt8 := [162, 0, 9, 42, 27, 182, 0, 188, 172, 42, 16, 23, 182, 0, 184, 42, 16, 20, 182, 0, 184, 27, 42, 27]
abbrev dktX4_ask_2 : List UInt8 := dkwX4_ask_2 ++ dktX4_ask_3
def dkwX4_ask_1 : List UInt8 := [181, 0, 181, 28, 154, 0, 9, 42, 27, 182, 0, 191, 172, 42, 180, 0, 25, 16, 18, 27, 96, 46, 7]
abbrev dktX4_ask_1 : List UInt8 := dkwX4_ask_1 ++ dktX4_ask_2
def dkwX4_ask_0 : List UInt8 := [42, 27, 182, 0, 148, 153, 0, 12, 28, 3, 4, 184, 0, 50, 154, 0, 6, 18, 65, 172, 42, 3]
abbrev dktX4_ask_0 : List UInt8 := dkwX4_ask_0 ++ dktX4_ask_1
theorem dksX4_ask_0 : cX4_ask.data.toList.drop 0 = dktX4_ask_0 := by decide +kernel
theorem dksX4_ask_1 : cX4_ask.data.toList.drop 22 = dktX4_ask_1 := dk_seg dksX4_ask_0 22 rfl rfl
theorem dksX4_ask_2 : cX4_ask.data.toList.drop 45 = dktX4_ask_2 := dk_seg dksX4_ask_1 23 rfl rfl
theorem dksX4_ask_3 : cX4_ask.data.toList.drop 69 = dktX4_ask_3 := dk_seg dksX4_ask_2 24 rfl rfl
theorem dX4_ask_0 : decode cX4_ask 0 = .ok (.aload_n 0, 1) := dk_42 (dk_at dksX4_ask_0 0 rfl rfl)
theorem dX4_ask_1 : decode cX4_ask 1 = .ok (.iload_n 1, 1) := dk_27 (dk_at dksX4_ask_0 1 rfl rfl)
theorem dX4_ask_2 : decode cX4_ask 2 = .ok (.invokevirtual 148, 3) := dk_182 0 148 (dk_at dksX4_ask_0 2 rfl rfl)
theorem dX4_ask_5 : decode cX4_ask 5 = .ok (.ifCond .eq 12, 3) := dk_153 0 12 (dk_at dksX4_ask_0 5 rfl rfl)
theorem dX4_ask_8 : decode cX4_ask 8 = .ok (.iload_n 2, 1) := dk_28 (dk_at dksX4_ask_0 8 rfl rfl)
theorem dX4_ask_9 : decode cX4_ask 9 = .ok (.iconst 0, 1) := dk_3 (dk_at dksX4_ask_0 9 rfl rfl)
theorem dX4_ask_10 : decode cX4_ask 10 = .ok (.iconst 1, 1) := dk_4 (dk_at dksX4_ask_0 10 rfl rfl)
theorem dX4_ask_11 : decode cX4_ask 11 = .ok (.invokestatic 50, 3) := dk_184 0 50 (dk_at dksX4_ask_0 11 rfl rfl)
theorem dX4_ask_14 : decode cX4_ask 14 = .ok (.ifCond .ne 6, 3) := dk_154 0 6 (dk_at dksX4_ask_0 14 rfl rfl)
theorem dX4_ask_17 : decode cX4_ask 17 = .ok (.ldc 65, 2) := dk_18 65 (dk_at dksX4_ask_0 17 rfl rfl)
theorem dX4_ask_19 : decode cX4_ask 19 = .ok (.ireturn, 1) := dk_172 (dk_at dksX4_ask_0 19 rfl rfl)
theorem dX4_ask_20 : decode cX4_ask 20 = .ok (.aload_n 0, 1) := dk_42 (dk_at dksX4_ask_0 20 rfl rfl)
theorem dX4_ask_21 : decode cX4_ask 21 = .ok (.iconst 0, 1) := dk_3 (dk_at dksX4_ask_0 21 rfl rfl)
theorem dX4_ask_22 : decode cX4_ask 22 = .ok (.putfield 181, 3) := dk_181 0 181 (dk_at dksX4_ask_1 0 rfl rfl)
theorem dX4_ask_25 : decode cX4_ask 25 = .ok (.iload_n 2, 1) := dk_28 (dk_at dksX4_ask_1 3 rfl rfl)
theorem dX4_ask_26 : decode cX4_ask 26 = .ok (.ifCond .ne 9, 3) := dk_154 0 9 (dk_at dksX4_ask_1 4 rfl rfl)
theorem dX4_ask_29 : decode cX4_ask 29 = .ok (.aload_n 0, 1) := dk_42 (dk_at dksX4_ask_1 7 rfl rfl)
theorem dX4_ask_30 : decode cX4_ask 30 = .ok (.iload_n 1, 1) := dk_27 (dk_at dksX4_ask_1 8 rfl rfl)
theorem dX4_ask_31 : decode cX4_ask 31 = .ok (.invokevirtual 191, 3) := dk_182 0 191 (dk_at dksX4_ask_1 9 rfl rfl)
theorem dX4_ask_34 : decode cX4_ask 34 = .ok (.ireturn, 1) := dk_172 (dk_at dksX4_ask_1 12 rfl rfl)
theorem dX4_ask_35 : decode cX4_ask 35 = .ok (.aload_n 0, 1) := dk_42 (dk_at dksX4_ask_1 13 rfl rfl)
theorem dX4_ask_36 : decode cX4_ask 36 = .ok (.getfield 25, 3) := dk_180 0 25 (dk_at dksX4_ask_1 14 rfl rfl)
theorem dX4_ask_39 : decode cX4_ask 39 = .ok (.bipush 18, 2) := dk_16 18 (dk_at dksX4_ask_1 17 rfl rfl)
theorem dX4_ask_41 : decode cX4_ask 41 = .ok (.iload_n 1, 1) := dk_27 (dk_at dksX4_ask_1 19 rfl rfl)
theorem dX4_ask_42 : decode cX4_ask 42 = .ok (.iadd, 1) := dk_96 (dk_at dksX4_ask_1 20 rfl rfl)
theorem dX4_ask_43 : decode cX4_ask 43 = .ok (.iaload, 1) := dk_46 (dk_at dksX4_ask_1 21 rfl rfl)
theorem dX4_ask_44 : decode cX4_ask 44 = .ok (.iconst 4, 1) := dk_7 (dk_at dksX4_ask_1 22 rfl rfl)
theorem dX4_ask_45 : decode cX4_ask 45 = .ok (.if_icmp .ge 9, 3) := dk_162 0 9 (dk_at dksX4_ask_2 0 rfl rfl)
theorem dX4_ask_48 : decode cX4_ask 48 = .ok (.aload_n 0, 1) := dk_42 (dk_at dksX4_ask_2 3 rfl rfl)
theorem dX4_ask_49 : decode cX4_ask 49 = .ok (.iload_n 1, 1) := dk_27 (dk_at dksX4_ask_2 4 rfl rfl)
theorem dX4_ask_50 : decode cX4_ask 50 = .ok (.invokevirtual 188, 3) := dk_182 0 188 (dk_at dksX4_ask_2 5 rfl rfl)
theorem dX4_ask_53 : decode cX4_ask 53 = .ok (.ireturn, 1) := dk_172 (dk_at dksX4_ask_2 8 rfl rfl)
theorem dX4_ask_54 : decode cX4_ask 54 = .ok (.aload_n 0, 1) := dk_42 (dk_at dksX4_ask_2 9 rfl rfl)
theorem dX4_ask_55 : decode cX4_ask 55 = .ok (.bipush 23, 2) := dk_16 23 (dk_at dksX4_ask_2 10 rfl rfl)
theorem dX4_ask_57 : decode cX4_ask 57 = .ok (.invokevirtual 184, 3) := dk_182 0 184 (dk_at dksX4_ask_2 12 rfl rfl)
theorem dX4_ask_60 : decode cX4_ask 60 = .ok (.aload_n 0, 1) := dk_42 (dk_at dksX4_ask_2 15 rfl rfl)
theorem dX4_ask_61 : decode cX4_ask 61 = .ok (.bipush 20, 2) := dk_16 20 (dk_at dksX4_ask_2 16 rfl rfl)
theorem dX4_ask_63 : decode cX4_ask 63 = .ok (.invokevirtual 184, 3) := dk_182 0 184 (dk_at dksX4_ask_2 18 rfl rfl)
theorem dX4_ask_66 : decode cX4_ask 66 = .ok (.iload_n 1, 1) := dk_27 (dk_at dksX4_ask_2 21 rfl rfl)
theorem dX4_ask_67 : decode cX4_ask 67 = .ok (.aload_n 0, 1) := dk_42 (dk_at dksX4_ask_2 22 rfl rfl)
theorem dX4_ask_68 : decode cX4_ask 68 = .ok (.iload_n 1, 1) := dk_27 (dk_at dksX4_ask_2 23 rfl rfl)
theorem dX4_ask_69 : decode cX4_ask 69 = .ok (.invokevirtual 191, 3) := dk_182 0 191 (dk_at dksX4_ask_3 0 rfl rfl)
theorem dX4_ask_72 : decode cX4_ask 72 = .ok (.isub, 1) := dk_100 (dk_at dksX4_ask_3 3 rfl rfl)
theorem dX4_ask_73 : decode cX4_ask 73 = .ok (.ireturn, 1) := dk_172 (dk_at dksX4_ask_3 4 rfl rfl)
abbrev cX4_size : ByteArray := prog_22_method_59_code
def yX4_size : MethodName := ⟨RX4, "size", "(I)I"⟩
def dkwX4_size_4 : List UInt8 := [54, 4, 28, 5, 160, 0, 9, 21, 4, 116, 167, 0, 5, 21, 4, 172]
abbrev dktX4_size_4 : List UInt8 := dkwX4_size_4 ++ []
def dkwX4_size_3 : List UInt8 := [16, 12, 182, 0, 184, 42, 16, 11, 182, 0, 184, 42, 16, 10, 182, 0, 184, 29, 42, 27, 182, 0, 188, 96]
abbrev dktX4_size_3 : List UInt8 := dkwX4_size_3 ++ dktX4_size_4
def dkwX4_size_2 : List UInt8 := [8, 160, 0, 12, 5, 29, 16, 100, 100, 104, 167, 0, 7, 29, 16, 100, 100, 172, 28, 5, 160, 0, 9, 42]
abbrev dktX4_size_2 : List UInt8 := dkwX4_size_2 ++ dktX4_size_3
def dkwX4_size_1 : List UInt8 := [42, 16, 14, 182, 0, 184, 28, 7, 161, 0, 34, 42, 16, 13, 182, 0, 184, 42, 16, 10, 182, 0, 184, 28]
abbrev dktX4_size_1 : List UInt8 := dkwX4_size_1 ++ dktX4_size_2
def dkwX4_size_0 : List UInt8 := [42, 180, 0, 25, 16, 18, 27, 96, 46, 61, 42, 180, 0, 25, 5, 27, 96, 46, 62, 28, 8, 160, 0, 9]
abbrev dktX4_size_0 : List UInt8 := dkwX4_size_0 ++ dktX4_size_1
theorem dksX4_size_0 : cX4_size.data.toList.drop 0 = dktX4_size_0 := by decide +kernel
theorem dksX4_size_1 : cX4_size.data.toList.drop 24 = dktX4_size_1 := dk_seg dksX4_size_0 24 rfl rfl
theorem dksX4_size_2 : cX4_size.data.toList.drop 48 = dktX4_size_2 := dk_seg dksX4_size_1 24 rfl rfl
theorem dksX4_size_3 : cX4_size.data.toList.drop 72 = dktX4_size_3 := dk_seg dksX4_size_2 24 rfl rfl
theorem dksX4_size_4 : cX4_size.data.toList.drop 96 = dktX4_size_4 := dk_seg dksX4_size_3 24 rfl rfl
theorem dX4_size_0 : decode cX4_size 0 = .ok (.aload_n 0, 1) := dk_42 (dk_at dksX4_size_0 0 rfl rfl)
theorem dX4_size_1 : decode cX4_size 1 = .ok (.getfield 25, 3) := dk_180 0 25 (dk_at dksX4_size_0 1 rfl rfl)
theorem dX4_size_4 : decode cX4_size 4 = .ok (.bipush 18, 2) := dk_16 18 (dk_at dksX4_size_0 4 rfl rfl)
theorem dX4_size_6 : decode cX4_size 6 = .ok (.iload_n 1, 1) := dk_27 (dk_at dksX4_size_0 6 rfl rfl)
theorem dX4_size_7 : decode cX4_size 7 = .ok (.iadd, 1) := dk_96 (dk_at dksX4_size_0 7 rfl rfl)
theorem dX4_size_8 : decode cX4_size 8 = .ok (.iaload, 1) := dk_46 (dk_at dksX4_size_0 8 rfl rfl)
theorem dX4_size_9 : decode cX4_size 9 = .ok (.istore_n 2, 1) := dk_61 (dk_at dksX4_size_0 9 rfl rfl)
theorem dX4_size_10 : decode cX4_size 10 = .ok (.aload_n 0, 1) := dk_42 (dk_at dksX4_size_0 10 rfl rfl)
theorem dX4_size_11 : decode cX4_size 11 = .ok (.getfield 25, 3) := dk_180 0 25 (dk_at dksX4_size_0 11 rfl rfl)
theorem dX4_size_14 : decode cX4_size 14 = .ok (.iconst 2, 1) := dk_5 (dk_at dksX4_size_0 14 rfl rfl)
theorem dX4_size_15 : decode cX4_size 15 = .ok (.iload_n 1, 1) := dk_27 (dk_at dksX4_size_0 15 rfl rfl)
theorem dX4_size_16 : decode cX4_size 16 = .ok (.iadd, 1) := dk_96 (dk_at dksX4_size_0 16 rfl rfl)
theorem dX4_size_17 : decode cX4_size 17 = .ok (.iaload, 1) := dk_46 (dk_at dksX4_size_0 17 rfl rfl)
theorem dX4_size_18 : decode cX4_size 18 = .ok (.istore_n 3, 1) := dk_62 (dk_at dksX4_size_0 18 rfl rfl)
theorem dX4_size_19 : decode cX4_size 19 = .ok (.iload_n 2, 1) := dk_28 (dk_at dksX4_size_0 19 rfl rfl)
theorem dX4_size_20 : decode cX4_size 20 = .ok (.iconst 5, 1) := dk_8 (dk_at dksX4_size_0 20 rfl rfl)
theorem dX4_size_21 : decode cX4_size 21 = .ok (.if_icmp .ne 9, 3) := dk_160 0 9 (dk_at dksX4_size_0 21 rfl rfl)
theorem dX4_size_24 : decode cX4_size 24 = .ok (.aload_n 0, 1) := dk_42 (dk_at dksX4_size_1 0 rfl rfl)
theorem dX4_size_25 : decode cX4_size 25 = .ok (.bipush 14, 2) := dk_16 14 (dk_at dksX4_size_1 1 rfl rfl)
theorem dX4_size_27 : decode cX4_size 27 = .ok (.invokevirtual 184, 3) := dk_182 0 184 (dk_at dksX4_size_1 3 rfl rfl)
theorem dX4_size_30 : decode cX4_size 30 = .ok (.iload_n 2, 1) := dk_28 (dk_at dksX4_size_1 6 rfl rfl)
theorem dX4_size_31 : decode cX4_size 31 = .ok (.iconst 4, 1) := dk_7 (dk_at dksX4_size_1 7 rfl rfl)
theorem dX4_size_32 : decode cX4_size 32 = .ok (.if_icmp .lt 34, 3) := dk_161 0 34 (dk_at dksX4_size_1 8 rfl rfl)
theorem dX4_size_35 : decode cX4_size 35 = .ok (.aload_n 0, 1) := dk_42 (dk_at dksX4_size_1 11 rfl rfl)
theorem dX4_size_36 : decode cX4_size 36 = .ok (.bipush 13, 2) := dk_16 13 (dk_at dksX4_size_1 12 rfl rfl)
theorem dX4_size_38 : decode cX4_size 38 = .ok (.invokevirtual 184, 3) := dk_182 0 184 (dk_at dksX4_size_1 14 rfl rfl)
theorem dX4_size_41 : decode cX4_size 41 = .ok (.aload_n 0, 1) := dk_42 (dk_at dksX4_size_1 17 rfl rfl)
theorem dX4_size_42 : decode cX4_size 42 = .ok (.bipush 10, 2) := dk_16 10 (dk_at dksX4_size_1 18 rfl rfl)
theorem dX4_size_44 : decode cX4_size 44 = .ok (.invokevirtual 184, 3) := dk_182 0 184 (dk_at dksX4_size_1 20 rfl rfl)
theorem dX4_size_47 : decode cX4_size 47 = .ok (.iload_n 2, 1) := dk_28 (dk_at dksX4_size_1 23 rfl rfl)
theorem dX4_size_48 : decode cX4_size 48 = .ok (.iconst 5, 1) := dk_8 (dk_at dksX4_size_2 0 rfl rfl)
theorem dX4_size_49 : decode cX4_size 49 = .ok (.if_icmp .ne 12, 3) := dk_160 0 12 (dk_at dksX4_size_2 1 rfl rfl)
theorem dX4_size_52 : decode cX4_size 52 = .ok (.iconst 2, 1) := dk_5 (dk_at dksX4_size_2 4 rfl rfl)
theorem dX4_size_53 : decode cX4_size 53 = .ok (.iload_n 3, 1) := dk_29 (dk_at dksX4_size_2 5 rfl rfl)
theorem dX4_size_54 : decode cX4_size 54 = .ok (.bipush 100, 2) := dk_16 100 (dk_at dksX4_size_2 6 rfl rfl)
theorem dX4_size_56 : decode cX4_size 56 = .ok (.isub, 1) := dk_100 (dk_at dksX4_size_2 8 rfl rfl)
theorem dX4_size_57 : decode cX4_size 57 = .ok (.imul, 1) := dk_104 (dk_at dksX4_size_2 9 rfl rfl)
theorem dX4_size_58 : decode cX4_size 58 = .ok (.goto 7, 3) := dk_167 0 7 (dk_at dksX4_size_2 10 rfl rfl)
theorem dX4_size_61 : decode cX4_size 61 = .ok (.iload_n 3, 1) := dk_29 (dk_at dksX4_size_2 13 rfl rfl)
theorem dX4_size_62 : decode cX4_size 62 = .ok (.bipush 100, 2) := dk_16 100 (dk_at dksX4_size_2 14 rfl rfl)
theorem dX4_size_64 : decode cX4_size 64 = .ok (.isub, 1) := dk_100 (dk_at dksX4_size_2 16 rfl rfl)
theorem dX4_size_65 : decode cX4_size 65 = .ok (.ireturn, 1) := dk_172 (dk_at dksX4_size_2 17 rfl rfl)
theorem dX4_size_66 : decode cX4_size 66 = .ok (.iload_n 2, 1) := dk_28 (dk_at dksX4_size_2 18 rfl rfl)
theorem dX4_size_67 : decode cX4_size 67 = .ok (.iconst 2, 1) := dk_5 (dk_at dksX4_size_2 19 rfl rfl)
theorem dX4_size_68 : decode cX4_size 68 = .ok (.if_icmp .ne 9, 3) := dk_160 0 9 (dk_at dksX4_size_2 20 rfl rfl)
theorem dX4_size_71 : decode cX4_size 71 = .ok (.aload_n 0, 1) := dk_42 (dk_at dksX4_size_2 23 rfl rfl)
theorem dX4_size_72 : decode cX4_size 72 = .ok (.bipush 12, 2) := dk_16 12 (dk_at dksX4_size_3 0 rfl rfl)
theorem dX4_size_74 : decode cX4_size 74 = .ok (.invokevirtual 184, 3) := dk_182 0 184 (dk_at dksX4_size_3 2 rfl rfl)
theorem dX4_size_77 : decode cX4_size 77 = .ok (.aload_n 0, 1) := dk_42 (dk_at dksX4_size_3 5 rfl rfl)
theorem dX4_size_78 : decode cX4_size 78 = .ok (.bipush 11, 2) := dk_16 11 (dk_at dksX4_size_3 6 rfl rfl)
theorem dX4_size_80 : decode cX4_size 80 = .ok (.invokevirtual 184, 3) := dk_182 0 184 (dk_at dksX4_size_3 8 rfl rfl)
theorem dX4_size_83 : decode cX4_size 83 = .ok (.aload_n 0, 1) := dk_42 (dk_at dksX4_size_3 11 rfl rfl)
theorem dX4_size_84 : decode cX4_size 84 = .ok (.bipush 10, 2) := dk_16 10 (dk_at dksX4_size_3 12 rfl rfl)
theorem dX4_size_86 : decode cX4_size 86 = .ok (.invokevirtual 184, 3) := dk_182 0 184 (dk_at dksX4_size_3 14 rfl rfl)
theorem dX4_size_89 : decode cX4_size 89 = .ok (.iload_n 3, 1) := dk_29 (dk_at dksX4_size_3 17 rfl rfl)
theorem dX4_size_90 : decode cX4_size 90 = .ok (.aload_n 0, 1) := dk_42 (dk_at dksX4_size_3 18 rfl rfl)
theorem dX4_size_91 : decode cX4_size 91 = .ok (.iload_n 1, 1) := dk_27 (dk_at dksX4_size_3 19 rfl rfl)
theorem dX4_size_92 : decode cX4_size 92 = .ok (.invokevirtual 188, 3) := dk_182 0 188 (dk_at dksX4_size_3 20 rfl rfl)
theorem dX4_size_95 : decode cX4_size 95 = .ok (.iadd, 1) := dk_96 (dk_at dksX4_size_3 23 rfl rfl)
theorem dX4_size_96 : decode cX4_size 96 = .ok (.istore 4, 2) := dk_54 4 (dk_at dksX4_size_4 0 rfl rfl)
theorem dX4_size_98 : decode cX4_size 98 = .ok (.iload_n 2, 1) := dk_28 (dk_at dksX4_size_4 2 rfl rfl)
theorem dX4_size_99 : decode cX4_size 99 = .ok (.iconst 2, 1) := dk_5 (dk_at dksX4_size_4 3 rfl rfl)
theorem dX4_size_100 : decode cX4_size 100 = .ok (.if_icmp .ne 9, 3) := dk_160 0 9 (dk_at dksX4_size_4 4 rfl rfl)
theorem dX4_size_103 : decode cX4_size 103 = .ok (.iload 4, 2) := dk_21 4 (dk_at dksX4_size_4 7 rfl rfl)
theorem dX4_size_105 : decode cX4_size 105 = .ok (.ineg, 1) := dk_116 (dk_at dksX4_size_4 9 rfl rfl)
theorem dX4_size_106 : decode cX4_size 106 = .ok (.goto 5, 3) := dk_167 0 5 (dk_at dksX4_size_4 10 rfl rfl)
theorem dX4_size_109 : decode cX4_size 109 = .ok (.iload 4, 2) := dk_21 4 (dk_at dksX4_size_4 13 rfl rfl)
theorem dX4_size_111 : decode cX4_size 111 = .ok (.ireturn, 1) := dk_172 (dk_at dksX4_size_4 15 rfl rfl)
abbrev cX4_begins : ByteArray := prog_22_method_58_code
def yX4_begins : MethodName := ⟨RX4, "begins", "(I)V"⟩
def dkwX4_begins_1 : List UInt8 := [180, 0, 181, 4, 96, 181, 0, 181, 177]
abbrev dktX4_begins_1 : List UInt8 := dkwX4_begins_1 ++ []
def dkwX4_begins_0 : List UInt8 := [42, 180, 0, 181, 42, 180, 0, 47, 190, 162, 0, 23, 42, 180, 0, 47, 42, 180, 0, 181, 27, 79, 42, 89]
abbrev dktX4_begins_0 : List UInt8 := dkwX4_begins_0 ++ dktX4_begins_1
theorem dksX4_begins_0 : cX4_begins.data.toList.drop 0 = dktX4_begins_0 := by decide +kernel
theorem dksX4_begins_1 : cX4_begins.data.toList.drop 24 = dktX4_begins_1 := dk_seg dksX4_begins_0 24 rfl rfl
theorem dX4_begins_0 : decode cX4_begins 0 = .ok (.aload_n 0, 1) := dk_42 (dk_at dksX4_begins_0 0 rfl rfl)
theorem dX4_begins_1 : decode cX4_begins 1 = .ok (.getfield 181, 3) := dk_180 0 181 (dk_at dksX4_begins_0 1 rfl rfl)
theorem dX4_begins_4 : decode cX4_begins 4 = .ok (.aload_n 0, 1) := dk_42 (dk_at dksX4_begins_0 4 rfl rfl)
theorem dX4_begins_5 : decode cX4_begins 5 = .ok (.getfield 47, 3) := dk_180 0 47 (dk_at dksX4_begins_0 5 rfl rfl)
theorem dX4_begins_8 : decode cX4_begins 8 = .ok (.arraylength, 1) := dk_190 (dk_at dksX4_begins_0 8 rfl rfl)
theorem dX4_begins_9 : decode cX4_begins 9 = .ok (.if_icmp .ge 23, 3) := dk_162 0 23 (dk_at dksX4_begins_0 9 rfl rfl)
theorem dX4_begins_12 : decode cX4_begins 12 = .ok (.aload_n 0, 1) := dk_42 (dk_at dksX4_begins_0 12 rfl rfl)
theorem dX4_begins_13 : decode cX4_begins 13 = .ok (.getfield 47, 3) := dk_180 0 47 (dk_at dksX4_begins_0 13 rfl rfl)
theorem dX4_begins_16 : decode cX4_begins 16 = .ok (.aload_n 0, 1) := dk_42 (dk_at dksX4_begins_0 16 rfl rfl)
theorem dX4_begins_17 : decode cX4_begins 17 = .ok (.getfield 181, 3) := dk_180 0 181 (dk_at dksX4_begins_0 17 rfl rfl)
theorem dX4_begins_20 : decode cX4_begins 20 = .ok (.iload_n 1, 1) := dk_27 (dk_at dksX4_begins_0 20 rfl rfl)
theorem dX4_begins_21 : decode cX4_begins 21 = .ok (.iastore, 1) := dk_79 (dk_at dksX4_begins_0 21 rfl rfl)
theorem dX4_begins_22 : decode cX4_begins 22 = .ok (.aload_n 0, 1) := dk_42 (dk_at dksX4_begins_0 22 rfl rfl)
theorem dX4_begins_23 : decode cX4_begins 23 = .ok (.dup, 1) := dk_89 (dk_at dksX4_begins_0 23 rfl rfl)
theorem dX4_begins_24 : decode cX4_begins 24 = .ok (.getfield 181, 3) := dk_180 0 181 (dk_at dksX4_begins_1 0 rfl rfl)
theorem dX4_begins_27 : decode cX4_begins 27 = .ok (.iconst 1, 1) := dk_4 (dk_at dksX4_begins_1 3 rfl rfl)
theorem dX4_begins_28 : decode cX4_begins 28 = .ok (.iadd, 1) := dk_96 (dk_at dksX4_begins_1 4 rfl rfl)
theorem dX4_begins_29 : decode cX4_begins 29 = .ok (.putfield 181, 3) := dk_181 0 181 (dk_at dksX4_begins_1 5 rfl rfl)
theorem dX4_begins_32 : decode cX4_begins 32 = .ok (.return_, 1) := dk_177 (dk_at dksX4_begins_1 8 rfl rfl)
abbrev cX4_stands : ByteArray := prog_22_method_60_code
def yX4_stands : MethodName := ⟨RX4, "stands", "(I)I"⟩
def dkwX4_stands_3 : List UInt8 := [160, 0, 11, 29, 17, 3, 232, 100, 167, 0, 4, 29, 172]
abbrev dktX4_stands_3 : List UInt8 := dkwX4_stands_3 ++ []
def dkwX4_stands_2 : List UInt8 := [180, 0, 25, 16, 9, 27, 96, 46, 96, 62, 28, 5, 160, 0, 9, 5, 29, 104, 167, 0, 17, 28, 6]
abbrev dktX4_stands_2 : List UInt8 := dkwX4_stands_2 ++ dktX4_stands_3
def dkwX4_stands_1 : List UInt8 := [167, 0, 5, 16, 22, 182, 0, 184, 42, 16, 21, 182, 0, 184, 42, 16, 20, 182, 0, 184, 27, 42]
abbrev dktX4_stands_1 : List UInt8 := dkwX4_stands_1 ++ dktX4_stands_2
def dkwX4_stands_0 : List UInt8 := [42, 180, 0, 25, 16, 18, 27, 96, 46, 61, 28, 4, 159, 0, 19, 42, 28, 5, 160, 0, 8, 16, 24]
abbrev dktX4_stands_0 : List UInt8 := dkwX4_stands_0 ++ dktX4_stands_1
theorem dksX4_stands_0 : cX4_stands.data.toList.drop 0 = dktX4_stands_0 := by decide +kernel
theorem dksX4_stands_1 : cX4_stands.data.toList.drop 23 = dktX4_stands_1 := dk_seg dksX4_stands_0 23 rfl rfl
theorem dksX4_stands_2 : cX4_stands.data.toList.drop 45 = dktX4_stands_2 := dk_seg dksX4_stands_1 22 rfl rfl
theorem dksX4_stands_3 : cX4_stands.data.toList.drop 68 = dktX4_stands_3 := dk_seg dksX4_stands_2 23 rfl rfl
theorem dX4_stands_0 : decode cX4_stands 0 = .ok (.aload_n 0, 1) := dk_42 (dk_at dksX4_stands_0 0 rfl rfl)
theorem dX4_stands_1 : decode cX4_stands 1 = .ok (.getfield 25, 3) := dk_180 0 25 (dk_at dksX4_stands_0 1 rfl rfl)
theorem dX4_stands_4 : decode cX4_stands 4 = .ok (.bipush 18, 2) := dk_16 18 (dk_at dksX4_stands_0 4 rfl rfl)
theorem dX4_stands_6 : decode cX4_stands 6 = .ok (.iload_n 1, 1) := dk_27 (dk_at dksX4_stands_0 6 rfl rfl)
theorem dX4_stands_7 : decode cX4_stands 7 = .ok (.iadd, 1) := dk_96 (dk_at dksX4_stands_0 7 rfl rfl)
theorem dX4_stands_8 : decode cX4_stands 8 = .ok (.iaload, 1) := dk_46 (dk_at dksX4_stands_0 8 rfl rfl)
theorem dX4_stands_9 : decode cX4_stands 9 = .ok (.istore_n 2, 1) := dk_61 (dk_at dksX4_stands_0 9 rfl rfl)
theorem dX4_stands_10 : decode cX4_stands 10 = .ok (.iload_n 2, 1) := dk_28 (dk_at dksX4_stands_0 10 rfl rfl)
theorem dX4_stands_11 : decode cX4_stands 11 = .ok (.iconst 1, 1) := dk_4 (dk_at dksX4_stands_0 11 rfl rfl)
theorem dX4_stands_12 : decode cX4_stands 12 = .ok (.if_icmp .eq 19, 3) := dk_159 0 19 (dk_at dksX4_stands_0 12 rfl rfl)
theorem dX4_stands_15 : decode cX4_stands 15 = .ok (.aload_n 0, 1) := dk_42 (dk_at dksX4_stands_0 15 rfl rfl)
theorem dX4_stands_16 : decode cX4_stands 16 = .ok (.iload_n 2, 1) := dk_28 (dk_at dksX4_stands_0 16 rfl rfl)
theorem dX4_stands_17 : decode cX4_stands 17 = .ok (.iconst 2, 1) := dk_5 (dk_at dksX4_stands_0 17 rfl rfl)
theorem dX4_stands_18 : decode cX4_stands 18 = .ok (.if_icmp .ne 8, 3) := dk_160 0 8 (dk_at dksX4_stands_0 18 rfl rfl)
theorem dX4_stands_21 : decode cX4_stands 21 = .ok (.bipush 24, 2) := dk_16 24 (dk_at dksX4_stands_0 21 rfl rfl)
theorem dX4_stands_23 : decode cX4_stands 23 = .ok (.goto 5, 3) := dk_167 0 5 (dk_at dksX4_stands_1 0 rfl rfl)
theorem dX4_stands_26 : decode cX4_stands 26 = .ok (.bipush 22, 2) := dk_16 22 (dk_at dksX4_stands_1 3 rfl rfl)
theorem dX4_stands_28 : decode cX4_stands 28 = .ok (.invokevirtual 184, 3) := dk_182 0 184 (dk_at dksX4_stands_1 5 rfl rfl)
theorem dX4_stands_31 : decode cX4_stands 31 = .ok (.aload_n 0, 1) := dk_42 (dk_at dksX4_stands_1 8 rfl rfl)
theorem dX4_stands_32 : decode cX4_stands 32 = .ok (.bipush 21, 2) := dk_16 21 (dk_at dksX4_stands_1 9 rfl rfl)
theorem dX4_stands_34 : decode cX4_stands 34 = .ok (.invokevirtual 184, 3) := dk_182 0 184 (dk_at dksX4_stands_1 11 rfl rfl)
theorem dX4_stands_37 : decode cX4_stands 37 = .ok (.aload_n 0, 1) := dk_42 (dk_at dksX4_stands_1 14 rfl rfl)
theorem dX4_stands_38 : decode cX4_stands 38 = .ok (.bipush 20, 2) := dk_16 20 (dk_at dksX4_stands_1 15 rfl rfl)
theorem dX4_stands_40 : decode cX4_stands 40 = .ok (.invokevirtual 184, 3) := dk_182 0 184 (dk_at dksX4_stands_1 17 rfl rfl)
theorem dX4_stands_43 : decode cX4_stands 43 = .ok (.iload_n 1, 1) := dk_27 (dk_at dksX4_stands_1 20 rfl rfl)
theorem dX4_stands_44 : decode cX4_stands 44 = .ok (.aload_n 0, 1) := dk_42 (dk_at dksX4_stands_1 21 rfl rfl)
theorem dX4_stands_45 : decode cX4_stands 45 = .ok (.getfield 25, 3) := dk_180 0 25 (dk_at dksX4_stands_2 0 rfl rfl)
theorem dX4_stands_48 : decode cX4_stands 48 = .ok (.bipush 9, 2) := dk_16 9 (dk_at dksX4_stands_2 3 rfl rfl)
theorem dX4_stands_50 : decode cX4_stands 50 = .ok (.iload_n 1, 1) := dk_27 (dk_at dksX4_stands_2 5 rfl rfl)
theorem dX4_stands_51 : decode cX4_stands 51 = .ok (.iadd, 1) := dk_96 (dk_at dksX4_stands_2 6 rfl rfl)
theorem dX4_stands_52 : decode cX4_stands 52 = .ok (.iaload, 1) := dk_46 (dk_at dksX4_stands_2 7 rfl rfl)
theorem dX4_stands_53 : decode cX4_stands 53 = .ok (.iadd, 1) := dk_96 (dk_at dksX4_stands_2 8 rfl rfl)
theorem dX4_stands_54 : decode cX4_stands 54 = .ok (.istore_n 3, 1) := dk_62 (dk_at dksX4_stands_2 9 rfl rfl)
theorem dX4_stands_55 : decode cX4_stands 55 = .ok (.iload_n 2, 1) := dk_28 (dk_at dksX4_stands_2 10 rfl rfl)
theorem dX4_stands_56 : decode cX4_stands 56 = .ok (.iconst 2, 1) := dk_5 (dk_at dksX4_stands_2 11 rfl rfl)
theorem dX4_stands_57 : decode cX4_stands 57 = .ok (.if_icmp .ne 9, 3) := dk_160 0 9 (dk_at dksX4_stands_2 12 rfl rfl)
theorem dX4_stands_60 : decode cX4_stands 60 = .ok (.iconst 2, 1) := dk_5 (dk_at dksX4_stands_2 15 rfl rfl)
theorem dX4_stands_61 : decode cX4_stands 61 = .ok (.iload_n 3, 1) := dk_29 (dk_at dksX4_stands_2 16 rfl rfl)
theorem dX4_stands_62 : decode cX4_stands 62 = .ok (.imul, 1) := dk_104 (dk_at dksX4_stands_2 17 rfl rfl)
theorem dX4_stands_63 : decode cX4_stands 63 = .ok (.goto 17, 3) := dk_167 0 17 (dk_at dksX4_stands_2 18 rfl rfl)
theorem dX4_stands_66 : decode cX4_stands 66 = .ok (.iload_n 2, 1) := dk_28 (dk_at dksX4_stands_2 21 rfl rfl)
theorem dX4_stands_67 : decode cX4_stands 67 = .ok (.iconst 3, 1) := dk_6 (dk_at dksX4_stands_2 22 rfl rfl)
theorem dX4_stands_68 : decode cX4_stands 68 = .ok (.if_icmp .ne 11, 3) := dk_160 0 11 (dk_at dksX4_stands_3 0 rfl rfl)
theorem dX4_stands_71 : decode cX4_stands 71 = .ok (.iload_n 3, 1) := dk_29 (dk_at dksX4_stands_3 3 rfl rfl)
theorem dX4_stands_72 : decode cX4_stands 72 = .ok (.sipush 1000, 3) := dk_17 3 232 (dk_at dksX4_stands_3 4 rfl rfl)
theorem dX4_stands_75 : decode cX4_stands 75 = .ok (.isub, 1) := dk_100 (dk_at dksX4_stands_3 7 rfl rfl)
theorem dX4_stands_76 : decode cX4_stands 76 = .ok (.goto 4, 3) := dk_167 0 4 (dk_at dksX4_stands_3 8 rfl rfl)
theorem dX4_stands_79 : decode cX4_stands 79 = .ok (.iload_n 3, 1) := dk_29 (dk_at dksX4_stands_3 11 rfl rfl)
theorem dX4_stands_80 : decode cX4_stands 80 = .ok (.ireturn, 1) := dk_172 (dk_at dksX4_stands_3 12 rfl rfl)
abbrev cX4_trace : ByteArray := prog_22_method_62_code
def yX4_trace : MethodName := ⟨RX4, "trace", "(I)I"⟩
def dkwX4_trace_1 : List UInt8 := [18, 154, 172]
abbrev dktX4_trace_1 : List UInt8 := dkwX4_trace_1 ++ []
def dkwX4_trace_0 : List UInt8 := [27, 3, 42, 180, 0, 181, 4, 100, 184, 0, 50, 153, 0, 12, 42, 180, 0, 47, 27, 46, 167, 0, 5]
abbrev dktX4_trace_0 : List UInt8 := dkwX4_trace_0 ++ dktX4_trace_1
theorem dksX4_trace_0 : cX4_trace.data.toList.drop 0 = dktX4_trace_0 := by decide +kernel
theorem dksX4_trace_1 : cX4_trace.data.toList.drop 23 = dktX4_trace_1 := dk_seg dksX4_trace_0 23 rfl rfl
theorem dX4_trace_0 : decode cX4_trace 0 = .ok (.iload_n 1, 1) := dk_27 (dk_at dksX4_trace_0 0 rfl rfl)
theorem dX4_trace_1 : decode cX4_trace 1 = .ok (.iconst 0, 1) := dk_3 (dk_at dksX4_trace_0 1 rfl rfl)
theorem dX4_trace_2 : decode cX4_trace 2 = .ok (.aload_n 0, 1) := dk_42 (dk_at dksX4_trace_0 2 rfl rfl)
theorem dX4_trace_3 : decode cX4_trace 3 = .ok (.getfield 181, 3) := dk_180 0 181 (dk_at dksX4_trace_0 3 rfl rfl)
theorem dX4_trace_6 : decode cX4_trace 6 = .ok (.iconst 1, 1) := dk_4 (dk_at dksX4_trace_0 6 rfl rfl)
theorem dX4_trace_7 : decode cX4_trace 7 = .ok (.isub, 1) := dk_100 (dk_at dksX4_trace_0 7 rfl rfl)
theorem dX4_trace_8 : decode cX4_trace 8 = .ok (.invokestatic 50, 3) := dk_184 0 50 (dk_at dksX4_trace_0 8 rfl rfl)
theorem dX4_trace_11 : decode cX4_trace 11 = .ok (.ifCond .eq 12, 3) := dk_153 0 12 (dk_at dksX4_trace_0 11 rfl rfl)
theorem dX4_trace_14 : decode cX4_trace 14 = .ok (.aload_n 0, 1) := dk_42 (dk_at dksX4_trace_0 14 rfl rfl)
theorem dX4_trace_15 : decode cX4_trace 15 = .ok (.getfield 47, 3) := dk_180 0 47 (dk_at dksX4_trace_0 15 rfl rfl)
theorem dX4_trace_18 : decode cX4_trace 18 = .ok (.iload_n 1, 1) := dk_27 (dk_at dksX4_trace_0 18 rfl rfl)
theorem dX4_trace_19 : decode cX4_trace 19 = .ok (.iaload, 1) := dk_46 (dk_at dksX4_trace_0 19 rfl rfl)
theorem dX4_trace_20 : decode cX4_trace 20 = .ok (.goto 5, 3) := dk_167 0 5 (dk_at dksX4_trace_0 20 rfl rfl)
theorem dX4_trace_23 : decode cX4_trace 23 = .ok (.ldc 154, 2) := dk_18 154 (dk_at dksX4_trace_1 0 rfl rfl)
theorem dX4_trace_25 : decode cX4_trace 25 = .ok (.ireturn, 1) := dk_172 (dk_at dksX4_trace_1 2 rfl rfl)
abbrev cX4_count : ByteArray := prog_22_method_63_code
def yX4_count : MethodName := ⟨RX4, "count", "(I)I"⟩
def dkwX4_count_9 : List UInt8 := [18, 65, 172]
abbrev dktX4_count_9 : List UInt8 := dkwX4_count_9 ++ []
def dkwX4_count_8 : List UInt8 := [167, 255, 220, 28, 172, 42, 180, 0, 25, 184, 0, 144, 172, 42, 180, 0, 115, 172, 42, 180, 0, 79, 172]
abbrev dktX4_count_8 : List UInt8 := dkwX4_count_8 ++ dktX4_count_9
def dkwX4_count_7 : List UInt8 := [180, 0, 25, 5, 29, 96, 46, 184, 0, 130, 153, 0, 7, 4, 167, 0, 4, 3, 96, 61, 132, 3, 1]
abbrev dktX4_count_7 : List UInt8 := dkwX4_count_7 ++ dktX4_count_8
def dkwX4_count_6 : List UInt8 := [132, 3, 1, 167, 255, 222, 28, 172, 3, 62, 29, 42, 180, 0, 25, 16, 17, 46, 162, 0, 31, 28, 42]
abbrev dktX4_count_6 : List UInt8 := dkwX4_count_6 ++ dktX4_count_7
def dkwX4_count_5 : List UInt8 := [46, 162, 0, 29, 28, 42, 180, 0, 25, 5, 29, 96, 46, 2, 160, 0, 7, 4, 167, 0, 4, 3, 96, 61]
abbrev dktX4_count_5 : List UInt8 := dkwX4_count_5 ++ dktX4_count_6
def dkwX4_count_4 : List UInt8 := [172, 42, 180, 0, 25, 3, 46, 172, 42, 180, 0, 25, 4, 46, 172, 3, 62, 29, 42, 180, 0, 25, 16, 17]
abbrev dktX4_count_4 : List UInt8 := dkwX4_count_4 ++ dktX4_count_5
def dkwX4_count_3 : List UInt8 := [61, 132, 3, 1, 167, 255, 230, 28, 172, 42, 180, 0, 25, 16, 17, 46, 172, 42, 180, 0, 25, 16, 16, 46]
abbrev dktX4_count_3 : List UInt8 := dkwX4_count_3 ++ dktX4_count_4
def dkwX4_count_2 : List UInt8 := [3, 62, 29, 16, 8, 162, 0, 26, 28, 42, 180, 0, 7, 29, 46, 156, 0, 7, 3, 167, 0, 4, 4, 96]
abbrev dktX4_count_2 : List UInt8 := dkwX4_count_2 ++ dktX4_count_3
def dkwX4_count_1 : List UInt8 := [170, 0, 0, 0, 218, 0, 0, 0, 0, 0, 0, 0, 9, 0, 0, 0, 53, 0, 0, 0, 86, 0, 0, 0, 94, 0, 0, 0, 102, 0, 0, 0, 109, 0, 0, 0, 116, 0, 0, 0, 157, 0, 0, 0, 200, 0, 0, 0, 208, 0, 0, 0, 213]
abbrev dktX4_count_1 : List UInt8 := dkwX4_count_1 ++ dktX4_count_2
def dkwX4_count_0 : List UInt8 := [3, 61, 27]
abbrev dktX4_count_0 : List UInt8 := dkwX4_count_0 ++ dktX4_count_1
theorem dksX4_count_0 : cX4_count.data.toList.drop 0 = dktX4_count_0 := by decide +kernel
theorem dksX4_count_1 : cX4_count.data.toList.drop 3 = dktX4_count_1 := dk_seg dksX4_count_0 3 rfl rfl
theorem dksX4_count_2 : cX4_count.data.toList.drop 56 = dktX4_count_2 := dk_seg dksX4_count_1 53 rfl rfl
theorem dksX4_count_3 : cX4_count.data.toList.drop 80 = dktX4_count_3 := dk_seg dksX4_count_2 24 rfl rfl
theorem dksX4_count_4 : cX4_count.data.toList.drop 104 = dktX4_count_4 := dk_seg dksX4_count_3 24 rfl rfl
theorem dksX4_count_5 : cX4_count.data.toList.drop 128 = dktX4_count_5 := dk_seg dksX4_count_4 24 rfl rfl
theorem dksX4_count_6 : cX4_count.data.toList.drop 152 = dktX4_count_6 := dk_seg dksX4_count_5 24 rfl rfl
theorem dksX4_count_7 : cX4_count.data.toList.drop 175 = dktX4_count_7 := dk_seg dksX4_count_6 23 rfl rfl
theorem dksX4_count_8 : cX4_count.data.toList.drop 198 = dktX4_count_8 := dk_seg dksX4_count_7 23 rfl rfl
theorem dksX4_count_9 : cX4_count.data.toList.drop 221 = dktX4_count_9 := dk_seg dksX4_count_8 23 rfl rfl
theorem dX4_count_0 : decode cX4_count 0 = .ok (.iconst 0, 1) := dk_3 (dk_at dksX4_count_0 0 rfl rfl)
theorem dX4_count_1 : decode cX4_count 1 = .ok (.istore_n 2, 1) := dk_61 (dk_at dksX4_count_0 1 rfl rfl)
theorem dX4_count_2 : decode cX4_count 2 = .ok (.iload_n 1, 1) := dk_27 (dk_at dksX4_count_0 2 rfl rfl)
theorem dX4_count_3 : decode cX4_count 3 = .ok (.tableswitch 218 0 9 #[53, 86, 94, 102, 109, 116, 157, 200, 208, 213], 53) := by decide +kernel
theorem dX4_count_56 : decode cX4_count 56 = .ok (.iconst 0, 1) := dk_3 (dk_at dksX4_count_2 0 rfl rfl)
theorem dX4_count_57 : decode cX4_count 57 = .ok (.istore_n 3, 1) := dk_62 (dk_at dksX4_count_2 1 rfl rfl)
theorem dX4_count_58 : decode cX4_count 58 = .ok (.iload_n 3, 1) := dk_29 (dk_at dksX4_count_2 2 rfl rfl)
theorem dX4_count_59 : decode cX4_count 59 = .ok (.bipush 8, 2) := dk_16 8 (dk_at dksX4_count_2 3 rfl rfl)
theorem dX4_count_61 : decode cX4_count 61 = .ok (.if_icmp .ge 26, 3) := dk_162 0 26 (dk_at dksX4_count_2 5 rfl rfl)
theorem dX4_count_64 : decode cX4_count 64 = .ok (.iload_n 2, 1) := dk_28 (dk_at dksX4_count_2 8 rfl rfl)
theorem dX4_count_65 : decode cX4_count 65 = .ok (.aload_n 0, 1) := dk_42 (dk_at dksX4_count_2 9 rfl rfl)
theorem dX4_count_66 : decode cX4_count 66 = .ok (.getfield 7, 3) := dk_180 0 7 (dk_at dksX4_count_2 10 rfl rfl)
theorem dX4_count_69 : decode cX4_count 69 = .ok (.iload_n 3, 1) := dk_29 (dk_at dksX4_count_2 13 rfl rfl)
theorem dX4_count_70 : decode cX4_count 70 = .ok (.iaload, 1) := dk_46 (dk_at dksX4_count_2 14 rfl rfl)
theorem dX4_count_71 : decode cX4_count 71 = .ok (.ifCond .ge 7, 3) := dk_156 0 7 (dk_at dksX4_count_2 15 rfl rfl)
theorem dX4_count_74 : decode cX4_count 74 = .ok (.iconst 0, 1) := dk_3 (dk_at dksX4_count_2 18 rfl rfl)
theorem dX4_count_75 : decode cX4_count 75 = .ok (.goto 4, 3) := dk_167 0 4 (dk_at dksX4_count_2 19 rfl rfl)
theorem dX4_count_78 : decode cX4_count 78 = .ok (.iconst 1, 1) := dk_4 (dk_at dksX4_count_2 22 rfl rfl)
theorem dX4_count_79 : decode cX4_count 79 = .ok (.iadd, 1) := dk_96 (dk_at dksX4_count_2 23 rfl rfl)
theorem dX4_count_80 : decode cX4_count 80 = .ok (.istore_n 2, 1) := dk_61 (dk_at dksX4_count_3 0 rfl rfl)
theorem dX4_count_81 : decode cX4_count 81 = .ok (.iinc 3 1, 3) := dk_132 3 1 (dk_at dksX4_count_3 1 rfl rfl)
theorem dX4_count_84 : decode cX4_count 84 = .ok (.goto (-26), 3) := dk_167 255 230 (dk_at dksX4_count_3 4 rfl rfl)
theorem dX4_count_87 : decode cX4_count 87 = .ok (.iload_n 2, 1) := dk_28 (dk_at dksX4_count_3 7 rfl rfl)
theorem dX4_count_88 : decode cX4_count 88 = .ok (.ireturn, 1) := dk_172 (dk_at dksX4_count_3 8 rfl rfl)
theorem dX4_count_89 : decode cX4_count 89 = .ok (.aload_n 0, 1) := dk_42 (dk_at dksX4_count_3 9 rfl rfl)
theorem dX4_count_90 : decode cX4_count 90 = .ok (.getfield 25, 3) := dk_180 0 25 (dk_at dksX4_count_3 10 rfl rfl)
theorem dX4_count_93 : decode cX4_count 93 = .ok (.bipush 17, 2) := dk_16 17 (dk_at dksX4_count_3 13 rfl rfl)
theorem dX4_count_95 : decode cX4_count 95 = .ok (.iaload, 1) := dk_46 (dk_at dksX4_count_3 15 rfl rfl)
theorem dX4_count_96 : decode cX4_count 96 = .ok (.ireturn, 1) := dk_172 (dk_at dksX4_count_3 16 rfl rfl)
theorem dX4_count_97 : decode cX4_count 97 = .ok (.aload_n 0, 1) := dk_42 (dk_at dksX4_count_3 17 rfl rfl)
theorem dX4_count_98 : decode cX4_count 98 = .ok (.getfield 25, 3) := dk_180 0 25 (dk_at dksX4_count_3 18 rfl rfl)
theorem dX4_count_101 : decode cX4_count 101 = .ok (.bipush 16, 2) := dk_16 16 (dk_at dksX4_count_3 21 rfl rfl)
theorem dX4_count_103 : decode cX4_count 103 = .ok (.iaload, 1) := dk_46 (dk_at dksX4_count_3 23 rfl rfl)
theorem dX4_count_104 : decode cX4_count 104 = .ok (.ireturn, 1) := dk_172 (dk_at dksX4_count_4 0 rfl rfl)
theorem dX4_count_105 : decode cX4_count 105 = .ok (.aload_n 0, 1) := dk_42 (dk_at dksX4_count_4 1 rfl rfl)
theorem dX4_count_106 : decode cX4_count 106 = .ok (.getfield 25, 3) := dk_180 0 25 (dk_at dksX4_count_4 2 rfl rfl)
theorem dX4_count_109 : decode cX4_count 109 = .ok (.iconst 0, 1) := dk_3 (dk_at dksX4_count_4 5 rfl rfl)
theorem dX4_count_110 : decode cX4_count 110 = .ok (.iaload, 1) := dk_46 (dk_at dksX4_count_4 6 rfl rfl)
theorem dX4_count_111 : decode cX4_count 111 = .ok (.ireturn, 1) := dk_172 (dk_at dksX4_count_4 7 rfl rfl)
theorem dX4_count_112 : decode cX4_count 112 = .ok (.aload_n 0, 1) := dk_42 (dk_at dksX4_count_4 8 rfl rfl)
theorem dX4_count_113 : decode cX4_count 113 = .ok (.getfield 25, 3) := dk_180 0 25 (dk_at dksX4_count_4 9 rfl rfl)
theorem dX4_count_116 : decode cX4_count 116 = .ok (.iconst 1, 1) := dk_4 (dk_at dksX4_count_4 12 rfl rfl)
theorem dX4_count_117 : decode cX4_count 117 = .ok (.iaload, 1) := dk_46 (dk_at dksX4_count_4 13 rfl rfl)
theorem dX4_count_118 : decode cX4_count 118 = .ok (.ireturn, 1) := dk_172 (dk_at dksX4_count_4 14 rfl rfl)
theorem dX4_count_119 : decode cX4_count 119 = .ok (.iconst 0, 1) := dk_3 (dk_at dksX4_count_4 15 rfl rfl)
theorem dX4_count_120 : decode cX4_count 120 = .ok (.istore_n 3, 1) := dk_62 (dk_at dksX4_count_4 16 rfl rfl)
theorem dX4_count_121 : decode cX4_count 121 = .ok (.iload_n 3, 1) := dk_29 (dk_at dksX4_count_4 17 rfl rfl)
theorem dX4_count_122 : decode cX4_count 122 = .ok (.aload_n 0, 1) := dk_42 (dk_at dksX4_count_4 18 rfl rfl)
theorem dX4_count_123 : decode cX4_count 123 = .ok (.getfield 25, 3) := dk_180 0 25 (dk_at dksX4_count_4 19 rfl rfl)
theorem dX4_count_126 : decode cX4_count 126 = .ok (.bipush 17, 2) := dk_16 17 (dk_at dksX4_count_4 22 rfl rfl)
theorem dX4_count_128 : decode cX4_count 128 = .ok (.iaload, 1) := dk_46 (dk_at dksX4_count_5 0 rfl rfl)
theorem dX4_count_129 : decode cX4_count 129 = .ok (.if_icmp .ge 29, 3) := dk_162 0 29 (dk_at dksX4_count_5 1 rfl rfl)
theorem dX4_count_132 : decode cX4_count 132 = .ok (.iload_n 2, 1) := dk_28 (dk_at dksX4_count_5 4 rfl rfl)
theorem dX4_count_133 : decode cX4_count 133 = .ok (.aload_n 0, 1) := dk_42 (dk_at dksX4_count_5 5 rfl rfl)
theorem dX4_count_134 : decode cX4_count 134 = .ok (.getfield 25, 3) := dk_180 0 25 (dk_at dksX4_count_5 6 rfl rfl)
theorem dX4_count_137 : decode cX4_count 137 = .ok (.iconst 2, 1) := dk_5 (dk_at dksX4_count_5 9 rfl rfl)
theorem dX4_count_138 : decode cX4_count 138 = .ok (.iload_n 3, 1) := dk_29 (dk_at dksX4_count_5 10 rfl rfl)
theorem dX4_count_139 : decode cX4_count 139 = .ok (.iadd, 1) := dk_96 (dk_at dksX4_count_5 11 rfl rfl)
theorem dX4_count_140 : decode cX4_count 140 = .ok (.iaload, 1) := dk_46 (dk_at dksX4_count_5 12 rfl rfl)
theorem dX4_count_141 : decode cX4_count 141 = .ok (.iconst (-1), 1) := dk_2 (dk_at dksX4_count_5 13 rfl rfl)
theorem dX4_count_142 : decode cX4_count 142 = .ok (.if_icmp .ne 7, 3) := dk_160 0 7 (dk_at dksX4_count_5 14 rfl rfl)
theorem dX4_count_145 : decode cX4_count 145 = .ok (.iconst 1, 1) := dk_4 (dk_at dksX4_count_5 17 rfl rfl)
theorem dX4_count_146 : decode cX4_count 146 = .ok (.goto 4, 3) := dk_167 0 4 (dk_at dksX4_count_5 18 rfl rfl)
theorem dX4_count_149 : decode cX4_count 149 = .ok (.iconst 0, 1) := dk_3 (dk_at dksX4_count_5 21 rfl rfl)
theorem dX4_count_150 : decode cX4_count 150 = .ok (.iadd, 1) := dk_96 (dk_at dksX4_count_5 22 rfl rfl)
theorem dX4_count_151 : decode cX4_count 151 = .ok (.istore_n 2, 1) := dk_61 (dk_at dksX4_count_5 23 rfl rfl)
theorem dX4_count_152 : decode cX4_count 152 = .ok (.iinc 3 1, 3) := dk_132 3 1 (dk_at dksX4_count_6 0 rfl rfl)
theorem dX4_count_155 : decode cX4_count 155 = .ok (.goto (-34), 3) := dk_167 255 222 (dk_at dksX4_count_6 3 rfl rfl)
theorem dX4_count_158 : decode cX4_count 158 = .ok (.iload_n 2, 1) := dk_28 (dk_at dksX4_count_6 6 rfl rfl)
theorem dX4_count_159 : decode cX4_count 159 = .ok (.ireturn, 1) := dk_172 (dk_at dksX4_count_6 7 rfl rfl)
theorem dX4_count_160 : decode cX4_count 160 = .ok (.iconst 0, 1) := dk_3 (dk_at dksX4_count_6 8 rfl rfl)
theorem dX4_count_161 : decode cX4_count 161 = .ok (.istore_n 3, 1) := dk_62 (dk_at dksX4_count_6 9 rfl rfl)
theorem dX4_count_162 : decode cX4_count 162 = .ok (.iload_n 3, 1) := dk_29 (dk_at dksX4_count_6 10 rfl rfl)
theorem dX4_count_163 : decode cX4_count 163 = .ok (.aload_n 0, 1) := dk_42 (dk_at dksX4_count_6 11 rfl rfl)
theorem dX4_count_164 : decode cX4_count 164 = .ok (.getfield 25, 3) := dk_180 0 25 (dk_at dksX4_count_6 12 rfl rfl)
theorem dX4_count_167 : decode cX4_count 167 = .ok (.bipush 17, 2) := dk_16 17 (dk_at dksX4_count_6 15 rfl rfl)
theorem dX4_count_169 : decode cX4_count 169 = .ok (.iaload, 1) := dk_46 (dk_at dksX4_count_6 17 rfl rfl)
theorem dX4_count_170 : decode cX4_count 170 = .ok (.if_icmp .ge 31, 3) := dk_162 0 31 (dk_at dksX4_count_6 18 rfl rfl)
theorem dX4_count_173 : decode cX4_count 173 = .ok (.iload_n 2, 1) := dk_28 (dk_at dksX4_count_6 21 rfl rfl)
theorem dX4_count_174 : decode cX4_count 174 = .ok (.aload_n 0, 1) := dk_42 (dk_at dksX4_count_6 22 rfl rfl)
theorem dX4_count_175 : decode cX4_count 175 = .ok (.getfield 25, 3) := dk_180 0 25 (dk_at dksX4_count_7 0 rfl rfl)
theorem dX4_count_178 : decode cX4_count 178 = .ok (.iconst 2, 1) := dk_5 (dk_at dksX4_count_7 3 rfl rfl)
theorem dX4_count_179 : decode cX4_count 179 = .ok (.iload_n 3, 1) := dk_29 (dk_at dksX4_count_7 4 rfl rfl)
theorem dX4_count_180 : decode cX4_count 180 = .ok (.iadd, 1) := dk_96 (dk_at dksX4_count_7 5 rfl rfl)
theorem dX4_count_181 : decode cX4_count 181 = .ok (.iaload, 1) := dk_46 (dk_at dksX4_count_7 6 rfl rfl)
theorem dX4_count_182 : decode cX4_count 182 = .ok (.invokestatic 130, 3) := dk_184 0 130 (dk_at dksX4_count_7 7 rfl rfl)
theorem dX4_count_185 : decode cX4_count 185 = .ok (.ifCond .eq 7, 3) := dk_153 0 7 (dk_at dksX4_count_7 10 rfl rfl)
theorem dX4_count_188 : decode cX4_count 188 = .ok (.iconst 1, 1) := dk_4 (dk_at dksX4_count_7 13 rfl rfl)
theorem dX4_count_189 : decode cX4_count 189 = .ok (.goto 4, 3) := dk_167 0 4 (dk_at dksX4_count_7 14 rfl rfl)
theorem dX4_count_192 : decode cX4_count 192 = .ok (.iconst 0, 1) := dk_3 (dk_at dksX4_count_7 17 rfl rfl)
theorem dX4_count_193 : decode cX4_count 193 = .ok (.iadd, 1) := dk_96 (dk_at dksX4_count_7 18 rfl rfl)
theorem dX4_count_194 : decode cX4_count 194 = .ok (.istore_n 2, 1) := dk_61 (dk_at dksX4_count_7 19 rfl rfl)
theorem dX4_count_195 : decode cX4_count 195 = .ok (.iinc 3 1, 3) := dk_132 3 1 (dk_at dksX4_count_7 20 rfl rfl)
theorem dX4_count_198 : decode cX4_count 198 = .ok (.goto (-36), 3) := dk_167 255 220 (dk_at dksX4_count_8 0 rfl rfl)
theorem dX4_count_201 : decode cX4_count 201 = .ok (.iload_n 2, 1) := dk_28 (dk_at dksX4_count_8 3 rfl rfl)
theorem dX4_count_202 : decode cX4_count 202 = .ok (.ireturn, 1) := dk_172 (dk_at dksX4_count_8 4 rfl rfl)
theorem dX4_count_203 : decode cX4_count 203 = .ok (.aload_n 0, 1) := dk_42 (dk_at dksX4_count_8 5 rfl rfl)
theorem dX4_count_204 : decode cX4_count 204 = .ok (.getfield 25, 3) := dk_180 0 25 (dk_at dksX4_count_8 6 rfl rfl)
theorem dX4_count_207 : decode cX4_count 207 = .ok (.invokestatic 144, 3) := dk_184 0 144 (dk_at dksX4_count_8 9 rfl rfl)
theorem dX4_count_210 : decode cX4_count 210 = .ok (.ireturn, 1) := dk_172 (dk_at dksX4_count_8 12 rfl rfl)
theorem dX4_count_211 : decode cX4_count 211 = .ok (.aload_n 0, 1) := dk_42 (dk_at dksX4_count_8 13 rfl rfl)
theorem dX4_count_212 : decode cX4_count 212 = .ok (.getfield 115, 3) := dk_180 0 115 (dk_at dksX4_count_8 14 rfl rfl)
theorem dX4_count_215 : decode cX4_count 215 = .ok (.ireturn, 1) := dk_172 (dk_at dksX4_count_8 17 rfl rfl)
theorem dX4_count_216 : decode cX4_count 216 = .ok (.aload_n 0, 1) := dk_42 (dk_at dksX4_count_8 18 rfl rfl)
theorem dX4_count_217 : decode cX4_count 217 = .ok (.getfield 79, 3) := dk_180 0 79 (dk_at dksX4_count_8 19 rfl rfl)
theorem dX4_count_220 : decode cX4_count 220 = .ok (.ireturn, 1) := dk_172 (dk_at dksX4_count_8 22 rfl rfl)
theorem dX4_count_221 : decode cX4_count 221 = .ok (.ldc 65, 2) := dk_18 65 (dk_at dksX4_count_9 0 rfl rfl)
theorem dX4_count_223 : decode cX4_count 223 = .ok (.ireturn, 1) := dk_172 (dk_at dksX4_count_9 2 rfl rfl)
abbrev cX4_status : ByteArray := prog_22_method_64_code
def yX4_status : MethodName := ⟨RX4, "status", "()I"⟩
theorem dX4_status_0 : decode cX4_status 0 = .ok (.aload_n 0, 1) := by decide +kernel
theorem dX4_status_1 : decode cX4_status 1 = .ok (.getfield 57, 3) := by decide +kernel
theorem dX4_status_4 : decode cX4_status 4 = .ok (.ireturn, 1) := by decide +kernel
theorem q54 : (Jvm.Cond.initialized "StepRidersModel") ∈ lw_all := lw_g (lw_at lw_m1 8 rfl) rfl
theorem q765 : (Jvm.Cond.selects "StepRidersModel" ({ cls := "java/lang/Object", name := "getClass", desc := "()Ljava/lang/Class;" } : Jvm.MethodName) ({ cls := "java/lang/Object", name := "getClass", desc := "()Ljava/lang/Class;" } : Jvm.MethodName)) ∈ lw_all := lw_g (lw_at lw_m3 239 rfl) rfl
theorem q1378 : (Jvm.Cond.instantiable "StepRidersModel" (20 : Nat)) ∈ lw_all := lw_g (lw_at lw_m6 132 rfl) rfl
theorem q1380 : (Jvm.Cond.instanceMethod ({ cls := "StepRidersModel", name := "<init>", desc := "()V" } : Jvm.MethodName)) ∈ lw_all := lw_g (lw_at lw_m6 134 rfl) rfl
theorem q1381 : (Jvm.Cond.code ({ cls := "StepRidersModel", name := "<init>", desc := "()V" } : Jvm.MethodName) prog_22_method_1_code (2 : Nat) (Option.none : Option Jvm.ClassFile.FieldType)) ∈ lw_all := lw_g (lw_at lw_m6 135 rfl) rfl
theorem q1382 : (Jvm.Cond.methodLink "StepRidersModel" (1 : Nat) ({ cls := "java/lang/Object", name := "<init>", desc := "()V" } : Jvm.MethodName)) ∈ lw_all := lw_g (lw_at lw_m6 136 rfl) rfl
theorem q1383 : (Jvm.Cond.fieldLink "StepRidersModel" (7 : Nat) "StepRidersModel" "sizes" "[I") ∈ lw_all := lw_g (lw_at lw_m6 137 rfl) rfl
theorem q1384 : (Jvm.Cond.fieldLink "StepRidersModel" (13 : Nat) "StepRidersModel" "widths" "[I") ∈ lw_all := lw_g (lw_at lw_m6 138 rfl) rfl
theorem q1385 : (Jvm.Cond.fieldLink "StepRidersModel" (16 : Nat) "StepRidersModel" "items" "[I") ∈ lw_all := lw_g (lw_at lw_m6 139 rfl) rfl
theorem q1386 : (Jvm.Cond.fieldLink "StepRidersModel" (19 : Nat) "StepRidersModel" "moved" "[I") ∈ lw_all := lw_g (lw_at lw_m6 140 rfl) rfl
theorem q1387 : (Jvm.Cond.fieldLink "StepRidersModel" (57 : Nat) "StepRidersModel" "status" "I") ∈ lw_all := lw_g (lw_at lw_m6 141 rfl) rfl
theorem q1388 : (Jvm.Cond.fieldLink "StepRidersModel" (22 : Nat) "StepRidersModel" "tape" "[I") ∈ lw_all := lw_g (lw_at lw_m6 142 rfl) rfl
theorem q1389 : (Jvm.Cond.fieldLink "StepRidersModel" (79 : Nat) "StepRidersModel" "typed" "I") ∈ lw_all := lw_g (lw_at lw_m6 143 rfl) rfl
theorem q1390 : (Jvm.Cond.fieldLink "StepRidersModel" (111 : Nat) "StepRidersModel" "fault" "I") ∈ lw_all := lw_g (lw_at lw_m6 144 rfl) rfl
theorem q1391 : (Jvm.Cond.fieldLink "StepRidersModel" (25 : Nat) "StepRidersModel" "s" "[I") ∈ lw_all := lw_g (lw_at lw_m6 145 rfl) rfl
theorem q1392 : (Jvm.Cond.fieldLink "StepRidersModel" (28 : Nat) "StepRidersModel" "draft" "[I") ∈ lw_all := lw_g (lw_at lw_m6 146 rfl) rfl
theorem q1393 : (Jvm.Cond.fieldLink "StepRidersModel" (31 : Nat) "StepRidersModel" "images" "[I") ∈ lw_all := lw_g (lw_at lw_m6 147 rfl) rfl
theorem q1394 : (Jvm.Cond.fieldLink "StepRidersModel" (34 : Nat) "StepRidersModel" "kept" "[Z") ∈ lw_all := lw_g (lw_at lw_m6 148 rfl) rfl
theorem q1395 : (Jvm.Cond.fieldLink "StepRidersModel" (38 : Nat) "StepRidersModel" "past" "[I") ∈ lw_all := lw_g (lw_at lw_m6 149 rfl) rfl
theorem q1396 : (Jvm.Cond.fieldLink "StepRidersModel" (115 : Nat) "StepRidersModel" "known" "I") ∈ lw_all := lw_g (lw_at lw_m6 150 rfl) rfl
theorem q1397 : (Jvm.Cond.fieldLink "StepRidersModel" (41 : Nat) "StepRidersModel" "then" "[I") ∈ lw_all := lw_g (lw_at lw_m6 151 rfl) rfl
theorem q1398 : (Jvm.Cond.fieldLink "StepRidersModel" (44 : Nat) "StepRidersModel" "went" "[I") ∈ lw_all := lw_g (lw_at lw_m6 152 rfl) rfl
theorem q1399 : (Jvm.Cond.fieldLink "StepRidersModel" (47 : Nat) "StepRidersModel" "traces" "[I") ∈ lw_all := lw_g (lw_at lw_m6 153 rfl) rfl
theorem q1400 : (Jvm.Cond.fieldLink "StepRidersModel" (181 : Nat) "StepRidersModel" "traced" "I") ∈ lw_all := lw_g (lw_at lw_m6 154 rfl) rfl
theorem q1401 : (Jvm.Cond.fieldLink "StepRidersModel" (86 : Nat) "StepRidersModel" "at" "I") ∈ lw_all := lw_g (lw_at lw_m6 155 rfl) rfl
theorem q1402 : (Jvm.Cond.fieldLink "StepRidersModel" (83 : Nat) "StepRidersModel" "wrong" "I") ∈ lw_all := lw_g (lw_at lw_m6 156 rfl) rfl
theorem q1403 : (Jvm.Cond.laysFinal "StepRidersModel" "StepRidersModel" "sizes" "[I") ∈ lw_all := lw_g (lw_at lw_m6 157 rfl) rfl
theorem q1404 : (Jvm.Cond.soleField "StepRidersModel" "sizes") ∈ lw_all := lw_g (lw_at lw_m6 158 rfl) rfl
theorem q1405 : (Jvm.Cond.laysFinal "StepRidersModel" "StepRidersModel" "widths" "[I") ∈ lw_all := lw_g (lw_at lw_m6 159 rfl) rfl
theorem q1406 : (Jvm.Cond.soleField "StepRidersModel" "widths") ∈ lw_all := lw_g (lw_at lw_m6 160 rfl) rfl
theorem q1407 : (Jvm.Cond.laysFinal "StepRidersModel" "StepRidersModel" "items" "[I") ∈ lw_all := lw_g (lw_at lw_m6 161 rfl) rfl
theorem q1408 : (Jvm.Cond.soleField "StepRidersModel" "items") ∈ lw_all := lw_g (lw_at lw_m6 162 rfl) rfl
theorem q1409 : (Jvm.Cond.laysFinal "StepRidersModel" "StepRidersModel" "moved" "[I") ∈ lw_all := lw_g (lw_at lw_m6 163 rfl) rfl
theorem q1410 : (Jvm.Cond.soleField "StepRidersModel" "moved") ∈ lw_all := lw_g (lw_at lw_m6 164 rfl) rfl
theorem q1411 : (Jvm.Cond.lays "StepRidersModel" "StepRidersModel" "status" "I") ∈ lw_all := lw_g (lw_at lw_m6 165 rfl) rfl
theorem q1412 : (Jvm.Cond.soleField "StepRidersModel" "status") ∈ lw_all := lw_g (lw_at lw_m6 166 rfl) rfl
theorem q1413 : (Jvm.Cond.laysFinal "StepRidersModel" "StepRidersModel" "tape" "[I") ∈ lw_all := lw_g (lw_at lw_m6 167 rfl) rfl
theorem q1414 : (Jvm.Cond.soleField "StepRidersModel" "tape") ∈ lw_all := lw_g (lw_at lw_m6 168 rfl) rfl
theorem q1415 : (Jvm.Cond.lays "StepRidersModel" "StepRidersModel" "typed" "I") ∈ lw_all := lw_g (lw_at lw_m6 169 rfl) rfl
theorem q1416 : (Jvm.Cond.soleField "StepRidersModel" "typed") ∈ lw_all := lw_g (lw_at lw_m6 170 rfl) rfl
theorem q1417 : (Jvm.Cond.lays "StepRidersModel" "StepRidersModel" "fault" "I") ∈ lw_all := lw_g (lw_at lw_m6 171 rfl) rfl
theorem q1418 : (Jvm.Cond.soleField "StepRidersModel" "fault") ∈ lw_all := lw_g (lw_at lw_m6 172 rfl) rfl
theorem q1419 : (Jvm.Cond.laysFinal "StepRidersModel" "StepRidersModel" "s" "[I") ∈ lw_all := lw_g (lw_at lw_m6 173 rfl) rfl
theorem q1420 : (Jvm.Cond.soleField "StepRidersModel" "s") ∈ lw_all := lw_g (lw_at lw_m6 174 rfl) rfl
theorem q1421 : (Jvm.Cond.laysFinal "StepRidersModel" "StepRidersModel" "draft" "[I") ∈ lw_all := lw_g (lw_at lw_m6 175 rfl) rfl
theorem q1422 : (Jvm.Cond.soleField "StepRidersModel" "draft") ∈ lw_all := lw_g (lw_at lw_m6 176 rfl) rfl
theorem q1423 : (Jvm.Cond.laysFinal "StepRidersModel" "StepRidersModel" "images" "[I") ∈ lw_all := lw_g (lw_at lw_m6 177 rfl) rfl
theorem q1424 : (Jvm.Cond.soleField "StepRidersModel" "images") ∈ lw_all := lw_g (lw_at lw_m6 178 rfl) rfl
theorem q1425 : (Jvm.Cond.laysFinal "StepRidersModel" "StepRidersModel" "kept" "[Z") ∈ lw_all := lw_g (lw_at lw_m6 179 rfl) rfl
theorem q1426 : (Jvm.Cond.soleField "StepRidersModel" "kept") ∈ lw_all := lw_g (lw_at lw_m6 180 rfl) rfl
theorem q1427 : (Jvm.Cond.laysFinal "StepRidersModel" "StepRidersModel" "past" "[I") ∈ lw_all := lw_g (lw_at lw_m6 181 rfl) rfl
theorem q1428 : (Jvm.Cond.soleField "StepRidersModel" "past") ∈ lw_all := lw_g (lw_at lw_m6 182 rfl) rfl
theorem q1429 : (Jvm.Cond.lays "StepRidersModel" "StepRidersModel" "known" "I") ∈ lw_all := lw_g (lw_at lw_m6 183 rfl) rfl
theorem q1430 : (Jvm.Cond.soleField "StepRidersModel" "known") ∈ lw_all := lw_g (lw_at lw_m6 184 rfl) rfl
theorem q1431 : (Jvm.Cond.laysFinal "StepRidersModel" "StepRidersModel" "then" "[I") ∈ lw_all := lw_g (lw_at lw_m6 185 rfl) rfl
theorem q1432 : (Jvm.Cond.soleField "StepRidersModel" "then") ∈ lw_all := lw_g (lw_at lw_m6 186 rfl) rfl
theorem q1433 : (Jvm.Cond.laysFinal "StepRidersModel" "StepRidersModel" "went" "[I") ∈ lw_all := lw_g (lw_at lw_m6 187 rfl) rfl
theorem q1434 : (Jvm.Cond.soleField "StepRidersModel" "went") ∈ lw_all := lw_g (lw_at lw_m6 188 rfl) rfl
theorem q1435 : (Jvm.Cond.laysFinal "StepRidersModel" "StepRidersModel" "traces" "[I") ∈ lw_all := lw_g (lw_at lw_m6 189 rfl) rfl
theorem q1436 : (Jvm.Cond.soleField "StepRidersModel" "traces") ∈ lw_all := lw_g (lw_at lw_m6 190 rfl) rfl
theorem q1437 : (Jvm.Cond.lays "StepRidersModel" "StepRidersModel" "traced" "I") ∈ lw_all := lw_g (lw_at lw_m6 191 rfl) rfl
theorem q1438 : (Jvm.Cond.soleField "StepRidersModel" "traced") ∈ lw_all := lw_g (lw_at lw_m6 192 rfl) rfl
theorem q1439 : (Jvm.Cond.lays "StepRidersModel" "StepRidersModel" "at" "I") ∈ lw_all := lw_g (lw_at lw_m6 193 rfl) rfl
theorem q1440 : (Jvm.Cond.soleField "StepRidersModel" "at") ∈ lw_all := lw_g (lw_at lw_m6 194 rfl) rfl
theorem q1441 : (Jvm.Cond.lays "StepRidersModel" "StepRidersModel" "wrong" "I") ∈ lw_all := lw_g (lw_at lw_m6 195 rfl) rfl
theorem q1442 : (Jvm.Cond.soleField "StepRidersModel" "wrong") ∈ lw_all := lw_g (lw_at lw_m6 196 rfl) rfl
theorem q1443 : (Jvm.Cond.superclass "StepRidersModel" "java/lang/Object") ∈ lw_all := lw_g (lw_at lw_m6 197 rfl) rfl
theorem q1446 : (Jvm.Cond.instanceMethod ({ cls := "StepRidersModel", name := "row", desc := "(III)I" } : Jvm.MethodName)) ∈ lw_all := lw_g (lw_at lw_m6 200 rfl) rfl
theorem q1447 : (Jvm.Cond.selects "StepRidersModel" ({ cls := "StepRidersModel", name := "row", desc := "(III)I" } : Jvm.MethodName) ({ cls := "StepRidersModel", name := "row", desc := "(III)I" } : Jvm.MethodName)) ∈ lw_all := lw_g (lw_at lw_m6 201 rfl) rfl
theorem q1448 : (Jvm.Cond.code ({ cls := "StepRidersModel", name := "row", desc := "(III)I" } : Jvm.MethodName) prog_22_method_7_code (5 : Nat) (Option.some Jvm.ClassFile.FieldType.int)) ∈ lw_all := lw_g (lw_at lw_m6 202 rfl) rfl
theorem q1449 : (Jvm.Cond.methodLink "StepRidersModel" (61 : Nat) ({ cls := "StepRidersModel", name := "isRow", desc := "(I)Z" } : Jvm.MethodName)) ∈ lw_all := lw_g (lw_at lw_m6 203 rfl) rfl
theorem q1450 : (Jvm.Cond.static ({ cls := "StepRidersModel", name := "isRow", desc := "(I)Z" } : Jvm.MethodName)) ∈ lw_all := lw_g (lw_at lw_m6 204 rfl) rfl
theorem q1451 : (Jvm.Cond.code ({ cls := "StepRidersModel", name := "isRow", desc := "(I)Z" } : Jvm.MethodName) prog_22_method_4_code (1 : Nat) (Option.some Jvm.ClassFile.FieldType.boolean)) ∈ lw_all := lw_g (lw_at lw_m6 205 rfl) rfl
theorem q1452 : (Jvm.Cond.methodLink "StepRidersModel" (50 : Nat) ({ cls := "StepRidersModel", name := "in", desc := "(III)Z" } : Jvm.MethodName)) ∈ lw_all := lw_g (lw_at lw_m6 206 rfl) rfl
theorem q1453 : (Jvm.Cond.static ({ cls := "StepRidersModel", name := "in", desc := "(III)Z" } : Jvm.MethodName)) ∈ lw_all := lw_g (lw_at lw_m6 207 rfl) rfl
theorem q1454 : (Jvm.Cond.code ({ cls := "StepRidersModel", name := "in", desc := "(III)Z" } : Jvm.MethodName) prog_22_method_3_code (3 : Nat) (Option.some Jvm.ClassFile.FieldType.boolean)) ∈ lw_all := lw_g (lw_at lw_m6 208 rfl) rfl
theorem q1455 : (Jvm.Cond.constant "StepRidersModel" (65 : Nat) (-1000001 : Int32)) ∈ lw_all := lw_g (lw_at lw_m6 209 rfl) rfl
theorem q1456 : (Jvm.Cond.constant "StepRidersModel" (66 : Nat) (-1000014 : Int32)) ∈ lw_all := lw_g (lw_at lw_m6 210 rfl) rfl
theorem q1457 : (Jvm.Cond.methodLink "StepRidersModel" (67 : Nat) ({ cls := "StepRidersModel", name := "ends", desc := "(I)I" } : Jvm.MethodName)) ∈ lw_all := lw_g (lw_at lw_m6 211 rfl) rfl
theorem q1458 : (Jvm.Cond.privateMethod ({ cls := "StepRidersModel", name := "ends", desc := "(I)I" } : Jvm.MethodName)) ∈ lw_tbl := lw_at lw_m6 212 rfl
theorem q1459 : (Jvm.Cond.instanceMethod ({ cls := "StepRidersModel", name := "ends", desc := "(I)I" } : Jvm.MethodName)) ∈ lw_all := lw_g (lw_at lw_m6 213 rfl) rfl
theorem q1460 : (Jvm.Cond.code ({ cls := "StepRidersModel", name := "ends", desc := "(I)I" } : Jvm.MethodName) prog_22_method_5_code (2 : Nat) (Option.some Jvm.ClassFile.FieldType.int)) ∈ lw_all := lw_g (lw_at lw_m6 214 rfl) rfl
theorem q1461 : (Jvm.Cond.constant "StepRidersModel" (54 : Nat) (-1000015 : Int32)) ∈ lw_all := lw_g (lw_at lw_m6 215 rfl) rfl
theorem q1462 : (Jvm.Cond.constant "StepRidersModel" (55 : Nat) (-1000011 : Int32)) ∈ lw_all := lw_g (lw_at lw_m6 216 rfl) rfl
theorem q1463 : (Jvm.Cond.constant "StepRidersModel" (56 : Nat) (-1000010 : Int32)) ∈ lw_all := lw_g (lw_at lw_m6 217 rfl) rfl
theorem q1465 : (Jvm.Cond.instanceMethod ({ cls := "StepRidersModel", name := "set", desc := "(III)I" } : Jvm.MethodName)) ∈ lw_all := lw_g (lw_at lw_m6 219 rfl) rfl
theorem q1466 : (Jvm.Cond.selects "StepRidersModel" ({ cls := "StepRidersModel", name := "set", desc := "(III)I" } : Jvm.MethodName) ({ cls := "StepRidersModel", name := "set", desc := "(III)I" } : Jvm.MethodName)) ∈ lw_all := lw_g (lw_at lw_m6 220 rfl) rfl
theorem q1467 : (Jvm.Cond.code ({ cls := "StepRidersModel", name := "set", desc := "(III)I" } : Jvm.MethodName) prog_22_method_9_code (5 : Nat) (Option.some Jvm.ClassFile.FieldType.int)) ∈ lw_all := lw_g (lw_at lw_m6 221 rfl) rfl
theorem q1468 : (Jvm.Cond.methodLink "StepRidersModel" (71 : Nat) ({ cls := "StepRidersModel", name := "lies", desc := "(III)Z" } : Jvm.MethodName)) ∈ lw_all := lw_g (lw_at lw_m6 222 rfl) rfl
theorem q1469 : (Jvm.Cond.privateMethod ({ cls := "StepRidersModel", name := "lies", desc := "(III)Z" } : Jvm.MethodName)) ∈ lw_tbl := lw_at lw_m6 223 rfl
theorem q1470 : (Jvm.Cond.instanceMethod ({ cls := "StepRidersModel", name := "lies", desc := "(III)Z" } : Jvm.MethodName)) ∈ lw_all := lw_g (lw_at lw_m6 224 rfl) rfl
theorem q1471 : (Jvm.Cond.code ({ cls := "StepRidersModel", name := "lies", desc := "(III)Z" } : Jvm.MethodName) prog_22_method_8_code (4 : Nat) (Option.some Jvm.ClassFile.FieldType.boolean)) ∈ lw_all := lw_g (lw_at lw_m6 225 rfl) rfl
theorem q1472 : (Jvm.Cond.constant "StepRidersModel" (74 : Nat) (-1000012 : Int32)) ∈ lw_all := lw_g (lw_at lw_m6 226 rfl) rfl
theorem q1473 : (Jvm.Cond.methodLink "StepRidersModel" (75 : Nat) ({ cls := "StepRidersModel", name := "cut", desc := "(II)I" } : Jvm.MethodName)) ∈ lw_all := lw_g (lw_at lw_m6 227 rfl) rfl
theorem q1474 : (Jvm.Cond.static ({ cls := "StepRidersModel", name := "cut", desc := "(II)I" } : Jvm.MethodName)) ∈ lw_all := lw_g (lw_at lw_m6 228 rfl) rfl
theorem q1475 : (Jvm.Cond.code ({ cls := "StepRidersModel", name := "cut", desc := "(II)I" } : Jvm.MethodName) prog_22_method_6_code (2 : Nat) (Option.some Jvm.ClassFile.FieldType.int)) ∈ lw_all := lw_g (lw_at lw_m6 229 rfl) rfl
theorem q1477 : (Jvm.Cond.instanceMethod ({ cls := "StepRidersModel", name := "copy", desc := "(IIIII)I" } : Jvm.MethodName)) ∈ lw_all := lw_g (lw_at lw_m6 231 rfl) rfl
theorem q1478 : (Jvm.Cond.selects "StepRidersModel" ({ cls := "StepRidersModel", name := "copy", desc := "(IIIII)I" } : Jvm.MethodName) ({ cls := "StepRidersModel", name := "copy", desc := "(IIIII)I" } : Jvm.MethodName)) ∈ lw_all := lw_g (lw_at lw_m6 232 rfl) rfl
theorem q1479 : (Jvm.Cond.code ({ cls := "StepRidersModel", name := "copy", desc := "(IIIII)I" } : Jvm.MethodName) prog_22_method_10_code (7 : Nat) (Option.some Jvm.ClassFile.FieldType.int)) ∈ lw_all := lw_g (lw_at lw_m6 233 rfl) rfl
theorem q1481 : (Jvm.Cond.instanceMethod ({ cls := "StepRidersModel", name := "drop", desc := "(I)I" } : Jvm.MethodName)) ∈ lw_all := lw_g (lw_at lw_m6 235 rfl) rfl
theorem q1482 : (Jvm.Cond.selects "StepRidersModel" ({ cls := "StepRidersModel", name := "drop", desc := "(I)I" } : Jvm.MethodName) ({ cls := "StepRidersModel", name := "drop", desc := "(I)I" } : Jvm.MethodName)) ∈ lw_all := lw_g (lw_at lw_m6 236 rfl) rfl
theorem q1483 : (Jvm.Cond.code ({ cls := "StepRidersModel", name := "drop", desc := "(I)I" } : Jvm.MethodName) prog_22_method_11_code (3 : Nat) (Option.some Jvm.ClassFile.FieldType.int)) ∈ lw_all := lw_g (lw_at lw_m6 237 rfl) rfl
theorem q1485 : (Jvm.Cond.instanceMethod ({ cls := "StepRidersModel", name := "feed", desc := "(I)I" } : Jvm.MethodName)) ∈ lw_all := lw_g (lw_at lw_m6 239 rfl) rfl
theorem q1486 : (Jvm.Cond.selects "StepRidersModel" ({ cls := "StepRidersModel", name := "feed", desc := "(I)I" } : Jvm.MethodName) ({ cls := "StepRidersModel", name := "feed", desc := "(I)I" } : Jvm.MethodName)) ∈ lw_all := lw_g (lw_at lw_m7 0 rfl) rfl
theorem q1487 : (Jvm.Cond.code ({ cls := "StepRidersModel", name := "feed", desc := "(I)I" } : Jvm.MethodName) prog_22_method_12_code (2 : Nat) (Option.some Jvm.ClassFile.FieldType.int)) ∈ lw_all := lw_g (lw_at lw_m7 1 rfl) rfl
theorem q1488 : (Jvm.Cond.constant "StepRidersModel" (82 : Nat) (-1000003 : Int32)) ∈ lw_all := lw_g (lw_at lw_m7 2 rfl) rfl
theorem q1490 : (Jvm.Cond.instanceMethod ({ cls := "StepRidersModel", name := "stair", desc := "()I" } : Jvm.MethodName)) ∈ lw_all := lw_g (lw_at lw_m7 4 rfl) rfl
theorem q1491 : (Jvm.Cond.selects "StepRidersModel" ({ cls := "StepRidersModel", name := "stair", desc := "()I" } : Jvm.MethodName) ({ cls := "StepRidersModel", name := "stair", desc := "()I" } : Jvm.MethodName)) ∈ lw_all := lw_g (lw_at lw_m7 5 rfl) rfl
theorem q1492 : (Jvm.Cond.code ({ cls := "StepRidersModel", name := "stair", desc := "()I" } : Jvm.MethodName) prog_22_method_20_code (3 : Nat) (Option.some Jvm.ClassFile.FieldType.int)) ∈ lw_all := lw_g (lw_at lw_m7 6 rfl) rfl
theorem q1493 : (Jvm.Cond.methodLink "StepRidersModel" (107 : Nat) ({ cls := "StepRidersModel", name := "reads", desc := "()Z" } : Jvm.MethodName)) ∈ lw_all := lw_g (lw_at lw_m7 7 rfl) rfl
theorem q1494 : (Jvm.Cond.privateMethod ({ cls := "StepRidersModel", name := "reads", desc := "()Z" } : Jvm.MethodName)) ∈ lw_tbl := lw_at lw_m7 8 rfl
theorem q1495 : (Jvm.Cond.instanceMethod ({ cls := "StepRidersModel", name := "reads", desc := "()Z" } : Jvm.MethodName)) ∈ lw_all := lw_g (lw_at lw_m7 9 rfl) rfl
theorem q1496 : (Jvm.Cond.code ({ cls := "StepRidersModel", name := "reads", desc := "()Z" } : Jvm.MethodName) prog_22_method_19_code (3 : Nat) (Option.some Jvm.ClassFile.FieldType.boolean)) ∈ lw_all := lw_g (lw_at lw_m7 10 rfl) rfl
theorem q1497 : (Jvm.Cond.methodLink "StepRidersModel" (98 : Nat) ({ cls := "StepRidersModel", name := "sign", desc := "(I)Z" } : Jvm.MethodName)) ∈ lw_all := lw_g (lw_at lw_m7 11 rfl) rfl
theorem q1498 : (Jvm.Cond.privateMethod ({ cls := "StepRidersModel", name := "sign", desc := "(I)Z" } : Jvm.MethodName)) ∈ lw_tbl := lw_at lw_m7 12 rfl
theorem q1499 : (Jvm.Cond.instanceMethod ({ cls := "StepRidersModel", name := "sign", desc := "(I)Z" } : Jvm.MethodName)) ∈ lw_all := lw_g (lw_at lw_m7 13 rfl) rfl
theorem q1500 : (Jvm.Cond.code ({ cls := "StepRidersModel", name := "sign", desc := "(I)Z" } : Jvm.MethodName) prog_22_method_16_code (2 : Nat) (Option.some Jvm.ClassFile.FieldType.boolean)) ∈ lw_all := lw_g (lw_at lw_m7 14 rfl) rfl
theorem q1501 : (Jvm.Cond.methodLink "StepRidersModel" (89 : Nat) ({ cls := "StepRidersModel", name := "letterAt", desc := "(I)I" } : Jvm.MethodName)) ∈ lw_all := lw_g (lw_at lw_m7 15 rfl) rfl
theorem q1502 : (Jvm.Cond.privateMethod ({ cls := "StepRidersModel", name := "letterAt", desc := "(I)I" } : Jvm.MethodName)) ∈ lw_tbl := lw_at lw_m7 16 rfl
theorem q1503 : (Jvm.Cond.instanceMethod ({ cls := "StepRidersModel", name := "letterAt", desc := "(I)I" } : Jvm.MethodName)) ∈ lw_all := lw_g (lw_at lw_m7 17 rfl) rfl
theorem q1504 : (Jvm.Cond.code ({ cls := "StepRidersModel", name := "letterAt", desc := "(I)I" } : Jvm.MethodName) prog_22_method_13_code (2 : Nat) (Option.some Jvm.ClassFile.FieldType.int)) ∈ lw_all := lw_g (lw_at lw_m7 18 rfl) rfl
theorem q1505 : (Jvm.Cond.methodLink "StepRidersModel" (92 : Nat) ({ cls := "StepRidersModel", name := "fails", desc := "(I)Z" } : Jvm.MethodName)) ∈ lw_all := lw_g (lw_at lw_m7 19 rfl) rfl
theorem q1506 : (Jvm.Cond.privateMethod ({ cls := "StepRidersModel", name := "fails", desc := "(I)Z" } : Jvm.MethodName)) ∈ lw_tbl := lw_at lw_m7 20 rfl
theorem q1507 : (Jvm.Cond.instanceMethod ({ cls := "StepRidersModel", name := "fails", desc := "(I)Z" } : Jvm.MethodName)) ∈ lw_all := lw_g (lw_at lw_m7 21 rfl) rfl
theorem q1508 : (Jvm.Cond.code ({ cls := "StepRidersModel", name := "fails", desc := "(I)Z" } : Jvm.MethodName) prog_22_method_15_code (2 : Nat) (Option.some Jvm.ClassFile.FieldType.boolean)) ∈ lw_all := lw_g (lw_at lw_m7 22 rfl) rfl
theorem q1509 : (Jvm.Cond.methodLink "StepRidersModel" (101 : Nat) ({ cls := "StepRidersModel", name := "number", desc := "(III)Z" } : Jvm.MethodName)) ∈ lw_all := lw_g (lw_at lw_m7 23 rfl) rfl
theorem q1510 : (Jvm.Cond.privateMethod ({ cls := "StepRidersModel", name := "number", desc := "(III)Z" } : Jvm.MethodName)) ∈ lw_tbl := lw_at lw_m7 24 rfl
theorem q1511 : (Jvm.Cond.instanceMethod ({ cls := "StepRidersModel", name := "number", desc := "(III)Z" } : Jvm.MethodName)) ∈ lw_all := lw_g (lw_at lw_m7 25 rfl) rfl
theorem q1512 : (Jvm.Cond.code ({ cls := "StepRidersModel", name := "number", desc := "(III)Z" } : Jvm.MethodName) prog_22_method_17_code (6 : Nat) (Option.some Jvm.ClassFile.FieldType.boolean)) ∈ lw_all := lw_g (lw_at lw_m7 26 rfl) rfl
theorem q1513 : (Jvm.Cond.methodLink "StepRidersModel" (95 : Nat) ({ cls := "StepRidersModel", name := "isDigit", desc := "(I)Z" } : Jvm.MethodName)) ∈ lw_all := lw_g (lw_at lw_m7 27 rfl) rfl
theorem q1514 : (Jvm.Cond.static ({ cls := "StepRidersModel", name := "isDigit", desc := "(I)Z" } : Jvm.MethodName)) ∈ lw_all := lw_g (lw_at lw_m7 28 rfl) rfl
theorem q1515 : (Jvm.Cond.code ({ cls := "StepRidersModel", name := "isDigit", desc := "(I)Z" } : Jvm.MethodName) prog_22_method_14_code (1 : Nat) (Option.some Jvm.ClassFile.FieldType.boolean)) ∈ lw_all := lw_g (lw_at lw_m7 29 rfl) rfl
theorem q1516 : (Jvm.Cond.methodLink "StepRidersModel" (104 : Nat) ({ cls := "StepRidersModel", name := "kindBy", desc := "(I)I" } : Jvm.MethodName)) ∈ lw_all := lw_g (lw_at lw_m7 30 rfl) rfl
theorem q1517 : (Jvm.Cond.static ({ cls := "StepRidersModel", name := "kindBy", desc := "(I)I" } : Jvm.MethodName)) ∈ lw_all := lw_g (lw_at lw_m7 31 rfl) rfl
theorem q1518 : (Jvm.Cond.code ({ cls := "StepRidersModel", name := "kindBy", desc := "(I)I" } : Jvm.MethodName) prog_22_method_18_code (1 : Nat) (Option.some Jvm.ClassFile.FieldType.int)) ∈ lw_all := lw_g (lw_at lw_m7 32 rfl) rfl
theorem q1519 : (Jvm.Cond.constant "StepRidersModel" (114 : Nat) (-1000100 : Int32)) ∈ lw_all := lw_g (lw_at lw_m7 33 rfl) rfl
theorem q1521 : (Jvm.Cond.instanceMethod ({ cls := "StepRidersModel", name := "fault", desc := "()I" } : Jvm.MethodName)) ∈ lw_all := lw_g (lw_at lw_m7 35 rfl) rfl
theorem q1522 : (Jvm.Cond.selects "StepRidersModel" ({ cls := "StepRidersModel", name := "fault", desc := "()I" } : Jvm.MethodName) ({ cls := "StepRidersModel", name := "fault", desc := "()I" } : Jvm.MethodName)) ∈ lw_all := lw_g (lw_at lw_m7 36 rfl) rfl
theorem q1523 : (Jvm.Cond.code ({ cls := "StepRidersModel", name := "fault", desc := "()I" } : Jvm.MethodName) prog_22_method_21_code (1 : Nat) (Option.some Jvm.ClassFile.FieldType.int)) ∈ lw_all := lw_g (lw_at lw_m7 37 rfl) rfl
theorem q1525 : (Jvm.Cond.instanceMethod ({ cls := "StepRidersModel", name := "ticks", desc := "(I)I" } : Jvm.MethodName)) ∈ lw_all := lw_g (lw_at lw_m7 39 rfl) rfl
theorem q1526 : (Jvm.Cond.selects "StepRidersModel" ({ cls := "StepRidersModel", name := "ticks", desc := "(I)I" } : Jvm.MethodName) ({ cls := "StepRidersModel", name := "ticks", desc := "(I)I" } : Jvm.MethodName)) ∈ lw_all := lw_g (lw_at lw_m7 40 rfl) rfl
theorem q1527 : (Jvm.Cond.code ({ cls := "StepRidersModel", name := "ticks", desc := "(I)I" } : Jvm.MethodName) prog_22_method_31_code (3 : Nat) (Option.some Jvm.ClassFile.FieldType.int)) ∈ lw_all := lw_g (lw_at lw_m7 41 rfl) rfl
theorem q1528 : (Jvm.Cond.methodLink "StepRidersModel" (133 : Nat) ({ cls := "StepRidersModel", name := "isStair", desc := "()Z" } : Jvm.MethodName)) ∈ lw_all := lw_g (lw_at lw_m7 42 rfl) rfl
theorem q1529 : (Jvm.Cond.privateMethod ({ cls := "StepRidersModel", name := "isStair", desc := "()Z" } : Jvm.MethodName)) ∈ lw_tbl := lw_at lw_m7 43 rfl
theorem q1530 : (Jvm.Cond.instanceMethod ({ cls := "StepRidersModel", name := "isStair", desc := "()Z" } : Jvm.MethodName)) ∈ lw_all := lw_g (lw_at lw_m7 44 rfl) rfl
theorem q1531 : (Jvm.Cond.code ({ cls := "StepRidersModel", name := "isStair", desc := "()Z" } : Jvm.MethodName) prog_22_method_22_code (1 : Nat) (Option.some Jvm.ClassFile.FieldType.boolean)) ∈ lw_all := lw_g (lw_at lw_m7 45 rfl) rfl
theorem q1532 : (Jvm.Cond.constant "StepRidersModel" (136 : Nat) (-1000002 : Int32)) ∈ lw_all := lw_g (lw_at lw_m7 46 rfl) rfl
theorem q1533 : (Jvm.Cond.methodLink "StepRidersModel" (137 : Nat) ({ cls := "StepRidersModel", name := "keeps", desc := "()V" } : Jvm.MethodName)) ∈ lw_all := lw_g (lw_at lw_m7 47 rfl) rfl
theorem q1534 : (Jvm.Cond.privateMethod ({ cls := "StepRidersModel", name := "keeps", desc := "()V" } : Jvm.MethodName)) ∈ lw_tbl := lw_at lw_m7 48 rfl
theorem q1535 : (Jvm.Cond.instanceMethod ({ cls := "StepRidersModel", name := "keeps", desc := "()V" } : Jvm.MethodName)) ∈ lw_all := lw_g (lw_at lw_m7 49 rfl) rfl
theorem q1536 : (Jvm.Cond.code ({ cls := "StepRidersModel", name := "keeps", desc := "()V" } : Jvm.MethodName) prog_22_method_24_code (2 : Nat) (Option.none : Option Jvm.ClassFile.FieldType)) ∈ lw_all := lw_g (lw_at lw_m7 50 rfl) rfl
theorem q1537 : (Jvm.Cond.methodLink "StepRidersModel" (140 : Nat) ({ cls := "StepRidersModel", name := "tick", desc := "([I)V" } : Jvm.MethodName)) ∈ lw_all := lw_g (lw_at lw_m7 51 rfl) rfl
theorem q1538 : (Jvm.Cond.privateMethod ({ cls := "StepRidersModel", name := "tick", desc := "([I)V" } : Jvm.MethodName)) ∈ lw_tbl := lw_at lw_m7 52 rfl
theorem q1539 : (Jvm.Cond.instanceMethod ({ cls := "StepRidersModel", name := "tick", desc := "([I)V" } : Jvm.MethodName)) ∈ lw_all := lw_g (lw_at lw_m7 53 rfl) rfl
theorem q1540 : (Jvm.Cond.code ({ cls := "StepRidersModel", name := "tick", desc := "([I)V" } : Jvm.MethodName) prog_22_method_29_code (5 : Nat) (Option.none : Option Jvm.ClassFile.FieldType)) ∈ lw_all := lw_g (lw_at lw_m7 54 rfl) rfl
theorem q1541 : (Jvm.Cond.methodLink "StepRidersModel" (126 : Nat) ({ cls := "StepRidersModel", name := "moves", desc := "([II)V" } : Jvm.MethodName)) ∈ lw_all := lw_g (lw_at lw_m7 55 rfl) rfl
theorem q1542 : (Jvm.Cond.static ({ cls := "StepRidersModel", name := "moves", desc := "([II)V" } : Jvm.MethodName)) ∈ lw_all := lw_g (lw_at lw_m7 56 rfl) rfl
theorem q1543 : (Jvm.Cond.code ({ cls := "StepRidersModel", name := "moves", desc := "([II)V" } : Jvm.MethodName) prog_22_method_28_code (4 : Nat) (Option.none : Option Jvm.ClassFile.FieldType)) ∈ lw_all := lw_g (lw_at lw_m7 57 rfl) rfl
theorem q1544 : (Jvm.Cond.methodLink "StepRidersModel" (122 : Nat) ({ cls := "StepRidersModel", name := "goes", desc := "([III)Z" } : Jvm.MethodName)) ∈ lw_all := lw_g (lw_at lw_m7 58 rfl) rfl
theorem q1545 : (Jvm.Cond.static ({ cls := "StepRidersModel", name := "goes", desc := "([III)Z" } : Jvm.MethodName)) ∈ lw_all := lw_g (lw_at lw_m7 59 rfl) rfl
theorem q1546 : (Jvm.Cond.code ({ cls := "StepRidersModel", name := "goes", desc := "([III)Z" } : Jvm.MethodName) prog_22_method_27_code (5 : Nat) (Option.some Jvm.ClassFile.FieldType.boolean)) ∈ lw_all := lw_g (lw_at lw_m7 60 rfl) rfl
theorem q1547 : (Jvm.Cond.methodLink "StepRidersModel" (118 : Nat) ({ cls := "StepRidersModel", name := "isFree", desc := "([IIII)Z" } : Jvm.MethodName)) ∈ lw_all := lw_g (lw_at lw_m7 61 rfl) rfl
theorem q1548 : (Jvm.Cond.static ({ cls := "StepRidersModel", name := "isFree", desc := "([IIII)Z" } : Jvm.MethodName)) ∈ lw_all := lw_g (lw_at lw_m7 62 rfl) rfl
theorem q1549 : (Jvm.Cond.code ({ cls := "StepRidersModel", name := "isFree", desc := "([IIII)Z" } : Jvm.MethodName) prog_22_method_26_code (7 : Nat) (Option.some Jvm.ClassFile.FieldType.boolean)) ∈ lw_all := lw_g (lw_at lw_m7 63 rfl) rfl
theorem q1550 : (Jvm.Cond.methodLink "StepRidersModel" (130 : Nat) ({ cls := "StepRidersModel", name := "isOn", desc := "(I)Z" } : Jvm.MethodName)) ∈ lw_all := lw_g (lw_at lw_m7 64 rfl) rfl
theorem q1551 : (Jvm.Cond.static ({ cls := "StepRidersModel", name := "isOn", desc := "(I)Z" } : Jvm.MethodName)) ∈ lw_all := lw_g (lw_at lw_m7 65 rfl) rfl
theorem q1552 : (Jvm.Cond.code ({ cls := "StepRidersModel", name := "isOn", desc := "(I)Z" } : Jvm.MethodName) prog_22_method_25_code (1 : Nat) (Option.some Jvm.ClassFile.FieldType.boolean)) ∈ lw_all := lw_g (lw_at lw_m7 66 rfl) rfl
theorem q1553 : (Jvm.Cond.methodLink "StepRidersModel" (144 : Nat) ({ cls := "StepRidersModel", name := "offIn", desc := "([I)I" } : Jvm.MethodName)) ∈ lw_all := lw_g (lw_at lw_m7 67 rfl) rfl
theorem q1554 : (Jvm.Cond.static ({ cls := "StepRidersModel", name := "offIn", desc := "([I)I" } : Jvm.MethodName)) ∈ lw_all := lw_g (lw_at lw_m7 68 rfl) rfl
theorem q1555 : (Jvm.Cond.code ({ cls := "StepRidersModel", name := "offIn", desc := "([I)I" } : Jvm.MethodName) prog_22_method_30_code (3 : Nat) (Option.some Jvm.ClassFile.FieldType.int)) ∈ lw_all := lw_g (lw_at lw_m7 69 rfl) rfl
theorem q1557 : (Jvm.Cond.instanceMethod ({ cls := "StepRidersModel", name := "speed", desc := "(I)I" } : Jvm.MethodName)) ∈ lw_all := lw_g (lw_at lw_m7 71 rfl) rfl
theorem q1558 : (Jvm.Cond.selects "StepRidersModel" ({ cls := "StepRidersModel", name := "speed", desc := "(I)I" } : Jvm.MethodName) ({ cls := "StepRidersModel", name := "speed", desc := "(I)I" } : Jvm.MethodName)) ∈ lw_all := lw_g (lw_at lw_m7 72 rfl) rfl
theorem q1559 : (Jvm.Cond.code ({ cls := "StepRidersModel", name := "speed", desc := "(I)I" } : Jvm.MethodName) prog_22_method_32_code (3 : Nat) (Option.some Jvm.ClassFile.FieldType.int)) ∈ lw_all := lw_g (lw_at lw_m7 73 rfl) rfl
theorem q1561 : (Jvm.Cond.instanceMethod ({ cls := "StepRidersModel", name := "cross", desc := "(I)I" } : Jvm.MethodName)) ∈ lw_all := lw_g (lw_at lw_m7 75 rfl) rfl
theorem q1562 : (Jvm.Cond.selects "StepRidersModel" ({ cls := "StepRidersModel", name := "cross", desc := "(I)I" } : Jvm.MethodName) ({ cls := "StepRidersModel", name := "cross", desc := "(I)I" } : Jvm.MethodName)) ∈ lw_all := lw_g (lw_at lw_m7 76 rfl) rfl
theorem q1563 : (Jvm.Cond.code ({ cls := "StepRidersModel", name := "cross", desc := "(I)I" } : Jvm.MethodName) prog_22_method_33_code (4 : Nat) (Option.some Jvm.ClassFile.FieldType.int)) ∈ lw_all := lw_g (lw_at lw_m7 77 rfl) rfl
theorem q1564 : (Jvm.Cond.methodLink "StepRidersModel" (148 : Nat) ({ cls := "StepRidersModel", name := "isRider", desc := "(I)Z" } : Jvm.MethodName)) ∈ lw_all := lw_g (lw_at lw_m7 78 rfl) rfl
theorem q1565 : (Jvm.Cond.privateMethod ({ cls := "StepRidersModel", name := "isRider", desc := "(I)Z" } : Jvm.MethodName)) ∈ lw_tbl := lw_at lw_m7 79 rfl
theorem q1566 : (Jvm.Cond.instanceMethod ({ cls := "StepRidersModel", name := "isRider", desc := "(I)Z" } : Jvm.MethodName)) ∈ lw_all := lw_g (lw_at lw_m7 80 rfl) rfl
theorem q1567 : (Jvm.Cond.code ({ cls := "StepRidersModel", name := "isRider", desc := "(I)Z" } : Jvm.MethodName) prog_22_method_23_code (2 : Nat) (Option.some Jvm.ClassFile.FieldType.boolean)) ∈ lw_all := lw_g (lw_at lw_m7 81 rfl) rfl
theorem q1569 : (Jvm.Cond.instanceMethod ({ cls := "StepRidersModel", name := "take", desc := "(I)I" } : Jvm.MethodName)) ∈ lw_all := lw_g (lw_at lw_m7 83 rfl) rfl
theorem q1570 : (Jvm.Cond.selects "StepRidersModel" ({ cls := "StepRidersModel", name := "take", desc := "(I)I" } : Jvm.MethodName) ({ cls := "StepRidersModel", name := "take", desc := "(I)I" } : Jvm.MethodName)) ∈ lw_all := lw_g (lw_at lw_m7 84 rfl) rfl
theorem q1571 : (Jvm.Cond.code ({ cls := "StepRidersModel", name := "take", desc := "(I)I" } : Jvm.MethodName) prog_22_method_34_code (3 : Nat) (Option.some Jvm.ClassFile.FieldType.int)) ∈ lw_all := lw_g (lw_at lw_m7 85 rfl) rfl
theorem q1573 : (Jvm.Cond.instanceMethod ({ cls := "StepRidersModel", name := "again", desc := "(II)I" } : Jvm.MethodName)) ∈ lw_all := lw_g (lw_at lw_m7 87 rfl) rfl
theorem q1574 : (Jvm.Cond.selects "StepRidersModel" ({ cls := "StepRidersModel", name := "again", desc := "(II)I" } : Jvm.MethodName) ({ cls := "StepRidersModel", name := "again", desc := "(II)I" } : Jvm.MethodName)) ∈ lw_all := lw_g (lw_at lw_m7 88 rfl) rfl
theorem q1575 : (Jvm.Cond.code ({ cls := "StepRidersModel", name := "again", desc := "(II)I" } : Jvm.MethodName) prog_22_method_35_code (3 : Nat) (Option.some Jvm.ClassFile.FieldType.int)) ∈ lw_all := lw_g (lw_at lw_m7 89 rfl) rfl
theorem q1577 : (Jvm.Cond.instanceMethod ({ cls := "StepRidersModel", name := "undo", desc := "()I" } : Jvm.MethodName)) ∈ lw_all := lw_g (lw_at lw_m7 91 rfl) rfl
theorem q1578 : (Jvm.Cond.selects "StepRidersModel" ({ cls := "StepRidersModel", name := "undo", desc := "()I" } : Jvm.MethodName) ({ cls := "StepRidersModel", name := "undo", desc := "()I" } : Jvm.MethodName)) ∈ lw_all := lw_g (lw_at lw_m7 92 rfl) rfl
theorem q1579 : (Jvm.Cond.code ({ cls := "StepRidersModel", name := "undo", desc := "()I" } : Jvm.MethodName) prog_22_method_36_code (2 : Nat) (Option.some Jvm.ClassFile.FieldType.int)) ∈ lw_all := lw_g (lw_at lw_m7 93 rfl) rfl
theorem q1581 : (Jvm.Cond.instanceMethod ({ cls := "StepRidersModel", name := "rider", desc := "(II)I" } : Jvm.MethodName)) ∈ lw_all := lw_g (lw_at lw_m7 95 rfl) rfl
theorem q1582 : (Jvm.Cond.selects "StepRidersModel" ({ cls := "StepRidersModel", name := "rider", desc := "(II)I" } : Jvm.MethodName) ({ cls := "StepRidersModel", name := "rider", desc := "(II)I" } : Jvm.MethodName)) ∈ lw_all := lw_g (lw_at lw_m7 96 rfl) rfl
theorem q1583 : (Jvm.Cond.code ({ cls := "StepRidersModel", name := "rider", desc := "(II)I" } : Jvm.MethodName) prog_22_method_37_code (4 : Nat) (Option.some Jvm.ClassFile.FieldType.int)) ∈ lw_all := lw_g (lw_at lw_m7 97 rfl) rfl
theorem q1585 : (Jvm.Cond.instanceMethod ({ cls := "StepRidersModel", name := "step", desc := "(II)I" } : Jvm.MethodName)) ∈ lw_all := lw_g (lw_at lw_m7 99 rfl) rfl
theorem q1586 : (Jvm.Cond.selects "StepRidersModel" ({ cls := "StepRidersModel", name := "step", desc := "(II)I" } : Jvm.MethodName) ({ cls := "StepRidersModel", name := "step", desc := "(II)I" } : Jvm.MethodName)) ∈ lw_all := lw_g (lw_at lw_m7 100 rfl) rfl
theorem q1587 : (Jvm.Cond.code ({ cls := "StepRidersModel", name := "step", desc := "(II)I" } : Jvm.MethodName) prog_22_method_38_code (6 : Nat) (Option.some Jvm.ClassFile.FieldType.int)) ∈ lw_all := lw_g (lw_at lw_m7 101 rfl) rfl
theorem q1589 : (Jvm.Cond.instanceMethod ({ cls := "StepRidersModel", name := "ahead", desc := "(II)I" } : Jvm.MethodName)) ∈ lw_all := lw_g (lw_at lw_m7 103 rfl) rfl
theorem q1590 : (Jvm.Cond.selects "StepRidersModel" ({ cls := "StepRidersModel", name := "ahead", desc := "(II)I" } : Jvm.MethodName) ({ cls := "StepRidersModel", name := "ahead", desc := "(II)I" } : Jvm.MethodName)) ∈ lw_all := lw_g (lw_at lw_m7 104 rfl) rfl
theorem q1591 : (Jvm.Cond.code ({ cls := "StepRidersModel", name := "ahead", desc := "(II)I" } : Jvm.MethodName) prog_22_method_40_code (4 : Nat) (Option.some Jvm.ClassFile.FieldType.int)) ∈ lw_all := lw_g (lw_at lw_m7 105 rfl) rfl
theorem q1592 : (Jvm.Cond.methodLink "StepRidersModel" (151 : Nat) ({ cls := "StepRidersModel", name := "starts", desc := "()V" } : Jvm.MethodName)) ∈ lw_all := lw_g (lw_at lw_m7 106 rfl) rfl
theorem q1593 : (Jvm.Cond.privateMethod ({ cls := "StepRidersModel", name := "starts", desc := "()V" } : Jvm.MethodName)) ∈ lw_tbl := lw_at lw_m7 107 rfl
theorem q1594 : (Jvm.Cond.instanceMethod ({ cls := "StepRidersModel", name := "starts", desc := "()V" } : Jvm.MethodName)) ∈ lw_all := lw_g (lw_at lw_m7 108 rfl) rfl
theorem q1595 : (Jvm.Cond.code ({ cls := "StepRidersModel", name := "starts", desc := "()V" } : Jvm.MethodName) prog_22_method_39_code (2 : Nat) (Option.none : Option Jvm.ClassFile.FieldType)) ∈ lw_all := lw_g (lw_at lw_m7 109 rfl) rfl
theorem q1597 : (Jvm.Cond.instanceMethod ({ cls := "StepRidersModel", name := "later", desc := "(II)I" } : Jvm.MethodName)) ∈ lw_all := lw_g (lw_at lw_m7 111 rfl) rfl
theorem q1598 : (Jvm.Cond.selects "StepRidersModel" ({ cls := "StepRidersModel", name := "later", desc := "(II)I" } : Jvm.MethodName) ({ cls := "StepRidersModel", name := "later", desc := "(II)I" } : Jvm.MethodName)) ∈ lw_all := lw_g (lw_at lw_m7 112 rfl) rfl
theorem q1599 : (Jvm.Cond.code ({ cls := "StepRidersModel", name := "later", desc := "(II)I" } : Jvm.MethodName) prog_22_method_41_code (5 : Nat) (Option.some Jvm.ClassFile.FieldType.int)) ∈ lw_all := lw_g (lw_at lw_m7 113 rfl) rfl
theorem q1601 : (Jvm.Cond.instanceMethod ({ cls := "StepRidersModel", name := "off", desc := "(I)I" } : Jvm.MethodName)) ∈ lw_all := lw_g (lw_at lw_m7 115 rfl) rfl
theorem q1602 : (Jvm.Cond.selects "StepRidersModel" ({ cls := "StepRidersModel", name := "off", desc := "(I)I" } : Jvm.MethodName) ({ cls := "StepRidersModel", name := "off", desc := "(I)I" } : Jvm.MethodName)) ∈ lw_all := lw_g (lw_at lw_m7 116 rfl) rfl
theorem q1603 : (Jvm.Cond.code ({ cls := "StepRidersModel", name := "off", desc := "(I)I" } : Jvm.MethodName) prog_22_method_42_code (3 : Nat) (Option.some Jvm.ClassFile.FieldType.int)) ∈ lw_all := lw_g (lw_at lw_m7 117 rfl) rfl
theorem q1604 : (Jvm.Cond.constant "StepRidersModel" (154 : Nat) (-1000000 : Int32)) ∈ lw_all := lw_g (lw_at lw_m7 118 rfl) rfl
theorem q1606 : (Jvm.Cond.instanceMethod ({ cls := "StepRidersModel", name := "clear", desc := "()I" } : Jvm.MethodName)) ∈ lw_all := lw_g (lw_at lw_m7 120 rfl) rfl
theorem q1607 : (Jvm.Cond.selects "StepRidersModel" ({ cls := "StepRidersModel", name := "clear", desc := "()I" } : Jvm.MethodName) ({ cls := "StepRidersModel", name := "clear", desc := "()I" } : Jvm.MethodName)) ∈ lw_all := lw_g (lw_at lw_m7 121 rfl) rfl
theorem q1608 : (Jvm.Cond.code ({ cls := "StepRidersModel", name := "clear", desc := "()I" } : Jvm.MethodName) prog_22_method_44_code (1 : Nat) (Option.some Jvm.ClassFile.FieldType.int)) ∈ lw_all := lw_g (lw_at lw_m7 122 rfl) rfl
theorem q1609 : (Jvm.Cond.methodLink "StepRidersModel" (155 : Nat) ({ cls := "StepRidersModel", name := "clears", desc := "()I" } : Jvm.MethodName)) ∈ lw_all := lw_g (lw_at lw_m7 123 rfl) rfl
theorem q1610 : (Jvm.Cond.privateMethod ({ cls := "StepRidersModel", name := "clears", desc := "()I" } : Jvm.MethodName)) ∈ lw_tbl := lw_at lw_m7 124 rfl
theorem q1611 : (Jvm.Cond.instanceMethod ({ cls := "StepRidersModel", name := "clears", desc := "()I" } : Jvm.MethodName)) ∈ lw_all := lw_g (lw_at lw_m7 125 rfl) rfl
theorem q1612 : (Jvm.Cond.code ({ cls := "StepRidersModel", name := "clears", desc := "()I" } : Jvm.MethodName) prog_22_method_43_code (2 : Nat) (Option.some Jvm.ClassFile.FieldType.int)) ∈ lw_all := lw_g (lw_at lw_m7 126 rfl) rfl
theorem q1614 : (Jvm.Cond.instanceMethod ({ cls := "StepRidersModel", name := "sorting", desc := "(I)I" } : Jvm.MethodName)) ∈ lw_all := lw_g (lw_at lw_m7 128 rfl) rfl
theorem q1615 : (Jvm.Cond.selects "StepRidersModel" ({ cls := "StepRidersModel", name := "sorting", desc := "(I)I" } : Jvm.MethodName) ({ cls := "StepRidersModel", name := "sorting", desc := "(I)I" } : Jvm.MethodName)) ∈ lw_all := lw_g (lw_at lw_m7 129 rfl) rfl
theorem q1616 : (Jvm.Cond.code ({ cls := "StepRidersModel", name := "sorting", desc := "(I)I" } : Jvm.MethodName) prog_22_method_47_code (8 : Nat) (Option.some Jvm.ClassFile.FieldType.int)) ∈ lw_all := lw_g (lw_at lw_m7 130 rfl) rfl
theorem q1617 : (Jvm.Cond.methodLink "StepRidersModel" (159 : Nat) ({ cls := "StepRidersModel", name := "queued", desc := "()I" } : Jvm.MethodName)) ∈ lw_all := lw_g (lw_at lw_m7 131 rfl) rfl
theorem q1618 : (Jvm.Cond.privateMethod ({ cls := "StepRidersModel", name := "queued", desc := "()I" } : Jvm.MethodName)) ∈ lw_tbl := lw_at lw_m7 132 rfl
theorem q1619 : (Jvm.Cond.instanceMethod ({ cls := "StepRidersModel", name := "queued", desc := "()I" } : Jvm.MethodName)) ∈ lw_all := lw_g (lw_at lw_m7 133 rfl) rfl
theorem q1620 : (Jvm.Cond.code ({ cls := "StepRidersModel", name := "queued", desc := "()I" } : Jvm.MethodName) prog_22_method_45_code (3 : Nat) (Option.some Jvm.ClassFile.FieldType.int)) ∈ lw_all := lw_g (lw_at lw_m7 134 rfl) rfl
theorem q1621 : (Jvm.Cond.methodLink "StepRidersModel" (162 : Nat) ({ cls := "StepRidersModel", name := "has", desc := "(II)Z" } : Jvm.MethodName)) ∈ lw_all := lw_g (lw_at lw_m7 135 rfl) rfl
theorem q1622 : (Jvm.Cond.static ({ cls := "StepRidersModel", name := "has", desc := "(II)Z" } : Jvm.MethodName)) ∈ lw_all := lw_g (lw_at lw_m7 136 rfl) rfl
theorem q1623 : (Jvm.Cond.code ({ cls := "StepRidersModel", name := "has", desc := "(II)Z" } : Jvm.MethodName) prog_22_method_46_code (2 : Nat) (Option.some Jvm.ClassFile.FieldType.boolean)) ∈ lw_all := lw_g (lw_at lw_m7 137 rfl) rfl
theorem q1625 : (Jvm.Cond.instanceMethod ({ cls := "StepRidersModel", name := "taken", desc := "(I)I" } : Jvm.MethodName)) ∈ lw_all := lw_g (lw_at lw_m7 139 rfl) rfl
theorem q1626 : (Jvm.Cond.selects "StepRidersModel" ({ cls := "StepRidersModel", name := "taken", desc := "(I)I" } : Jvm.MethodName) ({ cls := "StepRidersModel", name := "taken", desc := "(I)I" } : Jvm.MethodName)) ∈ lw_all := lw_g (lw_at lw_m7 140 rfl) rfl
theorem q1627 : (Jvm.Cond.code ({ cls := "StepRidersModel", name := "taken", desc := "(I)I" } : Jvm.MethodName) prog_22_method_48_code (6 : Nat) (Option.some Jvm.ClassFile.FieldType.int)) ∈ lw_all := lw_g (lw_at lw_m7 141 rfl) rfl
theorem q1629 : (Jvm.Cond.instanceMethod ({ cls := "StepRidersModel", name := "pace", desc := "(III)I" } : Jvm.MethodName)) ∈ lw_all := lw_g (lw_at lw_m7 143 rfl) rfl
theorem q1630 : (Jvm.Cond.selects "StepRidersModel" ({ cls := "StepRidersModel", name := "pace", desc := "(III)I" } : Jvm.MethodName) ({ cls := "StepRidersModel", name := "pace", desc := "(III)I" } : Jvm.MethodName)) ∈ lw_all := lw_g (lw_at lw_m7 144 rfl) rfl
theorem q1631 : (Jvm.Cond.code ({ cls := "StepRidersModel", name := "pace", desc := "(III)I" } : Jvm.MethodName) prog_22_method_49_code (11 : Nat) (Option.some Jvm.ClassFile.FieldType.int)) ∈ lw_all := lw_g (lw_at lw_m7 145 rfl) rfl
theorem q1633 : (Jvm.Cond.instanceMethod ({ cls := "StepRidersModel", name := "fits", desc := "(IIIII)I" } : Jvm.MethodName)) ∈ lw_all := lw_g (lw_at lw_m7 147 rfl) rfl
theorem q1634 : (Jvm.Cond.selects "StepRidersModel" ({ cls := "StepRidersModel", name := "fits", desc := "(IIIII)I" } : Jvm.MethodName) ({ cls := "StepRidersModel", name := "fits", desc := "(IIIII)I" } : Jvm.MethodName)) ∈ lw_all := lw_g (lw_at lw_m7 148 rfl) rfl
theorem q1635 : (Jvm.Cond.code ({ cls := "StepRidersModel", name := "fits", desc := "(IIIII)I" } : Jvm.MethodName) prog_22_method_51_code (14 : Nat) (Option.some Jvm.ClassFile.FieldType.int)) ∈ lw_all := lw_g (lw_at lw_m7 149 rfl) rfl
theorem q1636 : (Jvm.Cond.methodLink "StepRidersModel" (166 : Nat) ({ cls := "StepRidersModel", name := "isSo", desc := "(III)Z" } : Jvm.MethodName)) ∈ lw_all := lw_g (lw_at lw_m7 150 rfl) rfl
theorem q1637 : (Jvm.Cond.privateMethod ({ cls := "StepRidersModel", name := "isSo", desc := "(III)Z" } : Jvm.MethodName)) ∈ lw_tbl := lw_at lw_m7 151 rfl
theorem q1638 : (Jvm.Cond.instanceMethod ({ cls := "StepRidersModel", name := "isSo", desc := "(III)Z" } : Jvm.MethodName)) ∈ lw_all := lw_g (lw_at lw_m7 152 rfl) rfl
theorem q1639 : (Jvm.Cond.code ({ cls := "StepRidersModel", name := "isSo", desc := "(III)Z" } : Jvm.MethodName) prog_22_method_50_code (6 : Nat) (Option.some Jvm.ClassFile.FieldType.boolean)) ∈ lw_all := lw_g (lw_at lw_m7 153 rfl) rfl
theorem q1641 : (Jvm.Cond.instanceMethod ({ cls := "StepRidersModel", name := "absent", desc := "(IIII)I" } : Jvm.MethodName)) ∈ lw_all := lw_g (lw_at lw_m7 155 rfl) rfl
theorem q1642 : (Jvm.Cond.selects "StepRidersModel" ({ cls := "StepRidersModel", name := "absent", desc := "(IIII)I" } : Jvm.MethodName) ({ cls := "StepRidersModel", name := "absent", desc := "(IIII)I" } : Jvm.MethodName)) ∈ lw_all := lw_g (lw_at lw_m7 156 rfl) rfl
theorem q1643 : (Jvm.Cond.code ({ cls := "StepRidersModel", name := "absent", desc := "(IIII)I" } : Jvm.MethodName) prog_22_method_52_code (11 : Nat) (Option.some Jvm.ClassFile.FieldType.int)) ∈ lw_all := lw_g (lw_at lw_m7 157 rfl) rfl
theorem q1645 : (Jvm.Cond.instanceMethod ({ cls := "StepRidersModel", name := "drawn", desc := "(III)I" } : Jvm.MethodName)) ∈ lw_all := lw_g (lw_at lw_m7 159 rfl) rfl
theorem q1646 : (Jvm.Cond.selects "StepRidersModel" ({ cls := "StepRidersModel", name := "drawn", desc := "(III)I" } : Jvm.MethodName) ({ cls := "StepRidersModel", name := "drawn", desc := "(III)I" } : Jvm.MethodName)) ∈ lw_all := lw_g (lw_at lw_m7 160 rfl) rfl
theorem q1647 : (Jvm.Cond.code ({ cls := "StepRidersModel", name := "drawn", desc := "(III)I" } : Jvm.MethodName) prog_22_method_53_code (10 : Nat) (Option.some Jvm.ClassFile.FieldType.int)) ∈ lw_all := lw_g (lw_at lw_m7 161 rfl) rfl
theorem q1648 : (Jvm.Cond.constant "StepRidersModel" (169 : Nat) (999999 : Int32)) ∈ lw_all := lw_g (lw_at lw_m7 162 rfl) rfl
theorem q1649 : (Jvm.Cond.constantLong "StepRidersModel" (170 : Nat) (16807 : Int64)) ∈ lw_all := lw_g (lw_at lw_m7 163 rfl) rfl
theorem q1650 : (Jvm.Cond.constantLong "StepRidersModel" (172 : Nat) (2147483647 : Int64)) ∈ lw_all := lw_g (lw_at lw_m7 164 rfl) rfl
theorem q1651 : (Jvm.Cond.constantLong "StepRidersModel" (174 : Nat) (4 : Int64)) ∈ lw_all := lw_g (lw_at lw_m7 165 rfl) rfl
theorem q1652 : (Jvm.Cond.constantLong "StepRidersModel" (176 : Nat) (3 : Int64)) ∈ lw_all := lw_g (lw_at lw_m7 166 rfl) rfl
theorem q1653 : (Jvm.Cond.constantLong "StepRidersModel" (178 : Nat) (2 : Int64)) ∈ lw_all := lw_g (lw_at lw_m7 167 rfl) rfl
theorem q1655 : (Jvm.Cond.instanceMethod ({ cls := "StepRidersModel", name := "image", desc := "(I)I" } : Jvm.MethodName)) ∈ lw_all := lw_g (lw_at lw_m7 169 rfl) rfl
theorem q1656 : (Jvm.Cond.selects "StepRidersModel" ({ cls := "StepRidersModel", name := "image", desc := "(I)I" } : Jvm.MethodName) ({ cls := "StepRidersModel", name := "image", desc := "(I)I" } : Jvm.MethodName)) ∈ lw_all := lw_g (lw_at lw_m7 170 rfl) rfl
theorem q1657 : (Jvm.Cond.code ({ cls := "StepRidersModel", name := "image", desc := "(I)I" } : Jvm.MethodName) prog_22_method_54_code (3 : Nat) (Option.some Jvm.ClassFile.FieldType.int)) ∈ lw_all := lw_g (lw_at lw_m7 171 rfl) rfl
theorem q1659 : (Jvm.Cond.instanceMethod ({ cls := "StepRidersModel", name := "restore", desc := "(I)I" } : Jvm.MethodName)) ∈ lw_all := lw_g (lw_at lw_m7 173 rfl) rfl
theorem q1660 : (Jvm.Cond.selects "StepRidersModel" ({ cls := "StepRidersModel", name := "restore", desc := "(I)I" } : Jvm.MethodName) ({ cls := "StepRidersModel", name := "restore", desc := "(I)I" } : Jvm.MethodName)) ∈ lw_all := lw_g (lw_at lw_m7 174 rfl) rfl
theorem q1661 : (Jvm.Cond.code ({ cls := "StepRidersModel", name := "restore", desc := "(I)I" } : Jvm.MethodName) prog_22_method_55_code (3 : Nat) (Option.some Jvm.ClassFile.FieldType.int)) ∈ lw_all := lw_g (lw_at lw_m7 175 rfl) rfl
theorem q1663 : (Jvm.Cond.instanceMethod ({ cls := "StepRidersModel", name := "kind", desc := "(I)I" } : Jvm.MethodName)) ∈ lw_all := lw_g (lw_at lw_m7 177 rfl) rfl
theorem q1664 : (Jvm.Cond.selects "StepRidersModel" ({ cls := "StepRidersModel", name := "kind", desc := "(I)I" } : Jvm.MethodName) ({ cls := "StepRidersModel", name := "kind", desc := "(I)I" } : Jvm.MethodName)) ∈ lw_all := lw_g (lw_at lw_m7 178 rfl) rfl
theorem q1665 : (Jvm.Cond.code ({ cls := "StepRidersModel", name := "kind", desc := "(I)I" } : Jvm.MethodName) prog_22_method_56_code (2 : Nat) (Option.some Jvm.ClassFile.FieldType.int)) ∈ lw_all := lw_g (lw_at lw_m7 179 rfl) rfl
theorem q1667 : (Jvm.Cond.instanceMethod ({ cls := "StepRidersModel", name := "as", desc := "(II)I" } : Jvm.MethodName)) ∈ lw_all := lw_g (lw_at lw_m7 181 rfl) rfl
theorem q1668 : (Jvm.Cond.selects "StepRidersModel" ({ cls := "StepRidersModel", name := "as", desc := "(II)I" } : Jvm.MethodName) ({ cls := "StepRidersModel", name := "as", desc := "(II)I" } : Jvm.MethodName)) ∈ lw_all := lw_g (lw_at lw_m7 182 rfl) rfl
theorem q1669 : (Jvm.Cond.code ({ cls := "StepRidersModel", name := "as", desc := "(II)I" } : Jvm.MethodName) prog_22_method_57_code (5 : Nat) (Option.some Jvm.ClassFile.FieldType.int)) ∈ lw_all := lw_g (lw_at lw_m7 183 rfl) rfl
theorem q1670 : (Jvm.Cond.constant "StepRidersModel" (180 : Nat) (-1000013 : Int32)) ∈ lw_all := lw_g (lw_at lw_m7 184 rfl) rfl
theorem q1672 : (Jvm.Cond.instanceMethod ({ cls := "StepRidersModel", name := "ask", desc := "(II)I" } : Jvm.MethodName)) ∈ lw_all := lw_g (lw_at lw_m7 186 rfl) rfl
theorem q1673 : (Jvm.Cond.selects "StepRidersModel" ({ cls := "StepRidersModel", name := "ask", desc := "(II)I" } : Jvm.MethodName) ({ cls := "StepRidersModel", name := "ask", desc := "(II)I" } : Jvm.MethodName)) ∈ lw_all := lw_g (lw_at lw_m7 187 rfl) rfl
theorem q1674 : (Jvm.Cond.code ({ cls := "StepRidersModel", name := "ask", desc := "(II)I" } : Jvm.MethodName) prog_22_method_61_code (3 : Nat) (Option.some Jvm.ClassFile.FieldType.int)) ∈ lw_all := lw_g (lw_at lw_m7 188 rfl) rfl
theorem q1675 : (Jvm.Cond.methodLink "StepRidersModel" (191 : Nat) ({ cls := "StepRidersModel", name := "size", desc := "(I)I" } : Jvm.MethodName)) ∈ lw_all := lw_g (lw_at lw_m7 189 rfl) rfl
theorem q1676 : (Jvm.Cond.privateMethod ({ cls := "StepRidersModel", name := "size", desc := "(I)I" } : Jvm.MethodName)) ∈ lw_tbl := lw_at lw_m7 190 rfl
theorem q1677 : (Jvm.Cond.instanceMethod ({ cls := "StepRidersModel", name := "size", desc := "(I)I" } : Jvm.MethodName)) ∈ lw_all := lw_g (lw_at lw_m7 191 rfl) rfl
theorem q1678 : (Jvm.Cond.code ({ cls := "StepRidersModel", name := "size", desc := "(I)I" } : Jvm.MethodName) prog_22_method_59_code (5 : Nat) (Option.some Jvm.ClassFile.FieldType.int)) ∈ lw_all := lw_g (lw_at lw_m7 192 rfl) rfl
theorem q1679 : (Jvm.Cond.methodLink "StepRidersModel" (184 : Nat) ({ cls := "StepRidersModel", name := "begins", desc := "(I)V" } : Jvm.MethodName)) ∈ lw_all := lw_g (lw_at lw_m7 193 rfl) rfl
theorem q1680 : (Jvm.Cond.privateMethod ({ cls := "StepRidersModel", name := "begins", desc := "(I)V" } : Jvm.MethodName)) ∈ lw_tbl := lw_at lw_m7 194 rfl
theorem q1681 : (Jvm.Cond.instanceMethod ({ cls := "StepRidersModel", name := "begins", desc := "(I)V" } : Jvm.MethodName)) ∈ lw_all := lw_g (lw_at lw_m7 195 rfl) rfl
theorem q1682 : (Jvm.Cond.code ({ cls := "StepRidersModel", name := "begins", desc := "(I)V" } : Jvm.MethodName) prog_22_method_58_code (2 : Nat) (Option.none : Option Jvm.ClassFile.FieldType)) ∈ lw_all := lw_g (lw_at lw_m7 196 rfl) rfl
theorem q1683 : (Jvm.Cond.methodLink "StepRidersModel" (188 : Nat) ({ cls := "StepRidersModel", name := "stands", desc := "(I)I" } : Jvm.MethodName)) ∈ lw_all := lw_g (lw_at lw_m7 197 rfl) rfl
theorem q1684 : (Jvm.Cond.privateMethod ({ cls := "StepRidersModel", name := "stands", desc := "(I)I" } : Jvm.MethodName)) ∈ lw_tbl := lw_at lw_m7 198 rfl
theorem q1685 : (Jvm.Cond.instanceMethod ({ cls := "StepRidersModel", name := "stands", desc := "(I)I" } : Jvm.MethodName)) ∈ lw_all := lw_g (lw_at lw_m7 199 rfl) rfl
theorem q1686 : (Jvm.Cond.code ({ cls := "StepRidersModel", name := "stands", desc := "(I)I" } : Jvm.MethodName) prog_22_method_60_code (4 : Nat) (Option.some Jvm.ClassFile.FieldType.int)) ∈ lw_all := lw_g (lw_at lw_m7 200 rfl) rfl
theorem q1688 : (Jvm.Cond.instanceMethod ({ cls := "StepRidersModel", name := "trace", desc := "(I)I" } : Jvm.MethodName)) ∈ lw_all := lw_g (lw_at lw_m7 202 rfl) rfl
theorem q1689 : (Jvm.Cond.selects "StepRidersModel" ({ cls := "StepRidersModel", name := "trace", desc := "(I)I" } : Jvm.MethodName) ({ cls := "StepRidersModel", name := "trace", desc := "(I)I" } : Jvm.MethodName)) ∈ lw_all := lw_g (lw_at lw_m7 203 rfl) rfl
theorem q1690 : (Jvm.Cond.code ({ cls := "StepRidersModel", name := "trace", desc := "(I)I" } : Jvm.MethodName) prog_22_method_62_code (2 : Nat) (Option.some Jvm.ClassFile.FieldType.int)) ∈ lw_all := lw_g (lw_at lw_m7 204 rfl) rfl
theorem q1692 : (Jvm.Cond.instanceMethod ({ cls := "StepRidersModel", name := "count", desc := "(I)I" } : Jvm.MethodName)) ∈ lw_all := lw_g (lw_at lw_m7 206 rfl) rfl
theorem q1693 : (Jvm.Cond.selects "StepRidersModel" ({ cls := "StepRidersModel", name := "count", desc := "(I)I" } : Jvm.MethodName) ({ cls := "StepRidersModel", name := "count", desc := "(I)I" } : Jvm.MethodName)) ∈ lw_all := lw_g (lw_at lw_m7 207 rfl) rfl
theorem q1694 : (Jvm.Cond.code ({ cls := "StepRidersModel", name := "count", desc := "(I)I" } : Jvm.MethodName) prog_22_method_63_code (4 : Nat) (Option.some Jvm.ClassFile.FieldType.int)) ∈ lw_all := lw_g (lw_at lw_m7 208 rfl) rfl
theorem q1696 : (Jvm.Cond.instanceMethod ({ cls := "StepRidersModel", name := "status", desc := "()I" } : Jvm.MethodName)) ∈ lw_all := lw_g (lw_at lw_m7 210 rfl) rfl
theorem q1697 : (Jvm.Cond.selects "StepRidersModel" ({ cls := "StepRidersModel", name := "status", desc := "()I" } : Jvm.MethodName) ({ cls := "StepRidersModel", name := "status", desc := "()I" } : Jvm.MethodName)) ∈ lw_all := lw_g (lw_at lw_m7 211 rfl) rfl
theorem q1698 : (Jvm.Cond.code ({ cls := "StepRidersModel", name := "status", desc := "()I" } : Jvm.MethodName) prog_22_method_64_code (1 : Nat) (Option.some Jvm.ClassFile.FieldType.int)) ∈ lw_all := lw_g (lw_at lw_m7 212 rfl) rfl
theorem q1725 : (Jvm.Cond.castable "StepRidersModel" "java/lang/Object") ∈ lw_tbl := lw_at lw_m7 239 rfl
theorem in_X4 : ∀ w ∈ wsX40, w ∈ lw_all := lw_in wsX40 [1403, 1405, 1407, 1409, 1411, 1413, 1415, 1417, 1419, 1421, 1423, 1425, 1427, 1429, 1431, 1433, 1435, 1437, 1439, 1441] (by decide +kernel) (by decide +kernel)
