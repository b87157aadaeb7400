/-! MapSheetsModel -/
set_option maxRecDepth 100000
def RX4 : String := "MapSheetsModel"
def TX4 : u_T := fun k => match k with
  | 0 => ("MapSheetsModel", "s", "[I", true)
  | 1 => ("MapSheetsModel", "was", "[I", true)
  | 2 => ("MapSheetsModel", "aside", "[I", true)
  | 3 => ("MapSheetsModel", "states", "I", false)
  | 4 => ("MapSheetsModel", "text", "[I", true)
  | 5 => ("MapSheetsModel", "typed", "I", false)
  | _ => ("MapSheetsModel", "block", "[I", true)
def tyX4 : Nat → FieldType := fun k => match k with
  | 0 => .array .int
  | 1 => .array .int
  | 2 => .array .int
  | 3 => .int
  | 4 => .array .int
  | 5 => .int
  | _ => .array .int
abbrev wsX40 : List Cond := u_ws RX4 TX4 7
theorem nmX4 : ∀ a, a < 7 → ∀ b, b < 7 → a ≠ b → (TX4 a).2.1 ≠ (TX4 b).2.1 := by decide +kernel
theorem tyX4_ok : ∀ k, k < 7 → parseFieldDescriptor (TX4 k).2.2.1 = some (tyX4 k) := by decide +kernel
abbrev cX4_init : ByteArray := prog_11_method_1_code
def yX4_init : MethodName := ⟨RX4, "<init>", "()V"⟩
def dkwX4_init_2 : List UInt8 := [42, 180, 0, 7, 5, 4, 79, 42, 180, 0, 7, 6, 16, 20, 79, 42, 6, 5, 182, 0, 25, 177]
abbrev dktX4_init_2 : List UInt8 := dkwX4_init_2 ++ []
def dkwX4_init_1 : List UInt8 := [17, 7, 180, 188, 10, 181, 0, 16, 42, 16, 100, 188, 10, 181, 0, 19, 42, 16, 36, 188, 10, 181, 0, 22]
abbrev dktX4_init_1 : List UInt8 := dkwX4_init_1 ++ dktX4_init_2
def dkwX4_init_0 : List UInt8 := [42, 183, 0, 1, 42, 17, 7, 180, 188, 10, 181, 0, 7, 42, 17, 30, 208, 188, 10, 181, 0, 13, 42]
abbrev dktX4_init_0 : List UInt8 := dkwX4_init_0 ++ dktX4_init_1
theorem dksX4_init_0 : cX4_init.data.toList.drop 0 = dktX4_init_0 := by decide +kernel
theorem dksX4_init_1 : cX4_init.data.toList.drop 23 = dktX4_init_1 := dk_seg dksX4_init_0 23 rfl rfl
theorem dksX4_init_2 : cX4_init.data.toList.drop 47 = dktX4_init_2 := dk_seg dksX4_init_1 24 rfl rfl
theorem dX4_init_0 : decode cX4_init 0 = .ok (.aload_n 0, 1) := dk_42 (dk_at dksX4_init_0 0 rfl rfl)
theorem dX4_init_1 : decode cX4_init 1 = .ok (.invokespecial 1, 3) := dk_183 0 1 (dk_at dksX4_init_0 1 rfl rfl)
theorem dX4_init_4 : decode cX4_init 4 = .ok (.aload_n 0, 1) := dk_42 (dk_at dksX4_init_0 4 rfl rfl)
theorem dX4_init_5 : decode cX4_init 5 = .ok (.sipush 1972, 3) := dk_17 7 180 (dk_at dksX4_init_0 5 rfl rfl)
theorem dX4_init_8 : decode cX4_init 8 = .ok (.newarray .int, 2) := dk_188_10 (dk_at dksX4_init_0 8 rfl rfl)
theorem dX4_init_10 : decode cX4_init 10 = .ok (.putfield 7, 3) := dk_181 0 7 (dk_at dksX4_init_0 10 rfl rfl)
theorem dX4_init_13 : decode cX4_init 13 = .ok (.aload_n 0, 1) := dk_42 (dk_at dksX4_init_0 13 rfl rfl)
theorem dX4_init_14 : decode cX4_init 14 = .ok (.sipush 7888, 3) := dk_17 30 208 (dk_at dksX4_init_0 14 rfl rfl)
theorem dX4_init_17 : decode cX4_init 17 = .ok (.newarray .int, 2) := dk_188_10 (dk_at dksX4_init_0 17 rfl rfl)
theorem dX4_init_19 : decode cX4_init 19 = .ok (.putfield 13, 3) := dk_181 0 13 (dk_at dksX4_init_0 19 rfl rfl)
theorem dX4_init_22 : decode cX4_init 22 = .ok (.aload_n 0, 1) := dk_42 (dk_at dksX4_init_0 22 rfl rfl)
theorem dX4_init_23 : decode cX4_init 23 = .ok (.sipush 1972, 3) := dk_17 7 180 (dk_at dksX4_init_1 0 rfl rfl)
theorem dX4_init_26 : decode cX4_init 26 = .ok (.newarray .int, 2) := dk_188_10 (dk_at dksX4_init_1 3 rfl rfl)
theorem dX4_init_28 : decode cX4_init 28 = .ok (.putfield 16, 3) := dk_181 0 16 (dk_at dksX4_init_1 5 rfl rfl)
theorem dX4_init_31 : decode cX4_init 31 = .ok (.aload_n 0, 1) := dk_42 (dk_at dksX4_init_1 8 rfl rfl)
theorem dX4_init_32 : decode cX4_init 32 = .ok (.bipush 100, 2) := dk_16 100 (dk_at dksX4_init_1 9 rfl rfl)
theorem dX4_init_34 : decode cX4_init 34 = .ok (.newarray .int, 2) := dk_188_10 (dk_at dksX4_init_1 11 rfl rfl)
theorem dX4_init_36 : decode cX4_init 36 = .ok (.putfield 19, 3) := dk_181 0 19 (dk_at dksX4_init_1 13 rfl rfl)
theorem dX4_init_39 : decode cX4_init 39 = .ok (.aload_n 0, 1) := dk_42 (dk_at dksX4_init_1 16 rfl rfl)
theorem dX4_init_40 : decode cX4_init 40 = .ok (.bipush 36, 2) := dk_16 36 (dk_at dksX4_init_1 17 rfl rfl)
theorem dX4_init_42 : decode cX4_init 42 = .ok (.newarray .int, 2) := dk_188_10 (dk_at dksX4_init_1 19 rfl rfl)
theorem dX4_init_44 : decode cX4_init 44 = .ok (.putfield 22, 3) := dk_181 0 22 (dk_at dksX4_init_1 21 rfl rfl)
theorem dX4_init_47 : decode cX4_init 47 = .ok (.aload_n 0, 1) := dk_42 (dk_at dksX4_init_2 0 rfl rfl)
theorem dX4_init_48 : decode cX4_init 48 = .ok (.getfield 7, 3) := dk_180 0 7 (dk_at dksX4_init_2 1 rfl rfl)
theorem dX4_init_51 : decode cX4_init 51 = .ok (.iconst 2, 1) := dk_5 (dk_at dksX4_init_2 4 rfl rfl)
theorem dX4_init_52 : decode cX4_init 52 = .ok (.iconst 1, 1) := dk_4 (dk_at dksX4_init_2 5 rfl rfl)
theorem dX4_init_53 : decode cX4_init 53 = .ok (.iastore, 1) := dk_79 (dk_at dksX4_init_2 6 rfl rfl)
theorem dX4_init_54 : decode cX4_init 54 = .ok (.aload_n 0, 1) := dk_42 (dk_at dksX4_init_2 7 rfl rfl)
theorem dX4_init_55 : decode cX4_init 55 = .ok (.getfield 7, 3) := dk_180 0 7 (dk_at dksX4_init_2 8 rfl rfl)
theorem dX4_init_58 : decode cX4_init 58 = .ok (.iconst 3, 1) := dk_6 (dk_at dksX4_init_2 11 rfl rfl)
theorem dX4_init_59 : decode cX4_init 59 = .ok (.bipush 20, 2) := dk_16 20 (dk_at dksX4_init_2 12 rfl rfl)
theorem dX4_init_61 : decode cX4_init 61 = .ok (.iastore, 1) := dk_79 (dk_at dksX4_init_2 14 rfl rfl)
theorem dX4_init_62 : decode cX4_init 62 = .ok (.aload_n 0, 1) := dk_42 (dk_at dksX4_init_2 15 rfl rfl)
theorem dX4_init_63 : decode cX4_init 63 = .ok (.iconst 3, 1) := dk_6 (dk_at dksX4_init_2 16 rfl rfl)
theorem dX4_init_64 : decode cX4_init 64 = .ok (.iconst 2, 1) := dk_5 (dk_at dksX4_init_2 17 rfl rfl)
theorem dX4_init_65 : decode cX4_init 65 = .ok (.invokevirtual 25, 3) := dk_182 0 25 (dk_at dksX4_init_2 18 rfl rfl)
theorem dX4_init_68 : decode cX4_init 68 = .ok (.return_, 1) := dk_177 (dk_at dksX4_init_2 21 rfl rfl)
abbrev cX4_begins : ByteArray := prog_11_method_4_code
def yX4_begins : MethodName := ⟨RX4, "begins", "(II)V"⟩
def dkwX4_begins_5 : List UInt8 := [167, 0, 6, 17, 3, 232, 79, 132, 4, 1, 167, 255, 178, 132, 3, 1, 167, 255, 163, 177]
abbrev dktX4_begins_5 : List UInt8 := dkwX4_begins_5 ++ []
def dkwX4_begins_4 : List UInt8 := [167, 0, 29, 21, 4, 16, 50, 160, 0, 7, 3, 167, 0, 18, 21, 4, 16, 51, 160, 0, 8, 16, 252]
abbrev dktX4_begins_4 : List UInt8 := dkwX4_begins_4 ++ dktX4_begins_5
def dkwX4_begins_3 : List UInt8 := [16, 40, 162, 0, 8, 16, 10, 167, 0, 44, 21, 4, 16, 50, 162, 0, 11, 21, 4, 16, 40, 100]
abbrev dktX4_begins_3 : List UInt8 := dkwX4_begins_3 ++ dktX4_begins_4
def dkwX4_begins_2 : List UInt8 := [21, 4, 16, 53, 162, 0, 77, 42, 180, 0, 7, 16, 64, 16, 53, 29, 104, 96, 21, 4, 96, 21, 4]
abbrev dktX4_begins_2 : List UInt8 := dkwX4_begins_2 ++ dktX4_begins_3
def dkwX4_begins_1 : List UInt8 := [180, 0, 7, 29, 3, 79, 132, 3, 1, 167, 255, 240, 3, 62, 29, 16, 36, 162, 0, 93, 3, 54, 4]
abbrev dktX4_begins_1 : List UInt8 := dkwX4_begins_1 ++ dktX4_begins_2
def dkwX4_begins_0 : List UInt8 := [42, 180, 0, 7, 3, 27, 79, 42, 180, 0, 7, 4, 28, 79, 7, 62, 29, 16, 64, 162, 0, 16, 42]
abbrev dktX4_begins_0 : List UInt8 := dkwX4_begins_0 ++ dktX4_begins_1
theorem dksX4_begins_0 : cX4_begins.data.toList.drop 0 = dktX4_begins_0 := by decide +kernel
theorem dksX4_begins_1 : cX4_begins.data.toList.drop 23 = dktX4_begins_1 := dk_seg dksX4_begins_0 23 rfl rfl
theorem dksX4_begins_2 : cX4_begins.data.toList.drop 46 = dktX4_begins_2 := dk_seg dksX4_begins_1 23 rfl rfl
theorem dksX4_begins_3 : cX4_begins.data.toList.drop 69 = dktX4_begins_3 := dk_seg dksX4_begins_2 23 rfl rfl
theorem dksX4_begins_4 : cX4_begins.data.toList.drop 91 = dktX4_begins_4 := dk_seg dksX4_begins_3 22 rfl rfl
theorem dksX4_begins_5 : cX4_begins.data.toList.drop 114 = dktX4_begins_5 := dk_seg dksX4_begins_4 23 rfl rfl
theorem dX4_begins_0 : decode cX4_begins 0 = .ok (.aload_n 0, 1) := dk_42 (dk_at dksX4_begins_0 0 rfl rfl)
theorem dX4_begins_1 : decode cX4_begins 1 = .ok (.getfield 7, 3) := dk_180 0 7 (dk_at dksX4_begins_0 1 rfl rfl)
theorem dX4_begins_4 : decode cX4_begins 4 = .ok (.iconst 0, 1) := dk_3 (dk_at dksX4_begins_0 4 rfl rfl)
theorem dX4_begins_5 : decode cX4_begins 5 = .ok (.iload_n 1, 1) := dk_27 (dk_at dksX4_begins_0 5 rfl rfl)
theorem dX4_begins_6 : decode cX4_begins 6 = .ok (.iastore, 1) := dk_79 (dk_at dksX4_begins_0 6 rfl rfl)
theorem dX4_begins_7 : decode cX4_begins 7 = .ok (.aload_n 0, 1) := dk_42 (dk_at dksX4_begins_0 7 rfl rfl)
theorem dX4_begins_8 : decode cX4_begins 8 = .ok (.getfield 7, 3) := dk_180 0 7 (dk_at dksX4_begins_0 8 rfl rfl)
theorem dX4_begins_11 : decode cX4_begins 11 = .ok (.iconst 1, 1) := dk_4 (dk_at dksX4_begins_0 11 rfl rfl)
theorem dX4_begins_12 : decode cX4_begins 12 = .ok (.iload_n 2, 1) := dk_28 (dk_at dksX4_begins_0 12 rfl rfl)
theorem dX4_begins_13 : decode cX4_begins 13 = .ok (.iastore, 1) := dk_79 (dk_at dksX4_begins_0 13 rfl rfl)
theorem dX4_begins_14 : decode cX4_begins 14 = .ok (.iconst 4, 1) := dk_7 (dk_at dksX4_begins_0 14 rfl rfl)
theorem dX4_begins_15 : decode cX4_begins 15 = .ok (.istore_n 3, 1) := dk_62 (dk_at dksX4_begins_0 15 rfl rfl)
theorem dX4_begins_16 : decode cX4_begins 16 = .ok (.iload_n 3, 1) := dk_29 (dk_at dksX4_begins_0 16 rfl rfl)
theorem dX4_begins_17 : decode cX4_begins 17 = .ok (.bipush 64, 2) := dk_16 64 (dk_at dksX4_begins_0 17 rfl rfl)
theorem dX4_begins_19 : decode cX4_begins 19 = .ok (.if_icmp .ge 16, 3) := dk_162 0 16 (dk_at dksX4_begins_0 19 rfl rfl)
theorem dX4_begins_22 : decode cX4_begins 22 = .ok (.aload_n 0, 1) := dk_42 (dk_at dksX4_begins_0 22 rfl rfl)
theorem dX4_begins_23 : decode cX4_begins 23 = .ok (.getfield 7, 3) := dk_180 0 7 (dk_at dksX4_begins_1 0 rfl rfl)
theorem dX4_begins_26 : decode cX4_begins 26 = .ok (.iload_n 3, 1) := dk_29 (dk_at dksX4_begins_1 3 rfl rfl)
theorem dX4_begins_27 : decode cX4_begins 27 = .ok (.iconst 0, 1) := dk_3 (dk_at dksX4_begins_1 4 rfl rfl)
theorem dX4_begins_28 : decode cX4_begins 28 = .ok (.iastore, 1) := dk_79 (dk_at dksX4_begins_1 5 rfl rfl)
theorem dX4_begins_29 : decode cX4_begins 29 = .ok (.iinc 3 1, 3) := dk_132 3 1 (dk_at dksX4_begins_1 6 rfl rfl)
theorem dX4_begins_32 : decode cX4_begins 32 = .ok (.goto (-16), 3) := dk_167 255 240 (dk_at dksX4_begins_1 9 rfl rfl)
theorem dX4_begins_35 : decode cX4_begins 35 = .ok (.iconst 0, 1) := dk_3 (dk_at dksX4_begins_1 12 rfl rfl)
theorem dX4_begins_36 : decode cX4_begins 36 = .ok (.istore_n 3, 1) := dk_62 (dk_at dksX4_begins_1 13 rfl rfl)
theorem dX4_begins_37 : decode cX4_begins 37 = .ok (.iload_n 3, 1) := dk_29 (dk_at dksX4_begins_1 14 rfl rfl)
theorem dX4_begins_38 : decode cX4_begins 38 = .ok (.bipush 36, 2) := dk_16 36 (dk_at dksX4_begins_1 15 rfl rfl)
theorem dX4_begins_40 : decode cX4_begins 40 = .ok (.if_icmp .ge 93, 3) := dk_162 0 93 (dk_at dksX4_begins_1 17 rfl rfl)
theorem dX4_begins_43 : decode cX4_begins 43 = .ok (.iconst 0, 1) := dk_3 (dk_at dksX4_begins_1 20 rfl rfl)
theorem dX4_begins_44 : decode cX4_begins 44 = .ok (.istore 4, 2) := dk_54 4 (dk_at dksX4_begins_1 21 rfl rfl)
theorem dX4_begins_46 : decode cX4_begins 46 = .ok (.iload 4, 2) := dk_21 4 (dk_at dksX4_begins_2 0 rfl rfl)
theorem dX4_begins_48 : decode cX4_begins 48 = .ok (.bipush 53, 2) := dk_16 53 (dk_at dksX4_begins_2 2 rfl rfl)
theorem dX4_begins_50 : decode cX4_begins 50 = .ok (.if_icmp .ge 77, 3) := dk_162 0 77 (dk_at dksX4_begins_2 4 rfl rfl)
theorem dX4_begins_53 : decode cX4_begins 53 = .ok (.aload_n 0, 1) := dk_42 (dk_at dksX4_begins_2 7 rfl rfl)
theorem dX4_begins_54 : decode cX4_begins 54 = .ok (.getfield 7, 3) := dk_180 0 7 (dk_at dksX4_begins_2 8 rfl rfl)
theorem dX4_begins_57 : decode cX4_begins 57 = .ok (.bipush 64, 2) := dk_16 64 (dk_at dksX4_begins_2 11 rfl rfl)
theorem dX4_begins_59 : decode cX4_begins 59 = .ok (.bipush 53, 2) := dk_16 53 (dk_at dksX4_begins_2 13 rfl rfl)
theorem dX4_begins_61 : decode cX4_begins 61 = .ok (.iload_n 3, 1) := dk_29 (dk_at dksX4_begins_2 15 rfl rfl)
theorem dX4_begins_62 : decode cX4_begins 62 = .ok (.imul, 1) := dk_104 (dk_at dksX4_begins_2 16 rfl rfl)
theorem dX4_begins_63 : decode cX4_begins 63 = .ok (.iadd, 1) := dk_96 (dk_at dksX4_begins_2 17 rfl rfl)
theorem dX4_begins_64 : decode cX4_begins 64 = .ok (.iload 4, 2) := dk_21 4 (dk_at dksX4_begins_2 18 rfl rfl)
theorem dX4_begins_66 : decode cX4_begins 66 = .ok (.iadd, 1) := dk_96 (dk_at dksX4_begins_2 20 rfl rfl)
theorem dX4_begins_67 : decode cX4_begins 67 = .ok (.iload 4, 2) := dk_21 4 (dk_at dksX4_begins_2 21 rfl rfl)
theorem dX4_begins_69 : decode cX4_begins 69 = .ok (.bipush 40, 2) := dk_16 40 (dk_at dksX4_begins_3 0 rfl rfl)
theorem dX4_begins_71 : decode cX4_begins 71 = .ok (.if_icmp .ge 8, 3) := dk_162 0 8 (dk_at dksX4_begins_3 2 rfl rfl)
theorem dX4_begins_74 : decode cX4_begins 74 = .ok (.bipush 10, 2) := dk_16 10 (dk_at dksX4_begins_3 5 rfl rfl)
theorem dX4_begins_76 : decode cX4_begins 76 = .ok (.goto 44, 3) := dk_167 0 44 (dk_at dksX4_begins_3 7 rfl rfl)
theorem dX4_begins_79 : decode cX4_begins 79 = .ok (.iload 4, 2) := dk_21 4 (dk_at dksX4_begins_3 10 rfl rfl)
theorem dX4_begins_81 : decode cX4_begins 81 = .ok (.bipush 50, 2) := dk_16 50 (dk_at dksX4_begins_3 12 rfl rfl)
theorem dX4_begins_83 : decode cX4_begins 83 = .ok (.if_icmp .ge 11, 3) := dk_162 0 11 (dk_at dksX4_begins_3 14 rfl rfl)
theorem dX4_begins_86 : decode cX4_begins 86 = .ok (.iload 4, 2) := dk_21 4 (dk_at dksX4_begins_3 17 rfl rfl)
theorem dX4_begins_88 : decode cX4_begins 88 = .ok (.bipush 40, 2) := dk_16 40 (dk_at dksX4_begins_3 19 rfl rfl)
theorem dX4_begins_90 : decode cX4_begins 90 = .ok (.isub, 1) := dk_100 (dk_at dksX4_begins_3 21 rfl rfl)
theorem dX4_begins_91 : decode cX4_begins 91 = .ok (.goto 29, 3) := dk_167 0 29 (dk_at dksX4_begins_4 0 rfl rfl)
theorem dX4_begins_94 : decode cX4_begins 94 = .ok (.iload 4, 2) := dk_21 4 (dk_at dksX4_begins_4 3 rfl rfl)
theorem dX4_begins_96 : decode cX4_begins 96 = .ok (.bipush 50, 2) := dk_16 50 (dk_at dksX4_begins_4 5 rfl rfl)
theorem dX4_begins_98 : decode cX4_begins 98 = .ok (.if_icmp .ne 7, 3) := dk_160 0 7 (dk_at dksX4_begins_4 7 rfl rfl)
theorem dX4_begins_101 : decode cX4_begins 101 = .ok (.iconst 0, 1) := dk_3 (dk_at dksX4_begins_4 10 rfl rfl)
theorem dX4_begins_102 : decode cX4_begins 102 = .ok (.goto 18, 3) := dk_167 0 18 (dk_at dksX4_begins_4 11 rfl rfl)
theorem dX4_begins_105 : decode cX4_begins 105 = .ok (.iload 4, 2) := dk_21 4 (dk_at dksX4_begins_4 14 rfl rfl)
theorem dX4_begins_107 : decode cX4_begins 107 = .ok (.bipush 51, 2) := dk_16 51 (dk_at dksX4_begins_4 16 rfl rfl)
theorem dX4_begins_109 : decode cX4_begins 109 = .ok (.if_icmp .ne 8, 3) := dk_160 0 8 (dk_at dksX4_begins_4 18 rfl rfl)
theorem dX4_begins_112 : decode cX4_begins 112 = .ok (.bipush (-4), 2) := dk_16 252 (dk_at dksX4_begins_4 21 rfl rfl)
theorem dX4_begins_114 : decode cX4_begins 114 = .ok (.goto 6, 3) := dk_167 0 6 (dk_at dksX4_begins_5 0 rfl rfl)
theorem dX4_begins_117 : decode cX4_begins 117 = .ok (.sipush 1000, 3) := dk_17 3 232 (dk_at dksX4_begins_5 3 rfl rfl)
theorem dX4_begins_120 : decode cX4_begins 120 = .ok (.iastore, 1) := dk_79 (dk_at dksX4_begins_5 6 rfl rfl)
theorem dX4_begins_121 : decode cX4_begins 121 = .ok (.iinc 4 1, 3) := dk_132 4 1 (dk_at dksX4_begins_5 7 rfl rfl)
theorem dX4_begins_124 : decode cX4_begins 124 = .ok (.goto (-78), 3) := dk_167 255 178 (dk_at dksX4_begins_5 10 rfl rfl)
theorem dX4_begins_127 : decode cX4_begins 127 = .ok (.iinc 3 1, 3) := dk_132 3 1 (dk_at dksX4_begins_5 13 rfl rfl)
theorem dX4_begins_130 : decode cX4_begins 130 = .ok (.goto (-93), 3) := dk_167 255 163 (dk_at dksX4_begins_5 16 rfl rfl)
theorem dX4_begins_133 : decode cX4_begins 133 = .ok (.return_, 1) := dk_177 (dk_at dksX4_begins_5 19 rfl rfl)
abbrev cX4_grid : ByteArray := prog_11_method_36_code
def yX4_grid : MethodName := ⟨RX4, "grid", "(II)I"⟩
def dkwX4_grid_1 : List UInt8 := [182, 0, 115, 42, 27, 28, 182, 0, 25, 42, 42, 182, 0, 52, 182, 0, 95, 172]
abbrev dktX4_grid_1 : List UInt8 := dkwX4_grid_1 ++ []
def dkwX4_grid_0 : List UInt8 := [27, 4, 16, 6, 184, 0, 111, 153, 0, 13, 28, 4, 16, 6, 184, 0, 111, 154, 0, 5, 2, 172, 42]
abbrev dktX4_grid_0 : List UInt8 := dkwX4_grid_0 ++ dktX4_grid_1
theorem dksX4_grid_0 : cX4_grid.data.toList.drop 0 = dktX4_grid_0 := by decide +kernel
theorem dksX4_grid_1 : cX4_grid.data.toList.drop 23 = dktX4_grid_1 := dk_seg dksX4_grid_0 23 rfl rfl
theorem dX4_grid_0 : decode cX4_grid 0 = .ok (.iload_n 1, 1) := dk_27 (dk_at dksX4_grid_0 0 rfl rfl)
theorem dX4_grid_1 : decode cX4_grid 1 = .ok (.iconst 1, 1) := dk_4 (dk_at dksX4_grid_0 1 rfl rfl)
theorem dX4_grid_2 : decode cX4_grid 2 = .ok (.bipush 6, 2) := dk_16 6 (dk_at dksX4_grid_0 2 rfl rfl)
theorem dX4_grid_4 : decode cX4_grid 4 = .ok (.invokestatic 111, 3) := dk_184 0 111 (dk_at dksX4_grid_0 4 rfl rfl)
theorem dX4_grid_7 : decode cX4_grid 7 = .ok (.ifCond .eq 13, 3) := dk_153 0 13 (dk_at dksX4_grid_0 7 rfl rfl)
theorem dX4_grid_10 : decode cX4_grid 10 = .ok (.iload_n 2, 1) := dk_28 (dk_at dksX4_grid_0 10 rfl rfl)
theorem dX4_grid_11 : decode cX4_grid 11 = .ok (.iconst 1, 1) := dk_4 (dk_at dksX4_grid_0 11 rfl rfl)
theorem dX4_grid_12 : decode cX4_grid 12 = .ok (.bipush 6, 2) := dk_16 6 (dk_at dksX4_grid_0 12 rfl rfl)
theorem dX4_grid_14 : decode cX4_grid 14 = .ok (.invokestatic 111, 3) := dk_184 0 111 (dk_at dksX4_grid_0 14 rfl rfl)
theorem dX4_grid_17 : decode cX4_grid 17 = .ok (.ifCond .ne 5, 3) := dk_154 0 5 (dk_at dksX4_grid_0 17 rfl rfl)
theorem dX4_grid_20 : decode cX4_grid 20 = .ok (.iconst (-1), 1) := dk_2 (dk_at dksX4_grid_0 20 rfl rfl)
theorem dX4_grid_21 : decode cX4_grid 21 = .ok (.ireturn, 1) := dk_172 (dk_at dksX4_grid_0 21 rfl rfl)
theorem dX4_grid_22 : decode cX4_grid 22 = .ok (.aload_n 0, 1) := dk_42 (dk_at dksX4_grid_0 22 rfl rfl)
theorem dX4_grid_23 : decode cX4_grid 23 = .ok (.invokevirtual 115, 3) := dk_182 0 115 (dk_at dksX4_grid_1 0 rfl rfl)
theorem dX4_grid_26 : decode cX4_grid 26 = .ok (.aload_n 0, 1) := dk_42 (dk_at dksX4_grid_1 3 rfl rfl)
theorem dX4_grid_27 : decode cX4_grid 27 = .ok (.iload_n 1, 1) := dk_27 (dk_at dksX4_grid_1 4 rfl rfl)
theorem dX4_grid_28 : decode cX4_grid 28 = .ok (.iload_n 2, 1) := dk_28 (dk_at dksX4_grid_1 5 rfl rfl)
theorem dX4_grid_29 : decode cX4_grid 29 = .ok (.invokevirtual 25, 3) := dk_182 0 25 (dk_at dksX4_grid_1 6 rfl rfl)
theorem dX4_grid_32 : decode cX4_grid 32 = .ok (.aload_n 0, 1) := dk_42 (dk_at dksX4_grid_1 9 rfl rfl)
theorem dX4_grid_33 : decode cX4_grid 33 = .ok (.aload_n 0, 1) := dk_42 (dk_at dksX4_grid_1 10 rfl rfl)
theorem dX4_grid_34 : decode cX4_grid 34 = .ok (.invokevirtual 52, 3) := dk_182 0 52 (dk_at dksX4_grid_1 11 rfl rfl)
theorem dX4_grid_37 : decode cX4_grid 37 = .ok (.invokevirtual 95, 3) := dk_182 0 95 (dk_at dksX4_grid_1 14 rfl rfl)
theorem dX4_grid_40 : decode cX4_grid 40 = .ok (.ireturn, 1) := dk_172 (dk_at dksX4_grid_1 17 rfl rfl)
abbrev cX4_in : ByteArray := prog_11_method_3_code
def yX4_in : MethodName := ⟨RX4, "in", "(III)Z"⟩
def dkwX4_in_0 : List UInt8 := [26, 27, 161, 0, 12, 26, 28, 163, 0, 7, 4, 167, 0, 4, 3, 172]
abbrev dktX4_in_0 : List UInt8 := dkwX4_in_0 ++ []
theorem dksX4_in_0 : cX4_in.data.toList.drop 0 = dktX4_in_0 := by decide +kernel
theorem dX4_in_0 : decode cX4_in 0 = .ok (.iload_n 0, 1) := dk_26 (dk_at dksX4_in_0 0 rfl rfl)
theorem dX4_in_1 : decode cX4_in 1 = .ok (.iload_n 1, 1) := dk_27 (dk_at dksX4_in_0 1 rfl rfl)
theorem dX4_in_2 : decode cX4_in 2 = .ok (.if_icmp .lt 12, 3) := dk_161 0 12 (dk_at dksX4_in_0 2 rfl rfl)
theorem dX4_in_5 : decode cX4_in 5 = .ok (.iload_n 0, 1) := dk_26 (dk_at dksX4_in_0 5 rfl rfl)
theorem dX4_in_6 : decode cX4_in 6 = .ok (.iload_n 2, 1) := dk_28 (dk_at dksX4_in_0 6 rfl rfl)
theorem dX4_in_7 : decode cX4_in 7 = .ok (.if_icmp .gt 7, 3) := dk_163 0 7 (dk_at dksX4_in_0 7 rfl rfl)
theorem dX4_in_10 : decode cX4_in 10 = .ok (.iconst 1, 1) := dk_4 (dk_at dksX4_in_0 10 rfl rfl)
theorem dX4_in_11 : decode cX4_in 11 = .ok (.goto 4, 3) := dk_167 0 4 (dk_at dksX4_in_0 11 rfl rfl)
theorem dX4_in_14 : decode cX4_in 14 = .ok (.iconst 0, 1) := dk_3 (dk_at dksX4_in_0 14 rfl rfl)
theorem dX4_in_15 : decode cX4_in 15 = .ok (.ireturn, 1) := dk_172 (dk_at dksX4_in_0 15 rfl rfl)
abbrev cX4_hold : ByteArray := prog_11_method_5_code
def yX4_hold : MethodName := ⟨RX4, "hold", "()V"⟩
def dkwX4_hold_1 : List UInt8 := [167, 255, 234, 177]
abbrev dktX4_hold_1 : List UInt8 := dkwX4_hold_1 ++ []
def dkwX4_hold_0 : List UInt8 := [3, 60, 27, 17, 7, 180, 162, 0, 21, 42, 180, 0, 16, 27, 42, 180, 0, 7, 27, 46, 79, 132, 1, 1]
abbrev dktX4_hold_0 : List UInt8 := dkwX4_hold_0 ++ dktX4_hold_1
theorem dksX4_hold_0 : cX4_hold.data.toList.drop 0 = dktX4_hold_0 := by decide +kernel
theorem dksX4_hold_1 : cX4_hold.data.toList.drop 24 = dktX4_hold_1 := dk_seg dksX4_hold_0 24 rfl rfl
theorem dX4_hold_0 : decode cX4_hold 0 = .ok (.iconst 0, 1) := dk_3 (dk_at dksX4_hold_0 0 rfl rfl)
theorem dX4_hold_1 : decode cX4_hold 1 = .ok (.istore_n 1, 1) := dk_60 (dk_at dksX4_hold_0 1 rfl rfl)
theorem dX4_hold_2 : decode cX4_hold 2 = .ok (.iload_n 1, 1) := dk_27 (dk_at dksX4_hold_0 2 rfl rfl)
theorem dX4_hold_3 : decode cX4_hold 3 = .ok (.sipush 1972, 3) := dk_17 7 180 (dk_at dksX4_hold_0 3 rfl rfl)
theorem dX4_hold_6 : decode cX4_hold 6 = .ok (.if_icmp .ge 21, 3) := dk_162 0 21 (dk_at dksX4_hold_0 6 rfl rfl)
theorem dX4_hold_9 : decode cX4_hold 9 = .ok (.aload_n 0, 1) := dk_42 (dk_at dksX4_hold_0 9 rfl rfl)
theorem dX4_hold_10 : decode cX4_hold 10 = .ok (.getfield 16, 3) := dk_180 0 16 (dk_at dksX4_hold_0 10 rfl rfl)
theorem dX4_hold_13 : decode cX4_hold 13 = .ok (.iload_n 1, 1) := dk_27 (dk_at dksX4_hold_0 13 rfl rfl)
theorem dX4_hold_14 : decode cX4_hold 14 = .ok (.aload_n 0, 1) := dk_42 (dk_at dksX4_hold_0 14 rfl rfl)
theorem dX4_hold_15 : decode cX4_hold 15 = .ok (.getfield 7, 3) := dk_180 0 7 (dk_at dksX4_hold_0 15 rfl rfl)
theorem dX4_hold_18 : decode cX4_hold 18 = .ok (.iload_n 1, 1) := dk_27 (dk_at dksX4_hold_0 18 rfl rfl)
theorem dX4_hold_19 : decode cX4_hold 19 = .ok (.iaload, 1) := dk_46 (dk_at dksX4_hold_0 19 rfl rfl)
theorem dX4_hold_20 : decode cX4_hold 20 = .ok (.iastore, 1) := dk_79 (dk_at dksX4_hold_0 20 rfl rfl)
theorem dX4_hold_21 : decode cX4_hold 21 = .ok (.iinc 1 1, 3) := dk_132 1 1 (dk_at dksX4_hold_0 21 rfl rfl)
theorem dX4_hold_24 : decode cX4_hold 24 = .ok (.goto (-22), 3) := dk_167 255 234 (dk_at dksX4_hold_1 0 rfl rfl)
theorem dX4_hold_27 : decode cX4_hold 27 = .ok (.return_, 1) := dk_177 (dk_at dksX4_hold_1 3 rfl rfl)
abbrev cX4_edges : ByteArray := prog_11_method_16_code
def yX4_edges : MethodName := ⟨RX4, "edges", "()I"⟩
def dkwX4_edges_0 : List UInt8 := [42, 182, 0, 49, 42, 180, 0, 7, 3, 46, 42, 180, 0, 7, 4, 46, 4, 100, 104, 96, 172]
abbrev dktX4_edges_0 : List UInt8 := dkwX4_edges_0 ++ []
theorem dksX4_edges_0 : cX4_edges.data.toList.drop 0 = dktX4_edges_0 := by decide +kernel
theorem dX4_edges_0 : decode cX4_edges 0 = .ok (.aload_n 0, 1) := dk_42 (dk_at dksX4_edges_0 0 rfl rfl)
theorem dX4_edges_1 : decode cX4_edges 1 = .ok (.invokevirtual 49, 3) := dk_182 0 49 (dk_at dksX4_edges_0 1 rfl rfl)
theorem dX4_edges_4 : decode cX4_edges 4 = .ok (.aload_n 0, 1) := dk_42 (dk_at dksX4_edges_0 4 rfl rfl)
theorem dX4_edges_5 : decode cX4_edges 5 = .ok (.getfield 7, 3) := dk_180 0 7 (dk_at dksX4_edges_0 5 rfl rfl)
theorem dX4_edges_8 : decode cX4_edges 8 = .ok (.iconst 0, 1) := dk_3 (dk_at dksX4_edges_0 8 rfl rfl)
theorem dX4_edges_9 : decode cX4_edges 9 = .ok (.iaload, 1) := dk_46 (dk_at dksX4_edges_0 9 rfl rfl)
theorem dX4_edges_10 : decode cX4_edges 10 = .ok (.aload_n 0, 1) := dk_42 (dk_at dksX4_edges_0 10 rfl rfl)
theorem dX4_edges_11 : decode cX4_edges 11 = .ok (.getfield 7, 3) := dk_180 0 7 (dk_at dksX4_edges_0 11 rfl rfl)
theorem dX4_edges_14 : decode cX4_edges 14 = .ok (.iconst 1, 1) := dk_4 (dk_at dksX4_edges_0 14 rfl rfl)
theorem dX4_edges_15 : decode cX4_edges 15 = .ok (.iaload, 1) := dk_46 (dk_at dksX4_edges_0 15 rfl rfl)
theorem dX4_edges_16 : decode cX4_edges 16 = .ok (.iconst 1, 1) := dk_4 (dk_at dksX4_edges_0 16 rfl rfl)
theorem dX4_edges_17 : decode cX4_edges 17 = .ok (.isub, 1) := dk_100 (dk_at dksX4_edges_0 17 rfl rfl)
theorem dX4_edges_18 : decode cX4_edges 18 = .ok (.imul, 1) := dk_104 (dk_at dksX4_edges_0 18 rfl rfl)
theorem dX4_edges_19 : decode cX4_edges 19 = .ok (.iadd, 1) := dk_96 (dk_at dksX4_edges_0 19 rfl rfl)
theorem dX4_edges_20 : decode cX4_edges 20 = .ok (.ireturn, 1) := dk_172 (dk_at dksX4_edges_0 20 rfl rfl)
abbrev cX4_rowEdges : ByteArray := prog_11_method_15_code
def yX4_rowEdges : MethodName := ⟨RX4, "rowEdges", "()I"⟩
def dkwX4_rowEdges_0 : List UInt8 := [42, 180, 0, 7, 3, 46, 4, 100, 42, 180, 0, 7, 4, 46, 104, 172]
abbrev dktX4_rowEdges_0 : List UInt8 := dkwX4_rowEdges_0 ++ []
theorem dksX4_rowEdges_0 : cX4_rowEdges.data.toList.drop 0 = dktX4_rowEdges_0 := by decide +kernel
theorem dX4_rowEdges_0 : decode cX4_rowEdges 0 = .ok (.aload_n 0, 1) := dk_42 (dk_at dksX4_rowEdges_0 0 rfl rfl)
theorem dX4_rowEdges_1 : decode cX4_rowEdges 1 = .ok (.getfield 7, 3) := dk_180 0 7 (dk_at dksX4_rowEdges_0 1 rfl rfl)
theorem dX4_rowEdges_4 : decode cX4_rowEdges 4 = .ok (.iconst 0, 1) := dk_3 (dk_at dksX4_rowEdges_0 4 rfl rfl)
theorem dX4_rowEdges_5 : decode cX4_rowEdges 5 = .ok (.iaload, 1) := dk_46 (dk_at dksX4_rowEdges_0 5 rfl rfl)
theorem dX4_rowEdges_6 : decode cX4_rowEdges 6 = .ok (.iconst 1, 1) := dk_4 (dk_at dksX4_rowEdges_0 6 rfl rfl)
theorem dX4_rowEdges_7 : decode cX4_rowEdges 7 = .ok (.isub, 1) := dk_100 (dk_at dksX4_rowEdges_0 7 rfl rfl)
theorem dX4_rowEdges_8 : decode cX4_rowEdges 8 = .ok (.aload_n 0, 1) := dk_42 (dk_at dksX4_rowEdges_0 8 rfl rfl)
theorem dX4_rowEdges_9 : decode cX4_rowEdges 9 = .ok (.getfield 7, 3) := dk_180 0 7 (dk_at dksX4_rowEdges_0 9 rfl rfl)
theorem dX4_rowEdges_12 : decode cX4_rowEdges 12 = .ok (.iconst 1, 1) := dk_4 (dk_at dksX4_rowEdges_0 12 rfl rfl)
theorem dX4_rowEdges_13 : decode cX4_rowEdges 13 = .ok (.iaload, 1) := dk_46 (dk_at dksX4_rowEdges_0 13 rfl rfl)
theorem dX4_rowEdges_14 : decode cX4_rowEdges 14 = .ok (.imul, 1) := dk_104 (dk_at dksX4_rowEdges_0 14 rfl rfl)
theorem dX4_rowEdges_15 : decode cX4_rowEdges 15 = .ok (.ireturn, 1) := dk_172 (dk_at dksX4_rowEdges_0 15 rfl rfl)
abbrev cX4_records : ByteArray := prog_11_method_7_code
def yX4_records : MethodName := ⟨RX4, "records", "(I)I"⟩
def dkwX4_records_4 : List UInt8 := [181, 0, 29, 27, 172]
abbrev dktX4_records_4 : List UInt8 := dkwX4_records_4 ++ []
def dkwX4_records_3 : List UInt8 := [28, 96, 42, 180, 0, 16, 28, 46, 79, 132, 2, 1, 167, 255, 225, 42, 89, 180, 0, 29, 4, 96]
abbrev dktX4_records_3 : List UInt8 := dkwX4_records_3 ++ dktX4_records_4
def dkwX4_records_2 : List UInt8 := [181, 0, 29, 3, 61, 28, 17, 7, 180, 162, 0, 30, 42, 180, 0, 13, 17, 7, 180, 42, 180, 0, 29, 104]
abbrev dktX4_records_2 : List UInt8 := dkwX4_records_2 ++ dktX4_records_3
def dkwX4_records_1 : List UInt8 := [180, 0, 13, 28, 17, 7, 180, 96, 46, 79, 132, 2, 1, 167, 255, 230, 42, 89, 180, 0, 29, 4, 100]
abbrev dktX4_records_1 : List UInt8 := dkwX4_records_1 ++ dktX4_records_2
def dkwX4_records_0 : List UInt8 := [42, 180, 0, 29, 7, 160, 0, 44, 3, 61, 28, 17, 23, 28, 162, 0, 25, 42, 180, 0, 13, 28, 42]
abbrev dktX4_records_0 : List UInt8 := dkwX4_records_0 ++ dktX4_records_1
theorem dksX4_records_0 : cX4_records.data.toList.drop 0 = dktX4_records_0 := by decide +kernel
theorem dksX4_records_1 : cX4_records.data.toList.drop 23 = dktX4_records_1 := dk_seg dksX4_records_0 23 rfl rfl
theorem dksX4_records_2 : cX4_records.data.toList.drop 46 = dktX4_records_2 := dk_seg dksX4_records_1 23 rfl rfl
theorem dksX4_records_3 : cX4_records.data.toList.drop 70 = dktX4_records_3 := dk_seg dksX4_records_2 24 rfl rfl
theorem dksX4_records_4 : cX4_records.data.toList.drop 92 = dktX4_records_4 := dk_seg dksX4_records_3 22 rfl rfl
theorem dX4_records_0 : decode cX4_records 0 = .ok (.aload_n 0, 1) := dk_42 (dk_at dksX4_records_0 0 rfl rfl)
theorem dX4_records_1 : decode cX4_records 1 = .ok (.getfield 29, 3) := dk_180 0 29 (dk_at dksX4_records_0 1 rfl rfl)
theorem dX4_records_4 : decode cX4_records 4 = .ok (.iconst 4, 1) := dk_7 (dk_at dksX4_records_0 4 rfl rfl)
theorem dX4_records_5 : decode cX4_records 5 = .ok (.if_icmp .ne 44, 3) := dk_160 0 44 (dk_at dksX4_records_0 5 rfl rfl)
theorem dX4_records_8 : decode cX4_records 8 = .ok (.iconst 0, 1) := dk_3 (dk_at dksX4_records_0 8 rfl rfl)
theorem dX4_records_9 : decode cX4_records 9 = .ok (.istore_n 2, 1) := dk_61 (dk_at dksX4_records_0 9 rfl rfl)
theorem dX4_records_10 : decode cX4_records 10 = .ok (.iload_n 2, 1) := dk_28 (dk_at dksX4_records_0 10 rfl rfl)
theorem dX4_records_11 : decode cX4_records 11 = .ok (.sipush 5916, 3) := dk_17 23 28 (dk_at dksX4_records_0 11 rfl rfl)
theorem dX4_records_14 : decode cX4_records 14 = .ok (.if_icmp .ge 25, 3) := dk_162 0 25 (dk_at dksX4_records_0 14 rfl rfl)
theorem dX4_records_17 : decode cX4_records 17 = .ok (.aload_n 0, 1) := dk_42 (dk_at dksX4_records_0 17 rfl rfl)
theorem dX4_records_18 : decode cX4_records 18 = .ok (.getfield 13, 3) := dk_180 0 13 (dk_at dksX4_records_0 18 rfl rfl)
theorem dX4_records_21 : decode cX4_records 21 = .ok (.iload_n 2, 1) := dk_28 (dk_at dksX4_records_0 21 rfl rfl)
theorem dX4_records_22 : decode cX4_records 22 = .ok (.aload_n 0, 1) := dk_42 (dk_at dksX4_records_0 22 rfl rfl)
theorem dX4_records_23 : decode cX4_records 23 = .ok (.getfield 13, 3) := dk_180 0 13 (dk_at dksX4_records_1 0 rfl rfl)
theorem dX4_records_26 : decode cX4_records 26 = .ok (.iload_n 2, 1) := dk_28 (dk_at dksX4_records_1 3 rfl rfl)
theorem dX4_records_27 : decode cX4_records 27 = .ok (.sipush 1972, 3) := dk_17 7 180 (dk_at dksX4_records_1 4 rfl rfl)
theorem dX4_records_30 : decode cX4_records 30 = .ok (.iadd, 1) := dk_96 (dk_at dksX4_records_1 7 rfl rfl)
theorem dX4_records_31 : decode cX4_records 31 = .ok (.iaload, 1) := dk_46 (dk_at dksX4_records_1 8 rfl rfl)
theorem dX4_records_32 : decode cX4_records 32 = .ok (.iastore, 1) := dk_79 (dk_at dksX4_records_1 9 rfl rfl)
theorem dX4_records_33 : decode cX4_records 33 = .ok (.iinc 2 1, 3) := dk_132 2 1 (dk_at dksX4_records_1 10 rfl rfl)
theorem dX4_records_36 : decode cX4_records 36 = .ok (.goto (-26), 3) := dk_167 255 230 (dk_at dksX4_records_1 13 rfl rfl)
theorem dX4_records_39 : decode cX4_records 39 = .ok (.aload_n 0, 1) := dk_42 (dk_at dksX4_records_1 16 rfl rfl)
theorem dX4_records_40 : decode cX4_records 40 = .ok (.dup, 1) := dk_89 (dk_at dksX4_records_1 17 rfl rfl)
theorem dX4_records_41 : decode cX4_records 41 = .ok (.getfield 29, 3) := dk_180 0 29 (dk_at dksX4_records_1 18 rfl rfl)
theorem dX4_records_44 : decode cX4_records 44 = .ok (.iconst 1, 1) := dk_4 (dk_at dksX4_records_1 21 rfl rfl)
theorem dX4_records_45 : decode cX4_records 45 = .ok (.isub, 1) := dk_100 (dk_at dksX4_records_1 22 rfl rfl)
theorem dX4_records_46 : decode cX4_records 46 = .ok (.putfield 29, 3) := dk_181 0 29 (dk_at dksX4_records_2 0 rfl rfl)
theorem dX4_records_49 : decode cX4_records 49 = .ok (.iconst 0, 1) := dk_3 (dk_at dksX4_records_2 3 rfl rfl)
theorem dX4_records_50 : decode cX4_records 50 = .ok (.istore_n 2, 1) := dk_61 (dk_at dksX4_records_2 4 rfl rfl)
theorem dX4_records_51 : decode cX4_records 51 = .ok (.iload_n 2, 1) := dk_28 (dk_at dksX4_records_2 5 rfl rfl)
theorem dX4_records_52 : decode cX4_records 52 = .ok (.sipush 1972, 3) := dk_17 7 180 (dk_at dksX4_records_2 6 rfl rfl)
theorem dX4_records_55 : decode cX4_records 55 = .ok (.if_icmp .ge 30, 3) := dk_162 0 30 (dk_at dksX4_records_2 9 rfl rfl)
theorem dX4_records_58 : decode cX4_records 58 = .ok (.aload_n 0, 1) := dk_42 (dk_at dksX4_records_2 12 rfl rfl)
theorem dX4_records_59 : decode cX4_records 59 = .ok (.getfield 13, 3) := dk_180 0 13 (dk_at dksX4_records_2 13 rfl rfl)
theorem dX4_records_62 : decode cX4_records 62 = .ok (.sipush 1972, 3) := dk_17 7 180 (dk_at dksX4_records_2 16 rfl rfl)
theorem dX4_records_65 : decode cX4_records 65 = .ok (.aload_n 0, 1) := dk_42 (dk_at dksX4_records_2 19 rfl rfl)
theorem dX4_records_66 : decode cX4_records 66 = .ok (.getfield 29, 3) := dk_180 0 29 (dk_at dksX4_records_2 20 rfl rfl)
theorem dX4_records_69 : decode cX4_records 69 = .ok (.imul, 1) := dk_104 (dk_at dksX4_records_2 23 rfl rfl)
theorem dX4_records_70 : decode cX4_records 70 = .ok (.iload_n 2, 1) := dk_28 (dk_at dksX4_records_3 0 rfl rfl)
theorem dX4_records_71 : decode cX4_records 71 = .ok (.iadd, 1) := dk_96 (dk_at dksX4_records_3 1 rfl rfl)
theorem dX4_records_72 : decode cX4_records 72 = .ok (.aload_n 0, 1) := dk_42 (dk_at dksX4_records_3 2 rfl rfl)
theorem dX4_records_73 : decode cX4_records 73 = .ok (.getfield 16, 3) := dk_180 0 16 (dk_at dksX4_records_3 3 rfl rfl)
theorem dX4_records_76 : decode cX4_records 76 = .ok (.iload_n 2, 1) := dk_28 (dk_at dksX4_records_3 6 rfl rfl)
theorem dX4_records_77 : decode cX4_records 77 = .ok (.iaload, 1) := dk_46 (dk_at dksX4_records_3 7 rfl rfl)
theorem dX4_records_78 : decode cX4_records 78 = .ok (.iastore, 1) := dk_79 (dk_at dksX4_records_3 8 rfl rfl)
theorem dX4_records_79 : decode cX4_records 79 = .ok (.iinc 2 1, 3) := dk_132 2 1 (dk_at dksX4_records_3 9 rfl rfl)
theorem dX4_records_82 : decode cX4_records 82 = .ok (.goto (-31), 3) := dk_167 255 225 (dk_at dksX4_records_3 12 rfl rfl)
theorem dX4_records_85 : decode cX4_records 85 = .ok (.aload_n 0, 1) := dk_42 (dk_at dksX4_records_3 15 rfl rfl)
theorem dX4_records_86 : decode cX4_records 86 = .ok (.dup, 1) := dk_89 (dk_at dksX4_records_3 16 rfl rfl)
theorem dX4_records_87 : decode cX4_records 87 = .ok (.getfield 29, 3) := dk_180 0 29 (dk_at dksX4_records_3 17 rfl rfl)
theorem dX4_records_90 : decode cX4_records 90 = .ok (.iconst 1, 1) := dk_4 (dk_at dksX4_records_3 20 rfl rfl)
theorem dX4_records_91 : decode cX4_records 91 = .ok (.iadd, 1) := dk_96 (dk_at dksX4_records_3 21 rfl rfl)
theorem dX4_records_92 : decode cX4_records 92 = .ok (.putfield 29, 3) := dk_181 0 29 (dk_at dksX4_records_4 0 rfl rfl)
theorem dX4_records_95 : decode cX4_records 95 = .ok (.iload_n 1, 1) := dk_27 (dk_at dksX4_records_4 3 rfl rfl)
theorem dX4_records_96 : decode cX4_records 96 = .ok (.ireturn, 1) := dk_172 (dk_at dksX4_records_4 4 rfl rfl)
abbrev cX4_set : ByteArray := prog_11_method_37_code
def yX4_set : MethodName := ⟨RX4, "set", "(II)I"⟩
def dkwX4_set_2 : List UInt8 := [180, 0, 7, 5, 27, 96, 28, 79, 42, 29, 182, 0, 95, 172]
abbrev dktX4_set_2 : List UInt8 := dkwX4_set_2 ++ []
def dkwX4_set_1 : List UInt8 := [184, 0, 111, 154, 0, 5, 2, 172, 42, 182, 0, 115, 42, 180, 0, 7, 5, 27, 96, 46, 62, 42]
abbrev dktX4_set_1 : List UInt8 := dkwX4_set_1 ++ dktX4_set_2
def dkwX4_set_0 : List UInt8 := [27, 3, 4, 184, 0, 111, 153, 0, 22, 28, 3, 27, 154, 0, 7, 4, 167, 0, 6, 17, 3, 232]
abbrev dktX4_set_0 : List UInt8 := dkwX4_set_0 ++ dktX4_set_1
theorem dksX4_set_0 : cX4_set.data.toList.drop 0 = dktX4_set_0 := by decide +kernel
theorem dksX4_set_1 : cX4_set.data.toList.drop 22 = dktX4_set_1 := dk_seg dksX4_set_0 22 rfl rfl
theorem dksX4_set_2 : cX4_set.data.toList.drop 44 = dktX4_set_2 := dk_seg dksX4_set_1 22 rfl rfl
theorem dX4_set_0 : decode cX4_set 0 = .ok (.iload_n 1, 1) := dk_27 (dk_at dksX4_set_0 0 rfl rfl)
theorem dX4_set_1 : decode cX4_set 1 = .ok (.iconst 0, 1) := dk_3 (dk_at dksX4_set_0 1 rfl rfl)
theorem dX4_set_2 : decode cX4_set 2 = .ok (.iconst 1, 1) := dk_4 (dk_at dksX4_set_0 2 rfl rfl)
theorem dX4_set_3 : decode cX4_set 3 = .ok (.invokestatic 111, 3) := dk_184 0 111 (dk_at dksX4_set_0 3 rfl rfl)
theorem dX4_set_6 : decode cX4_set 6 = .ok (.ifCond .eq 22, 3) := dk_153 0 22 (dk_at dksX4_set_0 6 rfl rfl)
theorem dX4_set_9 : decode cX4_set 9 = .ok (.iload_n 2, 1) := dk_28 (dk_at dksX4_set_0 9 rfl rfl)
theorem dX4_set_10 : decode cX4_set 10 = .ok (.iconst 0, 1) := dk_3 (dk_at dksX4_set_0 10 rfl rfl)
theorem dX4_set_11 : decode cX4_set 11 = .ok (.iload_n 1, 1) := dk_27 (dk_at dksX4_set_0 11 rfl rfl)
theorem dX4_set_12 : decode cX4_set 12 = .ok (.ifCond .ne 7, 3) := dk_154 0 7 (dk_at dksX4_set_0 12 rfl rfl)
theorem dX4_set_15 : decode cX4_set 15 = .ok (.iconst 1, 1) := dk_4 (dk_at dksX4_set_0 15 rfl rfl)
theorem dX4_set_16 : decode cX4_set 16 = .ok (.goto 6, 3) := dk_167 0 6 (dk_at dksX4_set_0 16 rfl rfl)
theorem dX4_set_19 : decode cX4_set 19 = .ok (.sipush 1000, 3) := dk_17 3 232 (dk_at dksX4_set_0 19 rfl rfl)
theorem dX4_set_22 : decode cX4_set 22 = .ok (.invokestatic 111, 3) := dk_184 0 111 (dk_at dksX4_set_1 0 rfl rfl)
theorem dX4_set_25 : decode cX4_set 25 = .ok (.ifCond .ne 5, 3) := dk_154 0 5 (dk_at dksX4_set_1 3 rfl rfl)
theorem dX4_set_28 : decode cX4_set 28 = .ok (.iconst (-1), 1) := dk_2 (dk_at dksX4_set_1 6 rfl rfl)
theorem dX4_set_29 : decode cX4_set 29 = .ok (.ireturn, 1) := dk_172 (dk_at dksX4_set_1 7 rfl rfl)
theorem dX4_set_30 : decode cX4_set 30 = .ok (.aload_n 0, 1) := dk_42 (dk_at dksX4_set_1 8 rfl rfl)
theorem dX4_set_31 : decode cX4_set 31 = .ok (.invokevirtual 115, 3) := dk_182 0 115 (dk_at dksX4_set_1 9 rfl rfl)
theorem dX4_set_34 : decode cX4_set 34 = .ok (.aload_n 0, 1) := dk_42 (dk_at dksX4_set_1 12 rfl rfl)
theorem dX4_set_35 : decode cX4_set 35 = .ok (.getfield 7, 3) := dk_180 0 7 (dk_at dksX4_set_1 13 rfl rfl)
theorem dX4_set_38 : decode cX4_set 38 = .ok (.iconst 2, 1) := dk_5 (dk_at dksX4_set_1 16 rfl rfl)
theorem dX4_set_39 : decode cX4_set 39 = .ok (.iload_n 1, 1) := dk_27 (dk_at dksX4_set_1 17 rfl rfl)
theorem dX4_set_40 : decode cX4_set 40 = .ok (.iadd, 1) := dk_96 (dk_at dksX4_set_1 18 rfl rfl)
theorem dX4_set_41 : decode cX4_set 41 = .ok (.iaload, 1) := dk_46 (dk_at dksX4_set_1 19 rfl rfl)
theorem dX4_set_42 : decode cX4_set 42 = .ok (.istore_n 3, 1) := dk_62 (dk_at dksX4_set_1 20 rfl rfl)
theorem dX4_set_43 : decode cX4_set 43 = .ok (.aload_n 0, 1) := dk_42 (dk_at dksX4_set_1 21 rfl rfl)
theorem dX4_set_44 : decode cX4_set 44 = .ok (.getfield 7, 3) := dk_180 0 7 (dk_at dksX4_set_2 0 rfl rfl)
theorem dX4_set_47 : decode cX4_set 47 = .ok (.iconst 2, 1) := dk_5 (dk_at dksX4_set_2 3 rfl rfl)
theorem dX4_set_48 : decode cX4_set 48 = .ok (.iload_n 1, 1) := dk_27 (dk_at dksX4_set_2 4 rfl rfl)
theorem dX4_set_49 : decode cX4_set 49 = .ok (.iadd, 1) := dk_96 (dk_at dksX4_set_2 5 rfl rfl)
theorem dX4_set_50 : decode cX4_set 50 = .ok (.iload_n 2, 1) := dk_28 (dk_at dksX4_set_2 6 rfl rfl)
theorem dX4_set_51 : decode cX4_set 51 = .ok (.iastore, 1) := dk_79 (dk_at dksX4_set_2 7 rfl rfl)
theorem dX4_set_52 : decode cX4_set 52 = .ok (.aload_n 0, 1) := dk_42 (dk_at dksX4_set_2 8 rfl rfl)
theorem dX4_set_53 : decode cX4_set 53 = .ok (.iload_n 3, 1) := dk_29 (dk_at dksX4_set_2 9 rfl rfl)
theorem dX4_set_54 : decode cX4_set 54 = .ok (.invokevirtual 95, 3) := dk_182 0 95 (dk_at dksX4_set_2 10 rfl rfl)
theorem dX4_set_57 : decode cX4_set 57 = .ok (.ireturn, 1) := dk_172 (dk_at dksX4_set_2 13 rfl rfl)
abbrev cX4_show : ByteArray := prog_11_method_39_code
def yX4_show : MethodName := ⟨RX4, "show", "(IIII)I"⟩
def dkwX4_show_2 : List UInt8 := [182, 0, 41, 42, 27, 4, 21, 5, 182, 0, 124, 172]
abbrev dktX4_show_2 : List UInt8 := dkwX4_show_2 ++ []
def dkwX4_show_1 : List UInt8 := [182, 0, 115, 42, 27, 28, 29, 182, 0, 45, 54, 5, 42, 27, 16, 10, 28, 104, 29, 96, 21, 4]
abbrev dktX4_show_1 : List UInt8 := dkwX4_show_1 ++ dktX4_show_2
def dkwX4_show_0 : List UInt8 := [42, 27, 28, 29, 182, 0, 121, 153, 0, 14, 21, 4, 3, 16, 9, 184, 0, 111, 154, 0, 5, 2, 172, 42]
abbrev dktX4_show_0 : List UInt8 := dkwX4_show_0 ++ dktX4_show_1
theorem dksX4_show_0 : cX4_show.data.toList.drop 0 = dktX4_show_0 := by decide +kernel
theorem dksX4_show_1 : cX4_show.data.toList.drop 24 = dktX4_show_1 := dk_seg dksX4_show_0 24 rfl rfl
theorem dksX4_show_2 : cX4_show.data.toList.drop 46 = dktX4_show_2 := dk_seg dksX4_show_1 22 rfl rfl
theorem dX4_show_0 : decode cX4_show 0 = .ok (.aload_n 0, 1) := dk_42 (dk_at dksX4_show_0 0 rfl rfl)
theorem dX4_show_1 : decode cX4_show 1 = .ok (.iload_n 1, 1) := dk_27 (dk_at dksX4_show_0 1 rfl rfl)
theorem dX4_show_2 : decode cX4_show 2 = .ok (.iload_n 2, 1) := dk_28 (dk_at dksX4_show_0 2 rfl rfl)
theorem dX4_show_3 : decode cX4_show 3 = .ok (.iload_n 3, 1) := dk_29 (dk_at dksX4_show_0 3 rfl rfl)
theorem dX4_show_4 : decode cX4_show 4 = .ok (.invokevirtual 121, 3) := dk_182 0 121 (dk_at dksX4_show_0 4 rfl rfl)
theorem dX4_show_7 : decode cX4_show 7 = .ok (.ifCond .eq 14, 3) := dk_153 0 14 (dk_at dksX4_show_0 7 rfl rfl)
theorem dX4_show_10 : decode cX4_show 10 = .ok (.iload 4, 2) := dk_21 4 (dk_at dksX4_show_0 10 rfl rfl)
theorem dX4_show_12 : decode cX4_show 12 = .ok (.iconst 0, 1) := dk_3 (dk_at dksX4_show_0 12 rfl rfl)
theorem dX4_show_13 : decode cX4_show 13 = .ok (.bipush 9, 2) := dk_16 9 (dk_at dksX4_show_0 13 rfl rfl)
theorem dX4_show_15 : decode cX4_show 15 = .ok (.invokestatic 111, 3) := dk_184 0 111 (dk_at dksX4_show_0 15 rfl rfl)
theorem dX4_show_18 : decode cX4_show 18 = .ok (.ifCond .ne 5, 3) := dk_154 0 5 (dk_at dksX4_show_0 18 rfl rfl)
theorem dX4_show_21 : decode cX4_show 21 = .ok (.iconst (-1), 1) := dk_2 (dk_at dksX4_show_0 21 rfl rfl)
theorem dX4_show_22 : decode cX4_show 22 = .ok (.ireturn, 1) := dk_172 (dk_at dksX4_show_0 22 rfl rfl)
theorem dX4_show_23 : decode cX4_show 23 = .ok (.aload_n 0, 1) := dk_42 (dk_at dksX4_show_0 23 rfl rfl)
theorem dX4_show_24 : decode cX4_show 24 = .ok (.invokevirtual 115, 3) := dk_182 0 115 (dk_at dksX4_show_1 0 rfl rfl)
theorem dX4_show_27 : decode cX4_show 27 = .ok (.aload_n 0, 1) := dk_42 (dk_at dksX4_show_1 3 rfl rfl)
theorem dX4_show_28 : decode cX4_show 28 = .ok (.iload_n 1, 1) := dk_27 (dk_at dksX4_show_1 4 rfl rfl)
theorem dX4_show_29 : decode cX4_show 29 = .ok (.iload_n 2, 1) := dk_28 (dk_at dksX4_show_1 5 rfl rfl)
theorem dX4_show_30 : decode cX4_show 30 = .ok (.iload_n 3, 1) := dk_29 (dk_at dksX4_show_1 6 rfl rfl)
theorem dX4_show_31 : decode cX4_show 31 = .ok (.invokevirtual 45, 3) := dk_182 0 45 (dk_at dksX4_show_1 7 rfl rfl)
theorem dX4_show_34 : decode cX4_show 34 = .ok (.istore 5, 2) := dk_54 5 (dk_at dksX4_show_1 10 rfl rfl)
theorem dX4_show_36 : decode cX4_show 36 = .ok (.aload_n 0, 1) := dk_42 (dk_at dksX4_show_1 12 rfl rfl)
theorem dX4_show_37 : decode cX4_show 37 = .ok (.iload_n 1, 1) := dk_27 (dk_at dksX4_show_1 13 rfl rfl)
theorem dX4_show_38 : decode cX4_show 38 = .ok (.bipush 10, 2) := dk_16 10 (dk_at dksX4_show_1 14 rfl rfl)
theorem dX4_show_40 : decode cX4_show 40 = .ok (.iload_n 2, 1) := dk_28 (dk_at dksX4_show_1 16 rfl rfl)
theorem dX4_show_41 : decode cX4_show 41 = .ok (.imul, 1) := dk_104 (dk_at dksX4_show_1 17 rfl rfl)
theorem dX4_show_42 : decode cX4_show 42 = .ok (.iload_n 3, 1) := dk_29 (dk_at dksX4_show_1 18 rfl rfl)
theorem dX4_show_43 : decode cX4_show 43 = .ok (.iadd, 1) := dk_96 (dk_at dksX4_show_1 19 rfl rfl)
theorem dX4_show_44 : decode cX4_show 44 = .ok (.iload 4, 2) := dk_21 4 (dk_at dksX4_show_1 20 rfl rfl)
theorem dX4_show_46 : decode cX4_show 46 = .ok (.invokevirtual 41, 3) := dk_182 0 41 (dk_at dksX4_show_2 0 rfl rfl)
theorem dX4_show_49 : decode cX4_show 49 = .ok (.aload_n 0, 1) := dk_42 (dk_at dksX4_show_2 3 rfl rfl)
theorem dX4_show_50 : decode cX4_show 50 = .ok (.iload_n 1, 1) := dk_27 (dk_at dksX4_show_2 4 rfl rfl)
theorem dX4_show_51 : decode cX4_show 51 = .ok (.iconst 1, 1) := dk_4 (dk_at dksX4_show_2 5 rfl rfl)
theorem dX4_show_52 : decode cX4_show 52 = .ok (.iload 5, 2) := dk_21 5 (dk_at dksX4_show_2 6 rfl rfl)
theorem dX4_show_54 : decode cX4_show 54 = .ok (.invokevirtual 124, 3) := dk_182 0 124 (dk_at dksX4_show_2 8 rfl rfl)
theorem dX4_show_57 : decode cX4_show 57 = .ok (.ireturn, 1) := dk_172 (dk_at dksX4_show_2 11 rfl rfl)
abbrev cX4_isPlace : ByteArray := prog_11_method_38_code
def yX4_isPlace : MethodName := ⟨RX4, "isPlace", "(III)Z"⟩
def dkwX4_isPlace_1 : List UInt8 := [153, 0, 7, 4, 167, 0, 4, 3, 172]
abbrev dktX4_isPlace_1 : List UInt8 := dkwX4_isPlace_1 ++ []
def dkwX4_isPlace_0 : List UInt8 := [42, 27, 182, 0, 118, 153, 0, 26, 28, 3, 6, 184, 0, 111, 153, 0, 17, 29, 3, 16, 9, 184, 0, 111]
abbrev dktX4_isPlace_0 : List UInt8 := dkwX4_isPlace_0 ++ dktX4_isPlace_1
theorem dksX4_isPlace_0 : cX4_isPlace.data.toList.drop 0 = dktX4_isPlace_0 := by decide +kernel
theorem dksX4_isPlace_1 : cX4_isPlace.data.toList.drop 24 = dktX4_isPlace_1 := dk_seg dksX4_isPlace_0 24 rfl rfl
theorem dX4_isPlace_0 : decode cX4_isPlace 0 = .ok (.aload_n 0, 1) := dk_42 (dk_at dksX4_isPlace_0 0 rfl rfl)
theorem dX4_isPlace_1 : decode cX4_isPlace 1 = .ok (.iload_n 1, 1) := dk_27 (dk_at dksX4_isPlace_0 1 rfl rfl)
theorem dX4_isPlace_2 : decode cX4_isPlace 2 = .ok (.invokevirtual 118, 3) := dk_182 0 118 (dk_at dksX4_isPlace_0 2 rfl rfl)
theorem dX4_isPlace_5 : decode cX4_isPlace 5 = .ok (.ifCond .eq 26, 3) := dk_153 0 26 (dk_at dksX4_isPlace_0 5 rfl rfl)
theorem dX4_isPlace_8 : decode cX4_isPlace 8 = .ok (.iload_n 2, 1) := dk_28 (dk_at dksX4_isPlace_0 8 rfl rfl)
theorem dX4_isPlace_9 : decode cX4_isPlace 9 = .ok (.iconst 0, 1) := dk_3 (dk_at dksX4_isPlace_0 9 rfl rfl)
theorem dX4_isPlace_10 : decode cX4_isPlace 10 = .ok (.iconst 3, 1) := dk_6 (dk_at dksX4_isPlace_0 10 rfl rfl)
theorem dX4_isPlace_11 : decode cX4_isPlace 11 = .ok (.invokestatic 111, 3) := dk_184 0 111 (dk_at dksX4_isPlace_0 11 rfl rfl)
theorem dX4_isPlace_14 : decode cX4_isPlace 14 = .ok (.ifCond .eq 17, 3) := dk_153 0 17 (dk_at dksX4_isPlace_0 14 rfl rfl)
theorem dX4_isPlace_17 : decode cX4_isPlace 17 = .ok (.iload_n 3, 1) := dk_29 (dk_at dksX4_isPlace_0 17 rfl rfl)
theorem dX4_isPlace_18 : decode cX4_isPlace 18 = .ok (.iconst 0, 1) := dk_3 (dk_at dksX4_isPlace_0 18 rfl rfl)
theorem dX4_isPlace_19 : decode cX4_isPlace 19 = .ok (.bipush 9, 2) := dk_16 9 (dk_at dksX4_isPlace_0 19 rfl rfl)
theorem dX4_isPlace_21 : decode cX4_isPlace 21 = .ok (.invokestatic 111, 3) := dk_184 0 111 (dk_at dksX4_isPlace_0 21 rfl rfl)
theorem dX4_isPlace_24 : decode cX4_isPlace 24 = .ok (.ifCond .eq 7, 3) := dk_153 0 7 (dk_at dksX4_isPlace_1 0 rfl rfl)
theorem dX4_isPlace_27 : decode cX4_isPlace 27 = .ok (.iconst 1, 1) := dk_4 (dk_at dksX4_isPlace_1 3 rfl rfl)
theorem dX4_isPlace_28 : decode cX4_isPlace 28 = .ok (.goto 4, 3) := dk_167 0 4 (dk_at dksX4_isPlace_1 4 rfl rfl)
theorem dX4_isPlace_31 : decode cX4_isPlace 31 = .ok (.iconst 0, 1) := dk_3 (dk_at dksX4_isPlace_1 7 rfl rfl)
theorem dX4_isPlace_32 : decode cX4_isPlace 32 = .ok (.ireturn, 1) := dk_172 (dk_at dksX4_isPlace_1 8 rfl rfl)
abbrev cX4_isSheet : ByteArray := prog_11_method_9_code
def yX4_isSheet : MethodName := ⟨RX4, "isSheet", "(I)Z"⟩
def dkwX4_isSheet_0 : List UInt8 := [27, 155, 0, 15, 27, 42, 182, 0, 33, 162, 0, 7, 4, 167, 0, 4, 3, 172]
abbrev dktX4_isSheet_0 : List UInt8 := dkwX4_isSheet_0 ++ []
theorem dksX4_isSheet_0 : cX4_isSheet.data.toList.drop 0 = dktX4_isSheet_0 := by decide +kernel
theorem dX4_isSheet_0 : decode cX4_isSheet 0 = .ok (.iload_n 1, 1) := dk_27 (dk_at dksX4_isSheet_0 0 rfl rfl)
theorem dX4_isSheet_1 : decode cX4_isSheet 1 = .ok (.ifCond .lt 15, 3) := dk_155 0 15 (dk_at dksX4_isSheet_0 1 rfl rfl)
theorem dX4_isSheet_4 : decode cX4_isSheet 4 = .ok (.iload_n 1, 1) := dk_27 (dk_at dksX4_isSheet_0 4 rfl rfl)
theorem dX4_isSheet_5 : decode cX4_isSheet 5 = .ok (.aload_n 0, 1) := dk_42 (dk_at dksX4_isSheet_0 5 rfl rfl)
theorem dX4_isSheet_6 : decode cX4_isSheet 6 = .ok (.invokevirtual 33, 3) := dk_182 0 33 (dk_at dksX4_isSheet_0 6 rfl rfl)
theorem dX4_isSheet_9 : decode cX4_isSheet 9 = .ok (.if_icmp .ge 7, 3) := dk_162 0 7 (dk_at dksX4_isSheet_0 9 rfl rfl)
theorem dX4_isSheet_12 : decode cX4_isSheet 12 = .ok (.iconst 1, 1) := dk_4 (dk_at dksX4_isSheet_0 12 rfl rfl)
theorem dX4_isSheet_13 : decode cX4_isSheet 13 = .ok (.goto 4, 3) := dk_167 0 4 (dk_at dksX4_isSheet_0 13 rfl rfl)
theorem dX4_isSheet_16 : decode cX4_isSheet 16 = .ok (.iconst 0, 1) := dk_3 (dk_at dksX4_isSheet_0 16 rfl rfl)
theorem dX4_isSheet_17 : decode cX4_isSheet 17 = .ok (.ireturn, 1) := dk_172 (dk_at dksX4_isSheet_0 17 rfl rfl)
abbrev cX4_sheets : ByteArray := prog_11_method_8_code
def yX4_sheets : MethodName := ⟨RX4, "sheets", "()I"⟩
def dkwX4_sheets_0 : List UInt8 := [42, 180, 0, 7, 3, 46, 42, 180, 0, 7, 4, 46, 104, 172]
abbrev dktX4_sheets_0 : List UInt8 := dkwX4_sheets_0 ++ []
theorem dksX4_sheets_0 : cX4_sheets.data.toList.drop 0 = dktX4_sheets_0 := by decide +kernel
theorem dX4_sheets_0 : decode cX4_sheets 0 = .ok (.aload_n 0, 1) := dk_42 (dk_at dksX4_sheets_0 0 rfl rfl)
theorem dX4_sheets_1 : decode cX4_sheets 1 = .ok (.getfield 7, 3) := dk_180 0 7 (dk_at dksX4_sheets_0 1 rfl rfl)
theorem dX4_sheets_4 : decode cX4_sheets 4 = .ok (.iconst 0, 1) := dk_3 (dk_at dksX4_sheets_0 4 rfl rfl)
theorem dX4_sheets_5 : decode cX4_sheets 5 = .ok (.iaload, 1) := dk_46 (dk_at dksX4_sheets_0 5 rfl rfl)
theorem dX4_sheets_6 : decode cX4_sheets 6 = .ok (.aload_n 0, 1) := dk_42 (dk_at dksX4_sheets_0 6 rfl rfl)
theorem dX4_sheets_7 : decode cX4_sheets 7 = .ok (.getfield 7, 3) := dk_180 0 7 (dk_at dksX4_sheets_0 7 rfl rfl)
theorem dX4_sheets_10 : decode cX4_sheets 10 = .ok (.iconst 1, 1) := dk_4 (dk_at dksX4_sheets_0 10 rfl rfl)
theorem dX4_sheets_11 : decode cX4_sheets 11 = .ok (.iaload, 1) := dk_46 (dk_at dksX4_sheets_0 11 rfl rfl)
theorem dX4_sheets_12 : decode cX4_sheets 12 = .ok (.imul, 1) := dk_104 (dk_at dksX4_sheets_0 12 rfl rfl)
theorem dX4_sheets_13 : decode cX4_sheets 13 = .ok (.ireturn, 1) := dk_172 (dk_at dksX4_sheets_0 13 rfl rfl)
abbrev cX4_signAt : ByteArray := prog_11_method_13_code
def yX4_signAt : MethodName := ⟨RX4, "signAt", "(III)I"⟩
def dkwX4_signAt_0 : List UInt8 := [42, 27, 16, 10, 28, 104, 29, 96, 182, 0, 37, 172]
abbrev dktX4_signAt_0 : List UInt8 := dkwX4_signAt_0 ++ []
theorem dksX4_signAt_0 : cX4_signAt.data.toList.drop 0 = dktX4_signAt_0 := by decide +kernel
theorem dX4_signAt_0 : decode cX4_signAt 0 = .ok (.aload_n 0, 1) := dk_42 (dk_at dksX4_signAt_0 0 rfl rfl)
theorem dX4_signAt_1 : decode cX4_signAt 1 = .ok (.iload_n 1, 1) := dk_27 (dk_at dksX4_signAt_0 1 rfl rfl)
theorem dX4_signAt_2 : decode cX4_signAt 2 = .ok (.bipush 10, 2) := dk_16 10 (dk_at dksX4_signAt_0 2 rfl rfl)
theorem dX4_signAt_4 : decode cX4_signAt 4 = .ok (.iload_n 2, 1) := dk_28 (dk_at dksX4_signAt_0 4 rfl rfl)
theorem dX4_signAt_5 : decode cX4_signAt 5 = .ok (.imul, 1) := dk_104 (dk_at dksX4_signAt_0 5 rfl rfl)
theorem dX4_signAt_6 : decode cX4_signAt 6 = .ok (.iload_n 3, 1) := dk_29 (dk_at dksX4_signAt_0 6 rfl rfl)
theorem dX4_signAt_7 : decode cX4_signAt 7 = .ok (.iadd, 1) := dk_96 (dk_at dksX4_signAt_0 7 rfl rfl)
theorem dX4_signAt_8 : decode cX4_signAt 8 = .ok (.invokevirtual 37, 3) := dk_182 0 37 (dk_at dksX4_signAt_0 8 rfl rfl)
theorem dX4_signAt_11 : decode cX4_signAt 11 = .ok (.ireturn, 1) := dk_172 (dk_at dksX4_signAt_0 11 rfl rfl)
abbrev cX4_of : ByteArray := prog_11_method_10_code
def yX4_of : MethodName := ⟨RX4, "of", "(II)I"⟩
def dkwX4_of_0 : List UInt8 := [42, 180, 0, 7, 16, 64, 16, 53, 27, 104, 96, 28, 96, 46, 172]
abbrev dktX4_of_0 : List UInt8 := dkwX4_of_0 ++ []
theorem dksX4_of_0 : cX4_of.data.toList.drop 0 = dktX4_of_0 := by decide +kernel
theorem dX4_of_0 : decode cX4_of 0 = .ok (.aload_n 0, 1) := dk_42 (dk_at dksX4_of_0 0 rfl rfl)
theorem dX4_of_1 : decode cX4_of 1 = .ok (.getfield 7, 3) := dk_180 0 7 (dk_at dksX4_of_0 1 rfl rfl)
theorem dX4_of_4 : decode cX4_of 4 = .ok (.bipush 64, 2) := dk_16 64 (dk_at dksX4_of_0 4 rfl rfl)
theorem dX4_of_6 : decode cX4_of 6 = .ok (.bipush 53, 2) := dk_16 53 (dk_at dksX4_of_0 6 rfl rfl)
theorem dX4_of_8 : decode cX4_of 8 = .ok (.iload_n 1, 1) := dk_27 (dk_at dksX4_of_0 8 rfl rfl)
theorem dX4_of_9 : decode cX4_of 9 = .ok (.imul, 1) := dk_104 (dk_at dksX4_of_0 9 rfl rfl)
theorem dX4_of_10 : decode cX4_of 10 = .ok (.iadd, 1) := dk_96 (dk_at dksX4_of_0 10 rfl rfl)
theorem dX4_of_11 : decode cX4_of 11 = .ok (.iload_n 2, 1) := dk_28 (dk_at dksX4_of_0 11 rfl rfl)
theorem dX4_of_12 : decode cX4_of 12 = .ok (.iadd, 1) := dk_96 (dk_at dksX4_of_0 12 rfl rfl)
theorem dX4_of_13 : decode cX4_of 13 = .ok (.iaload, 1) := dk_46 (dk_at dksX4_of_0 13 rfl rfl)
theorem dX4_of_14 : decode cX4_of 14 = .ok (.ireturn, 1) := dk_172 (dk_at dksX4_of_0 14 rfl rfl)
abbrev cX4_puts : ByteArray := prog_11_method_11_code
def yX4_puts : MethodName := ⟨RX4, "puts", "(III)V"⟩
def dkwX4_puts_0 : List UInt8 := [42, 180, 0, 7, 16, 64, 16, 53, 27, 104, 96, 28, 96, 29, 79, 177]
abbrev dktX4_puts_0 : List UInt8 := dkwX4_puts_0 ++ []
theorem dksX4_puts_0 : cX4_puts.data.toList.drop 0 = dktX4_puts_0 := by decide +kernel
theorem dX4_puts_0 : decode cX4_puts 0 = .ok (.aload_n 0, 1) := dk_42 (dk_at dksX4_puts_0 0 rfl rfl)
theorem dX4_puts_1 : decode cX4_puts 1 = .ok (.getfield 7, 3) := dk_180 0 7 (dk_at dksX4_puts_0 1 rfl rfl)
theorem dX4_puts_4 : decode cX4_puts 4 = .ok (.bipush 64, 2) := dk_16 64 (dk_at dksX4_puts_0 4 rfl rfl)
theorem dX4_puts_6 : decode cX4_puts 6 = .ok (.bipush 53, 2) := dk_16 53 (dk_at dksX4_puts_0 6 rfl rfl)
theorem dX4_puts_8 : decode cX4_puts 8 = .ok (.iload_n 1, 1) := dk_27 (dk_at dksX4_puts_0 8 rfl rfl)
theorem dX4_puts_9 : decode cX4_puts 9 = .ok (.imul, 1) := dk_104 (dk_at dksX4_puts_0 9 rfl rfl)
theorem dX4_puts_10 : decode cX4_puts 10 = .ok (.iadd, 1) := dk_96 (dk_at dksX4_puts_0 10 rfl rfl)
theorem dX4_puts_11 : decode cX4_puts 11 = .ok (.iload_n 2, 1) := dk_28 (dk_at dksX4_puts_0 11 rfl rfl)
theorem dX4_puts_12 : decode cX4_puts 12 = .ok (.iadd, 1) := dk_96 (dk_at dksX4_puts_0 12 rfl rfl)
theorem dX4_puts_13 : decode cX4_puts 13 = .ok (.iload_n 3, 1) := dk_29 (dk_at dksX4_puts_0 13 rfl rfl)
theorem dX4_puts_14 : decode cX4_puts 14 = .ok (.iastore, 1) := dk_79 (dk_at dksX4_puts_0 14 rfl rfl)
theorem dX4_puts_15 : decode cX4_puts 15 = .ok (.return_, 1) := dk_177 (dk_at dksX4_puts_0 15 rfl rfl)
abbrev cX4_keeps : ByteArray := prog_11_method_29_code
def yX4_keeps : MethodName := ⟨RX4, "keeps", "(IZI)I"⟩
def dkwX4_keeps_1 : List UInt8 := [29, 182, 0, 95, 172]
abbrev dktX4_keeps_1 : List UInt8 := dkwX4_keeps_1 ++ []
def dkwX4_keeps_0 : List UInt8 := [42, 182, 0, 84, 154, 0, 10, 42, 182, 0, 88, 16, 254, 172, 28, 153, 0, 8, 42, 27, 182, 0, 91, 42]
abbrev dktX4_keeps_0 : List UInt8 := dkwX4_keeps_0 ++ dktX4_keeps_1
theorem dksX4_keeps_0 : cX4_keeps.data.toList.drop 0 = dktX4_keeps_0 := by decide +kernel
theorem dksX4_keeps_1 : cX4_keeps.data.toList.drop 24 = dktX4_keeps_1 := dk_seg dksX4_keeps_0 24 rfl rfl
theorem dX4_keeps_0 : decode cX4_keeps 0 = .ok (.aload_n 0, 1) := dk_42 (dk_at dksX4_keeps_0 0 rfl rfl)
theorem dX4_keeps_1 : decode cX4_keeps 1 = .ok (.invokevirtual 84, 3) := dk_182 0 84 (dk_at dksX4_keeps_0 1 rfl rfl)
theorem dX4_keeps_4 : decode cX4_keeps 4 = .ok (.ifCond .ne 10, 3) := dk_154 0 10 (dk_at dksX4_keeps_0 4 rfl rfl)
theorem dX4_keeps_7 : decode cX4_keeps 7 = .ok (.aload_n 0, 1) := dk_42 (dk_at dksX4_keeps_0 7 rfl rfl)
theorem dX4_keeps_8 : decode cX4_keeps 8 = .ok (.invokevirtual 88, 3) := dk_182 0 88 (dk_at dksX4_keeps_0 8 rfl rfl)
theorem dX4_keeps_11 : decode cX4_keeps 11 = .ok (.bipush (-2), 2) := dk_16 254 (dk_at dksX4_keeps_0 11 rfl rfl)
theorem dX4_keeps_13 : decode cX4_keeps 13 = .ok (.ireturn, 1) := dk_172 (dk_at dksX4_keeps_0 13 rfl rfl)
theorem dX4_keeps_14 : decode cX4_keeps 14 = .ok (.iload_n 2, 1) := dk_28 (dk_at dksX4_keeps_0 14 rfl rfl)
theorem dX4_keeps_15 : decode cX4_keeps 15 = .ok (.ifCond .eq 8, 3) := dk_153 0 8 (dk_at dksX4_keeps_0 15 rfl rfl)
theorem dX4_keeps_18 : decode cX4_keeps 18 = .ok (.aload_n 0, 1) := dk_42 (dk_at dksX4_keeps_0 18 rfl rfl)
theorem dX4_keeps_19 : decode cX4_keeps 19 = .ok (.iload_n 1, 1) := dk_27 (dk_at dksX4_keeps_0 19 rfl rfl)
theorem dX4_keeps_20 : decode cX4_keeps 20 = .ok (.invokevirtual 91, 3) := dk_182 0 91 (dk_at dksX4_keeps_0 20 rfl rfl)
theorem dX4_keeps_23 : decode cX4_keeps 23 = .ok (.aload_n 0, 1) := dk_42 (dk_at dksX4_keeps_0 23 rfl rfl)
theorem dX4_keeps_24 : decode cX4_keeps 24 = .ok (.iload_n 3, 1) := dk_29 (dk_at dksX4_keeps_1 0 rfl rfl)
theorem dX4_keeps_25 : decode cX4_keeps 25 = .ok (.invokevirtual 95, 3) := dk_182 0 95 (dk_at dksX4_keeps_1 1 rfl rfl)
theorem dX4_keeps_28 : decode cX4_keeps 28 = .ok (.ireturn, 1) := dk_172 (dk_at dksX4_keeps_1 4 rfl rfl)
abbrev cX4_isGuarded : ByteArray := prog_11_method_28_code
def yX4_isGuarded : MethodName := ⟨RX4, "isGuarded", "()Z"⟩
def dkwX4_isGuarded_2 : List UInt8 := [60, 42, 180, 0, 7, 7, 28, 96, 3, 79, 132, 2, 1, 167, 255, 201, 27, 172]
abbrev dktX4_isGuarded_2 : List UInt8 := dkwX4_isGuarded_2 ++ []
def dkwX4_isGuarded_1 : List UInt8 := [182, 0, 81, 158, 0, 31, 27, 153, 0, 16, 42, 180, 0, 7, 5, 46, 154, 0, 7, 4, 167, 0, 4, 3]
abbrev dktX4_isGuarded_1 : List UInt8 := dkwX4_isGuarded_1 ++ dktX4_isGuarded_2
def dkwX4_isGuarded_0 : List UInt8 := [4, 60, 3, 61, 28, 42, 182, 0, 52, 162, 0, 53, 42, 28, 182, 0, 77, 153, 0, 39, 42, 28]
abbrev dktX4_isGuarded_0 : List UInt8 := dkwX4_isGuarded_0 ++ dktX4_isGuarded_1
theorem dksX4_isGuarded_0 : cX4_isGuarded.data.toList.drop 0 = dktX4_isGuarded_0 := by decide +kernel
theorem dksX4_isGuarded_1 : cX4_isGuarded.data.toList.drop 22 = dktX4_isGuarded_1 := dk_seg dksX4_isGuarded_0 22 rfl rfl
theorem dksX4_isGuarded_2 : cX4_isGuarded.data.toList.drop 46 = dktX4_isGuarded_2 := dk_seg dksX4_isGuarded_1 24 rfl rfl
theorem dX4_isGuarded_0 : decode cX4_isGuarded 0 = .ok (.iconst 1, 1) := dk_4 (dk_at dksX4_isGuarded_0 0 rfl rfl)
theorem dX4_isGuarded_1 : decode cX4_isGuarded 1 = .ok (.istore_n 1, 1) := dk_60 (dk_at dksX4_isGuarded_0 1 rfl rfl)
theorem dX4_isGuarded_2 : decode cX4_isGuarded 2 = .ok (.iconst 0, 1) := dk_3 (dk_at dksX4_isGuarded_0 2 rfl rfl)
theorem dX4_isGuarded_3 : decode cX4_isGuarded 3 = .ok (.istore_n 2, 1) := dk_61 (dk_at dksX4_isGuarded_0 3 rfl rfl)
theorem dX4_isGuarded_4 : decode cX4_isGuarded 4 = .ok (.iload_n 2, 1) := dk_28 (dk_at dksX4_isGuarded_0 4 rfl rfl)
theorem dX4_isGuarded_5 : decode cX4_isGuarded 5 = .ok (.aload_n 0, 1) := dk_42 (dk_at dksX4_isGuarded_0 5 rfl rfl)
theorem dX4_isGuarded_6 : decode cX4_isGuarded 6 = .ok (.invokevirtual 52, 3) := dk_182 0 52 (dk_at dksX4_isGuarded_0 6 rfl rfl)
theorem dX4_isGuarded_9 : decode cX4_isGuarded 9 = .ok (.if_icmp .ge 53, 3) := dk_162 0 53 (dk_at dksX4_isGuarded_0 9 rfl rfl)
theorem dX4_isGuarded_12 : decode cX4_isGuarded 12 = .ok (.aload_n 0, 1) := dk_42 (dk_at dksX4_isGuarded_0 12 rfl rfl)
theorem dX4_isGuarded_13 : decode cX4_isGuarded 13 = .ok (.iload_n 2, 1) := dk_28 (dk_at dksX4_isGuarded_0 13 rfl rfl)
theorem dX4_isGuarded_14 : decode cX4_isGuarded 14 = .ok (.invokevirtual 77, 3) := dk_182 0 77 (dk_at dksX4_isGuarded_0 14 rfl rfl)
theorem dX4_isGuarded_17 : decode cX4_isGuarded 17 = .ok (.ifCond .eq 39, 3) := dk_153 0 39 (dk_at dksX4_isGuarded_0 17 rfl rfl)
theorem dX4_isGuarded_20 : decode cX4_isGuarded 20 = .ok (.aload_n 0, 1) := dk_42 (dk_at dksX4_isGuarded_0 20 rfl rfl)
theorem dX4_isGuarded_21 : decode cX4_isGuarded 21 = .ok (.iload_n 2, 1) := dk_28 (dk_at dksX4_isGuarded_0 21 rfl rfl)
theorem dX4_isGuarded_22 : decode cX4_isGuarded 22 = .ok (.invokevirtual 81, 3) := dk_182 0 81 (dk_at dksX4_isGuarded_1 0 rfl rfl)
theorem dX4_isGuarded_25 : decode cX4_isGuarded 25 = .ok (.ifCond .le 31, 3) := dk_158 0 31 (dk_at dksX4_isGuarded_1 3 rfl rfl)
theorem dX4_isGuarded_28 : decode cX4_isGuarded 28 = .ok (.iload_n 1, 1) := dk_27 (dk_at dksX4_isGuarded_1 6 rfl rfl)
theorem dX4_isGuarded_29 : decode cX4_isGuarded 29 = .ok (.ifCond .eq 16, 3) := dk_153 0 16 (dk_at dksX4_isGuarded_1 7 rfl rfl)
theorem dX4_isGuarded_32 : decode cX4_isGuarded 32 = .ok (.aload_n 0, 1) := dk_42 (dk_at dksX4_isGuarded_1 10 rfl rfl)
theorem dX4_isGuarded_33 : decode cX4_isGuarded 33 = .ok (.getfield 7, 3) := dk_180 0 7 (dk_at dksX4_isGuarded_1 11 rfl rfl)
theorem dX4_isGuarded_36 : decode cX4_isGuarded 36 = .ok (.iconst 2, 1) := dk_5 (dk_at dksX4_isGuarded_1 14 rfl rfl)
theorem dX4_isGuarded_37 : decode cX4_isGuarded 37 = .ok (.iaload, 1) := dk_46 (dk_at dksX4_isGuarded_1 15 rfl rfl)
theorem dX4_isGuarded_38 : decode cX4_isGuarded 38 = .ok (.ifCond .ne 7, 3) := dk_154 0 7 (dk_at dksX4_isGuarded_1 16 rfl rfl)
theorem dX4_isGuarded_41 : decode cX4_isGuarded 41 = .ok (.iconst 1, 1) := dk_4 (dk_at dksX4_isGuarded_1 19 rfl rfl)
theorem dX4_isGuarded_42 : decode cX4_isGuarded 42 = .ok (.goto 4, 3) := dk_167 0 4 (dk_at dksX4_isGuarded_1 20 rfl rfl)
theorem dX4_isGuarded_45 : decode cX4_isGuarded 45 = .ok (.iconst 0, 1) := dk_3 (dk_at dksX4_isGuarded_1 23 rfl rfl)
theorem dX4_isGuarded_46 : decode cX4_isGuarded 46 = .ok (.istore_n 1, 1) := dk_60 (dk_at dksX4_isGuarded_2 0 rfl rfl)
theorem dX4_isGuarded_47 : decode cX4_isGuarded 47 = .ok (.aload_n 0, 1) := dk_42 (dk_at dksX4_isGuarded_2 1 rfl rfl)
theorem dX4_isGuarded_48 : decode cX4_isGuarded 48 = .ok (.getfield 7, 3) := dk_180 0 7 (dk_at dksX4_isGuarded_2 2 rfl rfl)
theorem dX4_isGuarded_51 : decode cX4_isGuarded 51 = .ok (.iconst 4, 1) := dk_7 (dk_at dksX4_isGuarded_2 5 rfl rfl)
theorem dX4_isGuarded_52 : decode cX4_isGuarded 52 = .ok (.iload_n 2, 1) := dk_28 (dk_at dksX4_isGuarded_2 6 rfl rfl)
theorem dX4_isGuarded_53 : decode cX4_isGuarded 53 = .ok (.iadd, 1) := dk_96 (dk_at dksX4_isGuarded_2 7 rfl rfl)
theorem dX4_isGuarded_54 : decode cX4_isGuarded 54 = .ok (.iconst 0, 1) := dk_3 (dk_at dksX4_isGuarded_2 8 rfl rfl)
theorem dX4_isGuarded_55 : decode cX4_isGuarded 55 = .ok (.iastore, 1) := dk_79 (dk_at dksX4_isGuarded_2 9 rfl rfl)
theorem dX4_isGuarded_56 : decode cX4_isGuarded 56 = .ok (.iinc 2 1, 3) := dk_132 2 1 (dk_at dksX4_isGuarded_2 10 rfl rfl)
theorem dX4_isGuarded_59 : decode cX4_isGuarded 59 = .ok (.goto (-55), 3) := dk_167 255 201 (dk_at dksX4_isGuarded_2 13 rfl rfl)
theorem dX4_isGuarded_62 : decode cX4_isGuarded 62 = .ok (.iload_n 1, 1) := dk_27 (dk_at dksX4_isGuarded_2 16 rfl rfl)
theorem dX4_isGuarded_63 : decode cX4_isGuarded 63 = .ok (.ireturn, 1) := dk_172 (dk_at dksX4_isGuarded_2 17 rfl rfl)
abbrev cX4_isAgreed : ByteArray := prog_11_method_22_code
def yX4_isAgreed : MethodName := ⟨RX4, "isAgreed", "(I)Z"⟩
def dkwX4_isAgreed_0 : List UInt8 := [42, 180, 0, 7, 7, 27, 96, 46, 4, 160, 0, 7, 4, 167, 0, 4, 3, 172]
abbrev dktX4_isAgreed_0 : List UInt8 := dkwX4_isAgreed_0 ++ []
theorem dksX4_isAgreed_0 : cX4_isAgreed.data.toList.drop 0 = dktX4_isAgreed_0 := by decide +kernel
theorem dX4_isAgreed_0 : decode cX4_isAgreed 0 = .ok (.aload_n 0, 1) := dk_42 (dk_at dksX4_isAgreed_0 0 rfl rfl)
theorem dX4_isAgreed_1 : decode cX4_isAgreed 1 = .ok (.getfield 7, 3) := dk_180 0 7 (dk_at dksX4_isAgreed_0 1 rfl rfl)
theorem dX4_isAgreed_4 : decode cX4_isAgreed 4 = .ok (.iconst 4, 1) := dk_7 (dk_at dksX4_isAgreed_0 4 rfl rfl)
theorem dX4_isAgreed_5 : decode cX4_isAgreed 5 = .ok (.iload_n 1, 1) := dk_27 (dk_at dksX4_isAgreed_0 5 rfl rfl)
theorem dX4_isAgreed_6 : decode cX4_isAgreed 6 = .ok (.iadd, 1) := dk_96 (dk_at dksX4_isAgreed_0 6 rfl rfl)
theorem dX4_isAgreed_7 : decode cX4_isAgreed 7 = .ok (.iaload, 1) := dk_46 (dk_at dksX4_isAgreed_0 7 rfl rfl)
theorem dX4_isAgreed_8 : decode cX4_isAgreed 8 = .ok (.iconst 1, 1) := dk_4 (dk_at dksX4_isAgreed_0 8 rfl rfl)
theorem dX4_isAgreed_9 : decode cX4_isAgreed 9 = .ok (.if_icmp .ne 7, 3) := dk_160 0 7 (dk_at dksX4_isAgreed_0 9 rfl rfl)
theorem dX4_isAgreed_12 : decode cX4_isAgreed 12 = .ok (.iconst 1, 1) := dk_4 (dk_at dksX4_isAgreed_0 12 rfl rfl)
theorem dX4_isAgreed_13 : decode cX4_isAgreed 13 = .ok (.goto 4, 3) := dk_167 0 4 (dk_at dksX4_isAgreed_0 13 rfl rfl)
theorem dX4_isAgreed_16 : decode cX4_isAgreed 16 = .ok (.iconst 0, 1) := dk_3 (dk_at dksX4_isAgreed_0 16 rfl rfl)
theorem dX4_isAgreed_17 : decode cX4_isAgreed 17 = .ok (.ireturn, 1) := dk_172 (dk_at dksX4_isAgreed_0 17 rfl rfl)
abbrev cX4_quarrels : ByteArray := prog_11_method_26_code
def yX4_quarrels : MethodName := ⟨RX4, "quarrels", "(I)I"⟩
def dkwX4_quarrels_1 : List UInt8 := [3, 96, 61, 132, 3, 1, 167, 255, 230, 28, 172]
abbrev dktX4_quarrels_1 : List UInt8 := dkwX4_quarrels_1 ++ []
def dkwX4_quarrels_0 : List UInt8 := [3, 61, 3, 62, 29, 16, 10, 162, 0, 26, 28, 42, 27, 29, 182, 0, 74, 158, 0, 7, 4, 167, 0, 4]
abbrev dktX4_quarrels_0 : List UInt8 := dkwX4_quarrels_0 ++ dktX4_quarrels_1
theorem dksX4_quarrels_0 : cX4_quarrels.data.toList.drop 0 = dktX4_quarrels_0 := by decide +kernel
theorem dksX4_quarrels_1 : cX4_quarrels.data.toList.drop 24 = dktX4_quarrels_1 := dk_seg dksX4_quarrels_0 24 rfl rfl
theorem dX4_quarrels_0 : decode cX4_quarrels 0 = .ok (.iconst 0, 1) := dk_3 (dk_at dksX4_quarrels_0 0 rfl rfl)
theorem dX4_quarrels_1 : decode cX4_quarrels 1 = .ok (.istore_n 2, 1) := dk_61 (dk_at dksX4_quarrels_0 1 rfl rfl)
theorem dX4_quarrels_2 : decode cX4_quarrels 2 = .ok (.iconst 0, 1) := dk_3 (dk_at dksX4_quarrels_0 2 rfl rfl)
theorem dX4_quarrels_3 : decode cX4_quarrels 3 = .ok (.istore_n 3, 1) := dk_62 (dk_at dksX4_quarrels_0 3 rfl rfl)
theorem dX4_quarrels_4 : decode cX4_quarrels 4 = .ok (.iload_n 3, 1) := dk_29 (dk_at dksX4_quarrels_0 4 rfl rfl)
theorem dX4_quarrels_5 : decode cX4_quarrels 5 = .ok (.bipush 10, 2) := dk_16 10 (dk_at dksX4_quarrels_0 5 rfl rfl)
theorem dX4_quarrels_7 : decode cX4_quarrels 7 = .ok (.if_icmp .ge 26, 3) := dk_162 0 26 (dk_at dksX4_quarrels_0 7 rfl rfl)
theorem dX4_quarrels_10 : decode cX4_quarrels 10 = .ok (.iload_n 2, 1) := dk_28 (dk_at dksX4_quarrels_0 10 rfl rfl)
theorem dX4_quarrels_11 : decode cX4_quarrels 11 = .ok (.aload_n 0, 1) := dk_42 (dk_at dksX4_quarrels_0 11 rfl rfl)
theorem dX4_quarrels_12 : decode cX4_quarrels 12 = .ok (.iload_n 1, 1) := dk_27 (dk_at dksX4_quarrels_0 12 rfl rfl)
theorem dX4_quarrels_13 : decode cX4_quarrels 13 = .ok (.iload_n 3, 1) := dk_29 (dk_at dksX4_quarrels_0 13 rfl rfl)
theorem dX4_quarrels_14 : decode cX4_quarrels 14 = .ok (.invokevirtual 74, 3) := dk_182 0 74 (dk_at dksX4_quarrels_0 14 rfl rfl)
theorem dX4_quarrels_17 : decode cX4_quarrels 17 = .ok (.ifCond .le 7, 3) := dk_158 0 7 (dk_at dksX4_quarrels_0 17 rfl rfl)
theorem dX4_quarrels_20 : decode cX4_quarrels 20 = .ok (.iconst 1, 1) := dk_4 (dk_at dksX4_quarrels_0 20 rfl rfl)
theorem dX4_quarrels_21 : decode cX4_quarrels 21 = .ok (.goto 4, 3) := dk_167 0 4 (dk_at dksX4_quarrels_0 21 rfl rfl)
theorem dX4_quarrels_24 : decode cX4_quarrels 24 = .ok (.iconst 0, 1) := dk_3 (dk_at dksX4_quarrels_1 0 rfl rfl)
theorem dX4_quarrels_25 : decode cX4_quarrels 25 = .ok (.iadd, 1) := dk_96 (dk_at dksX4_quarrels_1 1 rfl rfl)
theorem dX4_quarrels_26 : decode cX4_quarrels 26 = .ok (.istore_n 2, 1) := dk_61 (dk_at dksX4_quarrels_1 2 rfl rfl)
theorem dX4_quarrels_27 : decode cX4_quarrels 27 = .ok (.iinc 3 1, 3) := dk_132 3 1 (dk_at dksX4_quarrels_1 3 rfl rfl)
theorem dX4_quarrels_30 : decode cX4_quarrels 30 = .ok (.goto (-26), 3) := dk_167 255 230 (dk_at dksX4_quarrels_1 6 rfl rfl)
theorem dX4_quarrels_33 : decode cX4_quarrels 33 = .ok (.iload_n 2, 1) := dk_28 (dk_at dksX4_quarrels_1 9 rfl rfl)
theorem dX4_quarrels_34 : decode cX4_quarrels 34 = .ok (.ireturn, 1) := dk_172 (dk_at dksX4_quarrels_1 10 rfl rfl)
abbrev cX4_reasonAt : ByteArray := prog_11_method_25_code
def yX4_reasonAt : MethodName := ⟨RX4, "reasonAt", "(II)I"⟩
def dkwX4_reasonAt_1 : List UInt8 := [167, 0, 21, 29, 16, 10, 159, 0, 10, 21, 4, 16, 10, 160, 0, 7, 4, 167, 0, 4, 5, 172]
abbrev dktX4_reasonAt_1 : List UInt8 := dkwX4_reasonAt_1 ++ []
def dkwX4_reasonAt_0 : List UInt8 := [42, 27, 28, 182, 0, 68, 62, 42, 27, 28, 182, 0, 71, 54, 4, 29, 21, 4, 160, 0, 7, 3]
abbrev dktX4_reasonAt_0 : List UInt8 := dkwX4_reasonAt_0 ++ dktX4_reasonAt_1
theorem dksX4_reasonAt_0 : cX4_reasonAt.data.toList.drop 0 = dktX4_reasonAt_0 := by decide +kernel
theorem dksX4_reasonAt_1 : cX4_reasonAt.data.toList.drop 22 = dktX4_reasonAt_1 := dk_seg dksX4_reasonAt_0 22 rfl rfl
theorem dX4_reasonAt_0 : decode cX4_reasonAt 0 = .ok (.aload_n 0, 1) := dk_42 (dk_at dksX4_reasonAt_0 0 rfl rfl)
theorem dX4_reasonAt_1 : decode cX4_reasonAt 1 = .ok (.iload_n 1, 1) := dk_27 (dk_at dksX4_reasonAt_0 1 rfl rfl)
theorem dX4_reasonAt_2 : decode cX4_reasonAt 2 = .ok (.iload_n 2, 1) := dk_28 (dk_at dksX4_reasonAt_0 2 rfl rfl)
theorem dX4_reasonAt_3 : decode cX4_reasonAt 3 = .ok (.invokevirtual 68, 3) := dk_182 0 68 (dk_at dksX4_reasonAt_0 3 rfl rfl)
theorem dX4_reasonAt_6 : decode cX4_reasonAt 6 = .ok (.istore_n 3, 1) := dk_62 (dk_at dksX4_reasonAt_0 6 rfl rfl)
theorem dX4_reasonAt_7 : decode cX4_reasonAt 7 = .ok (.aload_n 0, 1) := dk_42 (dk_at dksX4_reasonAt_0 7 rfl rfl)
theorem dX4_reasonAt_8 : decode cX4_reasonAt 8 = .ok (.iload_n 1, 1) := dk_27 (dk_at dksX4_reasonAt_0 8 rfl rfl)
theorem dX4_reasonAt_9 : decode cX4_reasonAt 9 = .ok (.iload_n 2, 1) := dk_28 (dk_at dksX4_reasonAt_0 9 rfl rfl)
theorem dX4_reasonAt_10 : decode cX4_reasonAt 10 = .ok (.invokevirtual 71, 3) := dk_182 0 71 (dk_at dksX4_reasonAt_0 10 rfl rfl)
theorem dX4_reasonAt_13 : decode cX4_reasonAt 13 = .ok (.istore 4, 2) := dk_54 4 (dk_at dksX4_reasonAt_0 13 rfl rfl)
theorem dX4_reasonAt_15 : decode cX4_reasonAt 15 = .ok (.iload_n 3, 1) := dk_29 (dk_at dksX4_reasonAt_0 15 rfl rfl)
theorem dX4_reasonAt_16 : decode cX4_reasonAt 16 = .ok (.iload 4, 2) := dk_21 4 (dk_at dksX4_reasonAt_0 16 rfl rfl)
theorem dX4_reasonAt_18 : decode cX4_reasonAt 18 = .ok (.if_icmp .ne 7, 3) := dk_160 0 7 (dk_at dksX4_reasonAt_0 18 rfl rfl)
theorem dX4_reasonAt_21 : decode cX4_reasonAt 21 = .ok (.iconst 0, 1) := dk_3 (dk_at dksX4_reasonAt_0 21 rfl rfl)
theorem dX4_reasonAt_22 : decode cX4_reasonAt 22 = .ok (.goto 21, 3) := dk_167 0 21 (dk_at dksX4_reasonAt_1 0 rfl rfl)
theorem dX4_reasonAt_25 : decode cX4_reasonAt 25 = .ok (.iload_n 3, 1) := dk_29 (dk_at dksX4_reasonAt_1 3 rfl rfl)
theorem dX4_reasonAt_26 : decode cX4_reasonAt 26 = .ok (.bipush 10, 2) := dk_16 10 (dk_at dksX4_reasonAt_1 4 rfl rfl)
theorem dX4_reasonAt_28 : decode cX4_reasonAt 28 = .ok (.if_icmp .eq 10, 3) := dk_159 0 10 (dk_at dksX4_reasonAt_1 6 rfl rfl)
theorem dX4_reasonAt_31 : decode cX4_reasonAt 31 = .ok (.iload 4, 2) := dk_21 4 (dk_at dksX4_reasonAt_1 9 rfl rfl)
theorem dX4_reasonAt_33 : decode cX4_reasonAt 33 = .ok (.bipush 10, 2) := dk_16 10 (dk_at dksX4_reasonAt_1 11 rfl rfl)
theorem dX4_reasonAt_35 : decode cX4_reasonAt 35 = .ok (.if_icmp .ne 7, 3) := dk_160 0 7 (dk_at dksX4_reasonAt_1 13 rfl rfl)
theorem dX4_reasonAt_38 : decode cX4_reasonAt 38 = .ok (.iconst 1, 1) := dk_4 (dk_at dksX4_reasonAt_1 16 rfl rfl)
theorem dX4_reasonAt_39 : decode cX4_reasonAt 39 = .ok (.goto 4, 3) := dk_167 0 4 (dk_at dksX4_reasonAt_1 17 rfl rfl)
theorem dX4_reasonAt_42 : decode cX4_reasonAt 42 = .ok (.iconst 2, 1) := dk_5 (dk_at dksX4_reasonAt_1 20 rfl rfl)
theorem dX4_reasonAt_43 : decode cX4_reasonAt 43 = .ok (.ireturn, 1) := dk_172 (dk_at dksX4_reasonAt_1 21 rfl rfl)
abbrev cX4_firstMeans : ByteArray := prog_11_method_23_code
def yX4_firstMeans : MethodName := ⟨RX4, "firstMeans", "(II)I"⟩
def dkwX4_firstMeans_0 : List UInt8 := [42, 42, 27, 182, 0, 55, 42, 27, 182, 0, 59, 28, 182, 0, 62, 172]
abbrev dktX4_firstMeans_0 : List UInt8 := dkwX4_firstMeans_0 ++ []
theorem dksX4_firstMeans_0 : cX4_firstMeans.data.toList.drop 0 = dktX4_firstMeans_0 := by decide +kernel
theorem dX4_firstMeans_0 : decode cX4_firstMeans 0 = .ok (.aload_n 0, 1) := dk_42 (dk_at dksX4_firstMeans_0 0 rfl rfl)
theorem dX4_firstMeans_1 : decode cX4_firstMeans 1 = .ok (.aload_n 0, 1) := dk_42 (dk_at dksX4_firstMeans_0 1 rfl rfl)
theorem dX4_firstMeans_2 : decode cX4_firstMeans 2 = .ok (.iload_n 1, 1) := dk_27 (dk_at dksX4_firstMeans_0 2 rfl rfl)
theorem dX4_firstMeans_3 : decode cX4_firstMeans 3 = .ok (.invokevirtual 55, 3) := dk_182 0 55 (dk_at dksX4_firstMeans_0 3 rfl rfl)
theorem dX4_firstMeans_6 : decode cX4_firstMeans 6 = .ok (.aload_n 0, 1) := dk_42 (dk_at dksX4_firstMeans_0 6 rfl rfl)
theorem dX4_firstMeans_7 : decode cX4_firstMeans 7 = .ok (.iload_n 1, 1) := dk_27 (dk_at dksX4_firstMeans_0 7 rfl rfl)
theorem dX4_firstMeans_8 : decode cX4_firstMeans 8 = .ok (.invokevirtual 59, 3) := dk_182 0 59 (dk_at dksX4_firstMeans_0 8 rfl rfl)
theorem dX4_firstMeans_11 : decode cX4_firstMeans 11 = .ok (.iload_n 2, 1) := dk_28 (dk_at dksX4_firstMeans_0 11 rfl rfl)
theorem dX4_firstMeans_12 : decode cX4_firstMeans 12 = .ok (.invokevirtual 62, 3) := dk_182 0 62 (dk_at dksX4_firstMeans_0 12 rfl rfl)
theorem dX4_firstMeans_15 : decode cX4_firstMeans 15 = .ok (.ireturn, 1) := dk_172 (dk_at dksX4_firstMeans_0 15 rfl rfl)
abbrev cX4_firstOf : ByteArray := prog_11_method_18_code
def yX4_firstOf : MethodName := ⟨RX4, "firstOf", "(I)I"⟩
def dkwX4_firstOf_1 : List UInt8 := [4, 100, 112, 96, 167, 0, 9, 27, 42, 182, 0, 49, 100, 172]
abbrev dktX4_firstOf_1 : List UInt8 := dkwX4_firstOf_1 ++ []
def dkwX4_firstOf_0 : List UInt8 := [42, 180, 0, 7, 3, 46, 61, 27, 42, 182, 0, 49, 162, 0, 19, 27, 28, 4, 100, 108, 28, 104, 27, 28]
abbrev dktX4_firstOf_0 : List UInt8 := dkwX4_firstOf_0 ++ dktX4_firstOf_1
theorem dksX4_firstOf_0 : cX4_firstOf.data.toList.drop 0 = dktX4_firstOf_0 := by decide +kernel
theorem dksX4_firstOf_1 : cX4_firstOf.data.toList.drop 24 = dktX4_firstOf_1 := dk_seg dksX4_firstOf_0 24 rfl rfl
theorem dX4_firstOf_0 : decode cX4_firstOf 0 = .ok (.aload_n 0, 1) := dk_42 (dk_at dksX4_firstOf_0 0 rfl rfl)
theorem dX4_firstOf_1 : decode cX4_firstOf 1 = .ok (.getfield 7, 3) := dk_180 0 7 (dk_at dksX4_firstOf_0 1 rfl rfl)
theorem dX4_firstOf_4 : decode cX4_firstOf 4 = .ok (.iconst 0, 1) := dk_3 (dk_at dksX4_firstOf_0 4 rfl rfl)
theorem dX4_firstOf_5 : decode cX4_firstOf 5 = .ok (.iaload, 1) := dk_46 (dk_at dksX4_firstOf_0 5 rfl rfl)
theorem dX4_firstOf_6 : decode cX4_firstOf 6 = .ok (.istore_n 2, 1) := dk_61 (dk_at dksX4_firstOf_0 6 rfl rfl)
theorem dX4_firstOf_7 : decode cX4_firstOf 7 = .ok (.iload_n 1, 1) := dk_27 (dk_at dksX4_firstOf_0 7 rfl rfl)
theorem dX4_firstOf_8 : decode cX4_firstOf 8 = .ok (.aload_n 0, 1) := dk_42 (dk_at dksX4_firstOf_0 8 rfl rfl)
theorem dX4_firstOf_9 : decode cX4_firstOf 9 = .ok (.invokevirtual 49, 3) := dk_182 0 49 (dk_at dksX4_firstOf_0 9 rfl rfl)
theorem dX4_firstOf_12 : decode cX4_firstOf 12 = .ok (.if_icmp .ge 19, 3) := dk_162 0 19 (dk_at dksX4_firstOf_0 12 rfl rfl)
theorem dX4_firstOf_15 : decode cX4_firstOf 15 = .ok (.iload_n 1, 1) := dk_27 (dk_at dksX4_firstOf_0 15 rfl rfl)
theorem dX4_firstOf_16 : decode cX4_firstOf 16 = .ok (.iload_n 2, 1) := dk_28 (dk_at dksX4_firstOf_0 16 rfl rfl)
theorem dX4_firstOf_17 : decode cX4_firstOf 17 = .ok (.iconst 1, 1) := dk_4 (dk_at dksX4_firstOf_0 17 rfl rfl)
theorem dX4_firstOf_18 : decode cX4_firstOf 18 = .ok (.isub, 1) := dk_100 (dk_at dksX4_firstOf_0 18 rfl rfl)
theorem dX4_firstOf_19 : decode cX4_firstOf 19 = .ok (.idiv, 1) := dk_108 (dk_at dksX4_firstOf_0 19 rfl rfl)
theorem dX4_firstOf_20 : decode cX4_firstOf 20 = .ok (.iload_n 2, 1) := dk_28 (dk_at dksX4_firstOf_0 20 rfl rfl)
theorem dX4_firstOf_21 : decode cX4_firstOf 21 = .ok (.imul, 1) := dk_104 (dk_at dksX4_firstOf_0 21 rfl rfl)
theorem dX4_firstOf_22 : decode cX4_firstOf 22 = .ok (.iload_n 1, 1) := dk_27 (dk_at dksX4_firstOf_0 22 rfl rfl)
theorem dX4_firstOf_23 : decode cX4_firstOf 23 = .ok (.iload_n 2, 1) := dk_28 (dk_at dksX4_firstOf_0 23 rfl rfl)
theorem dX4_firstOf_24 : decode cX4_firstOf 24 = .ok (.iconst 1, 1) := dk_4 (dk_at dksX4_firstOf_1 0 rfl rfl)
theorem dX4_firstOf_25 : decode cX4_firstOf 25 = .ok (.isub, 1) := dk_100 (dk_at dksX4_firstOf_1 1 rfl rfl)
theorem dX4_firstOf_26 : decode cX4_firstOf 26 = .ok (.irem, 1) := dk_112 (dk_at dksX4_firstOf_1 2 rfl rfl)
theorem dX4_firstOf_27 : decode cX4_firstOf 27 = .ok (.iadd, 1) := dk_96 (dk_at dksX4_firstOf_1 3 rfl rfl)
theorem dX4_firstOf_28 : decode cX4_firstOf 28 = .ok (.goto 9, 3) := dk_167 0 9 (dk_at dksX4_firstOf_1 4 rfl rfl)
theorem dX4_firstOf_31 : decode cX4_firstOf 31 = .ok (.iload_n 1, 1) := dk_27 (dk_at dksX4_firstOf_1 7 rfl rfl)
theorem dX4_firstOf_32 : decode cX4_firstOf 32 = .ok (.aload_n 0, 1) := dk_42 (dk_at dksX4_firstOf_1 8 rfl rfl)
theorem dX4_firstOf_33 : decode cX4_firstOf 33 = .ok (.invokevirtual 49, 3) := dk_182 0 49 (dk_at dksX4_firstOf_1 9 rfl rfl)
theorem dX4_firstOf_36 : decode cX4_firstOf 36 = .ok (.isub, 1) := dk_100 (dk_at dksX4_firstOf_1 12 rfl rfl)
theorem dX4_firstOf_37 : decode cX4_firstOf 37 = .ok (.ireturn, 1) := dk_172 (dk_at dksX4_firstOf_1 13 rfl rfl)
abbrev cX4_sideOf : ByteArray := prog_11_method_20_code
def yX4_sideOf : MethodName := ⟨RX4, "sideOf", "(I)I"⟩
def dkwX4_sideOf_0 : List UInt8 := [27, 42, 182, 0, 49, 162, 0, 7, 4, 167, 0, 4, 5, 172]
abbrev dktX4_sideOf_0 : List UInt8 := dkwX4_sideOf_0 ++ []
theorem dksX4_sideOf_0 : cX4_sideOf.data.toList.drop 0 = dktX4_sideOf_0 := by decide +kernel
theorem dX4_sideOf_0 : decode cX4_sideOf 0 = .ok (.iload_n 1, 1) := dk_27 (dk_at dksX4_sideOf_0 0 rfl rfl)
theorem dX4_sideOf_1 : decode cX4_sideOf 1 = .ok (.aload_n 0, 1) := dk_42 (dk_at dksX4_sideOf_0 1 rfl rfl)
theorem dX4_sideOf_2 : decode cX4_sideOf 2 = .ok (.invokevirtual 49, 3) := dk_182 0 49 (dk_at dksX4_sideOf_0 2 rfl rfl)
theorem dX4_sideOf_5 : decode cX4_sideOf 5 = .ok (.if_icmp .ge 7, 3) := dk_162 0 7 (dk_at dksX4_sideOf_0 5 rfl rfl)
theorem dX4_sideOf_8 : decode cX4_sideOf 8 = .ok (.iconst 1, 1) := dk_4 (dk_at dksX4_sideOf_0 8 rfl rfl)
theorem dX4_sideOf_9 : decode cX4_sideOf 9 = .ok (.goto 4, 3) := dk_167 0 4 (dk_at dksX4_sideOf_0 9 rfl rfl)
theorem dX4_sideOf_12 : decode cX4_sideOf 12 = .ok (.iconst 2, 1) := dk_5 (dk_at dksX4_sideOf_0 12 rfl rfl)
theorem dX4_sideOf_13 : decode cX4_sideOf 13 = .ok (.ireturn, 1) := dk_172 (dk_at dksX4_sideOf_0 13 rfl rfl)
abbrev cX4_meansAt : ByteArray := prog_11_method_14_code
def yX4_meansAt : MethodName := ⟨RX4, "meansAt", "(III)I"⟩
def dkwX4_meansAt_1 : List UInt8 := [16, 40, 21, 4, 96, 182, 0, 37, 172]
abbrev dktX4_meansAt_1 : List UInt8 := dkwX4_meansAt_1 ++ []
def dkwX4_meansAt_0 : List UInt8 := [42, 27, 28, 29, 182, 0, 45, 54, 4, 21, 4, 16, 10, 160, 0, 8, 16, 10, 167, 0, 13, 42, 27]
abbrev dktX4_meansAt_0 : List UInt8 := dkwX4_meansAt_0 ++ dktX4_meansAt_1
theorem dksX4_meansAt_0 : cX4_meansAt.data.toList.drop 0 = dktX4_meansAt_0 := by decide +kernel
theorem dksX4_meansAt_1 : cX4_meansAt.data.toList.drop 23 = dktX4_meansAt_1 := dk_seg dksX4_meansAt_0 23 rfl rfl
theorem dX4_meansAt_0 : decode cX4_meansAt 0 = .ok (.aload_n 0, 1) := dk_42 (dk_at dksX4_meansAt_0 0 rfl rfl)
theorem dX4_meansAt_1 : decode cX4_meansAt 1 = .ok (.iload_n 1, 1) := dk_27 (dk_at dksX4_meansAt_0 1 rfl rfl)
theorem dX4_meansAt_2 : decode cX4_meansAt 2 = .ok (.iload_n 2, 1) := dk_28 (dk_at dksX4_meansAt_0 2 rfl rfl)
theorem dX4_meansAt_3 : decode cX4_meansAt 3 = .ok (.iload_n 3, 1) := dk_29 (dk_at dksX4_meansAt_0 3 rfl rfl)
theorem dX4_meansAt_4 : decode cX4_meansAt 4 = .ok (.invokevirtual 45, 3) := dk_182 0 45 (dk_at dksX4_meansAt_0 4 rfl rfl)
theorem dX4_meansAt_7 : decode cX4_meansAt 7 = .ok (.istore 4, 2) := dk_54 4 (dk_at dksX4_meansAt_0 7 rfl rfl)
theorem dX4_meansAt_9 : decode cX4_meansAt 9 = .ok (.iload 4, 2) := dk_21 4 (dk_at dksX4_meansAt_0 9 rfl rfl)
theorem dX4_meansAt_11 : decode cX4_meansAt 11 = .ok (.bipush 10, 2) := dk_16 10 (dk_at dksX4_meansAt_0 11 rfl rfl)
theorem dX4_meansAt_13 : decode cX4_meansAt 13 = .ok (.if_icmp .ne 8, 3) := dk_160 0 8 (dk_at dksX4_meansAt_0 13 rfl rfl)
theorem dX4_meansAt_16 : decode cX4_meansAt 16 = .ok (.bipush 10, 2) := dk_16 10 (dk_at dksX4_meansAt_0 16 rfl rfl)
theorem dX4_meansAt_18 : decode cX4_meansAt 18 = .ok (.goto 13, 3) := dk_167 0 13 (dk_at dksX4_meansAt_0 18 rfl rfl)
theorem dX4_meansAt_21 : decode cX4_meansAt 21 = .ok (.aload_n 0, 1) := dk_42 (dk_at dksX4_meansAt_0 21 rfl rfl)
theorem dX4_meansAt_22 : decode cX4_meansAt 22 = .ok (.iload_n 1, 1) := dk_27 (dk_at dksX4_meansAt_0 22 rfl rfl)
theorem dX4_meansAt_23 : decode cX4_meansAt 23 = .ok (.bipush 40, 2) := dk_16 40 (dk_at dksX4_meansAt_1 0 rfl rfl)
theorem dX4_meansAt_25 : decode cX4_meansAt 25 = .ok (.iload 4, 2) := dk_21 4 (dk_at dksX4_meansAt_1 2 rfl rfl)
theorem dX4_meansAt_27 : decode cX4_meansAt 27 = .ok (.iadd, 1) := dk_96 (dk_at dksX4_meansAt_1 4 rfl rfl)
theorem dX4_meansAt_28 : decode cX4_meansAt 28 = .ok (.invokevirtual 37, 3) := dk_182 0 37 (dk_at dksX4_meansAt_1 5 rfl rfl)
theorem dX4_meansAt_31 : decode cX4_meansAt 31 = .ok (.ireturn, 1) := dk_172 (dk_at dksX4_meansAt_1 8 rfl rfl)
abbrev cX4_secondMeans : ByteArray := prog_11_method_24_code
def yX4_secondMeans : MethodName := ⟨RX4, "secondMeans", "(II)I"⟩
def dkwX4_secondMeans_1 : List UInt8 := [172]
abbrev dktX4_secondMeans_1 : List UInt8 := dkwX4_secondMeans_1 ++ []
def dkwX4_secondMeans_0 : List UInt8 := [42, 42, 27, 182, 0, 65, 42, 27, 182, 0, 59, 4, 160, 0, 7, 6, 167, 0, 4, 3, 28, 182, 0, 62]
abbrev dktX4_secondMeans_0 : List UInt8 := dkwX4_secondMeans_0 ++ dktX4_secondMeans_1
theorem dksX4_secondMeans_0 : cX4_secondMeans.data.toList.drop 0 = dktX4_secondMeans_0 := by decide +kernel
theorem dksX4_secondMeans_1 : cX4_secondMeans.data.toList.drop 24 = dktX4_secondMeans_1 := dk_seg dksX4_secondMeans_0 24 rfl rfl
theorem dX4_secondMeans_0 : decode cX4_secondMeans 0 = .ok (.aload_n 0, 1) := dk_42 (dk_at dksX4_secondMeans_0 0 rfl rfl)
theorem dX4_secondMeans_1 : decode cX4_secondMeans 1 = .ok (.aload_n 0, 1) := dk_42 (dk_at dksX4_secondMeans_0 1 rfl rfl)
theorem dX4_secondMeans_2 : decode cX4_secondMeans 2 = .ok (.iload_n 1, 1) := dk_27 (dk_at dksX4_secondMeans_0 2 rfl rfl)
theorem dX4_secondMeans_3 : decode cX4_secondMeans 3 = .ok (.invokevirtual 65, 3) := dk_182 0 65 (dk_at dksX4_secondMeans_0 3 rfl rfl)
theorem dX4_secondMeans_6 : decode cX4_secondMeans 6 = .ok (.aload_n 0, 1) := dk_42 (dk_at dksX4_secondMeans_0 6 rfl rfl)
theorem dX4_secondMeans_7 : decode cX4_secondMeans 7 = .ok (.iload_n 1, 1) := dk_27 (dk_at dksX4_secondMeans_0 7 rfl rfl)
theorem dX4_secondMeans_8 : decode cX4_secondMeans 8 = .ok (.invokevirtual 59, 3) := dk_182 0 59 (dk_at dksX4_secondMeans_0 8 rfl rfl)
theorem dX4_secondMeans_11 : decode cX4_secondMeans 11 = .ok (.iconst 1, 1) := dk_4 (dk_at dksX4_secondMeans_0 11 rfl rfl)
theorem dX4_secondMeans_12 : decode cX4_secondMeans 12 = .ok (.if_icmp .ne 7, 3) := dk_160 0 7 (dk_at dksX4_secondMeans_0 12 rfl rfl)
theorem dX4_secondMeans_15 : decode cX4_secondMeans 15 = .ok (.iconst 3, 1) := dk_6 (dk_at dksX4_secondMeans_0 15 rfl rfl)
theorem dX4_secondMeans_16 : decode cX4_secondMeans 16 = .ok (.goto 4, 3) := dk_167 0 4 (dk_at dksX4_secondMeans_0 16 rfl rfl)
theorem dX4_secondMeans_19 : decode cX4_secondMeans 19 = .ok (.iconst 0, 1) := dk_3 (dk_at dksX4_secondMeans_0 19 rfl rfl)
theorem dX4_secondMeans_20 : decode cX4_secondMeans 20 = .ok (.iload_n 2, 1) := dk_28 (dk_at dksX4_secondMeans_0 20 rfl rfl)
theorem dX4_secondMeans_21 : decode cX4_secondMeans 21 = .ok (.invokevirtual 62, 3) := dk_182 0 62 (dk_at dksX4_secondMeans_0 21 rfl rfl)
theorem dX4_secondMeans_24 : decode cX4_secondMeans 24 = .ok (.ireturn, 1) := dk_172 (dk_at dksX4_secondMeans_1 0 rfl rfl)
abbrev cX4_secondOf : ByteArray := prog_11_method_19_code
def yX4_secondOf : MethodName := ⟨RX4, "secondOf", "(I)I"⟩
def dkwX4_secondOf_1 : List UInt8 := [172]
abbrev dktX4_secondOf_1 : List UInt8 := dkwX4_secondOf_1 ++ []
def dkwX4_secondOf_0 : List UInt8 := [42, 27, 182, 0, 55, 27, 42, 182, 0, 49, 162, 0, 7, 4, 167, 0, 9, 42, 180, 0, 7, 3, 46, 96]
abbrev dktX4_secondOf_0 : List UInt8 := dkwX4_secondOf_0 ++ dktX4_secondOf_1
theorem dksX4_secondOf_0 : cX4_secondOf.data.toList.drop 0 = dktX4_secondOf_0 := by decide +kernel
theorem dksX4_secondOf_1 : cX4_secondOf.data.toList.drop 24 = dktX4_secondOf_1 := dk_seg dksX4_secondOf_0 24 rfl rfl
theorem dX4_secondOf_0 : decode cX4_secondOf 0 = .ok (.aload_n 0, 1) := dk_42 (dk_at dksX4_secondOf_0 0 rfl rfl)
theorem dX4_secondOf_1 : decode cX4_secondOf 1 = .ok (.iload_n 1, 1) := dk_27 (dk_at dksX4_secondOf_0 1 rfl rfl)
theorem dX4_secondOf_2 : decode cX4_secondOf 2 = .ok (.invokevirtual 55, 3) := dk_182 0 55 (dk_at dksX4_secondOf_0 2 rfl rfl)
theorem dX4_secondOf_5 : decode cX4_secondOf 5 = .ok (.iload_n 1, 1) := dk_27 (dk_at dksX4_secondOf_0 5 rfl rfl)
theorem dX4_secondOf_6 : decode cX4_secondOf 6 = .ok (.aload_n 0, 1) := dk_42 (dk_at dksX4_secondOf_0 6 rfl rfl)
theorem dX4_secondOf_7 : decode cX4_secondOf 7 = .ok (.invokevirtual 49, 3) := dk_182 0 49 (dk_at dksX4_secondOf_0 7 rfl rfl)
theorem dX4_secondOf_10 : decode cX4_secondOf 10 = .ok (.if_icmp .ge 7, 3) := dk_162 0 7 (dk_at dksX4_secondOf_0 10 rfl rfl)
theorem dX4_secondOf_13 : decode cX4_secondOf 13 = .ok (.iconst 1, 1) := dk_4 (dk_at dksX4_secondOf_0 13 rfl rfl)
theorem dX4_secondOf_14 : decode cX4_secondOf 14 = .ok (.goto 9, 3) := dk_167 0 9 (dk_at dksX4_secondOf_0 14 rfl rfl)
theorem dX4_secondOf_17 : decode cX4_secondOf 17 = .ok (.aload_n 0, 1) := dk_42 (dk_at dksX4_secondOf_0 17 rfl rfl)
theorem dX4_secondOf_18 : decode cX4_secondOf 18 = .ok (.getfield 7, 3) := dk_180 0 7 (dk_at dksX4_secondOf_0 18 rfl rfl)
theorem dX4_secondOf_21 : decode cX4_secondOf 21 = .ok (.iconst 0, 1) := dk_3 (dk_at dksX4_secondOf_0 21 rfl rfl)
theorem dX4_secondOf_22 : decode cX4_secondOf 22 = .ok (.iaload, 1) := dk_46 (dk_at dksX4_secondOf_0 22 rfl rfl)
theorem dX4_secondOf_23 : decode cX4_secondOf 23 = .ok (.iadd, 1) := dk_96 (dk_at dksX4_secondOf_0 23 rfl rfl)
theorem dX4_secondOf_24 : decode cX4_secondOf 24 = .ok (.ireturn, 1) := dk_172 (dk_at dksX4_secondOf_1 0 rfl rfl)
abbrev cX4_restore : ByteArray := prog_11_method_6_code
def yX4_restore : MethodName := ⟨RX4, "restore", "()V"⟩
def dkwX4_restore_1 : List UInt8 := [167, 255, 234, 177]
abbrev dktX4_restore_1 : List UInt8 := dkwX4_restore_1 ++ []
def dkwX4_restore_0 : List UInt8 := [3, 60, 27, 17, 7, 180, 162, 0, 21, 42, 180, 0, 7, 27, 42, 180, 0, 16, 27, 46, 79, 132, 1, 1]
abbrev dktX4_restore_0 : List UInt8 := dkwX4_restore_0 ++ dktX4_restore_1
theorem dksX4_restore_0 : cX4_restore.data.toList.drop 0 = dktX4_restore_0 := by decide +kernel
theorem dksX4_restore_1 : cX4_restore.data.toList.drop 24 = dktX4_restore_1 := dk_seg dksX4_restore_0 24 rfl rfl
theorem dX4_restore_0 : decode cX4_restore 0 = .ok (.iconst 0, 1) := dk_3 (dk_at dksX4_restore_0 0 rfl rfl)
theorem dX4_restore_1 : decode cX4_restore 1 = .ok (.istore_n 1, 1) := dk_60 (dk_at dksX4_restore_0 1 rfl rfl)
theorem dX4_restore_2 : decode cX4_restore 2 = .ok (.iload_n 1, 1) := dk_27 (dk_at dksX4_restore_0 2 rfl rfl)
theorem dX4_restore_3 : decode cX4_restore 3 = .ok (.sipush 1972, 3) := dk_17 7 180 (dk_at dksX4_restore_0 3 rfl rfl)
theorem dX4_restore_6 : decode cX4_restore 6 = .ok (.if_icmp .ge 21, 3) := dk_162 0 21 (dk_at dksX4_restore_0 6 rfl rfl)
theorem dX4_restore_9 : decode cX4_restore 9 = .ok (.aload_n 0, 1) := dk_42 (dk_at dksX4_restore_0 9 rfl rfl)
theorem dX4_restore_10 : decode cX4_restore 10 = .ok (.getfield 7, 3) := dk_180 0 7 (dk_at dksX4_restore_0 10 rfl rfl)
theorem dX4_restore_13 : decode cX4_restore 13 = .ok (.iload_n 1, 1) := dk_27 (dk_at dksX4_restore_0 13 rfl rfl)
theorem dX4_restore_14 : decode cX4_restore 14 = .ok (.aload_n 0, 1) := dk_42 (dk_at dksX4_restore_0 14 rfl rfl)
theorem dX4_restore_15 : decode cX4_restore 15 = .ok (.getfield 16, 3) := dk_180 0 16 (dk_at dksX4_restore_0 15 rfl rfl)
theorem dX4_restore_18 : decode cX4_restore 18 = .ok (.iload_n 1, 1) := dk_27 (dk_at dksX4_restore_0 18 rfl rfl)
theorem dX4_restore_19 : decode cX4_restore 19 = .ok (.iaload, 1) := dk_46 (dk_at dksX4_restore_0 19 rfl rfl)
theorem dX4_restore_20 : decode cX4_restore 20 = .ok (.iastore, 1) := dk_79 (dk_at dksX4_restore_0 20 rfl rfl)
theorem dX4_restore_21 : decode cX4_restore 21 = .ok (.iinc 1 1, 3) := dk_132 1 1 (dk_at dksX4_restore_0 21 rfl rfl)
theorem dX4_restore_24 : decode cX4_restore 24 = .ok (.goto (-22), 3) := dk_167 255 234 (dk_at dksX4_restore_1 0 rfl rfl)
theorem dX4_restore_27 : decode cX4_restore 27 = .ok (.return_, 1) := dk_177 (dk_at dksX4_restore_1 3 rfl rfl)
abbrev cX4_revises : ByteArray := prog_11_method_12_code
def yX4_revises : MethodName := ⟨RX4, "revises", "(I)V"⟩
def dkwX4_revises_0 : List UInt8 := [42, 27, 16, 50, 42, 27, 16, 50, 182, 0, 37, 4, 96, 182, 0, 41, 177]
abbrev dktX4_revises_0 : List UInt8 := dkwX4_revises_0 ++ []
theorem dksX4_revises_0 : cX4_revises.data.toList.drop 0 = dktX4_revises_0 := by decide +kernel
theorem dX4_revises_0 : decode cX4_revises 0 = .ok (.aload_n 0, 1) := dk_42 (dk_at dksX4_revises_0 0 rfl rfl)
theorem dX4_revises_1 : decode cX4_revises 1 = .ok (.iload_n 1, 1) := dk_27 (dk_at dksX4_revises_0 1 rfl rfl)
theorem dX4_revises_2 : decode cX4_revises 2 = .ok (.bipush 50, 2) := dk_16 50 (dk_at dksX4_revises_0 2 rfl rfl)
theorem dX4_revises_4 : decode cX4_revises 4 = .ok (.aload_n 0, 1) := dk_42 (dk_at dksX4_revises_0 4 rfl rfl)
theorem dX4_revises_5 : decode cX4_revises 5 = .ok (.iload_n 1, 1) := dk_27 (dk_at dksX4_revises_0 5 rfl rfl)
theorem dX4_revises_6 : decode cX4_revises 6 = .ok (.bipush 50, 2) := dk_16 50 (dk_at dksX4_revises_0 6 rfl rfl)
theorem dX4_revises_8 : decode cX4_revises 8 = .ok (.invokevirtual 37, 3) := dk_182 0 37 (dk_at dksX4_revises_0 8 rfl rfl)
theorem dX4_revises_11 : decode cX4_revises 11 = .ok (.iconst 1, 1) := dk_4 (dk_at dksX4_revises_0 11 rfl rfl)
theorem dX4_revises_12 : decode cX4_revises 12 = .ok (.iadd, 1) := dk_96 (dk_at dksX4_revises_0 12 rfl rfl)
theorem dX4_revises_13 : decode cX4_revises 13 = .ok (.invokevirtual 41, 3) := dk_182 0 41 (dk_at dksX4_revises_0 13 rfl rfl)
theorem dX4_revises_16 : decode cX4_revises 16 = .ok (.return_, 1) := dk_177 (dk_at dksX4_revises_0 16 rfl rfl)
abbrev cX4_erase : ByteArray := prog_11_method_40_code
def yX4_erase : MethodName := ⟨RX4, "erase", "(III)I"⟩
def dkwX4_erase_2 : List UInt8 := [182, 0, 41, 42, 27, 4, 21, 4, 182, 0, 124, 172]
abbrev dktX4_erase_2 : List UInt8 := dkwX4_erase_2 ++ []
def dkwX4_erase_1 : List UInt8 := [16, 10, 160, 0, 6, 16, 254, 172, 42, 182, 0, 115, 42, 27, 16, 10, 28, 104, 29, 96, 16, 10]
abbrev dktX4_erase_1 : List UInt8 := dkwX4_erase_1 ++ dktX4_erase_2
def dkwX4_erase_0 : List UInt8 := [42, 27, 28, 29, 182, 0, 121, 154, 0, 5, 2, 172, 42, 27, 28, 29, 182, 0, 45, 54, 4, 21, 4]
abbrev dktX4_erase_0 : List UInt8 := dkwX4_erase_0 ++ dktX4_erase_1
theorem dksX4_erase_0 : cX4_erase.data.toList.drop 0 = dktX4_erase_0 := by decide +kernel
theorem dksX4_erase_1 : cX4_erase.data.toList.drop 23 = dktX4_erase_1 := dk_seg dksX4_erase_0 23 rfl rfl
theorem dksX4_erase_2 : cX4_erase.data.toList.drop 45 = dktX4_erase_2 := dk_seg dksX4_erase_1 22 rfl rfl
theorem dX4_erase_0 : decode cX4_erase 0 = .ok (.aload_n 0, 1) := dk_42 (dk_at dksX4_erase_0 0 rfl rfl)
theorem dX4_erase_1 : decode cX4_erase 1 = .ok (.iload_n 1, 1) := dk_27 (dk_at dksX4_erase_0 1 rfl rfl)
theorem dX4_erase_2 : decode cX4_erase 2 = .ok (.iload_n 2, 1) := dk_28 (dk_at dksX4_erase_0 2 rfl rfl)
theorem dX4_erase_3 : decode cX4_erase 3 = .ok (.iload_n 3, 1) := dk_29 (dk_at dksX4_erase_0 3 rfl rfl)
theorem dX4_erase_4 : decode cX4_erase 4 = .ok (.invokevirtual 121, 3) := dk_182 0 121 (dk_at dksX4_erase_0 4 rfl rfl)
theorem dX4_erase_7 : decode cX4_erase 7 = .ok (.ifCond .ne 5, 3) := dk_154 0 5 (dk_at dksX4_erase_0 7 rfl rfl)
theorem dX4_erase_10 : decode cX4_erase 10 = .ok (.iconst (-1), 1) := dk_2 (dk_at dksX4_erase_0 10 rfl rfl)
theorem dX4_erase_11 : decode cX4_erase 11 = .ok (.ireturn, 1) := dk_172 (dk_at dksX4_erase_0 11 rfl rfl)
theorem dX4_erase_12 : decode cX4_erase 12 = .ok (.aload_n 0, 1) := dk_42 (dk_at dksX4_erase_0 12 rfl rfl)
theorem dX4_erase_13 : decode cX4_erase 13 = .ok (.iload_n 1, 1) := dk_27 (dk_at dksX4_erase_0 13 rfl rfl)
theorem dX4_erase_14 : decode cX4_erase 14 = .ok (.iload_n 2, 1) := dk_28 (dk_at dksX4_erase_0 14 rfl rfl)
theorem dX4_erase_15 : decode cX4_erase 15 = .ok (.iload_n 3, 1) := dk_29 (dk_at dksX4_erase_0 15 rfl rfl)
theorem dX4_erase_16 : decode cX4_erase 16 = .ok (.invokevirtual 45, 3) := dk_182 0 45 (dk_at dksX4_erase_0 16 rfl rfl)
theorem dX4_erase_19 : decode cX4_erase 19 = .ok (.istore 4, 2) := dk_54 4 (dk_at dksX4_erase_0 19 rfl rfl)
theorem dX4_erase_21 : decode cX4_erase 21 = .ok (.iload 4, 2) := dk_21 4 (dk_at dksX4_erase_0 21 rfl rfl)
theorem dX4_erase_23 : decode cX4_erase 23 = .ok (.bipush 10, 2) := dk_16 10 (dk_at dksX4_erase_1 0 rfl rfl)
theorem dX4_erase_25 : decode cX4_erase 25 = .ok (.if_icmp .ne 6, 3) := dk_160 0 6 (dk_at dksX4_erase_1 2 rfl rfl)
theorem dX4_erase_28 : decode cX4_erase 28 = .ok (.bipush (-2), 2) := dk_16 254 (dk_at dksX4_erase_1 5 rfl rfl)
theorem dX4_erase_30 : decode cX4_erase 30 = .ok (.ireturn, 1) := dk_172 (dk_at dksX4_erase_1 7 rfl rfl)
theorem dX4_erase_31 : decode cX4_erase 31 = .ok (.aload_n 0, 1) := dk_42 (dk_at dksX4_erase_1 8 rfl rfl)
theorem dX4_erase_32 : decode cX4_erase 32 = .ok (.invokevirtual 115, 3) := dk_182 0 115 (dk_at dksX4_erase_1 9 rfl rfl)
theorem dX4_erase_35 : decode cX4_erase 35 = .ok (.aload_n 0, 1) := dk_42 (dk_at dksX4_erase_1 12 rfl rfl)
theorem dX4_erase_36 : decode cX4_erase 36 = .ok (.iload_n 1, 1) := dk_27 (dk_at dksX4_erase_1 13 rfl rfl)
theorem dX4_erase_37 : decode cX4_erase 37 = .ok (.bipush 10, 2) := dk_16 10 (dk_at dksX4_erase_1 14 rfl rfl)
theorem dX4_erase_39 : decode cX4_erase 39 = .ok (.iload_n 2, 1) := dk_28 (dk_at dksX4_erase_1 16 rfl rfl)
theorem dX4_erase_40 : decode cX4_erase 40 = .ok (.imul, 1) := dk_104 (dk_at dksX4_erase_1 17 rfl rfl)
theorem dX4_erase_41 : decode cX4_erase 41 = .ok (.iload_n 3, 1) := dk_29 (dk_at dksX4_erase_1 18 rfl rfl)
theorem dX4_erase_42 : decode cX4_erase 42 = .ok (.iadd, 1) := dk_96 (dk_at dksX4_erase_1 19 rfl rfl)
theorem dX4_erase_43 : decode cX4_erase 43 = .ok (.bipush 10, 2) := dk_16 10 (dk_at dksX4_erase_1 20 rfl rfl)
theorem dX4_erase_45 : decode cX4_erase 45 = .ok (.invokevirtual 41, 3) := dk_182 0 41 (dk_at dksX4_erase_2 0 rfl rfl)
theorem dX4_erase_48 : decode cX4_erase 48 = .ok (.aload_n 0, 1) := dk_42 (dk_at dksX4_erase_2 3 rfl rfl)
theorem dX4_erase_49 : decode cX4_erase 49 = .ok (.iload_n 1, 1) := dk_27 (dk_at dksX4_erase_2 4 rfl rfl)
theorem dX4_erase_50 : decode cX4_erase 50 = .ok (.iconst 1, 1) := dk_4 (dk_at dksX4_erase_2 5 rfl rfl)
theorem dX4_erase_51 : decode cX4_erase 51 = .ok (.iload 4, 2) := dk_21 4 (dk_at dksX4_erase_2 6 rfl rfl)
theorem dX4_erase_53 : decode cX4_erase 53 = .ok (.invokevirtual 124, 3) := dk_182 0 124 (dk_at dksX4_erase_2 8 rfl rfl)
theorem dX4_erase_56 : decode cX4_erase 56 = .ok (.ireturn, 1) := dk_172 (dk_at dksX4_erase_2 11 rfl rfl)
abbrev cX4_mean : ByteArray := prog_11_method_41_code
def yX4_mean : MethodName := ⟨RX4, "mean", "(III)I"⟩
def dkwX4_mean_2 : List UInt8 := [27, 16, 40, 28, 96, 29, 182, 0, 41, 42, 27, 4, 21, 4, 182, 0, 124, 172]
abbrev dktX4_mean_2 : List UInt8 := dkwX4_mean_2 ++ []
def dkwX4_mean_1 : List UInt8 := [184, 0, 111, 154, 0, 5, 2, 172, 42, 182, 0, 115, 42, 27, 16, 40, 28, 96, 182, 0, 37, 54, 4, 42]
abbrev dktX4_mean_1 : List UInt8 := dkwX4_mean_1 ++ dktX4_mean_2
def dkwX4_mean_0 : List UInt8 := [42, 27, 182, 0, 118, 153, 0, 23, 28, 3, 16, 9, 184, 0, 111, 153, 0, 13, 29, 3, 16, 9]
abbrev dktX4_mean_0 : List UInt8 := dkwX4_mean_0 ++ dktX4_mean_1
theorem dksX4_mean_0 : cX4_mean.data.toList.drop 0 = dktX4_mean_0 := by decide +kernel
theorem dksX4_mean_1 : cX4_mean.data.toList.drop 22 = dktX4_mean_1 := dk_seg dksX4_mean_0 22 rfl rfl
theorem dksX4_mean_2 : cX4_mean.data.toList.drop 46 = dktX4_mean_2 := dk_seg dksX4_mean_1 24 rfl rfl
theorem dX4_mean_0 : decode cX4_mean 0 = .ok (.aload_n 0, 1) := dk_42 (dk_at dksX4_mean_0 0 rfl rfl)
theorem dX4_mean_1 : decode cX4_mean 1 = .ok (.iload_n 1, 1) := dk_27 (dk_at dksX4_mean_0 1 rfl rfl)
theorem dX4_mean_2 : decode cX4_mean 2 = .ok (.invokevirtual 118, 3) := dk_182 0 118 (dk_at dksX4_mean_0 2 rfl rfl)
theorem dX4_mean_5 : decode cX4_mean 5 = .ok (.ifCond .eq 23, 3) := dk_153 0 23 (dk_at dksX4_mean_0 5 rfl rfl)
theorem dX4_mean_8 : decode cX4_mean 8 = .ok (.iload_n 2, 1) := dk_28 (dk_at dksX4_mean_0 8 rfl rfl)
theorem dX4_mean_9 : decode cX4_mean 9 = .ok (.iconst 0, 1) := dk_3 (dk_at dksX4_mean_0 9 rfl rfl)
theorem dX4_mean_10 : decode cX4_mean 10 = .ok (.bipush 9, 2) := dk_16 9 (dk_at dksX4_mean_0 10 rfl rfl)
theorem dX4_mean_12 : decode cX4_mean 12 = .ok (.invokestatic 111, 3) := dk_184 0 111 (dk_at dksX4_mean_0 12 rfl rfl)
theorem dX4_mean_15 : decode cX4_mean 15 = .ok (.ifCond .eq 13, 3) := dk_153 0 13 (dk_at dksX4_mean_0 15 rfl rfl)
theorem dX4_mean_18 : decode cX4_mean 18 = .ok (.iload_n 3, 1) := dk_29 (dk_at dksX4_mean_0 18 rfl rfl)
theorem dX4_mean_19 : decode cX4_mean 19 = .ok (.iconst 0, 1) := dk_3 (dk_at dksX4_mean_0 19 rfl rfl)
theorem dX4_mean_20 : decode cX4_mean 20 = .ok (.bipush 9, 2) := dk_16 9 (dk_at dksX4_mean_0 20 rfl rfl)
theorem dX4_mean_22 : decode cX4_mean 22 = .ok (.invokestatic 111, 3) := dk_184 0 111 (dk_at dksX4_mean_1 0 rfl rfl)
theorem dX4_mean_25 : decode cX4_mean 25 = .ok (.ifCond .ne 5, 3) := dk_154 0 5 (dk_at dksX4_mean_1 3 rfl rfl)
theorem dX4_mean_28 : decode cX4_mean 28 = .ok (.iconst (-1), 1) := dk_2 (dk_at dksX4_mean_1 6 rfl rfl)
theorem dX4_mean_29 : decode cX4_mean 29 = .ok (.ireturn, 1) := dk_172 (dk_at dksX4_mean_1 7 rfl rfl)
theorem dX4_mean_30 : decode cX4_mean 30 = .ok (.aload_n 0, 1) := dk_42 (dk_at dksX4_mean_1 8 rfl rfl)
theorem dX4_mean_31 : decode cX4_mean 31 = .ok (.invokevirtual 115, 3) := dk_182 0 115 (dk_at dksX4_mean_1 9 rfl rfl)
theorem dX4_mean_34 : decode cX4_mean 34 = .ok (.aload_n 0, 1) := dk_42 (dk_at dksX4_mean_1 12 rfl rfl)
theorem dX4_mean_35 : decode cX4_mean 35 = .ok (.iload_n 1, 1) := dk_27 (dk_at dksX4_mean_1 13 rfl rfl)
theorem dX4_mean_36 : decode cX4_mean 36 = .ok (.bipush 40, 2) := dk_16 40 (dk_at dksX4_mean_1 14 rfl rfl)
theorem dX4_mean_38 : decode cX4_mean 38 = .ok (.iload_n 2, 1) := dk_28 (dk_at dksX4_mean_1 16 rfl rfl)
theorem dX4_mean_39 : decode cX4_mean 39 = .ok (.iadd, 1) := dk_96 (dk_at dksX4_mean_1 17 rfl rfl)
theorem dX4_mean_40 : decode cX4_mean 40 = .ok (.invokevirtual 37, 3) := dk_182 0 37 (dk_at dksX4_mean_1 18 rfl rfl)
theorem dX4_mean_43 : decode cX4_mean 43 = .ok (.istore 4, 2) := dk_54 4 (dk_at dksX4_mean_1 21 rfl rfl)
theorem dX4_mean_45 : decode cX4_mean 45 = .ok (.aload_n 0, 1) := dk_42 (dk_at dksX4_mean_1 23 rfl rfl)
theorem dX4_mean_46 : decode cX4_mean 46 = .ok (.iload_n 1, 1) := dk_27 (dk_at dksX4_mean_2 0 rfl rfl)
theorem dX4_mean_47 : decode cX4_mean 47 = .ok (.bipush 40, 2) := dk_16 40 (dk_at dksX4_mean_2 1 rfl rfl)
theorem dX4_mean_49 : decode cX4_mean 49 = .ok (.iload_n 2, 1) := dk_28 (dk_at dksX4_mean_2 3 rfl rfl)
theorem dX4_mean_50 : decode cX4_mean 50 = .ok (.iadd, 1) := dk_96 (dk_at dksX4_mean_2 4 rfl rfl)
theorem dX4_mean_51 : decode cX4_mean 51 = .ok (.iload_n 3, 1) := dk_29 (dk_at dksX4_mean_2 5 rfl rfl)
theorem dX4_mean_52 : decode cX4_mean 52 = .ok (.invokevirtual 41, 3) := dk_182 0 41 (dk_at dksX4_mean_2 6 rfl rfl)
theorem dX4_mean_55 : decode cX4_mean 55 = .ok (.aload_n 0, 1) := dk_42 (dk_at dksX4_mean_2 9 rfl rfl)
theorem dX4_mean_56 : decode cX4_mean 56 = .ok (.iload_n 1, 1) := dk_27 (dk_at dksX4_mean_2 10 rfl rfl)
theorem dX4_mean_57 : decode cX4_mean 57 = .ok (.iconst 1, 1) := dk_4 (dk_at dksX4_mean_2 11 rfl rfl)
theorem dX4_mean_58 : decode cX4_mean 58 = .ok (.iload 4, 2) := dk_21 4 (dk_at dksX4_mean_2 12 rfl rfl)
theorem dX4_mean_60 : decode cX4_mean 60 = .ok (.invokevirtual 124, 3) := dk_182 0 124 (dk_at dksX4_mean_2 14 rfl rfl)
theorem dX4_mean_63 : decode cX4_mean 63 = .ok (.ireturn, 1) := dk_172 (dk_at dksX4_mean_2 17 rfl rfl)
abbrev cX4_sign : ByteArray := prog_11_method_42_code
def yX4_sign : MethodName := ⟨RX4, "sign", "(III)I"⟩
def dkwX4_sign_1 : List UInt8 := [16, 10, 160, 0, 8, 16, 252, 167, 0, 5, 21, 4, 172]
abbrev dktX4_sign_1 : List UInt8 := dkwX4_sign_1 ++ []
def dkwX4_sign_0 : List UInt8 := [42, 27, 28, 29, 182, 0, 121, 154, 0, 5, 2, 172, 42, 27, 28, 29, 182, 0, 45, 54, 4, 21, 4]
abbrev dktX4_sign_0 : List UInt8 := dkwX4_sign_0 ++ dktX4_sign_1
theorem dksX4_sign_0 : cX4_sign.data.toList.drop 0 = dktX4_sign_0 := by decide +kernel
theorem dksX4_sign_1 : cX4_sign.data.toList.drop 23 = dktX4_sign_1 := dk_seg dksX4_sign_0 23 rfl rfl
theorem dX4_sign_0 : decode cX4_sign 0 = .ok (.aload_n 0, 1) := dk_42 (dk_at dksX4_sign_0 0 rfl rfl)
theorem dX4_sign_1 : decode cX4_sign 1 = .ok (.iload_n 1, 1) := dk_27 (dk_at dksX4_sign_0 1 rfl rfl)
theorem dX4_sign_2 : decode cX4_sign 2 = .ok (.iload_n 2, 1) := dk_28 (dk_at dksX4_sign_0 2 rfl rfl)
theorem dX4_sign_3 : decode cX4_sign 3 = .ok (.iload_n 3, 1) := dk_29 (dk_at dksX4_sign_0 3 rfl rfl)
theorem dX4_sign_4 : decode cX4_sign 4 = .ok (.invokevirtual 121, 3) := dk_182 0 121 (dk_at dksX4_sign_0 4 rfl rfl)
theorem dX4_sign_7 : decode cX4_sign 7 = .ok (.ifCond .ne 5, 3) := dk_154 0 5 (dk_at dksX4_sign_0 7 rfl rfl)
theorem dX4_sign_10 : decode cX4_sign 10 = .ok (.iconst (-1), 1) := dk_2 (dk_at dksX4_sign_0 10 rfl rfl)
theorem dX4_sign_11 : decode cX4_sign 11 = .ok (.ireturn, 1) := dk_172 (dk_at dksX4_sign_0 11 rfl rfl)
theorem dX4_sign_12 : decode cX4_sign 12 = .ok (.aload_n 0, 1) := dk_42 (dk_at dksX4_sign_0 12 rfl rfl)
theorem dX4_sign_13 : decode cX4_sign 13 = .ok (.iload_n 1, 1) := dk_27 (dk_at dksX4_sign_0 13 rfl rfl)
theorem dX4_sign_14 : decode cX4_sign 14 = .ok (.iload_n 2, 1) := dk_28 (dk_at dksX4_sign_0 14 rfl rfl)
theorem dX4_sign_15 : decode cX4_sign 15 = .ok (.iload_n 3, 1) := dk_29 (dk_at dksX4_sign_0 15 rfl rfl)
theorem dX4_sign_16 : decode cX4_sign 16 = .ok (.invokevirtual 45, 3) := dk_182 0 45 (dk_at dksX4_sign_0 16 rfl rfl)
theorem dX4_sign_19 : decode cX4_sign 19 = .ok (.istore 4, 2) := dk_54 4 (dk_at dksX4_sign_0 19 rfl rfl)
theorem dX4_sign_21 : decode cX4_sign 21 = .ok (.iload 4, 2) := dk_21 4 (dk_at dksX4_sign_0 21 rfl rfl)
theorem dX4_sign_23 : decode cX4_sign 23 = .ok (.bipush 10, 2) := dk_16 10 (dk_at dksX4_sign_1 0 rfl rfl)
theorem dX4_sign_25 : decode cX4_sign 25 = .ok (.if_icmp .ne 8, 3) := dk_160 0 8 (dk_at dksX4_sign_1 2 rfl rfl)
theorem dX4_sign_28 : decode cX4_sign 28 = .ok (.bipush (-4), 2) := dk_16 252 (dk_at dksX4_sign_1 5 rfl rfl)
theorem dX4_sign_30 : decode cX4_sign 30 = .ok (.goto 5, 3) := dk_167 0 5 (dk_at dksX4_sign_1 7 rfl rfl)
theorem dX4_sign_33 : decode cX4_sign 33 = .ok (.iload 4, 2) := dk_21 4 (dk_at dksX4_sign_1 10 rfl rfl)
theorem dX4_sign_35 : decode cX4_sign 35 = .ok (.ireturn, 1) := dk_172 (dk_at dksX4_sign_1 12 rfl rfl)
abbrev cX4_meaning : ByteArray := prog_11_method_43_code
def yX4_meaning : MethodName := ⟨RX4, "meaning", "(II)I"⟩
def dkwX4_meaning_1 : List UInt8 := [182, 0, 37, 167, 0, 4, 2, 172]
abbrev dktX4_meaning_1 : List UInt8 := dkwX4_meaning_1 ++ []
def dkwX4_meaning_0 : List UInt8 := [42, 27, 182, 0, 118, 153, 0, 25, 28, 3, 16, 9, 184, 0, 111, 153, 0, 15, 42, 27, 16, 40, 28, 96]
abbrev dktX4_meaning_0 : List UInt8 := dkwX4_meaning_0 ++ dktX4_meaning_1
theorem dksX4_meaning_0 : cX4_meaning.data.toList.drop 0 = dktX4_meaning_0 := by decide +kernel
theorem dksX4_meaning_1 : cX4_meaning.data.toList.drop 24 = dktX4_meaning_1 := dk_seg dksX4_meaning_0 24 rfl rfl
theorem dX4_meaning_0 : decode cX4_meaning 0 = .ok (.aload_n 0, 1) := dk_42 (dk_at dksX4_meaning_0 0 rfl rfl)
theorem dX4_meaning_1 : decode cX4_meaning 1 = .ok (.iload_n 1, 1) := dk_27 (dk_at dksX4_meaning_0 1 rfl rfl)
theorem dX4_meaning_2 : decode cX4_meaning 2 = .ok (.invokevirtual 118, 3) := dk_182 0 118 (dk_at dksX4_meaning_0 2 rfl rfl)
theorem dX4_meaning_5 : decode cX4_meaning 5 = .ok (.ifCond .eq 25, 3) := dk_153 0 25 (dk_at dksX4_meaning_0 5 rfl rfl)
theorem dX4_meaning_8 : decode cX4_meaning 8 = .ok (.iload_n 2, 1) := dk_28 (dk_at dksX4_meaning_0 8 rfl rfl)
theorem dX4_meaning_9 : decode cX4_meaning 9 = .ok (.iconst 0, 1) := dk_3 (dk_at dksX4_meaning_0 9 rfl rfl)
theorem dX4_meaning_10 : decode cX4_meaning 10 = .ok (.bipush 9, 2) := dk_16 9 (dk_at dksX4_meaning_0 10 rfl rfl)
theorem dX4_meaning_12 : decode cX4_meaning 12 = .ok (.invokestatic 111, 3) := dk_184 0 111 (dk_at dksX4_meaning_0 12 rfl rfl)
theorem dX4_meaning_15 : decode cX4_meaning 15 = .ok (.ifCond .eq 15, 3) := dk_153 0 15 (dk_at dksX4_meaning_0 15 rfl rfl)
theorem dX4_meaning_18 : decode cX4_meaning 18 = .ok (.aload_n 0, 1) := dk_42 (dk_at dksX4_meaning_0 18 rfl rfl)
theorem dX4_meaning_19 : decode cX4_meaning 19 = .ok (.iload_n 1, 1) := dk_27 (dk_at dksX4_meaning_0 19 rfl rfl)
theorem dX4_meaning_20 : decode cX4_meaning 20 = .ok (.bipush 40, 2) := dk_16 40 (dk_at dksX4_meaning_0 20 rfl rfl)
theorem dX4_meaning_22 : decode cX4_meaning 22 = .ok (.iload_n 2, 1) := dk_28 (dk_at dksX4_meaning_0 22 rfl rfl)
theorem dX4_meaning_23 : decode cX4_meaning 23 = .ok (.iadd, 1) := dk_96 (dk_at dksX4_meaning_0 23 rfl rfl)
theorem dX4_meaning_24 : decode cX4_meaning 24 = .ok (.invokevirtual 37, 3) := dk_182 0 37 (dk_at dksX4_meaning_1 0 rfl rfl)
theorem dX4_meaning_27 : decode cX4_meaning 27 = .ok (.goto 4, 3) := dk_167 0 4 (dk_at dksX4_meaning_1 3 rfl rfl)
theorem dX4_meaning_30 : decode cX4_meaning 30 = .ok (.iconst (-1), 1) := dk_2 (dk_at dksX4_meaning_1 6 rfl rfl)
theorem dX4_meaning_31 : decode cX4_meaning 31 = .ok (.ireturn, 1) := dk_172 (dk_at dksX4_meaning_1 7 rfl rfl)
abbrev cX4_sheet : ByteArray := prog_11_method_47_code
def yX4_sheet : MethodName := ⟨RX4, "sheet", "(II)I"⟩
def dkwX4_sheet_5 : List UInt8 := [16, 50, 28, 96, 7, 100, 182, 0, 37, 172]
abbrev dktX4_sheet_5 : List UInt8 := dkwX4_sheet_5 ++ []
def dkwX4_sheet_4 : List UInt8 := [3, 172, 42, 27, 16, 52, 182, 0, 37, 172, 42, 27, 182, 0, 138, 172, 42, 27, 182, 0, 141, 172, 42, 27]
abbrev dktX4_sheet_4 : List UInt8 := dkwX4_sheet_4 ++ dktX4_sheet_5
def dkwX4_sheet_3 : List UInt8 := [160, 0, 7, 4, 167, 0, 4, 3, 182, 0, 131, 172, 42, 27, 182, 0, 135, 153, 0, 7, 4, 167, 0, 4]
abbrev dktX4_sheet_3 : List UInt8 := dkwX4_sheet_3 ++ dktX4_sheet_4
def dkwX4_sheet_2 : List UInt8 := [27, 42, 180, 0, 7, 3, 46, 112, 172, 27, 42, 180, 0, 7, 3, 46, 108, 172, 42, 27, 28, 6]
abbrev dktX4_sheet_2 : List UInt8 := dkwX4_sheet_2 ++ dktX4_sheet_3
def dkwX4_sheet_1 : List UInt8 := [170, 0, 0, 0, 0, 0, 123, 0, 0, 0, 0, 0, 0, 0, 9, 0, 0, 0, 55, 0, 0, 0, 64, 0, 0, 0, 73, 0, 0, 0, 73, 0, 0, 0, 123, 0, 0, 0, 123, 0, 0, 0, 89, 0, 0, 0, 103, 0, 0, 0, 111, 0, 0, 0, 117]
abbrev dktX4_sheet_1 : List UInt8 := dkwX4_sheet_1 ++ dktX4_sheet_2
def dkwX4_sheet_0 : List UInt8 := [42, 27, 182, 0, 118, 153, 0, 13, 28, 3, 16, 9, 184, 0, 111, 154, 0, 5, 2, 172, 28]
abbrev dktX4_sheet_0 : List UInt8 := dkwX4_sheet_0 ++ dktX4_sheet_1
theorem dksX4_sheet_0 : cX4_sheet.data.toList.drop 0 = dktX4_sheet_0 := by decide +kernel
theorem dksX4_sheet_1 : cX4_sheet.data.toList.drop 21 = dktX4_sheet_1 := dk_seg dksX4_sheet_0 21 rfl rfl
theorem dksX4_sheet_2 : cX4_sheet.data.toList.drop 76 = dktX4_sheet_2 := dk_seg dksX4_sheet_1 55 rfl rfl
theorem dksX4_sheet_3 : cX4_sheet.data.toList.drop 98 = dktX4_sheet_3 := dk_seg dksX4_sheet_2 22 rfl rfl
theorem dksX4_sheet_4 : cX4_sheet.data.toList.drop 122 = dktX4_sheet_4 := dk_seg dksX4_sheet_3 24 rfl rfl
theorem dksX4_sheet_5 : cX4_sheet.data.toList.drop 146 = dktX4_sheet_5 := dk_seg dksX4_sheet_4 24 rfl rfl
theorem dX4_sheet_0 : decode cX4_sheet 0 = .ok (.aload_n 0, 1) := dk_42 (dk_at dksX4_sheet_0 0 rfl rfl)
theorem dX4_sheet_1 : decode cX4_sheet 1 = .ok (.iload_n 1, 1) := dk_27 (dk_at dksX4_sheet_0 1 rfl rfl)
theorem dX4_sheet_2 : decode cX4_sheet 2 = .ok (.invokevirtual 118, 3) := dk_182 0 118 (dk_at dksX4_sheet_0 2 rfl rfl)
theorem dX4_sheet_5 : decode cX4_sheet 5 = .ok (.ifCond .eq 13, 3) := dk_153 0 13 (dk_at dksX4_sheet_0 5 rfl rfl)
theorem dX4_sheet_8 : decode cX4_sheet 8 = .ok (.iload_n 2, 1) := dk_28 (dk_at dksX4_sheet_0 8 rfl rfl)
theorem dX4_sheet_9 : decode cX4_sheet 9 = .ok (.iconst 0, 1) := dk_3 (dk_at dksX4_sheet_0 9 rfl rfl)
theorem dX4_sheet_10 : decode cX4_sheet 10 = .ok (.bipush 9, 2) := dk_16 9 (dk_at dksX4_sheet_0 10 rfl rfl)
theorem dX4_sheet_12 : decode cX4_sheet 12 = .ok (.invokestatic 111, 3) := dk_184 0 111 (dk_at dksX4_sheet_0 12 rfl rfl)
theorem dX4_sheet_15 : decode cX4_sheet 15 = .ok (.ifCond .ne 5, 3) := dk_154 0 5 (dk_at dksX4_sheet_0 15 rfl rfl)
theorem dX4_sheet_18 : decode cX4_sheet 18 = .ok (.iconst (-1), 1) := dk_2 (dk_at dksX4_sheet_0 18 rfl rfl)
theorem dX4_sheet_19 : decode cX4_sheet 19 = .ok (.ireturn, 1) := dk_172 (dk_at dksX4_sheet_0 19 rfl rfl)
theorem dX4_sheet_20 : decode cX4_sheet 20 = .ok (.iload_n 2, 1) := dk_28 (dk_at dksX4_sheet_0 20 rfl rfl)
theorem dX4_sheet_21 : decode cX4_sheet 21 = .ok (.tableswitch 123 0 9 #[55, 64, 73, 73, 123, 123, 89, 103, 111, 117], 55) := by decide +kernel
theorem dX4_sheet_76 : decode cX4_sheet 76 = .ok (.iload_n 1, 1) := dk_27 (dk_at dksX4_sheet_2 0 rfl rfl)
theorem dX4_sheet_77 : decode cX4_sheet 77 = .ok (.aload_n 0, 1) := dk_42 (dk_at dksX4_sheet_2 1 rfl rfl)
theorem dX4_sheet_78 : decode cX4_sheet 78 = .ok (.getfield 7, 3) := dk_180 0 7 (dk_at dksX4_sheet_2 2 rfl rfl)
theorem dX4_sheet_81 : decode cX4_sheet 81 = .ok (.iconst 0, 1) := dk_3 (dk_at dksX4_sheet_2 5 rfl rfl)
theorem dX4_sheet_82 : decode cX4_sheet 82 = .ok (.iaload, 1) := dk_46 (dk_at dksX4_sheet_2 6 rfl rfl)
theorem dX4_sheet_83 : decode cX4_sheet 83 = .ok (.irem, 1) := dk_112 (dk_at dksX4_sheet_2 7 rfl rfl)
theorem dX4_sheet_84 : decode cX4_sheet 84 = .ok (.ireturn, 1) := dk_172 (dk_at dksX4_sheet_2 8 rfl rfl)
theorem dX4_sheet_85 : decode cX4_sheet 85 = .ok (.iload_n 1, 1) := dk_27 (dk_at dksX4_sheet_2 9 rfl rfl)
theorem dX4_sheet_86 : decode cX4_sheet 86 = .ok (.aload_n 0, 1) := dk_42 (dk_at dksX4_sheet_2 10 rfl rfl)
theorem dX4_sheet_87 : decode cX4_sheet 87 = .ok (.getfield 7, 3) := dk_180 0 7 (dk_at dksX4_sheet_2 11 rfl rfl)
theorem dX4_sheet_90 : decode cX4_sheet 90 = .ok (.iconst 0, 1) := dk_3 (dk_at dksX4_sheet_2 14 rfl rfl)
theorem dX4_sheet_91 : decode cX4_sheet 91 = .ok (.iaload, 1) := dk_46 (dk_at dksX4_sheet_2 15 rfl rfl)
theorem dX4_sheet_92 : decode cX4_sheet 92 = .ok (.idiv, 1) := dk_108 (dk_at dksX4_sheet_2 16 rfl rfl)
theorem dX4_sheet_93 : decode cX4_sheet 93 = .ok (.ireturn, 1) := dk_172 (dk_at dksX4_sheet_2 17 rfl rfl)
theorem dX4_sheet_94 : decode cX4_sheet 94 = .ok (.aload_n 0, 1) := dk_42 (dk_at dksX4_sheet_2 18 rfl rfl)
theorem dX4_sheet_95 : decode cX4_sheet 95 = .ok (.iload_n 1, 1) := dk_27 (dk_at dksX4_sheet_2 19 rfl rfl)
theorem dX4_sheet_96 : decode cX4_sheet 96 = .ok (.iload_n 2, 1) := dk_28 (dk_at dksX4_sheet_2 20 rfl rfl)
theorem dX4_sheet_97 : decode cX4_sheet 97 = .ok (.iconst 3, 1) := dk_6 (dk_at dksX4_sheet_2 21 rfl rfl)
theorem dX4_sheet_98 : decode cX4_sheet 98 = .ok (.if_icmp .ne 7, 3) := dk_160 0 7 (dk_at dksX4_sheet_3 0 rfl rfl)
theorem dX4_sheet_101 : decode cX4_sheet 101 = .ok (.iconst 1, 1) := dk_4 (dk_at dksX4_sheet_3 3 rfl rfl)
theorem dX4_sheet_102 : decode cX4_sheet 102 = .ok (.goto 4, 3) := dk_167 0 4 (dk_at dksX4_sheet_3 4 rfl rfl)
theorem dX4_sheet_105 : decode cX4_sheet 105 = .ok (.iconst 0, 1) := dk_3 (dk_at dksX4_sheet_3 7 rfl rfl)
theorem dX4_sheet_106 : decode cX4_sheet 106 = .ok (.invokevirtual 131, 3) := dk_182 0 131 (dk_at dksX4_sheet_3 8 rfl rfl)
theorem dX4_sheet_109 : decode cX4_sheet 109 = .ok (.ireturn, 1) := dk_172 (dk_at dksX4_sheet_3 11 rfl rfl)
theorem dX4_sheet_110 : decode cX4_sheet 110 = .ok (.aload_n 0, 1) := dk_42 (dk_at dksX4_sheet_3 12 rfl rfl)
theorem dX4_sheet_111 : decode cX4_sheet 111 = .ok (.iload_n 1, 1) := dk_27 (dk_at dksX4_sheet_3 13 rfl rfl)
theorem dX4_sheet_112 : decode cX4_sheet 112 = .ok (.invokevirtual 135, 3) := dk_182 0 135 (dk_at dksX4_sheet_3 14 rfl rfl)
theorem dX4_sheet_115 : decode cX4_sheet 115 = .ok (.ifCond .eq 7, 3) := dk_153 0 7 (dk_at dksX4_sheet_3 17 rfl rfl)
theorem dX4_sheet_118 : decode cX4_sheet 118 = .ok (.iconst 1, 1) := dk_4 (dk_at dksX4_sheet_3 20 rfl rfl)
theorem dX4_sheet_119 : decode cX4_sheet 119 = .ok (.goto 4, 3) := dk_167 0 4 (dk_at dksX4_sheet_3 21 rfl rfl)
theorem dX4_sheet_122 : decode cX4_sheet 122 = .ok (.iconst 0, 1) := dk_3 (dk_at dksX4_sheet_4 0 rfl rfl)
theorem dX4_sheet_123 : decode cX4_sheet 123 = .ok (.ireturn, 1) := dk_172 (dk_at dksX4_sheet_4 1 rfl rfl)
theorem dX4_sheet_124 : decode cX4_sheet 124 = .ok (.aload_n 0, 1) := dk_42 (dk_at dksX4_sheet_4 2 rfl rfl)
theorem dX4_sheet_125 : decode cX4_sheet 125 = .ok (.iload_n 1, 1) := dk_27 (dk_at dksX4_sheet_4 3 rfl rfl)
theorem dX4_sheet_126 : decode cX4_sheet 126 = .ok (.bipush 52, 2) := dk_16 52 (dk_at dksX4_sheet_4 4 rfl rfl)
theorem dX4_sheet_128 : decode cX4_sheet 128 = .ok (.invokevirtual 37, 3) := dk_182 0 37 (dk_at dksX4_sheet_4 6 rfl rfl)
theorem dX4_sheet_131 : decode cX4_sheet 131 = .ok (.ireturn, 1) := dk_172 (dk_at dksX4_sheet_4 9 rfl rfl)
theorem dX4_sheet_132 : decode cX4_sheet 132 = .ok (.aload_n 0, 1) := dk_42 (dk_at dksX4_sheet_4 10 rfl rfl)
theorem dX4_sheet_133 : decode cX4_sheet 133 = .ok (.iload_n 1, 1) := dk_27 (dk_at dksX4_sheet_4 11 rfl rfl)
theorem dX4_sheet_134 : decode cX4_sheet 134 = .ok (.invokevirtual 138, 3) := dk_182 0 138 (dk_at dksX4_sheet_4 12 rfl rfl)
theorem dX4_sheet_137 : decode cX4_sheet 137 = .ok (.ireturn, 1) := dk_172 (dk_at dksX4_sheet_4 15 rfl rfl)
theorem dX4_sheet_138 : decode cX4_sheet 138 = .ok (.aload_n 0, 1) := dk_42 (dk_at dksX4_sheet_4 16 rfl rfl)
theorem dX4_sheet_139 : decode cX4_sheet 139 = .ok (.iload_n 1, 1) := dk_27 (dk_at dksX4_sheet_4 17 rfl rfl)
theorem dX4_sheet_140 : decode cX4_sheet 140 = .ok (.invokevirtual 141, 3) := dk_182 0 141 (dk_at dksX4_sheet_4 18 rfl rfl)
theorem dX4_sheet_143 : decode cX4_sheet 143 = .ok (.ireturn, 1) := dk_172 (dk_at dksX4_sheet_4 21 rfl rfl)
theorem dX4_sheet_144 : decode cX4_sheet 144 = .ok (.aload_n 0, 1) := dk_42 (dk_at dksX4_sheet_4 22 rfl rfl)
theorem dX4_sheet_145 : decode cX4_sheet 145 = .ok (.iload_n 1, 1) := dk_27 (dk_at dksX4_sheet_4 23 rfl rfl)
theorem dX4_sheet_146 : decode cX4_sheet 146 = .ok (.bipush 50, 2) := dk_16 50 (dk_at dksX4_sheet_5 0 rfl rfl)
theorem dX4_sheet_148 : decode cX4_sheet 148 = .ok (.iload_n 2, 1) := dk_28 (dk_at dksX4_sheet_5 2 rfl rfl)
theorem dX4_sheet_149 : decode cX4_sheet 149 = .ok (.iadd, 1) := dk_96 (dk_at dksX4_sheet_5 3 rfl rfl)
theorem dX4_sheet_150 : decode cX4_sheet 150 = .ok (.iconst 4, 1) := dk_7 (dk_at dksX4_sheet_5 4 rfl rfl)
theorem dX4_sheet_151 : decode cX4_sheet 151 = .ok (.isub, 1) := dk_100 (dk_at dksX4_sheet_5 5 rfl rfl)
theorem dX4_sheet_152 : decode cX4_sheet 152 = .ok (.invokevirtual 37, 3) := dk_182 0 37 (dk_at dksX4_sheet_5 6 rfl rfl)
theorem dX4_sheet_155 : decode cX4_sheet 155 = .ok (.ireturn, 1) := dk_172 (dk_at dksX4_sheet_5 9 rfl rfl)
abbrev cX4_edgesOf : ByteArray := prog_11_method_44_code
def yX4_edgesOf : MethodName := ⟨RX4, "edgesOf", "(IZ)I"⟩
def dkwX4_edgesOf_2 : List UInt8 := [62, 132, 4, 1, 167, 255, 210, 29, 172]
abbrev dktX4_edgesOf_2 : List UInt8 := dkwX4_edgesOf_2 ++ []
def dkwX4_edgesOf_1 : List UInt8 := [16, 252, 159, 0, 20, 28, 153, 0, 12, 42, 21, 5, 182, 0, 77, 153, 0, 7, 4, 167, 0, 4, 3, 96]
abbrev dktX4_edgesOf_1 : List UInt8 := dkwX4_edgesOf_1 ++ dktX4_edgesOf_2
def dkwX4_edgesOf_0 : List UInt8 := [3, 62, 3, 54, 4, 21, 4, 7, 162, 0, 46, 42, 27, 21, 4, 182, 0, 128, 54, 5, 29, 21, 5]
abbrev dktX4_edgesOf_0 : List UInt8 := dkwX4_edgesOf_0 ++ dktX4_edgesOf_1
theorem dksX4_edgesOf_0 : cX4_edgesOf.data.toList.drop 0 = dktX4_edgesOf_0 := by decide +kernel
theorem dksX4_edgesOf_1 : cX4_edgesOf.data.toList.drop 23 = dktX4_edgesOf_1 := dk_seg dksX4_edgesOf_0 23 rfl rfl
theorem dksX4_edgesOf_2 : cX4_edgesOf.data.toList.drop 47 = dktX4_edgesOf_2 := dk_seg dksX4_edgesOf_1 24 rfl rfl
theorem dX4_edgesOf_0 : decode cX4_edgesOf 0 = .ok (.iconst 0, 1) := dk_3 (dk_at dksX4_edgesOf_0 0 rfl rfl)
theorem dX4_edgesOf_1 : decode cX4_edgesOf 1 = .ok (.istore_n 3, 1) := dk_62 (dk_at dksX4_edgesOf_0 1 rfl rfl)
theorem dX4_edgesOf_2 : decode cX4_edgesOf 2 = .ok (.iconst 0, 1) := dk_3 (dk_at dksX4_edgesOf_0 2 rfl rfl)
theorem dX4_edgesOf_3 : decode cX4_edgesOf 3 = .ok (.istore 4, 2) := dk_54 4 (dk_at dksX4_edgesOf_0 3 rfl rfl)
theorem dX4_edgesOf_5 : decode cX4_edgesOf 5 = .ok (.iload 4, 2) := dk_21 4 (dk_at dksX4_edgesOf_0 5 rfl rfl)
theorem dX4_edgesOf_7 : decode cX4_edgesOf 7 = .ok (.iconst 4, 1) := dk_7 (dk_at dksX4_edgesOf_0 7 rfl rfl)
theorem dX4_edgesOf_8 : decode cX4_edgesOf 8 = .ok (.if_icmp .ge 46, 3) := dk_162 0 46 (dk_at dksX4_edgesOf_0 8 rfl rfl)
theorem dX4_edgesOf_11 : decode cX4_edgesOf 11 = .ok (.aload_n 0, 1) := dk_42 (dk_at dksX4_edgesOf_0 11 rfl rfl)
theorem dX4_edgesOf_12 : decode cX4_edgesOf 12 = .ok (.iload_n 1, 1) := dk_27 (dk_at dksX4_edgesOf_0 12 rfl rfl)
theorem dX4_edgesOf_13 : decode cX4_edgesOf 13 = .ok (.iload 4, 2) := dk_21 4 (dk_at dksX4_edgesOf_0 13 rfl rfl)
theorem dX4_edgesOf_15 : decode cX4_edgesOf 15 = .ok (.invokevirtual 128, 3) := dk_182 0 128 (dk_at dksX4_edgesOf_0 15 rfl rfl)
theorem dX4_edgesOf_18 : decode cX4_edgesOf 18 = .ok (.istore 5, 2) := dk_54 5 (dk_at dksX4_edgesOf_0 18 rfl rfl)
theorem dX4_edgesOf_20 : decode cX4_edgesOf 20 = .ok (.iload_n 3, 1) := dk_29 (dk_at dksX4_edgesOf_0 20 rfl rfl)
theorem dX4_edgesOf_21 : decode cX4_edgesOf 21 = .ok (.iload 5, 2) := dk_21 5 (dk_at dksX4_edgesOf_0 21 rfl rfl)
theorem dX4_edgesOf_23 : decode cX4_edgesOf 23 = .ok (.bipush (-4), 2) := dk_16 252 (dk_at dksX4_edgesOf_1 0 rfl rfl)
theorem dX4_edgesOf_25 : decode cX4_edgesOf 25 = .ok (.if_icmp .eq 20, 3) := dk_159 0 20 (dk_at dksX4_edgesOf_1 2 rfl rfl)
theorem dX4_edgesOf_28 : decode cX4_edgesOf 28 = .ok (.iload_n 2, 1) := dk_28 (dk_at dksX4_edgesOf_1 5 rfl rfl)
theorem dX4_edgesOf_29 : decode cX4_edgesOf 29 = .ok (.ifCond .eq 12, 3) := dk_153 0 12 (dk_at dksX4_edgesOf_1 6 rfl rfl)
theorem dX4_edgesOf_32 : decode cX4_edgesOf 32 = .ok (.aload_n 0, 1) := dk_42 (dk_at dksX4_edgesOf_1 9 rfl rfl)
theorem dX4_edgesOf_33 : decode cX4_edgesOf 33 = .ok (.iload 5, 2) := dk_21 5 (dk_at dksX4_edgesOf_1 10 rfl rfl)
theorem dX4_edgesOf_35 : decode cX4_edgesOf 35 = .ok (.invokevirtual 77, 3) := dk_182 0 77 (dk_at dksX4_edgesOf_1 12 rfl rfl)
theorem dX4_edgesOf_38 : decode cX4_edgesOf 38 = .ok (.ifCond .eq 7, 3) := dk_153 0 7 (dk_at dksX4_edgesOf_1 15 rfl rfl)
theorem dX4_edgesOf_41 : decode cX4_edgesOf 41 = .ok (.iconst 1, 1) := dk_4 (dk_at dksX4_edgesOf_1 18 rfl rfl)
theorem dX4_edgesOf_42 : decode cX4_edgesOf 42 = .ok (.goto 4, 3) := dk_167 0 4 (dk_at dksX4_edgesOf_1 19 rfl rfl)
theorem dX4_edgesOf_45 : decode cX4_edgesOf 45 = .ok (.iconst 0, 1) := dk_3 (dk_at dksX4_edgesOf_1 22 rfl rfl)
theorem dX4_edgesOf_46 : decode cX4_edgesOf 46 = .ok (.iadd, 1) := dk_96 (dk_at dksX4_edgesOf_1 23 rfl rfl)
theorem dX4_edgesOf_47 : decode cX4_edgesOf 47 = .ok (.istore_n 3, 1) := dk_62 (dk_at dksX4_edgesOf_2 0 rfl rfl)
theorem dX4_edgesOf_48 : decode cX4_edgesOf 48 = .ok (.iinc 4 1, 3) := dk_132 4 1 (dk_at dksX4_edgesOf_2 1 rfl rfl)
theorem dX4_edgesOf_51 : decode cX4_edgesOf 51 = .ok (.goto (-46), 3) := dk_167 255 210 (dk_at dksX4_edgesOf_2 4 rfl rfl)
theorem dX4_edgesOf_54 : decode cX4_edgesOf 54 = .ok (.iload_n 3, 1) := dk_29 (dk_at dksX4_edgesOf_2 7 rfl rfl)
theorem dX4_edgesOf_55 : decode cX4_edgesOf 55 = .ok (.ireturn, 1) := dk_172 (dk_at dksX4_edgesOf_2 8 rfl rfl)
abbrev cX4_edgeOf : ByteArray := prog_11_method_21_code
def yX4_edgeOf : MethodName := ⟨RX4, "edgeOf", "(II)I"⟩
def dkwX4_edgeOf_5 : List UInt8 := [21, 5, 29, 4, 100, 104, 21, 4, 96, 4, 100, 167, 0, 5, 16, 252, 172]
abbrev dktX4_edgeOf_5 : List UInt8 := dkwX4_edgeOf_5 ++ []
def dkwX4_edgeOf_4 : List UInt8 := [4, 46, 4, 100, 162, 0, 12, 42, 182, 0, 49, 27, 96, 167, 0, 5, 16, 252, 172, 21, 4, 158, 0, 17]
abbrev dktX4_edgeOf_4 : List UInt8 := dkwX4_edgeOf_4 ++ dktX4_edgeOf_5
def dkwX4_edgeOf_3 : List UInt8 := [162, 0, 15, 21, 5, 29, 4, 100, 104, 21, 4, 96, 167, 0, 5, 16, 252, 172, 21, 5, 42, 180, 0, 7]
abbrev dktX4_edgeOf_3 : List UInt8 := dkwX4_edgeOf_3 ++ dktX4_edgeOf_4
def dkwX4_edgeOf_2 : List UInt8 := [21, 5, 158, 0, 14, 42, 182, 0, 49, 27, 96, 29, 100, 167, 0, 5, 16, 252, 172, 21, 4, 29, 4, 100]
abbrev dktX4_edgeOf_2 : List UInt8 := dkwX4_edgeOf_2 ++ dktX4_edgeOf_3
def dkwX4_edgeOf_1 : List UInt8 := [170, 0, 0, 0, 0, 93, 0, 0, 0, 0, 0, 0, 0, 2, 0, 0, 0, 26, 0, 0, 0, 45, 0, 0, 0, 68]
abbrev dktX4_edgeOf_1 : List UInt8 := dkwX4_edgeOf_1 ++ dktX4_edgeOf_2
def dkwX4_edgeOf_0 : List UInt8 := [42, 180, 0, 7, 3, 46, 62, 27, 29, 112, 54, 4, 27, 29, 108, 54, 5, 28]
abbrev dktX4_edgeOf_0 : List UInt8 := dkwX4_edgeOf_0 ++ dktX4_edgeOf_1
theorem dksX4_edgeOf_0 : cX4_edgeOf.data.toList.drop 0 = dktX4_edgeOf_0 := by decide +kernel
theorem dksX4_edgeOf_1 : cX4_edgeOf.data.toList.drop 18 = dktX4_edgeOf_1 := dk_seg dksX4_edgeOf_0 18 rfl rfl
theorem dksX4_edgeOf_2 : cX4_edgeOf.data.toList.drop 44 = dktX4_edgeOf_2 := dk_seg dksX4_edgeOf_1 26 rfl rfl
theorem dksX4_edgeOf_3 : cX4_edgeOf.data.toList.drop 68 = dktX4_edgeOf_3 := dk_seg dksX4_edgeOf_2 24 rfl rfl
theorem dksX4_edgeOf_4 : cX4_edgeOf.data.toList.drop 92 = dktX4_edgeOf_4 := dk_seg dksX4_edgeOf_3 24 rfl rfl
theorem dksX4_edgeOf_5 : cX4_edgeOf.data.toList.drop 116 = dktX4_edgeOf_5 := dk_seg dksX4_edgeOf_4 24 rfl rfl
theorem dX4_edgeOf_0 : decode cX4_edgeOf 0 = .ok (.aload_n 0, 1) := dk_42 (dk_at dksX4_edgeOf_0 0 rfl rfl)
theorem dX4_edgeOf_1 : decode cX4_edgeOf 1 = .ok (.getfield 7, 3) := dk_180 0 7 (dk_at dksX4_edgeOf_0 1 rfl rfl)
theorem dX4_edgeOf_4 : decode cX4_edgeOf 4 = .ok (.iconst 0, 1) := dk_3 (dk_at dksX4_edgeOf_0 4 rfl rfl)
theorem dX4_edgeOf_5 : decode cX4_edgeOf 5 = .ok (.iaload, 1) := dk_46 (dk_at dksX4_edgeOf_0 5 rfl rfl)
theorem dX4_edgeOf_6 : decode cX4_edgeOf 6 = .ok (.istore_n 3, 1) := dk_62 (dk_at dksX4_edgeOf_0 6 rfl rfl)
theorem dX4_edgeOf_7 : decode cX4_edgeOf 7 = .ok (.iload_n 1, 1) := dk_27 (dk_at dksX4_edgeOf_0 7 rfl rfl)
theorem dX4_edgeOf_8 : decode cX4_edgeOf 8 = .ok (.iload_n 3, 1) := dk_29 (dk_at dksX4_edgeOf_0 8 rfl rfl)
theorem dX4_edgeOf_9 : decode cX4_edgeOf 9 = .ok (.irem, 1) := dk_112 (dk_at dksX4_edgeOf_0 9 rfl rfl)
theorem dX4_edgeOf_10 : decode cX4_edgeOf 10 = .ok (.istore 4, 2) := dk_54 4 (dk_at dksX4_edgeOf_0 10 rfl rfl)
theorem dX4_edgeOf_12 : decode cX4_edgeOf 12 = .ok (.iload_n 1, 1) := dk_27 (dk_at dksX4_edgeOf_0 12 rfl rfl)
theorem dX4_edgeOf_13 : decode cX4_edgeOf 13 = .ok (.iload_n 3, 1) := dk_29 (dk_at dksX4_edgeOf_0 13 rfl rfl)
theorem dX4_edgeOf_14 : decode cX4_edgeOf 14 = .ok (.idiv, 1) := dk_108 (dk_at dksX4_edgeOf_0 14 rfl rfl)
theorem dX4_edgeOf_15 : decode cX4_edgeOf 15 = .ok (.istore 5, 2) := dk_54 5 (dk_at dksX4_edgeOf_0 15 rfl rfl)
theorem dX4_edgeOf_17 : decode cX4_edgeOf 17 = .ok (.iload_n 2, 1) := dk_28 (dk_at dksX4_edgeOf_0 17 rfl rfl)
theorem dX4_edgeOf_18 : decode cX4_edgeOf 18 = .ok (.tableswitch 93 0 2 #[26, 45, 68], 26) := by decide +kernel
theorem dX4_edgeOf_44 : decode cX4_edgeOf 44 = .ok (.iload 5, 2) := dk_21 5 (dk_at dksX4_edgeOf_2 0 rfl rfl)
theorem dX4_edgeOf_46 : decode cX4_edgeOf 46 = .ok (.ifCond .le 14, 3) := dk_158 0 14 (dk_at dksX4_edgeOf_2 2 rfl rfl)
theorem dX4_edgeOf_49 : decode cX4_edgeOf 49 = .ok (.aload_n 0, 1) := dk_42 (dk_at dksX4_edgeOf_2 5 rfl rfl)
theorem dX4_edgeOf_50 : decode cX4_edgeOf 50 = .ok (.invokevirtual 49, 3) := dk_182 0 49 (dk_at dksX4_edgeOf_2 6 rfl rfl)
theorem dX4_edgeOf_53 : decode cX4_edgeOf 53 = .ok (.iload_n 1, 1) := dk_27 (dk_at dksX4_edgeOf_2 9 rfl rfl)
theorem dX4_edgeOf_54 : decode cX4_edgeOf 54 = .ok (.iadd, 1) := dk_96 (dk_at dksX4_edgeOf_2 10 rfl rfl)
theorem dX4_edgeOf_55 : decode cX4_edgeOf 55 = .ok (.iload_n 3, 1) := dk_29 (dk_at dksX4_edgeOf_2 11 rfl rfl)
theorem dX4_edgeOf_56 : decode cX4_edgeOf 56 = .ok (.isub, 1) := dk_100 (dk_at dksX4_edgeOf_2 12 rfl rfl)
theorem dX4_edgeOf_57 : decode cX4_edgeOf 57 = .ok (.goto 5, 3) := dk_167 0 5 (dk_at dksX4_edgeOf_2 13 rfl rfl)
theorem dX4_edgeOf_60 : decode cX4_edgeOf 60 = .ok (.bipush (-4), 2) := dk_16 252 (dk_at dksX4_edgeOf_2 16 rfl rfl)
theorem dX4_edgeOf_62 : decode cX4_edgeOf 62 = .ok (.ireturn, 1) := dk_172 (dk_at dksX4_edgeOf_2 18 rfl rfl)
theorem dX4_edgeOf_63 : decode cX4_edgeOf 63 = .ok (.iload 4, 2) := dk_21 4 (dk_at dksX4_edgeOf_2 19 rfl rfl)
theorem dX4_edgeOf_65 : decode cX4_edgeOf 65 = .ok (.iload_n 3, 1) := dk_29 (dk_at dksX4_edgeOf_2 21 rfl rfl)
theorem dX4_edgeOf_66 : decode cX4_edgeOf 66 = .ok (.iconst 1, 1) := dk_4 (dk_at dksX4_edgeOf_2 22 rfl rfl)
theorem dX4_edgeOf_67 : decode cX4_edgeOf 67 = .ok (.isub, 1) := dk_100 (dk_at dksX4_edgeOf_2 23 rfl rfl)
theorem dX4_edgeOf_68 : decode cX4_edgeOf 68 = .ok (.if_icmp .ge 15, 3) := dk_162 0 15 (dk_at dksX4_edgeOf_3 0 rfl rfl)
theorem dX4_edgeOf_71 : decode cX4_edgeOf 71 = .ok (.iload 5, 2) := dk_21 5 (dk_at dksX4_edgeOf_3 3 rfl rfl)
theorem dX4_edgeOf_73 : decode cX4_edgeOf 73 = .ok (.iload_n 3, 1) := dk_29 (dk_at dksX4_edgeOf_3 5 rfl rfl)
theorem dX4_edgeOf_74 : decode cX4_edgeOf 74 = .ok (.iconst 1, 1) := dk_4 (dk_at dksX4_edgeOf_3 6 rfl rfl)
theorem dX4_edgeOf_75 : decode cX4_edgeOf 75 = .ok (.isub, 1) := dk_100 (dk_at dksX4_edgeOf_3 7 rfl rfl)
theorem dX4_edgeOf_76 : decode cX4_edgeOf 76 = .ok (.imul, 1) := dk_104 (dk_at dksX4_edgeOf_3 8 rfl rfl)
theorem dX4_edgeOf_77 : decode cX4_edgeOf 77 = .ok (.iload 4, 2) := dk_21 4 (dk_at dksX4_edgeOf_3 9 rfl rfl)
theorem dX4_edgeOf_79 : decode cX4_edgeOf 79 = .ok (.iadd, 1) := dk_96 (dk_at dksX4_edgeOf_3 11 rfl rfl)
theorem dX4_edgeOf_80 : decode cX4_edgeOf 80 = .ok (.goto 5, 3) := dk_167 0 5 (dk_at dksX4_edgeOf_3 12 rfl rfl)
theorem dX4_edgeOf_83 : decode cX4_edgeOf 83 = .ok (.bipush (-4), 2) := dk_16 252 (dk_at dksX4_edgeOf_3 15 rfl rfl)
theorem dX4_edgeOf_85 : decode cX4_edgeOf 85 = .ok (.ireturn, 1) := dk_172 (dk_at dksX4_edgeOf_3 17 rfl rfl)
theorem dX4_edgeOf_86 : decode cX4_edgeOf 86 = .ok (.iload 5, 2) := dk_21 5 (dk_at dksX4_edgeOf_3 18 rfl rfl)
theorem dX4_edgeOf_88 : decode cX4_edgeOf 88 = .ok (.aload_n 0, 1) := dk_42 (dk_at dksX4_edgeOf_3 20 rfl rfl)
theorem dX4_edgeOf_89 : decode cX4_edgeOf 89 = .ok (.getfield 7, 3) := dk_180 0 7 (dk_at dksX4_edgeOf_3 21 rfl rfl)
theorem dX4_edgeOf_92 : decode cX4_edgeOf 92 = .ok (.iconst 1, 1) := dk_4 (dk_at dksX4_edgeOf_4 0 rfl rfl)
theorem dX4_edgeOf_93 : decode cX4_edgeOf 93 = .ok (.iaload, 1) := dk_46 (dk_at dksX4_edgeOf_4 1 rfl rfl)
theorem dX4_edgeOf_94 : decode cX4_edgeOf 94 = .ok (.iconst 1, 1) := dk_4 (dk_at dksX4_edgeOf_4 2 rfl rfl)
theorem dX4_edgeOf_95 : decode cX4_edgeOf 95 = .ok (.isub, 1) := dk_100 (dk_at dksX4_edgeOf_4 3 rfl rfl)
theorem dX4_edgeOf_96 : decode cX4_edgeOf 96 = .ok (.if_icmp .ge 12, 3) := dk_162 0 12 (dk_at dksX4_edgeOf_4 4 rfl rfl)
theorem dX4_edgeOf_99 : decode cX4_edgeOf 99 = .ok (.aload_n 0, 1) := dk_42 (dk_at dksX4_edgeOf_4 7 rfl rfl)
theorem dX4_edgeOf_100 : decode cX4_edgeOf 100 = .ok (.invokevirtual 49, 3) := dk_182 0 49 (dk_at dksX4_edgeOf_4 8 rfl rfl)
theorem dX4_edgeOf_103 : decode cX4_edgeOf 103 = .ok (.iload_n 1, 1) := dk_27 (dk_at dksX4_edgeOf_4 11 rfl rfl)
theorem dX4_edgeOf_104 : decode cX4_edgeOf 104 = .ok (.iadd, 1) := dk_96 (dk_at dksX4_edgeOf_4 12 rfl rfl)
theorem dX4_edgeOf_105 : decode cX4_edgeOf 105 = .ok (.goto 5, 3) := dk_167 0 5 (dk_at dksX4_edgeOf_4 13 rfl rfl)
theorem dX4_edgeOf_108 : decode cX4_edgeOf 108 = .ok (.bipush (-4), 2) := dk_16 252 (dk_at dksX4_edgeOf_4 16 rfl rfl)
theorem dX4_edgeOf_110 : decode cX4_edgeOf 110 = .ok (.ireturn, 1) := dk_172 (dk_at dksX4_edgeOf_4 18 rfl rfl)
theorem dX4_edgeOf_111 : decode cX4_edgeOf 111 = .ok (.iload 4, 2) := dk_21 4 (dk_at dksX4_edgeOf_4 19 rfl rfl)
theorem dX4_edgeOf_113 : decode cX4_edgeOf 113 = .ok (.ifCond .le 17, 3) := dk_158 0 17 (dk_at dksX4_edgeOf_4 21 rfl rfl)
theorem dX4_edgeOf_116 : decode cX4_edgeOf 116 = .ok (.iload 5, 2) := dk_21 5 (dk_at dksX4_edgeOf_5 0 rfl rfl)
theorem dX4_edgeOf_118 : decode cX4_edgeOf 118 = .ok (.iload_n 3, 1) := dk_29 (dk_at dksX4_edgeOf_5 2 rfl rfl)
theorem dX4_edgeOf_119 : decode cX4_edgeOf 119 = .ok (.iconst 1, 1) := dk_4 (dk_at dksX4_edgeOf_5 3 rfl rfl)
theorem dX4_edgeOf_120 : decode cX4_edgeOf 120 = .ok (.isub, 1) := dk_100 (dk_at dksX4_edgeOf_5 4 rfl rfl)
theorem dX4_edgeOf_121 : decode cX4_edgeOf 121 = .ok (.imul, 1) := dk_104 (dk_at dksX4_edgeOf_5 5 rfl rfl)
theorem dX4_edgeOf_122 : decode cX4_edgeOf 122 = .ok (.iload 4, 2) := dk_21 4 (dk_at dksX4_edgeOf_5 6 rfl rfl)
theorem dX4_edgeOf_124 : decode cX4_edgeOf 124 = .ok (.iadd, 1) := dk_96 (dk_at dksX4_edgeOf_5 8 rfl rfl)
theorem dX4_edgeOf_125 : decode cX4_edgeOf 125 = .ok (.iconst 1, 1) := dk_4 (dk_at dksX4_edgeOf_5 9 rfl rfl)
theorem dX4_edgeOf_126 : decode cX4_edgeOf 126 = .ok (.isub, 1) := dk_100 (dk_at dksX4_edgeOf_5 10 rfl rfl)
theorem dX4_edgeOf_127 : decode cX4_edgeOf 127 = .ok (.goto 5, 3) := dk_167 0 5 (dk_at dksX4_edgeOf_5 11 rfl rfl)
theorem dX4_edgeOf_130 : decode cX4_edgeOf 130 = .ok (.bipush (-4), 2) := dk_16 252 (dk_at dksX4_edgeOf_5 14 rfl rfl)
theorem dX4_edgeOf_132 : decode cX4_edgeOf 132 = .ok (.ireturn, 1) := dk_172 (dk_at dksX4_edgeOf_5 16 rfl rfl)
abbrev cX4_isUpToDate : ByteArray := prog_11_method_46_code
def yX4_isUpToDate : MethodName := ⟨RX4, "isUpToDate", "(I)Z"⟩
def dkwX4_isUpToDate_0 : List UInt8 := [42, 27, 16, 51, 182, 0, 37, 42, 27, 16, 50, 182, 0, 37, 160, 0, 7, 4, 167, 0, 4, 3, 172]
abbrev dktX4_isUpToDate_0 : List UInt8 := dkwX4_isUpToDate_0 ++ []
theorem dksX4_isUpToDate_0 : cX4_isUpToDate.data.toList.drop 0 = dktX4_isUpToDate_0 := by decide +kernel
theorem dX4_isUpToDate_0 : decode cX4_isUpToDate 0 = .ok (.aload_n 0, 1) := dk_42 (dk_at dksX4_isUpToDate_0 0 rfl rfl)
theorem dX4_isUpToDate_1 : decode cX4_isUpToDate 1 = .ok (.iload_n 1, 1) := dk_27 (dk_at dksX4_isUpToDate_0 1 rfl rfl)
theorem dX4_isUpToDate_2 : decode cX4_isUpToDate 2 = .ok (.bipush 51, 2) := dk_16 51 (dk_at dksX4_isUpToDate_0 2 rfl rfl)
theorem dX4_isUpToDate_4 : decode cX4_isUpToDate 4 = .ok (.invokevirtual 37, 3) := dk_182 0 37 (dk_at dksX4_isUpToDate_0 4 rfl rfl)
theorem dX4_isUpToDate_7 : decode cX4_isUpToDate 7 = .ok (.aload_n 0, 1) := dk_42 (dk_at dksX4_isUpToDate_0 7 rfl rfl)
theorem dX4_isUpToDate_8 : decode cX4_isUpToDate 8 = .ok (.iload_n 1, 1) := dk_27 (dk_at dksX4_isUpToDate_0 8 rfl rfl)
theorem dX4_isUpToDate_9 : decode cX4_isUpToDate 9 = .ok (.bipush 50, 2) := dk_16 50 (dk_at dksX4_isUpToDate_0 9 rfl rfl)
theorem dX4_isUpToDate_11 : decode cX4_isUpToDate 11 = .ok (.invokevirtual 37, 3) := dk_182 0 37 (dk_at dksX4_isUpToDate_0 11 rfl rfl)
theorem dX4_isUpToDate_14 : decode cX4_isUpToDate 14 = .ok (.if_icmp .ne 7, 3) := dk_160 0 7 (dk_at dksX4_isUpToDate_0 14 rfl rfl)
theorem dX4_isUpToDate_17 : decode cX4_isUpToDate 17 = .ok (.iconst 1, 1) := dk_4 (dk_at dksX4_isUpToDate_0 17 rfl rfl)
theorem dX4_isUpToDate_18 : decode cX4_isUpToDate 18 = .ok (.goto 4, 3) := dk_167 0 4 (dk_at dksX4_isUpToDate_0 18 rfl rfl)
theorem dX4_isUpToDate_21 : decode cX4_isUpToDate 21 = .ok (.iconst 0, 1) := dk_3 (dk_at dksX4_isUpToDate_0 21 rfl rfl)
theorem dX4_isUpToDate_22 : decode cX4_isUpToDate 22 = .ok (.ireturn, 1) := dk_172 (dk_at dksX4_isUpToDate_0 22 rfl rfl)
abbrev cX4_signsOf : ByteArray := prog_11_method_45_code
def yX4_signsOf : MethodName := ⟨RX4, "signsOf", "(I)I"⟩
def dkwX4_signsOf_1 : List UInt8 := [167, 0, 4, 4, 96, 61, 132, 3, 1, 167, 255, 228, 28, 172]
abbrev dktX4_signsOf_1 : List UInt8 := dkwX4_signsOf_1 ++ []
def dkwX4_signsOf_0 : List UInt8 := [3, 61, 3, 62, 29, 16, 40, 162, 0, 28, 28, 42, 27, 29, 182, 0, 37, 16, 10, 160, 0, 7, 3]
abbrev dktX4_signsOf_0 : List UInt8 := dkwX4_signsOf_0 ++ dktX4_signsOf_1
theorem dksX4_signsOf_0 : cX4_signsOf.data.toList.drop 0 = dktX4_signsOf_0 := by decide +kernel
theorem dksX4_signsOf_1 : cX4_signsOf.data.toList.drop 23 = dktX4_signsOf_1 := dk_seg dksX4_signsOf_0 23 rfl rfl
theorem dX4_signsOf_0 : decode cX4_signsOf 0 = .ok (.iconst 0, 1) := dk_3 (dk_at dksX4_signsOf_0 0 rfl rfl)
theorem dX4_signsOf_1 : decode cX4_signsOf 1 = .ok (.istore_n 2, 1) := dk_61 (dk_at dksX4_signsOf_0 1 rfl rfl)
theorem dX4_signsOf_2 : decode cX4_signsOf 2 = .ok (.iconst 0, 1) := dk_3 (dk_at dksX4_signsOf_0 2 rfl rfl)
theorem dX4_signsOf_3 : decode cX4_signsOf 3 = .ok (.istore_n 3, 1) := dk_62 (dk_at dksX4_signsOf_0 3 rfl rfl)
theorem dX4_signsOf_4 : decode cX4_signsOf 4 = .ok (.iload_n 3, 1) := dk_29 (dk_at dksX4_signsOf_0 4 rfl rfl)
theorem dX4_signsOf_5 : decode cX4_signsOf 5 = .ok (.bipush 40, 2) := dk_16 40 (dk_at dksX4_signsOf_0 5 rfl rfl)
theorem dX4_signsOf_7 : decode cX4_signsOf 7 = .ok (.if_icmp .ge 28, 3) := dk_162 0 28 (dk_at dksX4_signsOf_0 7 rfl rfl)
theorem dX4_signsOf_10 : decode cX4_signsOf 10 = .ok (.iload_n 2, 1) := dk_28 (dk_at dksX4_signsOf_0 10 rfl rfl)
theorem dX4_signsOf_11 : decode cX4_signsOf 11 = .ok (.aload_n 0, 1) := dk_42 (dk_at dksX4_signsOf_0 11 rfl rfl)
theorem dX4_signsOf_12 : decode cX4_signsOf 12 = .ok (.iload_n 1, 1) := dk_27 (dk_at dksX4_signsOf_0 12 rfl rfl)
theorem dX4_signsOf_13 : decode cX4_signsOf 13 = .ok (.iload_n 3, 1) := dk_29 (dk_at dksX4_signsOf_0 13 rfl rfl)
theorem dX4_signsOf_14 : decode cX4_signsOf 14 = .ok (.invokevirtual 37, 3) := dk_182 0 37 (dk_at dksX4_signsOf_0 14 rfl rfl)
theorem dX4_signsOf_17 : decode cX4_signsOf 17 = .ok (.bipush 10, 2) := dk_16 10 (dk_at dksX4_signsOf_0 17 rfl rfl)
theorem dX4_signsOf_19 : decode cX4_signsOf 19 = .ok (.if_icmp .ne 7, 3) := dk_160 0 7 (dk_at dksX4_signsOf_0 19 rfl rfl)
theorem dX4_signsOf_22 : decode cX4_signsOf 22 = .ok (.iconst 0, 1) := dk_3 (dk_at dksX4_signsOf_0 22 rfl rfl)
theorem dX4_signsOf_23 : decode cX4_signsOf 23 = .ok (.goto 4, 3) := dk_167 0 4 (dk_at dksX4_signsOf_1 0 rfl rfl)
theorem dX4_signsOf_26 : decode cX4_signsOf 26 = .ok (.iconst 1, 1) := dk_4 (dk_at dksX4_signsOf_1 3 rfl rfl)
theorem dX4_signsOf_27 : decode cX4_signsOf 27 = .ok (.iadd, 1) := dk_96 (dk_at dksX4_signsOf_1 4 rfl rfl)
theorem dX4_signsOf_28 : decode cX4_signsOf 28 = .ok (.istore_n 2, 1) := dk_61 (dk_at dksX4_signsOf_1 5 rfl rfl)
theorem dX4_signsOf_29 : decode cX4_signsOf 29 = .ok (.iinc 3 1, 3) := dk_132 3 1 (dk_at dksX4_signsOf_1 6 rfl rfl)
theorem dX4_signsOf_32 : decode cX4_signsOf 32 = .ok (.goto (-28), 3) := dk_167 255 228 (dk_at dksX4_signsOf_1 9 rfl rfl)
theorem dX4_signsOf_35 : decode cX4_signsOf 35 = .ok (.iload_n 2, 1) := dk_28 (dk_at dksX4_signsOf_1 12 rfl rfl)
theorem dX4_signsOf_36 : decode cX4_signsOf 36 = .ok (.ireturn, 1) := dk_172 (dk_at dksX4_signsOf_1 13 rfl rfl)
abbrev cX4_blockOf : ByteArray := prog_11_method_35_code
def yX4_blockOf : MethodName := ⟨RX4, "blockOf", "(I)I"⟩
def dkwX4_blockOf_0 : List UInt8 := [42, 182, 0, 108, 42, 180, 0, 22, 27, 46, 172]
abbrev dktX4_blockOf_0 : List UInt8 := dkwX4_blockOf_0 ++ []
theorem dksX4_blockOf_0 : cX4_blockOf.data.toList.drop 0 = dktX4_blockOf_0 := by decide +kernel
theorem dX4_blockOf_0 : decode cX4_blockOf 0 = .ok (.aload_n 0, 1) := dk_42 (dk_at dksX4_blockOf_0 0 rfl rfl)
theorem dX4_blockOf_1 : decode cX4_blockOf 1 = .ok (.invokevirtual 108, 3) := dk_182 0 108 (dk_at dksX4_blockOf_0 1 rfl rfl)
theorem dX4_blockOf_4 : decode cX4_blockOf 4 = .ok (.aload_n 0, 1) := dk_42 (dk_at dksX4_blockOf_0 4 rfl rfl)
theorem dX4_blockOf_5 : decode cX4_blockOf 5 = .ok (.getfield 22, 3) := dk_180 0 22 (dk_at dksX4_blockOf_0 5 rfl rfl)
theorem dX4_blockOf_8 : decode cX4_blockOf 8 = .ok (.iload_n 1, 1) := dk_27 (dk_at dksX4_blockOf_0 8 rfl rfl)
theorem dX4_blockOf_9 : decode cX4_blockOf 9 = .ok (.iaload, 1) := dk_46 (dk_at dksX4_blockOf_0 9 rfl rfl)
theorem dX4_blockOf_10 : decode cX4_blockOf 10 = .ok (.ireturn, 1) := dk_172 (dk_at dksX4_blockOf_0 10 rfl rfl)
abbrev cX4_findsBlocks : ByteArray := prog_11_method_33_code
def yX4_findsBlocks : MethodName := ⟨RX4, "findsBlocks", "()V"⟩
def dkwX4_findsBlocks_5 : List UInt8 := [167, 0, 5, 21, 4, 79, 4, 60, 132, 2, 1, 167, 255, 162, 167, 255, 151, 177]
abbrev dktX4_findsBlocks_5 : List UInt8 := dkwX4_findsBlocks_5 ++ []
def dkwX4_findsBlocks_4 : List UInt8 := [29, 167, 0, 5, 21, 4, 79, 42, 180, 0, 22, 42, 28, 182, 0, 65, 29, 21, 4, 162, 0, 7, 29]
abbrev dktX4_findsBlocks_4 : List UInt8 := dkwX4_findsBlocks_4 ++ dktX4_findsBlocks_5
def dkwX4_findsBlocks_3 : List UInt8 := [153, 0, 55, 29, 21, 4, 159, 0, 49, 42, 180, 0, 22, 42, 28, 182, 0, 55, 29, 21, 4, 162, 0, 7]
abbrev dktX4_findsBlocks_3 : List UInt8 := dkwX4_findsBlocks_3 ++ dktX4_findsBlocks_4
def dkwX4_findsBlocks_2 : List UInt8 := [182, 0, 55, 46, 62, 42, 180, 0, 22, 42, 28, 182, 0, 65, 46, 54, 4, 42, 28, 182, 0, 77]
abbrev dktX4_findsBlocks_2 : List UInt8 := dkwX4_findsBlocks_2 ++ dktX4_findsBlocks_3
def dkwX4_findsBlocks_1 : List UInt8 := [60, 27, 153, 0, 107, 3, 60, 3, 61, 28, 42, 182, 0, 52, 162, 0, 92, 42, 180, 0, 22, 42, 28]
abbrev dktX4_findsBlocks_1 : List UInt8 := dkwX4_findsBlocks_1 ++ dktX4_findsBlocks_2
def dkwX4_findsBlocks_0 : List UInt8 := [3, 60, 27, 42, 182, 0, 33, 162, 0, 16, 42, 180, 0, 22, 27, 27, 79, 132, 1, 1, 167, 255, 238, 4]
abbrev dktX4_findsBlocks_0 : List UInt8 := dkwX4_findsBlocks_0 ++ dktX4_findsBlocks_1
theorem dksX4_findsBlocks_0 : cX4_findsBlocks.data.toList.drop 0 = dktX4_findsBlocks_0 := by decide +kernel
theorem dksX4_findsBlocks_1 : cX4_findsBlocks.data.toList.drop 24 = dktX4_findsBlocks_1 := dk_seg dksX4_findsBlocks_0 24 rfl rfl
theorem dksX4_findsBlocks_2 : cX4_findsBlocks.data.toList.drop 47 = dktX4_findsBlocks_2 := dk_seg dksX4_findsBlocks_1 23 rfl rfl
theorem dksX4_findsBlocks_3 : cX4_findsBlocks.data.toList.drop 69 = dktX4_findsBlocks_3 := dk_seg dksX4_findsBlocks_2 22 rfl rfl
theorem dksX4_findsBlocks_4 : cX4_findsBlocks.data.toList.drop 93 = dktX4_findsBlocks_4 := dk_seg dksX4_findsBlocks_3 24 rfl rfl
theorem dksX4_findsBlocks_5 : cX4_findsBlocks.data.toList.drop 116 = dktX4_findsBlocks_5 := dk_seg dksX4_findsBlocks_4 23 rfl rfl
theorem dX4_findsBlocks_0 : decode cX4_findsBlocks 0 = .ok (.iconst 0, 1) := dk_3 (dk_at dksX4_findsBlocks_0 0 rfl rfl)
theorem dX4_findsBlocks_1 : decode cX4_findsBlocks 1 = .ok (.istore_n 1, 1) := dk_60 (dk_at dksX4_findsBlocks_0 1 rfl rfl)
theorem dX4_findsBlocks_2 : decode cX4_findsBlocks 2 = .ok (.iload_n 1, 1) := dk_27 (dk_at dksX4_findsBlocks_0 2 rfl rfl)
theorem dX4_findsBlocks_3 : decode cX4_findsBlocks 3 = .ok (.aload_n 0, 1) := dk_42 (dk_at dksX4_findsBlocks_0 3 rfl rfl)
theorem dX4_findsBlocks_4 : decode cX4_findsBlocks 4 = .ok (.invokevirtual 33, 3) := dk_182 0 33 (dk_at dksX4_findsBlocks_0 4 rfl rfl)
theorem dX4_findsBlocks_7 : decode cX4_findsBlocks 7 = .ok (.if_icmp .ge 16, 3) := dk_162 0 16 (dk_at dksX4_findsBlocks_0 7 rfl rfl)
theorem dX4_findsBlocks_10 : decode cX4_findsBlocks 10 = .ok (.aload_n 0, 1) := dk_42 (dk_at dksX4_findsBlocks_0 10 rfl rfl)
theorem dX4_findsBlocks_11 : decode cX4_findsBlocks 11 = .ok (.getfield 22, 3) := dk_180 0 22 (dk_at dksX4_findsBlocks_0 11 rfl rfl)
theorem dX4_findsBlocks_14 : decode cX4_findsBlocks 14 = .ok (.iload_n 1, 1) := dk_27 (dk_at dksX4_findsBlocks_0 14 rfl rfl)
theorem dX4_findsBlocks_15 : decode cX4_findsBlocks 15 = .ok (.iload_n 1, 1) := dk_27 (dk_at dksX4_findsBlocks_0 15 rfl rfl)
theorem dX4_findsBlocks_16 : decode cX4_findsBlocks 16 = .ok (.iastore, 1) := dk_79 (dk_at dksX4_findsBlocks_0 16 rfl rfl)
theorem dX4_findsBlocks_17 : decode cX4_findsBlocks 17 = .ok (.iinc 1 1, 3) := dk_132 1 1 (dk_at dksX4_findsBlocks_0 17 rfl rfl)
theorem dX4_findsBlocks_20 : decode cX4_findsBlocks 20 = .ok (.goto (-18), 3) := dk_167 255 238 (dk_at dksX4_findsBlocks_0 20 rfl rfl)
theorem dX4_findsBlocks_23 : decode cX4_findsBlocks 23 = .ok (.iconst 1, 1) := dk_4 (dk_at dksX4_findsBlocks_0 23 rfl rfl)
theorem dX4_findsBlocks_24 : decode cX4_findsBlocks 24 = .ok (.istore_n 1, 1) := dk_60 (dk_at dksX4_findsBlocks_1 0 rfl rfl)
theorem dX4_findsBlocks_25 : decode cX4_findsBlocks 25 = .ok (.iload_n 1, 1) := dk_27 (dk_at dksX4_findsBlocks_1 1 rfl rfl)
theorem dX4_findsBlocks_26 : decode cX4_findsBlocks 26 = .ok (.ifCond .eq 107, 3) := dk_153 0 107 (dk_at dksX4_findsBlocks_1 2 rfl rfl)
theorem dX4_findsBlocks_29 : decode cX4_findsBlocks 29 = .ok (.iconst 0, 1) := dk_3 (dk_at dksX4_findsBlocks_1 5 rfl rfl)
theorem dX4_findsBlocks_30 : decode cX4_findsBlocks 30 = .ok (.istore_n 1, 1) := dk_60 (dk_at dksX4_findsBlocks_1 6 rfl rfl)
theorem dX4_findsBlocks_31 : decode cX4_findsBlocks 31 = .ok (.iconst 0, 1) := dk_3 (dk_at dksX4_findsBlocks_1 7 rfl rfl)
theorem dX4_findsBlocks_32 : decode cX4_findsBlocks 32 = .ok (.istore_n 2, 1) := dk_61 (dk_at dksX4_findsBlocks_1 8 rfl rfl)
theorem dX4_findsBlocks_33 : decode cX4_findsBlocks 33 = .ok (.iload_n 2, 1) := dk_28 (dk_at dksX4_findsBlocks_1 9 rfl rfl)
theorem dX4_findsBlocks_34 : decode cX4_findsBlocks 34 = .ok (.aload_n 0, 1) := dk_42 (dk_at dksX4_findsBlocks_1 10 rfl rfl)
theorem dX4_findsBlocks_35 : decode cX4_findsBlocks 35 = .ok (.invokevirtual 52, 3) := dk_182 0 52 (dk_at dksX4_findsBlocks_1 11 rfl rfl)
theorem dX4_findsBlocks_38 : decode cX4_findsBlocks 38 = .ok (.if_icmp .ge 92, 3) := dk_162 0 92 (dk_at dksX4_findsBlocks_1 14 rfl rfl)
theorem dX4_findsBlocks_41 : decode cX4_findsBlocks 41 = .ok (.aload_n 0, 1) := dk_42 (dk_at dksX4_findsBlocks_1 17 rfl rfl)
theorem dX4_findsBlocks_42 : decode cX4_findsBlocks 42 = .ok (.getfield 22, 3) := dk_180 0 22 (dk_at dksX4_findsBlocks_1 18 rfl rfl)
theorem dX4_findsBlocks_45 : decode cX4_findsBlocks 45 = .ok (.aload_n 0, 1) := dk_42 (dk_at dksX4_findsBlocks_1 21 rfl rfl)
theorem dX4_findsBlocks_46 : decode cX4_findsBlocks 46 = .ok (.iload_n 2, 1) := dk_28 (dk_at dksX4_findsBlocks_1 22 rfl rfl)
theorem dX4_findsBlocks_47 : decode cX4_findsBlocks 47 = .ok (.invokevirtual 55, 3) := dk_182 0 55 (dk_at dksX4_findsBlocks_2 0 rfl rfl)
theorem dX4_findsBlocks_50 : decode cX4_findsBlocks 50 = .ok (.iaload, 1) := dk_46 (dk_at dksX4_findsBlocks_2 3 rfl rfl)
theorem dX4_findsBlocks_51 : decode cX4_findsBlocks 51 = .ok (.istore_n 3, 1) := dk_62 (dk_at dksX4_findsBlocks_2 4 rfl rfl)
theorem dX4_findsBlocks_52 : decode cX4_findsBlocks 52 = .ok (.aload_n 0, 1) := dk_42 (dk_at dksX4_findsBlocks_2 5 rfl rfl)
theorem dX4_findsBlocks_53 : decode cX4_findsBlocks 53 = .ok (.getfield 22, 3) := dk_180 0 22 (dk_at dksX4_findsBlocks_2 6 rfl rfl)
theorem dX4_findsBlocks_56 : decode cX4_findsBlocks 56 = .ok (.aload_n 0, 1) := dk_42 (dk_at dksX4_findsBlocks_2 9 rfl rfl)
theorem dX4_findsBlocks_57 : decode cX4_findsBlocks 57 = .ok (.iload_n 2, 1) := dk_28 (dk_at dksX4_findsBlocks_2 10 rfl rfl)
theorem dX4_findsBlocks_58 : decode cX4_findsBlocks 58 = .ok (.invokevirtual 65, 3) := dk_182 0 65 (dk_at dksX4_findsBlocks_2 11 rfl rfl)
theorem dX4_findsBlocks_61 : decode cX4_findsBlocks 61 = .ok (.iaload, 1) := dk_46 (dk_at dksX4_findsBlocks_2 14 rfl rfl)
theorem dX4_findsBlocks_62 : decode cX4_findsBlocks 62 = .ok (.istore 4, 2) := dk_54 4 (dk_at dksX4_findsBlocks_2 15 rfl rfl)
theorem dX4_findsBlocks_64 : decode cX4_findsBlocks 64 = .ok (.aload_n 0, 1) := dk_42 (dk_at dksX4_findsBlocks_2 17 rfl rfl)
theorem dX4_findsBlocks_65 : decode cX4_findsBlocks 65 = .ok (.iload_n 2, 1) := dk_28 (dk_at dksX4_findsBlocks_2 18 rfl rfl)
theorem dX4_findsBlocks_66 : decode cX4_findsBlocks 66 = .ok (.invokevirtual 77, 3) := dk_182 0 77 (dk_at dksX4_findsBlocks_2 19 rfl rfl)
theorem dX4_findsBlocks_69 : decode cX4_findsBlocks 69 = .ok (.ifCond .eq 55, 3) := dk_153 0 55 (dk_at dksX4_findsBlocks_3 0 rfl rfl)
theorem dX4_findsBlocks_72 : decode cX4_findsBlocks 72 = .ok (.iload_n 3, 1) := dk_29 (dk_at dksX4_findsBlocks_3 3 rfl rfl)
theorem dX4_findsBlocks_73 : decode cX4_findsBlocks 73 = .ok (.iload 4, 2) := dk_21 4 (dk_at dksX4_findsBlocks_3 4 rfl rfl)
theorem dX4_findsBlocks_75 : decode cX4_findsBlocks 75 = .ok (.if_icmp .eq 49, 3) := dk_159 0 49 (dk_at dksX4_findsBlocks_3 6 rfl rfl)
theorem dX4_findsBlocks_78 : decode cX4_findsBlocks 78 = .ok (.aload_n 0, 1) := dk_42 (dk_at dksX4_findsBlocks_3 9 rfl rfl)
theorem dX4_findsBlocks_79 : decode cX4_findsBlocks 79 = .ok (.getfield 22, 3) := dk_180 0 22 (dk_at dksX4_findsBlocks_3 10 rfl rfl)
theorem dX4_findsBlocks_82 : decode cX4_findsBlocks 82 = .ok (.aload_n 0, 1) := dk_42 (dk_at dksX4_findsBlocks_3 13 rfl rfl)
theorem dX4_findsBlocks_83 : decode cX4_findsBlocks 83 = .ok (.iload_n 2, 1) := dk_28 (dk_at dksX4_findsBlocks_3 14 rfl rfl)
theorem dX4_findsBlocks_84 : decode cX4_findsBlocks 84 = .ok (.invokevirtual 55, 3) := dk_182 0 55 (dk_at dksX4_findsBlocks_3 15 rfl rfl)
theorem dX4_findsBlocks_87 : decode cX4_findsBlocks 87 = .ok (.iload_n 3, 1) := dk_29 (dk_at dksX4_findsBlocks_3 18 rfl rfl)
theorem dX4_findsBlocks_88 : decode cX4_findsBlocks 88 = .ok (.iload 4, 2) := dk_21 4 (dk_at dksX4_findsBlocks_3 19 rfl rfl)
theorem dX4_findsBlocks_90 : decode cX4_findsBlocks 90 = .ok (.if_icmp .ge 7, 3) := dk_162 0 7 (dk_at dksX4_findsBlocks_3 21 rfl rfl)
theorem dX4_findsBlocks_93 : decode cX4_findsBlocks 93 = .ok (.iload_n 3, 1) := dk_29 (dk_at dksX4_findsBlocks_4 0 rfl rfl)
theorem dX4_findsBlocks_94 : decode cX4_findsBlocks 94 = .ok (.goto 5, 3) := dk_167 0 5 (dk_at dksX4_findsBlocks_4 1 rfl rfl)
theorem dX4_findsBlocks_97 : decode cX4_findsBlocks 97 = .ok (.iload 4, 2) := dk_21 4 (dk_at dksX4_findsBlocks_4 4 rfl rfl)
theorem dX4_findsBlocks_99 : decode cX4_findsBlocks 99 = .ok (.iastore, 1) := dk_79 (dk_at dksX4_findsBlocks_4 6 rfl rfl)
theorem dX4_findsBlocks_100 : decode cX4_findsBlocks 100 = .ok (.aload_n 0, 1) := dk_42 (dk_at dksX4_findsBlocks_4 7 rfl rfl)
theorem dX4_findsBlocks_101 : decode cX4_findsBlocks 101 = .ok (.getfield 22, 3) := dk_180 0 22 (dk_at dksX4_findsBlocks_4 8 rfl rfl)
theorem dX4_findsBlocks_104 : decode cX4_findsBlocks 104 = .ok (.aload_n 0, 1) := dk_42 (dk_at dksX4_findsBlocks_4 11 rfl rfl)
theorem dX4_findsBlocks_105 : decode cX4_findsBlocks 105 = .ok (.iload_n 2, 1) := dk_28 (dk_at dksX4_findsBlocks_4 12 rfl rfl)
theorem dX4_findsBlocks_106 : decode cX4_findsBlocks 106 = .ok (.invokevirtual 65, 3) := dk_182 0 65 (dk_at dksX4_findsBlocks_4 13 rfl rfl)
theorem dX4_findsBlocks_109 : decode cX4_findsBlocks 109 = .ok (.iload_n 3, 1) := dk_29 (dk_at dksX4_findsBlocks_4 16 rfl rfl)
theorem dX4_findsBlocks_110 : decode cX4_findsBlocks 110 = .ok (.iload 4, 2) := dk_21 4 (dk_at dksX4_findsBlocks_4 17 rfl rfl)
theorem dX4_findsBlocks_112 : decode cX4_findsBlocks 112 = .ok (.if_icmp .ge 7, 3) := dk_162 0 7 (dk_at dksX4_findsBlocks_4 19 rfl rfl)
theorem dX4_findsBlocks_115 : decode cX4_findsBlocks 115 = .ok (.iload_n 3, 1) := dk_29 (dk_at dksX4_findsBlocks_4 22 rfl rfl)
theorem dX4_findsBlocks_116 : decode cX4_findsBlocks 116 = .ok (.goto 5, 3) := dk_167 0 5 (dk_at dksX4_findsBlocks_5 0 rfl rfl)
theorem dX4_findsBlocks_119 : decode cX4_findsBlocks 119 = .ok (.iload 4, 2) := dk_21 4 (dk_at dksX4_findsBlocks_5 3 rfl rfl)
theorem dX4_findsBlocks_121 : decode cX4_findsBlocks 121 = .ok (.iastore, 1) := dk_79 (dk_at dksX4_findsBlocks_5 5 rfl rfl)
theorem dX4_findsBlocks_122 : decode cX4_findsBlocks 122 = .ok (.iconst 1, 1) := dk_4 (dk_at dksX4_findsBlocks_5 6 rfl rfl)
theorem dX4_findsBlocks_123 : decode cX4_findsBlocks 123 = .ok (.istore_n 1, 1) := dk_60 (dk_at dksX4_findsBlocks_5 7 rfl rfl)
theorem dX4_findsBlocks_124 : decode cX4_findsBlocks 124 = .ok (.iinc 2 1, 3) := dk_132 2 1 (dk_at dksX4_findsBlocks_5 8 rfl rfl)
theorem dX4_findsBlocks_127 : decode cX4_findsBlocks 127 = .ok (.goto (-94), 3) := dk_167 255 162 (dk_at dksX4_findsBlocks_5 11 rfl rfl)
theorem dX4_findsBlocks_130 : decode cX4_findsBlocks 130 = .ok (.goto (-105), 3) := dk_167 255 151 (dk_at dksX4_findsBlocks_5 14 rfl rfl)
theorem dX4_findsBlocks_133 : decode cX4_findsBlocks 133 = .ok (.return_, 1) := dk_177 (dk_at dksX4_findsBlocks_5 17 rfl rfl)
abbrev cX4_count : ByteArray := prog_11_method_50_code
def yX4_count : MethodName := ⟨RX4, "count", "(I)I"⟩
def dkwX4_count_4 : List UInt8 := [172, 42, 180, 0, 157, 172, 42, 180, 0, 7, 5, 27, 96, 16, 13, 100, 46, 172, 2, 172]
abbrev dktX4_count_4 : List UInt8 := dkwX4_count_4 ++ []
def dkwX4_count_3 : List UInt8 := [182, 0, 150, 172, 42, 27, 16, 9, 160, 0, 7, 4, 167, 0, 4, 3, 182, 0, 153, 172, 42, 180, 0, 29]
abbrev dktX4_count_3 : List UInt8 := dkwX4_count_3 ++ dktX4_count_4
def dkwX4_count_2 : List UInt8 := [42, 180, 0, 7, 27, 46, 172, 42, 182, 0, 33, 172, 42, 182, 0, 52, 172, 42, 27, 182, 0, 147, 172, 42]
abbrev dktX4_count_2 : List UInt8 := dkwX4_count_2 ++ dktX4_count_3
def dkwX4_count_1 : List UInt8 := [170, 0, 0, 0, 0, 0, 141, 0, 0, 0, 0, 0, 0, 0, 14, 0, 0, 0, 75, 0, 0, 0, 75, 0, 0, 0, 82, 0, 0, 0, 87, 0, 0, 0, 92, 0, 0, 0, 92, 0, 0, 0, 92, 0, 0, 0, 98, 0, 0, 0, 103, 0, 0, 0, 103, 0, 0, 0, 92, 0, 0, 0, 119, 0, 0, 0, 124, 0, 0, 0, 129, 0, 0, 0, 129]
abbrev dktX4_count_1 : List UInt8 := dkwX4_count_1 ++ dktX4_count_2
def dkwX4_count_0 : List UInt8 := [27]
abbrev dktX4_count_0 : List UInt8 := dkwX4_count_0 ++ dktX4_count_1
theorem dksX4_count_0 : cX4_count.data.toList.drop 0 = dktX4_count_0 := by decide +kernel
theorem dksX4_count_1 : cX4_count.data.toList.drop 1 = dktX4_count_1 := dk_seg dksX4_count_0 1 rfl rfl
theorem dksX4_count_2 : cX4_count.data.toList.drop 76 = dktX4_count_2 := dk_seg dksX4_count_1 75 rfl rfl
theorem dksX4_count_3 : cX4_count.data.toList.drop 100 = dktX4_count_3 := dk_seg dksX4_count_2 24 rfl rfl
theorem dksX4_count_4 : cX4_count.data.toList.drop 124 = dktX4_count_4 := dk_seg dksX4_count_3 24 rfl rfl
theorem dX4_count_0 : decode cX4_count 0 = .ok (.iload_n 1, 1) := dk_27 (dk_at dksX4_count_0 0 rfl rfl)
theorem dX4_count_1 : decode cX4_count 1 = .ok (.tableswitch 141 0 14 #[75, 75, 82, 87, 92, 92, 92, 98, 103, 103, 92, 119, 124, 129, 129], 75) := by decide +kernel
theorem dX4_count_76 : decode cX4_count 76 = .ok (.aload_n 0, 1) := dk_42 (dk_at dksX4_count_2 0 rfl rfl)
theorem dX4_count_77 : decode cX4_count 77 = .ok (.getfield 7, 3) := dk_180 0 7 (dk_at dksX4_count_2 1 rfl rfl)
theorem dX4_count_80 : decode cX4_count 80 = .ok (.iload_n 1, 1) := dk_27 (dk_at dksX4_count_2 4 rfl rfl)
theorem dX4_count_81 : decode cX4_count 81 = .ok (.iaload, 1) := dk_46 (dk_at dksX4_count_2 5 rfl rfl)
theorem dX4_count_82 : decode cX4_count 82 = .ok (.ireturn, 1) := dk_172 (dk_at dksX4_count_2 6 rfl rfl)
theorem dX4_count_83 : decode cX4_count 83 = .ok (.aload_n 0, 1) := dk_42 (dk_at dksX4_count_2 7 rfl rfl)
theorem dX4_count_84 : decode cX4_count 84 = .ok (.invokevirtual 33, 3) := dk_182 0 33 (dk_at dksX4_count_2 8 rfl rfl)
theorem dX4_count_87 : decode cX4_count 87 = .ok (.ireturn, 1) := dk_172 (dk_at dksX4_count_2 11 rfl rfl)
theorem dX4_count_88 : decode cX4_count 88 = .ok (.aload_n 0, 1) := dk_42 (dk_at dksX4_count_2 12 rfl rfl)
theorem dX4_count_89 : decode cX4_count 89 = .ok (.invokevirtual 52, 3) := dk_182 0 52 (dk_at dksX4_count_2 13 rfl rfl)
theorem dX4_count_92 : decode cX4_count 92 = .ok (.ireturn, 1) := dk_172 (dk_at dksX4_count_2 16 rfl rfl)
theorem dX4_count_93 : decode cX4_count 93 = .ok (.aload_n 0, 1) := dk_42 (dk_at dksX4_count_2 17 rfl rfl)
theorem dX4_count_94 : decode cX4_count 94 = .ok (.iload_n 1, 1) := dk_27 (dk_at dksX4_count_2 18 rfl rfl)
theorem dX4_count_95 : decode cX4_count 95 = .ok (.invokevirtual 147, 3) := dk_182 0 147 (dk_at dksX4_count_2 19 rfl rfl)
theorem dX4_count_98 : decode cX4_count 98 = .ok (.ireturn, 1) := dk_172 (dk_at dksX4_count_2 22 rfl rfl)
theorem dX4_count_99 : decode cX4_count 99 = .ok (.aload_n 0, 1) := dk_42 (dk_at dksX4_count_2 23 rfl rfl)
theorem dX4_count_100 : decode cX4_count 100 = .ok (.invokevirtual 150, 3) := dk_182 0 150 (dk_at dksX4_count_3 0 rfl rfl)
theorem dX4_count_103 : decode cX4_count 103 = .ok (.ireturn, 1) := dk_172 (dk_at dksX4_count_3 3 rfl rfl)
theorem dX4_count_104 : decode cX4_count 104 = .ok (.aload_n 0, 1) := dk_42 (dk_at dksX4_count_3 4 rfl rfl)
theorem dX4_count_105 : decode cX4_count 105 = .ok (.iload_n 1, 1) := dk_27 (dk_at dksX4_count_3 5 rfl rfl)
theorem dX4_count_106 : decode cX4_count 106 = .ok (.bipush 9, 2) := dk_16 9 (dk_at dksX4_count_3 6 rfl rfl)
theorem dX4_count_108 : decode cX4_count 108 = .ok (.if_icmp .ne 7, 3) := dk_160 0 7 (dk_at dksX4_count_3 8 rfl rfl)
theorem dX4_count_111 : decode cX4_count 111 = .ok (.iconst 1, 1) := dk_4 (dk_at dksX4_count_3 11 rfl rfl)
theorem dX4_count_112 : decode cX4_count 112 = .ok (.goto 4, 3) := dk_167 0 4 (dk_at dksX4_count_3 12 rfl rfl)
theorem dX4_count_115 : decode cX4_count 115 = .ok (.iconst 0, 1) := dk_3 (dk_at dksX4_count_3 15 rfl rfl)
theorem dX4_count_116 : decode cX4_count 116 = .ok (.invokevirtual 153, 3) := dk_182 0 153 (dk_at dksX4_count_3 16 rfl rfl)
theorem dX4_count_119 : decode cX4_count 119 = .ok (.ireturn, 1) := dk_172 (dk_at dksX4_count_3 19 rfl rfl)
theorem dX4_count_120 : decode cX4_count 120 = .ok (.aload_n 0, 1) := dk_42 (dk_at dksX4_count_3 20 rfl rfl)
theorem dX4_count_121 : decode cX4_count 121 = .ok (.getfield 29, 3) := dk_180 0 29 (dk_at dksX4_count_3 21 rfl rfl)
theorem dX4_count_124 : decode cX4_count 124 = .ok (.ireturn, 1) := dk_172 (dk_at dksX4_count_4 0 rfl rfl)
theorem dX4_count_125 : decode cX4_count 125 = .ok (.aload_n 0, 1) := dk_42 (dk_at dksX4_count_4 1 rfl rfl)
theorem dX4_count_126 : decode cX4_count 126 = .ok (.getfield 157, 3) := dk_180 0 157 (dk_at dksX4_count_4 2 rfl rfl)
theorem dX4_count_129 : decode cX4_count 129 = .ok (.ireturn, 1) := dk_172 (dk_at dksX4_count_4 5 rfl rfl)
theorem dX4_count_130 : decode cX4_count 130 = .ok (.aload_n 0, 1) := dk_42 (dk_at dksX4_count_4 6 rfl rfl)
theorem dX4_count_131 : decode cX4_count 131 = .ok (.getfield 7, 3) := dk_180 0 7 (dk_at dksX4_count_4 7 rfl rfl)
theorem dX4_count_134 : decode cX4_count 134 = .ok (.iconst 2, 1) := dk_5 (dk_at dksX4_count_4 10 rfl rfl)
theorem dX4_count_135 : decode cX4_count 135 = .ok (.iload_n 1, 1) := dk_27 (dk_at dksX4_count_4 11 rfl rfl)
theorem dX4_count_136 : decode cX4_count 136 = .ok (.iadd, 1) := dk_96 (dk_at dksX4_count_4 12 rfl rfl)
theorem dX4_count_137 : decode cX4_count 137 = .ok (.bipush 13, 2) := dk_16 13 (dk_at dksX4_count_4 13 rfl rfl)
theorem dX4_count_139 : decode cX4_count 139 = .ok (.isub, 1) := dk_100 (dk_at dksX4_count_4 15 rfl rfl)
theorem dX4_count_140 : decode cX4_count 140 = .ok (.iaload, 1) := dk_46 (dk_at dksX4_count_4 16 rfl rfl)
theorem dX4_count_141 : decode cX4_count 141 = .ok (.ireturn, 1) := dk_172 (dk_at dksX4_count_4 17 rfl rfl)
theorem dX4_count_142 : decode cX4_count 142 = .ok (.iconst (-1), 1) := dk_2 (dk_at dksX4_count_4 18 rfl rfl)
theorem dX4_count_143 : decode cX4_count 143 = .ok (.ireturn, 1) := dk_172 (dk_at dksX4_count_4 19 rfl rfl)
abbrev cX4_sumOf : ByteArray := prog_11_method_48_code
def yX4_sumOf : MethodName := ⟨RX4, "sumOf", "(I)I"⟩
def dkwX4_sumOf_4 : List UInt8 := [3, 96, 61, 132, 3, 1, 167, 255, 159, 28, 172]
abbrev dktX4_sumOf_4 : List UInt8 := dkwX4_sumOf_4 ++ []
def dkwX4_sumOf_3 : List UInt8 := [182, 0, 144, 153, 0, 7, 4, 167, 0, 4, 3, 54, 5, 28, 21, 5, 153, 0, 8, 21, 4, 167, 0, 4]
abbrev dktX4_sumOf_3 : List UInt8 := dkwX4_sumOf_3 ++ dktX4_sumOf_4
def dkwX4_sumOf_2 : List UInt8 := [42, 29, 182, 0, 81, 154, 0, 7, 4, 167, 0, 26, 3, 167, 0, 22, 27, 16, 6, 159, 0, 11, 42, 29]
abbrev dktX4_sumOf_2 : List UInt8 := dkwX4_sumOf_2 ++ dktX4_sumOf_3
def dkwX4_sumOf_1 : List UInt8 := [167, 0, 4, 4, 54, 4, 27, 7, 160, 0, 11, 42, 29, 182, 0, 77, 167, 0, 43, 27, 8, 160, 0, 19]
abbrev dktX4_sumOf_1 : List UInt8 := dkwX4_sumOf_1 ++ dktX4_sumOf_2
def dkwX4_sumOf_0 : List UInt8 := [3, 61, 3, 62, 29, 42, 182, 0, 52, 162, 0, 95, 27, 16, 6, 160, 0, 11, 42, 29, 182, 0, 81]
abbrev dktX4_sumOf_0 : List UInt8 := dkwX4_sumOf_0 ++ dktX4_sumOf_1
theorem dksX4_sumOf_0 : cX4_sumOf.data.toList.drop 0 = dktX4_sumOf_0 := by decide +kernel
theorem dksX4_sumOf_1 : cX4_sumOf.data.toList.drop 23 = dktX4_sumOf_1 := dk_seg dksX4_sumOf_0 23 rfl rfl
theorem dksX4_sumOf_2 : cX4_sumOf.data.toList.drop 47 = dktX4_sumOf_2 := dk_seg dksX4_sumOf_1 24 rfl rfl
theorem dksX4_sumOf_3 : cX4_sumOf.data.toList.drop 71 = dktX4_sumOf_3 := dk_seg dksX4_sumOf_2 24 rfl rfl
theorem dksX4_sumOf_4 : cX4_sumOf.data.toList.drop 95 = dktX4_sumOf_4 := dk_seg dksX4_sumOf_3 24 rfl rfl
theorem dX4_sumOf_0 : decode cX4_sumOf 0 = .ok (.iconst 0, 1) := dk_3 (dk_at dksX4_sumOf_0 0 rfl rfl)
theorem dX4_sumOf_1 : decode cX4_sumOf 1 = .ok (.istore_n 2, 1) := dk_61 (dk_at dksX4_sumOf_0 1 rfl rfl)
theorem dX4_sumOf_2 : decode cX4_sumOf 2 = .ok (.iconst 0, 1) := dk_3 (dk_at dksX4_sumOf_0 2 rfl rfl)
theorem dX4_sumOf_3 : decode cX4_sumOf 3 = .ok (.istore_n 3, 1) := dk_62 (dk_at dksX4_sumOf_0 3 rfl rfl)
theorem dX4_sumOf_4 : decode cX4_sumOf 4 = .ok (.iload_n 3, 1) := dk_29 (dk_at dksX4_sumOf_0 4 rfl rfl)
theorem dX4_sumOf_5 : decode cX4_sumOf 5 = .ok (.aload_n 0, 1) := dk_42 (dk_at dksX4_sumOf_0 5 rfl rfl)
theorem dX4_sumOf_6 : decode cX4_sumOf 6 = .ok (.invokevirtual 52, 3) := dk_182 0 52 (dk_at dksX4_sumOf_0 6 rfl rfl)
theorem dX4_sumOf_9 : decode cX4_sumOf 9 = .ok (.if_icmp .ge 95, 3) := dk_162 0 95 (dk_at dksX4_sumOf_0 9 rfl rfl)
theorem dX4_sumOf_12 : decode cX4_sumOf 12 = .ok (.iload_n 1, 1) := dk_27 (dk_at dksX4_sumOf_0 12 rfl rfl)
theorem dX4_sumOf_13 : decode cX4_sumOf 13 = .ok (.bipush 6, 2) := dk_16 6 (dk_at dksX4_sumOf_0 13 rfl rfl)
theorem dX4_sumOf_15 : decode cX4_sumOf 15 = .ok (.if_icmp .ne 11, 3) := dk_160 0 11 (dk_at dksX4_sumOf_0 15 rfl rfl)
theorem dX4_sumOf_18 : decode cX4_sumOf 18 = .ok (.aload_n 0, 1) := dk_42 (dk_at dksX4_sumOf_0 18 rfl rfl)
theorem dX4_sumOf_19 : decode cX4_sumOf 19 = .ok (.iload_n 3, 1) := dk_29 (dk_at dksX4_sumOf_0 19 rfl rfl)
theorem dX4_sumOf_20 : decode cX4_sumOf 20 = .ok (.invokevirtual 81, 3) := dk_182 0 81 (dk_at dksX4_sumOf_0 20 rfl rfl)
theorem dX4_sumOf_23 : decode cX4_sumOf 23 = .ok (.goto 4, 3) := dk_167 0 4 (dk_at dksX4_sumOf_1 0 rfl rfl)
theorem dX4_sumOf_26 : decode cX4_sumOf 26 = .ok (.iconst 1, 1) := dk_4 (dk_at dksX4_sumOf_1 3 rfl rfl)
theorem dX4_sumOf_27 : decode cX4_sumOf 27 = .ok (.istore 4, 2) := dk_54 4 (dk_at dksX4_sumOf_1 4 rfl rfl)
theorem dX4_sumOf_29 : decode cX4_sumOf 29 = .ok (.iload_n 1, 1) := dk_27 (dk_at dksX4_sumOf_1 6 rfl rfl)
theorem dX4_sumOf_30 : decode cX4_sumOf 30 = .ok (.iconst 4, 1) := dk_7 (dk_at dksX4_sumOf_1 7 rfl rfl)
theorem dX4_sumOf_31 : decode cX4_sumOf 31 = .ok (.if_icmp .ne 11, 3) := dk_160 0 11 (dk_at dksX4_sumOf_1 8 rfl rfl)
theorem dX4_sumOf_34 : decode cX4_sumOf 34 = .ok (.aload_n 0, 1) := dk_42 (dk_at dksX4_sumOf_1 11 rfl rfl)
theorem dX4_sumOf_35 : decode cX4_sumOf 35 = .ok (.iload_n 3, 1) := dk_29 (dk_at dksX4_sumOf_1 12 rfl rfl)
theorem dX4_sumOf_36 : decode cX4_sumOf 36 = .ok (.invokevirtual 77, 3) := dk_182 0 77 (dk_at dksX4_sumOf_1 13 rfl rfl)
theorem dX4_sumOf_39 : decode cX4_sumOf 39 = .ok (.goto 43, 3) := dk_167 0 43 (dk_at dksX4_sumOf_1 16 rfl rfl)
theorem dX4_sumOf_42 : decode cX4_sumOf 42 = .ok (.iload_n 1, 1) := dk_27 (dk_at dksX4_sumOf_1 19 rfl rfl)
theorem dX4_sumOf_43 : decode cX4_sumOf 43 = .ok (.iconst 5, 1) := dk_8 (dk_at dksX4_sumOf_1 20 rfl rfl)
theorem dX4_sumOf_44 : decode cX4_sumOf 44 = .ok (.if_icmp .ne 19, 3) := dk_160 0 19 (dk_at dksX4_sumOf_1 21 rfl rfl)
theorem dX4_sumOf_47 : decode cX4_sumOf 47 = .ok (.aload_n 0, 1) := dk_42 (dk_at dksX4_sumOf_2 0 rfl rfl)
theorem dX4_sumOf_48 : decode cX4_sumOf 48 = .ok (.iload_n 3, 1) := dk_29 (dk_at dksX4_sumOf_2 1 rfl rfl)
theorem dX4_sumOf_49 : decode cX4_sumOf 49 = .ok (.invokevirtual 81, 3) := dk_182 0 81 (dk_at dksX4_sumOf_2 2 rfl rfl)
theorem dX4_sumOf_52 : decode cX4_sumOf 52 = .ok (.ifCond .ne 7, 3) := dk_154 0 7 (dk_at dksX4_sumOf_2 5 rfl rfl)
theorem dX4_sumOf_55 : decode cX4_sumOf 55 = .ok (.iconst 1, 1) := dk_4 (dk_at dksX4_sumOf_2 8 rfl rfl)
theorem dX4_sumOf_56 : decode cX4_sumOf 56 = .ok (.goto 26, 3) := dk_167 0 26 (dk_at dksX4_sumOf_2 9 rfl rfl)
theorem dX4_sumOf_59 : decode cX4_sumOf 59 = .ok (.iconst 0, 1) := dk_3 (dk_at dksX4_sumOf_2 12 rfl rfl)
theorem dX4_sumOf_60 : decode cX4_sumOf 60 = .ok (.goto 22, 3) := dk_167 0 22 (dk_at dksX4_sumOf_2 13 rfl rfl)
theorem dX4_sumOf_63 : decode cX4_sumOf 63 = .ok (.iload_n 1, 1) := dk_27 (dk_at dksX4_sumOf_2 16 rfl rfl)
theorem dX4_sumOf_64 : decode cX4_sumOf 64 = .ok (.bipush 6, 2) := dk_16 6 (dk_at dksX4_sumOf_2 17 rfl rfl)
theorem dX4_sumOf_66 : decode cX4_sumOf 66 = .ok (.if_icmp .eq 11, 3) := dk_159 0 11 (dk_at dksX4_sumOf_2 19 rfl rfl)
theorem dX4_sumOf_69 : decode cX4_sumOf 69 = .ok (.aload_n 0, 1) := dk_42 (dk_at dksX4_sumOf_2 22 rfl rfl)
theorem dX4_sumOf_70 : decode cX4_sumOf 70 = .ok (.iload_n 3, 1) := dk_29 (dk_at dksX4_sumOf_2 23 rfl rfl)
theorem dX4_sumOf_71 : decode cX4_sumOf 71 = .ok (.invokevirtual 144, 3) := dk_182 0 144 (dk_at dksX4_sumOf_3 0 rfl rfl)
theorem dX4_sumOf_74 : decode cX4_sumOf 74 = .ok (.ifCond .eq 7, 3) := dk_153 0 7 (dk_at dksX4_sumOf_3 3 rfl rfl)
theorem dX4_sumOf_77 : decode cX4_sumOf 77 = .ok (.iconst 1, 1) := dk_4 (dk_at dksX4_sumOf_3 6 rfl rfl)
theorem dX4_sumOf_78 : decode cX4_sumOf 78 = .ok (.goto 4, 3) := dk_167 0 4 (dk_at dksX4_sumOf_3 7 rfl rfl)
theorem dX4_sumOf_81 : decode cX4_sumOf 81 = .ok (.iconst 0, 1) := dk_3 (dk_at dksX4_sumOf_3 10 rfl rfl)
theorem dX4_sumOf_82 : decode cX4_sumOf 82 = .ok (.istore 5, 2) := dk_54 5 (dk_at dksX4_sumOf_3 11 rfl rfl)
theorem dX4_sumOf_84 : decode cX4_sumOf 84 = .ok (.iload_n 2, 1) := dk_28 (dk_at dksX4_sumOf_3 13 rfl rfl)
theorem dX4_sumOf_85 : decode cX4_sumOf 85 = .ok (.iload 5, 2) := dk_21 5 (dk_at dksX4_sumOf_3 14 rfl rfl)
theorem dX4_sumOf_87 : decode cX4_sumOf 87 = .ok (.ifCond .eq 8, 3) := dk_153 0 8 (dk_at dksX4_sumOf_3 16 rfl rfl)
theorem dX4_sumOf_90 : decode cX4_sumOf 90 = .ok (.iload 4, 2) := dk_21 4 (dk_at dksX4_sumOf_3 19 rfl rfl)
theorem dX4_sumOf_92 : decode cX4_sumOf 92 = .ok (.goto 4, 3) := dk_167 0 4 (dk_at dksX4_sumOf_3 21 rfl rfl)
theorem dX4_sumOf_95 : decode cX4_sumOf 95 = .ok (.iconst 0, 1) := dk_3 (dk_at dksX4_sumOf_4 0 rfl rfl)
theorem dX4_sumOf_96 : decode cX4_sumOf 96 = .ok (.iadd, 1) := dk_96 (dk_at dksX4_sumOf_4 1 rfl rfl)
theorem dX4_sumOf_97 : decode cX4_sumOf 97 = .ok (.istore_n 2, 1) := dk_61 (dk_at dksX4_sumOf_4 2 rfl rfl)
theorem dX4_sumOf_98 : decode cX4_sumOf 98 = .ok (.iinc 3 1, 3) := dk_132 3 1 (dk_at dksX4_sumOf_4 3 rfl rfl)
theorem dX4_sumOf_101 : decode cX4_sumOf 101 = .ok (.goto (-97), 3) := dk_167 255 159 (dk_at dksX4_sumOf_4 6 rfl rfl)
theorem dX4_sumOf_104 : decode cX4_sumOf 104 = .ok (.iload_n 2, 1) := dk_28 (dk_at dksX4_sumOf_4 9 rfl rfl)
theorem dX4_sumOf_105 : decode cX4_sumOf 105 = .ok (.ireturn, 1) := dk_172 (dk_at dksX4_sumOf_4 10 rfl rfl)
abbrev cX4_fits : ByteArray := prog_11_method_32_code
def yX4_fits : MethodName := ⟨RX4, "fits", "(I)Z"⟩
def dkwX4_fits_1 : List UInt8 := [180, 0, 7, 6, 46, 135, 20, 0, 106, 111, 152, 157, 0, 7, 4, 167, 0, 4, 3, 172]
abbrev dktX4_fits_1 : List UInt8 := dkwX4_fits_1 ++ []
def dkwX4_fits_0 : List UInt8 := [42, 27, 182, 0, 103, 141, 15, 103, 73, 40, 14, 152, 156, 0, 8, 40, 119, 167, 0, 4, 40, 42]
abbrev dktX4_fits_0 : List UInt8 := dkwX4_fits_0 ++ dktX4_fits_1
theorem dksX4_fits_0 : cX4_fits.data.toList.drop 0 = dktX4_fits_0 := by decide +kernel
theorem dksX4_fits_1 : cX4_fits.data.toList.drop 22 = dktX4_fits_1 := dk_seg dksX4_fits_0 22 rfl rfl
theorem dX4_fits_0 : decode cX4_fits 0 = .ok (.aload_n 0, 1) := dk_42 (dk_at dksX4_fits_0 0 rfl rfl)
theorem dX4_fits_1 : decode cX4_fits 1 = .ok (.iload_n 1, 1) := dk_27 (dk_at dksX4_fits_0 1 rfl rfl)
theorem dX4_fits_2 : decode cX4_fits 2 = .ok (.invokevirtual 103, 3) := dk_182 0 103 (dk_at dksX4_fits_0 2 rfl rfl)
theorem dX4_fits_5 : decode cX4_fits 5 = .ok (.f2d, 1) := dk_141 (dk_at dksX4_fits_0 5 rfl rfl)
theorem dX4_fits_6 : decode cX4_fits 6 = .ok (.dconst 1, 1) := dk_15 (dk_at dksX4_fits_0 6 rfl rfl)
theorem dX4_fits_7 : decode cX4_fits 7 = .ok (.dsub, 1) := dk_103 (dk_at dksX4_fits_0 7 rfl rfl)
theorem dX4_fits_8 : decode cX4_fits 8 = .ok (.dstore_n 2, 1) := dk_73 (dk_at dksX4_fits_0 8 rfl rfl)
theorem dX4_fits_9 : decode cX4_fits 9 = .ok (.dload_n 2, 1) := dk_40 (dk_at dksX4_fits_0 9 rfl rfl)
theorem dX4_fits_10 : decode cX4_fits 10 = .ok (.dconst 0, 1) := dk_14 (dk_at dksX4_fits_0 10 rfl rfl)
theorem dX4_fits_11 : decode cX4_fits 11 = .ok (.dcmp .g, 1) := dk_152 (dk_at dksX4_fits_0 11 rfl rfl)
theorem dX4_fits_12 : decode cX4_fits 12 = .ok (.ifCond .ge 8, 3) := dk_156 0 8 (dk_at dksX4_fits_0 12 rfl rfl)
theorem dX4_fits_15 : decode cX4_fits 15 = .ok (.dload_n 2, 1) := dk_40 (dk_at dksX4_fits_0 15 rfl rfl)
theorem dX4_fits_16 : decode cX4_fits 16 = .ok (.dneg, 1) := dk_119 (dk_at dksX4_fits_0 16 rfl rfl)
theorem dX4_fits_17 : decode cX4_fits 17 = .ok (.goto 4, 3) := dk_167 0 4 (dk_at dksX4_fits_0 17 rfl rfl)
theorem dX4_fits_20 : decode cX4_fits 20 = .ok (.dload_n 2, 1) := dk_40 (dk_at dksX4_fits_0 20 rfl rfl)
theorem dX4_fits_21 : decode cX4_fits 21 = .ok (.aload_n 0, 1) := dk_42 (dk_at dksX4_fits_0 21 rfl rfl)
theorem dX4_fits_22 : decode cX4_fits 22 = .ok (.getfield 7, 3) := dk_180 0 7 (dk_at dksX4_fits_1 0 rfl rfl)
theorem dX4_fits_25 : decode cX4_fits 25 = .ok (.iconst 3, 1) := dk_6 (dk_at dksX4_fits_1 3 rfl rfl)
theorem dX4_fits_26 : decode cX4_fits 26 = .ok (.iaload, 1) := dk_46 (dk_at dksX4_fits_1 4 rfl rfl)
theorem dX4_fits_27 : decode cX4_fits 27 = .ok (.i2d, 1) := dk_135 (dk_at dksX4_fits_1 5 rfl rfl)
theorem dX4_fits_28 : decode cX4_fits 28 = .ok (.ldc2_w 106, 3) := dk_20 0 106 (dk_at dksX4_fits_1 6 rfl rfl)
theorem dX4_fits_31 : decode cX4_fits 31 = .ok (.ddiv, 1) := dk_111 (dk_at dksX4_fits_1 9 rfl rfl)
theorem dX4_fits_32 : decode cX4_fits 32 = .ok (.dcmp .g, 1) := dk_152 (dk_at dksX4_fits_1 10 rfl rfl)
theorem dX4_fits_33 : decode cX4_fits 33 = .ok (.ifCond .gt 7, 3) := dk_157 0 7 (dk_at dksX4_fits_1 11 rfl rfl)
theorem dX4_fits_36 : decode cX4_fits 36 = .ok (.iconst 1, 1) := dk_4 (dk_at dksX4_fits_1 14 rfl rfl)
theorem dX4_fits_37 : decode cX4_fits 37 = .ok (.goto 4, 3) := dk_167 0 4 (dk_at dksX4_fits_1 15 rfl rfl)
theorem dX4_fits_40 : decode cX4_fits 40 = .ok (.iconst 0, 1) := dk_3 (dk_at dksX4_fits_1 18 rfl rfl)
theorem dX4_fits_41 : decode cX4_fits 41 = .ok (.ireturn, 1) := dk_172 (dk_at dksX4_fits_1 19 rfl rfl)
abbrev cX4_ratioOf : ByteArray := prog_11_method_31_code
def yX4_ratioOf : MethodName := ⟨RX4, "ratioOf", "(I)F"⟩
def dkwX4_ratioOf_0 : List UInt8 := [42, 42, 27, 182, 0, 55, 182, 0, 99, 42, 42, 27, 182, 0, 65, 182, 0, 99, 110, 174]
abbrev dktX4_ratioOf_0 : List UInt8 := dkwX4_ratioOf_0 ++ []
theorem dksX4_ratioOf_0 : cX4_ratioOf.data.toList.drop 0 = dktX4_ratioOf_0 := by decide +kernel
theorem dX4_ratioOf_0 : decode cX4_ratioOf 0 = .ok (.aload_n 0, 1) := dk_42 (dk_at dksX4_ratioOf_0 0 rfl rfl)
theorem dX4_ratioOf_1 : decode cX4_ratioOf 1 = .ok (.aload_n 0, 1) := dk_42 (dk_at dksX4_ratioOf_0 1 rfl rfl)
theorem dX4_ratioOf_2 : decode cX4_ratioOf 2 = .ok (.iload_n 1, 1) := dk_27 (dk_at dksX4_ratioOf_0 2 rfl rfl)
theorem dX4_ratioOf_3 : decode cX4_ratioOf 3 = .ok (.invokevirtual 55, 3) := dk_182 0 55 (dk_at dksX4_ratioOf_0 3 rfl rfl)
theorem dX4_ratioOf_6 : decode cX4_ratioOf 6 = .ok (.invokevirtual 99, 3) := dk_182 0 99 (dk_at dksX4_ratioOf_0 6 rfl rfl)
theorem dX4_ratioOf_9 : decode cX4_ratioOf 9 = .ok (.aload_n 0, 1) := dk_42 (dk_at dksX4_ratioOf_0 9 rfl rfl)
theorem dX4_ratioOf_10 : decode cX4_ratioOf 10 = .ok (.aload_n 0, 1) := dk_42 (dk_at dksX4_ratioOf_0 10 rfl rfl)
theorem dX4_ratioOf_11 : decode cX4_ratioOf 11 = .ok (.iload_n 1, 1) := dk_27 (dk_at dksX4_ratioOf_0 11 rfl rfl)
theorem dX4_ratioOf_12 : decode cX4_ratioOf 12 = .ok (.invokevirtual 65, 3) := dk_182 0 65 (dk_at dksX4_ratioOf_0 12 rfl rfl)
theorem dX4_ratioOf_15 : decode cX4_ratioOf 15 = .ok (.invokevirtual 99, 3) := dk_182 0 99 (dk_at dksX4_ratioOf_0 15 rfl rfl)
theorem dX4_ratioOf_18 : decode cX4_ratioOf 18 = .ok (.fdiv, 1) := dk_110 (dk_at dksX4_ratioOf_0 18 rfl rfl)
theorem dX4_ratioOf_19 : decode cX4_ratioOf 19 = .ok (.freturn, 1) := dk_174 (dk_at dksX4_ratioOf_0 19 rfl rfl)
abbrev cX4_scaleOf : ByteArray := prog_11_method_30_code
def yX4_scaleOf : MethodName := ⟨RX4, "scaleOf", "(I)F"⟩
def dkwX4_scaleOf_0 : List UInt8 := [42, 27, 16, 52, 182, 0, 37, 134, 18, 98, 110, 174]
abbrev dktX4_scaleOf_0 : List UInt8 := dkwX4_scaleOf_0 ++ []
theorem dksX4_scaleOf_0 : cX4_scaleOf.data.toList.drop 0 = dktX4_scaleOf_0 := by decide +kernel
theorem dX4_scaleOf_0 : decode cX4_scaleOf 0 = .ok (.aload_n 0, 1) := dk_42 (dk_at dksX4_scaleOf_0 0 rfl rfl)
theorem dX4_scaleOf_1 : decode cX4_scaleOf 1 = .ok (.iload_n 1, 1) := dk_27 (dk_at dksX4_scaleOf_0 1 rfl rfl)
theorem dX4_scaleOf_2 : decode cX4_scaleOf 2 = .ok (.bipush 52, 2) := dk_16 52 (dk_at dksX4_scaleOf_0 2 rfl rfl)
theorem dX4_scaleOf_4 : decode cX4_scaleOf 4 = .ok (.invokevirtual 37, 3) := dk_182 0 37 (dk_at dksX4_scaleOf_0 4 rfl rfl)
theorem dX4_scaleOf_7 : decode cX4_scaleOf 7 = .ok (.i2f, 1) := dk_134 (dk_at dksX4_scaleOf_0 7 rfl rfl)
theorem dX4_scaleOf_8 : decode cX4_scaleOf 8 = .ok (.ldc 98, 2) := dk_18 98 (dk_at dksX4_scaleOf_0 8 rfl rfl)
theorem dX4_scaleOf_10 : decode cX4_scaleOf 10 = .ok (.fdiv, 1) := dk_110 (dk_at dksX4_scaleOf_0 10 rfl rfl)
theorem dX4_scaleOf_11 : decode cX4_scaleOf 11 = .ok (.freturn, 1) := dk_174 (dk_at dksX4_scaleOf_0 11 rfl rfl)
abbrev cX4_blocks : ByteArray := prog_11_method_34_code
def yX4_blocks : MethodName := ⟨RX4, "blocks", "()I"⟩
def dkwX4_blocks_1 : List UInt8 := [160, 0, 7, 4, 167, 0, 4, 3, 96, 60, 132, 2, 1, 167, 255, 227, 27, 172]
abbrev dktX4_blocks_1 : List UInt8 := dkwX4_blocks_1 ++ []
def dkwX4_blocks_0 : List UInt8 := [42, 182, 0, 108, 3, 60, 3, 61, 28, 42, 182, 0, 33, 162, 0, 27, 27, 42, 180, 0, 22, 28, 46, 28]
abbrev dktX4_blocks_0 : List UInt8 := dkwX4_blocks_0 ++ dktX4_blocks_1
theorem dksX4_blocks_0 : cX4_blocks.data.toList.drop 0 = dktX4_blocks_0 := by decide +kernel
theorem dksX4_blocks_1 : cX4_blocks.data.toList.drop 24 = dktX4_blocks_1 := dk_seg dksX4_blocks_0 24 rfl rfl
theorem dX4_blocks_0 : decode cX4_blocks 0 = .ok (.aload_n 0, 1) := dk_42 (dk_at dksX4_blocks_0 0 rfl rfl)
theorem dX4_blocks_1 : decode cX4_blocks 1 = .ok (.invokevirtual 108, 3) := dk_182 0 108 (dk_at dksX4_blocks_0 1 rfl rfl)
theorem dX4_blocks_4 : decode cX4_blocks 4 = .ok (.iconst 0, 1) := dk_3 (dk_at dksX4_blocks_0 4 rfl rfl)
theorem dX4_blocks_5 : decode cX4_blocks 5 = .ok (.istore_n 1, 1) := dk_60 (dk_at dksX4_blocks_0 5 rfl rfl)
theorem dX4_blocks_6 : decode cX4_blocks 6 = .ok (.iconst 0, 1) := dk_3 (dk_at dksX4_blocks_0 6 rfl rfl)
theorem dX4_blocks_7 : decode cX4_blocks 7 = .ok (.istore_n 2, 1) := dk_61 (dk_at dksX4_blocks_0 7 rfl rfl)
theorem dX4_blocks_8 : decode cX4_blocks 8 = .ok (.iload_n 2, 1) := dk_28 (dk_at dksX4_blocks_0 8 rfl rfl)
theorem dX4_blocks_9 : decode cX4_blocks 9 = .ok (.aload_n 0, 1) := dk_42 (dk_at dksX4_blocks_0 9 rfl rfl)
theorem dX4_blocks_10 : decode cX4_blocks 10 = .ok (.invokevirtual 33, 3) := dk_182 0 33 (dk_at dksX4_blocks_0 10 rfl rfl)
theorem dX4_blocks_13 : decode cX4_blocks 13 = .ok (.if_icmp .ge 27, 3) := dk_162 0 27 (dk_at dksX4_blocks_0 13 rfl rfl)
theorem dX4_blocks_16 : decode cX4_blocks 16 = .ok (.iload_n 1, 1) := dk_27 (dk_at dksX4_blocks_0 16 rfl rfl)
theorem dX4_blocks_17 : decode cX4_blocks 17 = .ok (.aload_n 0, 1) := dk_42 (dk_at dksX4_blocks_0 17 rfl rfl)
theorem dX4_blocks_18 : decode cX4_blocks 18 = .ok (.getfield 22, 3) := dk_180 0 22 (dk_at dksX4_blocks_0 18 rfl rfl)
theorem dX4_blocks_21 : decode cX4_blocks 21 = .ok (.iload_n 2, 1) := dk_28 (dk_at dksX4_blocks_0 21 rfl rfl)
theorem dX4_blocks_22 : decode cX4_blocks 22 = .ok (.iaload, 1) := dk_46 (dk_at dksX4_blocks_0 22 rfl rfl)
theorem dX4_blocks_23 : decode cX4_blocks 23 = .ok (.iload_n 2, 1) := dk_28 (dk_at dksX4_blocks_0 23 rfl rfl)
theorem dX4_blocks_24 : decode cX4_blocks 24 = .ok (.if_icmp .ne 7, 3) := dk_160 0 7 (dk_at dksX4_blocks_1 0 rfl rfl)
theorem dX4_blocks_27 : decode cX4_blocks 27 = .ok (.iconst 1, 1) := dk_4 (dk_at dksX4_blocks_1 3 rfl rfl)
theorem dX4_blocks_28 : decode cX4_blocks 28 = .ok (.goto 4, 3) := dk_167 0 4 (dk_at dksX4_blocks_1 4 rfl rfl)
theorem dX4_blocks_31 : decode cX4_blocks 31 = .ok (.iconst 0, 1) := dk_3 (dk_at dksX4_blocks_1 7 rfl rfl)
theorem dX4_blocks_32 : decode cX4_blocks 32 = .ok (.iadd, 1) := dk_96 (dk_at dksX4_blocks_1 8 rfl rfl)
theorem dX4_blocks_33 : decode cX4_blocks 33 = .ok (.istore_n 1, 1) := dk_60 (dk_at dksX4_blocks_1 9 rfl rfl)
theorem dX4_blocks_34 : decode cX4_blocks 34 = .ok (.iinc 2 1, 3) := dk_132 2 1 (dk_at dksX4_blocks_1 10 rfl rfl)
theorem dX4_blocks_37 : decode cX4_blocks 37 = .ok (.goto (-29), 3) := dk_167 255 227 (dk_at dksX4_blocks_1 13 rfl rfl)
theorem dX4_blocks_40 : decode cX4_blocks 40 = .ok (.iload_n 1, 1) := dk_27 (dk_at dksX4_blocks_1 16 rfl rfl)
theorem dX4_blocks_41 : decode cX4_blocks 41 = .ok (.ireturn, 1) := dk_172 (dk_at dksX4_blocks_1 17 rfl rfl)
abbrev cX4_published : ByteArray := prog_11_method_49_code
def yX4_published : MethodName := ⟨RX4, "published", "(Z)I"⟩
def dkwX4_published_2 : List UInt8 := [132, 3, 1, 167, 255, 213, 28, 172]
abbrev dktX4_published_2 : List UInt8 := dkwX4_published_2 ++ []
def dkwX4_published_1 : List UInt8 := [159, 0, 19, 27, 153, 0, 11, 42, 29, 182, 0, 135, 153, 0, 7, 4, 167, 0, 4, 3, 96, 61]
abbrev dktX4_published_1 : List UInt8 := dkwX4_published_1 ++ dktX4_published_2
def dkwX4_published_0 : List UInt8 := [3, 61, 3, 62, 29, 42, 182, 0, 33, 162, 0, 41, 28, 42, 29, 16, 51, 182, 0, 37, 16, 252]
abbrev dktX4_published_0 : List UInt8 := dkwX4_published_0 ++ dktX4_published_1
theorem dksX4_published_0 : cX4_published.data.toList.drop 0 = dktX4_published_0 := by decide +kernel
theorem dksX4_published_1 : cX4_published.data.toList.drop 22 = dktX4_published_1 := dk_seg dksX4_published_0 22 rfl rfl
theorem dksX4_published_2 : cX4_published.data.toList.drop 44 = dktX4_published_2 := dk_seg dksX4_published_1 22 rfl rfl
theorem dX4_published_0 : decode cX4_published 0 = .ok (.iconst 0, 1) := dk_3 (dk_at dksX4_published_0 0 rfl rfl)
theorem dX4_published_1 : decode cX4_published 1 = .ok (.istore_n 2, 1) := dk_61 (dk_at dksX4_published_0 1 rfl rfl)
theorem dX4_published_2 : decode cX4_published 2 = .ok (.iconst 0, 1) := dk_3 (dk_at dksX4_published_0 2 rfl rfl)
theorem dX4_published_3 : decode cX4_published 3 = .ok (.istore_n 3, 1) := dk_62 (dk_at dksX4_published_0 3 rfl rfl)
theorem dX4_published_4 : decode cX4_published 4 = .ok (.iload_n 3, 1) := dk_29 (dk_at dksX4_published_0 4 rfl rfl)
theorem dX4_published_5 : decode cX4_published 5 = .ok (.aload_n 0, 1) := dk_42 (dk_at dksX4_published_0 5 rfl rfl)
theorem dX4_published_6 : decode cX4_published 6 = .ok (.invokevirtual 33, 3) := dk_182 0 33 (dk_at dksX4_published_0 6 rfl rfl)
theorem dX4_published_9 : decode cX4_published 9 = .ok (.if_icmp .ge 41, 3) := dk_162 0 41 (dk_at dksX4_published_0 9 rfl rfl)
theorem dX4_published_12 : decode cX4_published 12 = .ok (.iload_n 2, 1) := dk_28 (dk_at dksX4_published_0 12 rfl rfl)
theorem dX4_published_13 : decode cX4_published 13 = .ok (.aload_n 0, 1) := dk_42 (dk_at dksX4_published_0 13 rfl rfl)
theorem dX4_published_14 : decode cX4_published 14 = .ok (.iload_n 3, 1) := dk_29 (dk_at dksX4_published_0 14 rfl rfl)
theorem dX4_published_15 : decode cX4_published 15 = .ok (.bipush 51, 2) := dk_16 51 (dk_at dksX4_published_0 15 rfl rfl)
theorem dX4_published_17 : decode cX4_published 17 = .ok (.invokevirtual 37, 3) := dk_182 0 37 (dk_at dksX4_published_0 17 rfl rfl)
theorem dX4_published_20 : decode cX4_published 20 = .ok (.bipush (-4), 2) := dk_16 252 (dk_at dksX4_published_0 20 rfl rfl)
theorem dX4_published_22 : decode cX4_published 22 = .ok (.if_icmp .eq 19, 3) := dk_159 0 19 (dk_at dksX4_published_1 0 rfl rfl)
theorem dX4_published_25 : decode cX4_published 25 = .ok (.iload_n 1, 1) := dk_27 (dk_at dksX4_published_1 3 rfl rfl)
theorem dX4_published_26 : decode cX4_published 26 = .ok (.ifCond .eq 11, 3) := dk_153 0 11 (dk_at dksX4_published_1 4 rfl rfl)
theorem dX4_published_29 : decode cX4_published 29 = .ok (.aload_n 0, 1) := dk_42 (dk_at dksX4_published_1 7 rfl rfl)
theorem dX4_published_30 : decode cX4_published 30 = .ok (.iload_n 3, 1) := dk_29 (dk_at dksX4_published_1 8 rfl rfl)
theorem dX4_published_31 : decode cX4_published 31 = .ok (.invokevirtual 135, 3) := dk_182 0 135 (dk_at dksX4_published_1 9 rfl rfl)
theorem dX4_published_34 : decode cX4_published 34 = .ok (.ifCond .eq 7, 3) := dk_153 0 7 (dk_at dksX4_published_1 12 rfl rfl)
theorem dX4_published_37 : decode cX4_published 37 = .ok (.iconst 1, 1) := dk_4 (dk_at dksX4_published_1 15 rfl rfl)
theorem dX4_published_38 : decode cX4_published 38 = .ok (.goto 4, 3) := dk_167 0 4 (dk_at dksX4_published_1 16 rfl rfl)
theorem dX4_published_41 : decode cX4_published 41 = .ok (.iconst 0, 1) := dk_3 (dk_at dksX4_published_1 19 rfl rfl)
theorem dX4_published_42 : decode cX4_published 42 = .ok (.iadd, 1) := dk_96 (dk_at dksX4_published_1 20 rfl rfl)
theorem dX4_published_43 : decode cX4_published 43 = .ok (.istore_n 2, 1) := dk_61 (dk_at dksX4_published_1 21 rfl rfl)
theorem dX4_published_44 : decode cX4_published 44 = .ok (.iinc 3 1, 3) := dk_132 3 1 (dk_at dksX4_published_2 0 rfl rfl)
theorem dX4_published_47 : decode cX4_published 47 = .ok (.goto (-43), 3) := dk_167 255 213 (dk_at dksX4_published_2 3 rfl rfl)
theorem dX4_published_50 : decode cX4_published 50 = .ok (.iload_n 2, 1) := dk_28 (dk_at dksX4_published_2 6 rfl rfl)
theorem dX4_published_51 : decode cX4_published 51 = .ok (.ireturn, 1) := dk_172 (dk_at dksX4_published_2 7 rfl rfl)
abbrev cX4_undo : ByteArray := prog_11_method_51_code
def yX4_undo : MethodName := ⟨RX4, "undo", "()I"⟩
def dkwX4_undo_2 : List UInt8 := [96, 46, 79, 132, 1, 1, 167, 255, 225, 42, 180, 0, 29, 172]
abbrev dktX4_undo_2 : List UInt8 := dkwX4_undo_2 ++ []
def dkwX4_undo_1 : List UInt8 := [17, 7, 180, 162, 0, 30, 42, 180, 0, 7, 27, 42, 180, 0, 13, 17, 7, 180, 42, 180, 0, 29, 104, 27]
abbrev dktX4_undo_1 : List UInt8 := dkwX4_undo_1 ++ dktX4_undo_2
def dkwX4_undo_0 : List UInt8 := [42, 180, 0, 29, 154, 0, 6, 16, 254, 172, 42, 89, 180, 0, 29, 4, 100, 181, 0, 29, 3, 60, 27]
abbrev dktX4_undo_0 : List UInt8 := dkwX4_undo_0 ++ dktX4_undo_1
theorem dksX4_undo_0 : cX4_undo.data.toList.drop 0 = dktX4_undo_0 := by decide +kernel
theorem dksX4_undo_1 : cX4_undo.data.toList.drop 23 = dktX4_undo_1 := dk_seg dksX4_undo_0 23 rfl rfl
theorem dksX4_undo_2 : cX4_undo.data.toList.drop 47 = dktX4_undo_2 := dk_seg dksX4_undo_1 24 rfl rfl
theorem dX4_undo_0 : decode cX4_undo 0 = .ok (.aload_n 0, 1) := dk_42 (dk_at dksX4_undo_0 0 rfl rfl)
theorem dX4_undo_1 : decode cX4_undo 1 = .ok (.getfield 29, 3) := dk_180 0 29 (dk_at dksX4_undo_0 1 rfl rfl)
theorem dX4_undo_4 : decode cX4_undo 4 = .ok (.ifCond .ne 6, 3) := dk_154 0 6 (dk_at dksX4_undo_0 4 rfl rfl)
theorem dX4_undo_7 : decode cX4_undo 7 = .ok (.bipush (-2), 2) := dk_16 254 (dk_at dksX4_undo_0 7 rfl rfl)
theorem dX4_undo_9 : decode cX4_undo 9 = .ok (.ireturn, 1) := dk_172 (dk_at dksX4_undo_0 9 rfl rfl)
theorem dX4_undo_10 : decode cX4_undo 10 = .ok (.aload_n 0, 1) := dk_42 (dk_at dksX4_undo_0 10 rfl rfl)
theorem dX4_undo_11 : decode cX4_undo 11 = .ok (.dup, 1) := dk_89 (dk_at dksX4_undo_0 11 rfl rfl)
theorem dX4_undo_12 : decode cX4_undo 12 = .ok (.getfield 29, 3) := dk_180 0 29 (dk_at dksX4_undo_0 12 rfl rfl)
theorem dX4_undo_15 : decode cX4_undo 15 = .ok (.iconst 1, 1) := dk_4 (dk_at dksX4_undo_0 15 rfl rfl)
theorem dX4_undo_16 : decode cX4_undo 16 = .ok (.isub, 1) := dk_100 (dk_at dksX4_undo_0 16 rfl rfl)
theorem dX4_undo_17 : decode cX4_undo 17 = .ok (.putfield 29, 3) := dk_181 0 29 (dk_at dksX4_undo_0 17 rfl rfl)
theorem dX4_undo_20 : decode cX4_undo 20 = .ok (.iconst 0, 1) := dk_3 (dk_at dksX4_undo_0 20 rfl rfl)
theorem dX4_undo_21 : decode cX4_undo 21 = .ok (.istore_n 1, 1) := dk_60 (dk_at dksX4_undo_0 21 rfl rfl)
theorem dX4_undo_22 : decode cX4_undo 22 = .ok (.iload_n 1, 1) := dk_27 (dk_at dksX4_undo_0 22 rfl rfl)
theorem dX4_undo_23 : decode cX4_undo 23 = .ok (.sipush 1972, 3) := dk_17 7 180 (dk_at dksX4_undo_1 0 rfl rfl)
theorem dX4_undo_26 : decode cX4_undo 26 = .ok (.if_icmp .ge 30, 3) := dk_162 0 30 (dk_at dksX4_undo_1 3 rfl rfl)
theorem dX4_undo_29 : decode cX4_undo 29 = .ok (.aload_n 0, 1) := dk_42 (dk_at dksX4_undo_1 6 rfl rfl)
theorem dX4_undo_30 : decode cX4_undo 30 = .ok (.getfield 7, 3) := dk_180 0 7 (dk_at dksX4_undo_1 7 rfl rfl)
theorem dX4_undo_33 : decode cX4_undo 33 = .ok (.iload_n 1, 1) := dk_27 (dk_at dksX4_undo_1 10 rfl rfl)
theorem dX4_undo_34 : decode cX4_undo 34 = .ok (.aload_n 0, 1) := dk_42 (dk_at dksX4_undo_1 11 rfl rfl)
theorem dX4_undo_35 : decode cX4_undo 35 = .ok (.getfield 13, 3) := dk_180 0 13 (dk_at dksX4_undo_1 12 rfl rfl)
theorem dX4_undo_38 : decode cX4_undo 38 = .ok (.sipush 1972, 3) := dk_17 7 180 (dk_at dksX4_undo_1 15 rfl rfl)
theorem dX4_undo_41 : decode cX4_undo 41 = .ok (.aload_n 0, 1) := dk_42 (dk_at dksX4_undo_1 18 rfl rfl)
theorem dX4_undo_42 : decode cX4_undo 42 = .ok (.getfield 29, 3) := dk_180 0 29 (dk_at dksX4_undo_1 19 rfl rfl)
theorem dX4_undo_45 : decode cX4_undo 45 = .ok (.imul, 1) := dk_104 (dk_at dksX4_undo_1 22 rfl rfl)
theorem dX4_undo_46 : decode cX4_undo 46 = .ok (.iload_n 1, 1) := dk_27 (dk_at dksX4_undo_1 23 rfl rfl)
theorem dX4_undo_47 : decode cX4_undo 47 = .ok (.iadd, 1) := dk_96 (dk_at dksX4_undo_2 0 rfl rfl)
theorem dX4_undo_48 : decode cX4_undo 48 = .ok (.iaload, 1) := dk_46 (dk_at dksX4_undo_2 1 rfl rfl)
theorem dX4_undo_49 : decode cX4_undo 49 = .ok (.iastore, 1) := dk_79 (dk_at dksX4_undo_2 2 rfl rfl)
theorem dX4_undo_50 : decode cX4_undo 50 = .ok (.iinc 1 1, 3) := dk_132 1 1 (dk_at dksX4_undo_2 3 rfl rfl)
theorem dX4_undo_53 : decode cX4_undo 53 = .ok (.goto (-31), 3) := dk_167 255 225 (dk_at dksX4_undo_2 6 rfl rfl)
theorem dX4_undo_56 : decode cX4_undo 56 = .ok (.aload_n 0, 1) := dk_42 (dk_at dksX4_undo_2 9 rfl rfl)
theorem dX4_undo_57 : decode cX4_undo 57 = .ok (.getfield 29, 3) := dk_180 0 29 (dk_at dksX4_undo_2 10 rfl rfl)
theorem dX4_undo_60 : decode cX4_undo 60 = .ok (.ireturn, 1) := dk_172 (dk_at dksX4_undo_2 13 rfl rfl)
abbrev cX4_edge : ByteArray := prog_11_method_52_code
def yX4_edge : MethodName := ⟨RX4, "edge", "(II)I"⟩
def dkwX4_edge_4 : List UInt8 := [167, 0, 4, 3, 172]
abbrev dktX4_edge_4 : List UInt8 := dkwX4_edge_4 ++ []
def dkwX4_edge_3 : List UInt8 := [96, 46, 172, 42, 27, 182, 0, 81, 172, 42, 27, 182, 0, 163, 172, 42, 27, 182, 0, 144, 153, 0, 7, 4]
abbrev dktX4_edge_3 : List UInt8 := dkwX4_edge_3 ++ dktX4_edge_4
def dkwX4_edge_2 : List UInt8 := [42, 27, 182, 0, 55, 172, 42, 27, 182, 0, 65, 172, 42, 27, 182, 0, 59, 172, 42, 180, 0, 7, 7, 27]
abbrev dktX4_edge_2 : List UInt8 := dkwX4_edge_2 ++ dktX4_edge_3
def dkwX4_edge_1 : List UInt8 := [170, 0, 0, 0, 0, 0, 78, 0, 0, 0, 0, 0, 0, 0, 5, 0, 0, 0, 39, 0, 0, 0, 45, 0, 0, 0, 51, 0, 0, 0, 57, 0, 0, 0, 66, 0, 0, 0, 72]
abbrev dktX4_edge_1 : List UInt8 := dkwX4_edge_1 ++ dktX4_edge_2
def dkwX4_edge_0 : List UInt8 := [42, 27, 182, 0, 160, 153, 0, 13, 28, 3, 16, 6, 184, 0, 111, 154, 0, 5, 2, 172, 28]
abbrev dktX4_edge_0 : List UInt8 := dkwX4_edge_0 ++ dktX4_edge_1
theorem dksX4_edge_0 : cX4_edge.data.toList.drop 0 = dktX4_edge_0 := by decide +kernel
theorem dksX4_edge_1 : cX4_edge.data.toList.drop 21 = dktX4_edge_1 := dk_seg dksX4_edge_0 21 rfl rfl
theorem dksX4_edge_2 : cX4_edge.data.toList.drop 60 = dktX4_edge_2 := dk_seg dksX4_edge_1 39 rfl rfl
theorem dksX4_edge_3 : cX4_edge.data.toList.drop 84 = dktX4_edge_3 := dk_seg dksX4_edge_2 24 rfl rfl
theorem dksX4_edge_4 : cX4_edge.data.toList.drop 108 = dktX4_edge_4 := dk_seg dksX4_edge_3 24 rfl rfl
theorem dX4_edge_0 : decode cX4_edge 0 = .ok (.aload_n 0, 1) := dk_42 (dk_at dksX4_edge_0 0 rfl rfl)
theorem dX4_edge_1 : decode cX4_edge 1 = .ok (.iload_n 1, 1) := dk_27 (dk_at dksX4_edge_0 1 rfl rfl)
theorem dX4_edge_2 : decode cX4_edge 2 = .ok (.invokevirtual 160, 3) := dk_182 0 160 (dk_at dksX4_edge_0 2 rfl rfl)
theorem dX4_edge_5 : decode cX4_edge 5 = .ok (.ifCond .eq 13, 3) := dk_153 0 13 (dk_at dksX4_edge_0 5 rfl rfl)
theorem dX4_edge_8 : decode cX4_edge 8 = .ok (.iload_n 2, 1) := dk_28 (dk_at dksX4_edge_0 8 rfl rfl)
theorem dX4_edge_9 : decode cX4_edge 9 = .ok (.iconst 0, 1) := dk_3 (dk_at dksX4_edge_0 9 rfl rfl)
theorem dX4_edge_10 : decode cX4_edge 10 = .ok (.bipush 6, 2) := dk_16 6 (dk_at dksX4_edge_0 10 rfl rfl)
theorem dX4_edge_12 : decode cX4_edge 12 = .ok (.invokestatic 111, 3) := dk_184 0 111 (dk_at dksX4_edge_0 12 rfl rfl)
theorem dX4_edge_15 : decode cX4_edge 15 = .ok (.ifCond .ne 5, 3) := dk_154 0 5 (dk_at dksX4_edge_0 15 rfl rfl)
theorem dX4_edge_18 : decode cX4_edge 18 = .ok (.iconst (-1), 1) := dk_2 (dk_at dksX4_edge_0 18 rfl rfl)
theorem dX4_edge_19 : decode cX4_edge 19 = .ok (.ireturn, 1) := dk_172 (dk_at dksX4_edge_0 19 rfl rfl)
theorem dX4_edge_20 : decode cX4_edge 20 = .ok (.iload_n 2, 1) := dk_28 (dk_at dksX4_edge_0 20 rfl rfl)
theorem dX4_edge_21 : decode cX4_edge 21 = .ok (.tableswitch 78 0 5 #[39, 45, 51, 57, 66, 72], 39) := by decide +kernel
theorem dX4_edge_60 : decode cX4_edge 60 = .ok (.aload_n 0, 1) := dk_42 (dk_at dksX4_edge_2 0 rfl rfl)
theorem dX4_edge_61 : decode cX4_edge 61 = .ok (.iload_n 1, 1) := dk_27 (dk_at dksX4_edge_2 1 rfl rfl)
theorem dX4_edge_62 : decode cX4_edge 62 = .ok (.invokevirtual 55, 3) := dk_182 0 55 (dk_at dksX4_edge_2 2 rfl rfl)
theorem dX4_edge_65 : decode cX4_edge 65 = .ok (.ireturn, 1) := dk_172 (dk_at dksX4_edge_2 5 rfl rfl)
theorem dX4_edge_66 : decode cX4_edge 66 = .ok (.aload_n 0, 1) := dk_42 (dk_at dksX4_edge_2 6 rfl rfl)
theorem dX4_edge_67 : decode cX4_edge 67 = .ok (.iload_n 1, 1) := dk_27 (dk_at dksX4_edge_2 7 rfl rfl)
theorem dX4_edge_68 : decode cX4_edge 68 = .ok (.invokevirtual 65, 3) := dk_182 0 65 (dk_at dksX4_edge_2 8 rfl rfl)
theorem dX4_edge_71 : decode cX4_edge 71 = .ok (.ireturn, 1) := dk_172 (dk_at dksX4_edge_2 11 rfl rfl)
theorem dX4_edge_72 : decode cX4_edge 72 = .ok (.aload_n 0, 1) := dk_42 (dk_at dksX4_edge_2 12 rfl rfl)
theorem dX4_edge_73 : decode cX4_edge 73 = .ok (.iload_n 1, 1) := dk_27 (dk_at dksX4_edge_2 13 rfl rfl)
theorem dX4_edge_74 : decode cX4_edge 74 = .ok (.invokevirtual 59, 3) := dk_182 0 59 (dk_at dksX4_edge_2 14 rfl rfl)
theorem dX4_edge_77 : decode cX4_edge 77 = .ok (.ireturn, 1) := dk_172 (dk_at dksX4_edge_2 17 rfl rfl)
theorem dX4_edge_78 : decode cX4_edge 78 = .ok (.aload_n 0, 1) := dk_42 (dk_at dksX4_edge_2 18 rfl rfl)
theorem dX4_edge_79 : decode cX4_edge 79 = .ok (.getfield 7, 3) := dk_180 0 7 (dk_at dksX4_edge_2 19 rfl rfl)
theorem dX4_edge_82 : decode cX4_edge 82 = .ok (.iconst 4, 1) := dk_7 (dk_at dksX4_edge_2 22 rfl rfl)
theorem dX4_edge_83 : decode cX4_edge 83 = .ok (.iload_n 1, 1) := dk_27 (dk_at dksX4_edge_2 23 rfl rfl)
theorem dX4_edge_84 : decode cX4_edge 84 = .ok (.iadd, 1) := dk_96 (dk_at dksX4_edge_3 0 rfl rfl)
theorem dX4_edge_85 : decode cX4_edge 85 = .ok (.iaload, 1) := dk_46 (dk_at dksX4_edge_3 1 rfl rfl)
theorem dX4_edge_86 : decode cX4_edge 86 = .ok (.ireturn, 1) := dk_172 (dk_at dksX4_edge_3 2 rfl rfl)
theorem dX4_edge_87 : decode cX4_edge 87 = .ok (.aload_n 0, 1) := dk_42 (dk_at dksX4_edge_3 3 rfl rfl)
theorem dX4_edge_88 : decode cX4_edge 88 = .ok (.iload_n 1, 1) := dk_27 (dk_at dksX4_edge_3 4 rfl rfl)
theorem dX4_edge_89 : decode cX4_edge 89 = .ok (.invokevirtual 81, 3) := dk_182 0 81 (dk_at dksX4_edge_3 5 rfl rfl)
theorem dX4_edge_92 : decode cX4_edge 92 = .ok (.ireturn, 1) := dk_172 (dk_at dksX4_edge_3 8 rfl rfl)
theorem dX4_edge_93 : decode cX4_edge 93 = .ok (.aload_n 0, 1) := dk_42 (dk_at dksX4_edge_3 9 rfl rfl)
theorem dX4_edge_94 : decode cX4_edge 94 = .ok (.iload_n 1, 1) := dk_27 (dk_at dksX4_edge_3 10 rfl rfl)
theorem dX4_edge_95 : decode cX4_edge 95 = .ok (.invokevirtual 163, 3) := dk_182 0 163 (dk_at dksX4_edge_3 11 rfl rfl)
theorem dX4_edge_98 : decode cX4_edge 98 = .ok (.ireturn, 1) := dk_172 (dk_at dksX4_edge_3 14 rfl rfl)
theorem dX4_edge_99 : decode cX4_edge 99 = .ok (.aload_n 0, 1) := dk_42 (dk_at dksX4_edge_3 15 rfl rfl)
theorem dX4_edge_100 : decode cX4_edge 100 = .ok (.iload_n 1, 1) := dk_27 (dk_at dksX4_edge_3 16 rfl rfl)
theorem dX4_edge_101 : decode cX4_edge 101 = .ok (.invokevirtual 144, 3) := dk_182 0 144 (dk_at dksX4_edge_3 17 rfl rfl)
theorem dX4_edge_104 : decode cX4_edge 104 = .ok (.ifCond .eq 7, 3) := dk_153 0 7 (dk_at dksX4_edge_3 20 rfl rfl)
theorem dX4_edge_107 : decode cX4_edge 107 = .ok (.iconst 1, 1) := dk_4 (dk_at dksX4_edge_3 23 rfl rfl)
theorem dX4_edge_108 : decode cX4_edge 108 = .ok (.goto 4, 3) := dk_167 0 4 (dk_at dksX4_edge_4 0 rfl rfl)
theorem dX4_edge_111 : decode cX4_edge 111 = .ok (.iconst 0, 1) := dk_3 (dk_at dksX4_edge_4 3 rfl rfl)
theorem dX4_edge_112 : decode cX4_edge 112 = .ok (.ireturn, 1) := dk_172 (dk_at dksX4_edge_4 4 rfl rfl)
abbrev cX4_isEdge : ByteArray := prog_11_method_17_code
def yX4_isEdge : MethodName := ⟨RX4, "isEdge", "(I)Z"⟩
def dkwX4_isEdge_0 : List UInt8 := [27, 155, 0, 15, 27, 42, 182, 0, 52, 162, 0, 7, 4, 167, 0, 4, 3, 172]
abbrev dktX4_isEdge_0 : List UInt8 := dkwX4_isEdge_0 ++ []
theorem dksX4_isEdge_0 : cX4_isEdge.data.toList.drop 0 = dktX4_isEdge_0 := by decide +kernel
theorem dX4_isEdge_0 : decode cX4_isEdge 0 = .ok (.iload_n 1, 1) := dk_27 (dk_at dksX4_isEdge_0 0 rfl rfl)
theorem dX4_isEdge_1 : decode cX4_isEdge 1 = .ok (.ifCond .lt 15, 3) := dk_155 0 15 (dk_at dksX4_isEdge_0 1 rfl rfl)
theorem dX4_isEdge_4 : decode cX4_isEdge 4 = .ok (.iload_n 1, 1) := dk_27 (dk_at dksX4_isEdge_0 4 rfl rfl)
theorem dX4_isEdge_5 : decode cX4_isEdge 5 = .ok (.aload_n 0, 1) := dk_42 (dk_at dksX4_isEdge_0 5 rfl rfl)
theorem dX4_isEdge_6 : decode cX4_isEdge 6 = .ok (.invokevirtual 52, 3) := dk_182 0 52 (dk_at dksX4_isEdge_0 6 rfl rfl)
theorem dX4_isEdge_9 : decode cX4_isEdge 9 = .ok (.if_icmp .ge 7, 3) := dk_162 0 7 (dk_at dksX4_isEdge_0 9 rfl rfl)
theorem dX4_isEdge_12 : decode cX4_isEdge 12 = .ok (.iconst 1, 1) := dk_4 (dk_at dksX4_isEdge_0 12 rfl rfl)
theorem dX4_isEdge_13 : decode cX4_isEdge 13 = .ok (.goto 4, 3) := dk_167 0 4 (dk_at dksX4_isEdge_0 13 rfl rfl)
theorem dX4_isEdge_16 : decode cX4_isEdge 16 = .ok (.iconst 0, 1) := dk_3 (dk_at dksX4_isEdge_0 16 rfl rfl)
theorem dX4_isEdge_17 : decode cX4_isEdge 17 = .ok (.ireturn, 1) := dk_172 (dk_at dksX4_isEdge_0 17 rfl rfl)
abbrev cX4_crossings : ByteArray := prog_11_method_27_code
def yX4_crossings : MethodName := ⟨RX4, "crossings", "(I)I"⟩
def dkwX4_crossings_1 : List UInt8 := [29, 182, 0, 71, 16, 10, 159, 0, 7, 4, 167, 0, 4, 3, 96, 61, 132, 3, 1, 167, 255, 217, 28, 172]
abbrev dktX4_crossings_1 : List UInt8 := dkwX4_crossings_1 ++ []
def dkwX4_crossings_0 : List UInt8 := [3, 61, 3, 62, 29, 16, 10, 162, 0, 39, 28, 42, 27, 29, 182, 0, 68, 16, 10, 159, 0, 18, 42, 27]
abbrev dktX4_crossings_0 : List UInt8 := dkwX4_crossings_0 ++ dktX4_crossings_1
theorem dksX4_crossings_0 : cX4_crossings.data.toList.drop 0 = dktX4_crossings_0 := by decide +kernel
theorem dksX4_crossings_1 : cX4_crossings.data.toList.drop 24 = dktX4_crossings_1 := dk_seg dksX4_crossings_0 24 rfl rfl
theorem dX4_crossings_0 : decode cX4_crossings 0 = .ok (.iconst 0, 1) := dk_3 (dk_at dksX4_crossings_0 0 rfl rfl)
theorem dX4_crossings_1 : decode cX4_crossings 1 = .ok (.istore_n 2, 1) := dk_61 (dk_at dksX4_crossings_0 1 rfl rfl)
theorem dX4_crossings_2 : decode cX4_crossings 2 = .ok (.iconst 0, 1) := dk_3 (dk_at dksX4_crossings_0 2 rfl rfl)
theorem dX4_crossings_3 : decode cX4_crossings 3 = .ok (.istore_n 3, 1) := dk_62 (dk_at dksX4_crossings_0 3 rfl rfl)
theorem dX4_crossings_4 : decode cX4_crossings 4 = .ok (.iload_n 3, 1) := dk_29 (dk_at dksX4_crossings_0 4 rfl rfl)
theorem dX4_crossings_5 : decode cX4_crossings 5 = .ok (.bipush 10, 2) := dk_16 10 (dk_at dksX4_crossings_0 5 rfl rfl)
theorem dX4_crossings_7 : decode cX4_crossings 7 = .ok (.if_icmp .ge 39, 3) := dk_162 0 39 (dk_at dksX4_crossings_0 7 rfl rfl)
theorem dX4_crossings_10 : decode cX4_crossings 10 = .ok (.iload_n 2, 1) := dk_28 (dk_at dksX4_crossings_0 10 rfl rfl)
theorem dX4_crossings_11 : decode cX4_crossings 11 = .ok (.aload_n 0, 1) := dk_42 (dk_at dksX4_crossings_0 11 rfl rfl)
theorem dX4_crossings_12 : decode cX4_crossings 12 = .ok (.iload_n 1, 1) := dk_27 (dk_at dksX4_crossings_0 12 rfl rfl)
theorem dX4_crossings_13 : decode cX4_crossings 13 = .ok (.iload_n 3, 1) := dk_29 (dk_at dksX4_crossings_0 13 rfl rfl)
theorem dX4_crossings_14 : decode cX4_crossings 14 = .ok (.invokevirtual 68, 3) := dk_182 0 68 (dk_at dksX4_crossings_0 14 rfl rfl)
theorem dX4_crossings_17 : decode cX4_crossings 17 = .ok (.bipush 10, 2) := dk_16 10 (dk_at dksX4_crossings_0 17 rfl rfl)
theorem dX4_crossings_19 : decode cX4_crossings 19 = .ok (.if_icmp .eq 18, 3) := dk_159 0 18 (dk_at dksX4_crossings_0 19 rfl rfl)
theorem dX4_crossings_22 : decode cX4_crossings 22 = .ok (.aload_n 0, 1) := dk_42 (dk_at dksX4_crossings_0 22 rfl rfl)
theorem dX4_crossings_23 : decode cX4_crossings 23 = .ok (.iload_n 1, 1) := dk_27 (dk_at dksX4_crossings_0 23 rfl rfl)
theorem dX4_crossings_24 : decode cX4_crossings 24 = .ok (.iload_n 3, 1) := dk_29 (dk_at dksX4_crossings_1 0 rfl rfl)
theorem dX4_crossings_25 : decode cX4_crossings 25 = .ok (.invokevirtual 71, 3) := dk_182 0 71 (dk_at dksX4_crossings_1 1 rfl rfl)
theorem dX4_crossings_28 : decode cX4_crossings 28 = .ok (.bipush 10, 2) := dk_16 10 (dk_at dksX4_crossings_1 4 rfl rfl)
theorem dX4_crossings_30 : decode cX4_crossings 30 = .ok (.if_icmp .eq 7, 3) := dk_159 0 7 (dk_at dksX4_crossings_1 6 rfl rfl)
theorem dX4_crossings_33 : decode cX4_crossings 33 = .ok (.iconst 1, 1) := dk_4 (dk_at dksX4_crossings_1 9 rfl rfl)
theorem dX4_crossings_34 : decode cX4_crossings 34 = .ok (.goto 4, 3) := dk_167 0 4 (dk_at dksX4_crossings_1 10 rfl rfl)
theorem dX4_crossings_37 : decode cX4_crossings 37 = .ok (.iconst 0, 1) := dk_3 (dk_at dksX4_crossings_1 13 rfl rfl)
theorem dX4_crossings_38 : decode cX4_crossings 38 = .ok (.iadd, 1) := dk_96 (dk_at dksX4_crossings_1 14 rfl rfl)
theorem dX4_crossings_39 : decode cX4_crossings 39 = .ok (.istore_n 2, 1) := dk_61 (dk_at dksX4_crossings_1 15 rfl rfl)
theorem dX4_crossings_40 : decode cX4_crossings 40 = .ok (.iinc 3 1, 3) := dk_132 3 1 (dk_at dksX4_crossings_1 16 rfl rfl)
theorem dX4_crossings_43 : decode cX4_crossings 43 = .ok (.goto (-39), 3) := dk_167 255 217 (dk_at dksX4_crossings_1 19 rfl rfl)
theorem dX4_crossings_46 : decode cX4_crossings 46 = .ok (.iload_n 2, 1) := dk_28 (dk_at dksX4_crossings_1 22 rfl rfl)
theorem dX4_crossings_47 : decode cX4_crossings 47 = .ok (.ireturn, 1) := dk_172 (dk_at dksX4_crossings_1 23 rfl rfl)
abbrev cX4_edgeAt : ByteArray := prog_11_method_53_code
def yX4_edgeAt : MethodName := ⟨RX4, "edgeAt", "(II)I"⟩
def dkwX4_edgeAt_1 : List UInt8 := [167, 0, 4, 2, 172]
abbrev dktX4_edgeAt_1 : List UInt8 := dkwX4_edgeAt_1 ++ []
def dkwX4_edgeAt_0 : List UInt8 := [42, 27, 182, 0, 118, 153, 0, 21, 28, 3, 6, 184, 0, 111, 153, 0, 12, 42, 27, 28, 182, 0, 128]
abbrev dktX4_edgeAt_0 : List UInt8 := dkwX4_edgeAt_0 ++ dktX4_edgeAt_1
theorem dksX4_edgeAt_0 : cX4_edgeAt.data.toList.drop 0 = dktX4_edgeAt_0 := by decide +kernel
theorem dksX4_edgeAt_1 : cX4_edgeAt.data.toList.drop 23 = dktX4_edgeAt_1 := dk_seg dksX4_edgeAt_0 23 rfl rfl
theorem dX4_edgeAt_0 : decode cX4_edgeAt 0 = .ok (.aload_n 0, 1) := dk_42 (dk_at dksX4_edgeAt_0 0 rfl rfl)
theorem dX4_edgeAt_1 : decode cX4_edgeAt 1 = .ok (.iload_n 1, 1) := dk_27 (dk_at dksX4_edgeAt_0 1 rfl rfl)
theorem dX4_edgeAt_2 : decode cX4_edgeAt 2 = .ok (.invokevirtual 118, 3) := dk_182 0 118 (dk_at dksX4_edgeAt_0 2 rfl rfl)
theorem dX4_edgeAt_5 : decode cX4_edgeAt 5 = .ok (.ifCond .eq 21, 3) := dk_153 0 21 (dk_at dksX4_edgeAt_0 5 rfl rfl)
theorem dX4_edgeAt_8 : decode cX4_edgeAt 8 = .ok (.iload_n 2, 1) := dk_28 (dk_at dksX4_edgeAt_0 8 rfl rfl)
theorem dX4_edgeAt_9 : decode cX4_edgeAt 9 = .ok (.iconst 0, 1) := dk_3 (dk_at dksX4_edgeAt_0 9 rfl rfl)
theorem dX4_edgeAt_10 : decode cX4_edgeAt 10 = .ok (.iconst 3, 1) := dk_6 (dk_at dksX4_edgeAt_0 10 rfl rfl)
theorem dX4_edgeAt_11 : decode cX4_edgeAt 11 = .ok (.invokestatic 111, 3) := dk_184 0 111 (dk_at dksX4_edgeAt_0 11 rfl rfl)
theorem dX4_edgeAt_14 : decode cX4_edgeAt 14 = .ok (.ifCond .eq 12, 3) := dk_153 0 12 (dk_at dksX4_edgeAt_0 14 rfl rfl)
theorem dX4_edgeAt_17 : decode cX4_edgeAt 17 = .ok (.aload_n 0, 1) := dk_42 (dk_at dksX4_edgeAt_0 17 rfl rfl)
theorem dX4_edgeAt_18 : decode cX4_edgeAt 18 = .ok (.iload_n 1, 1) := dk_27 (dk_at dksX4_edgeAt_0 18 rfl rfl)
theorem dX4_edgeAt_19 : decode cX4_edgeAt 19 = .ok (.iload_n 2, 1) := dk_28 (dk_at dksX4_edgeAt_0 19 rfl rfl)
theorem dX4_edgeAt_20 : decode cX4_edgeAt 20 = .ok (.invokevirtual 128, 3) := dk_182 0 128 (dk_at dksX4_edgeAt_0 20 rfl rfl)
theorem dX4_edgeAt_23 : decode cX4_edgeAt 23 = .ok (.goto 4, 3) := dk_167 0 4 (dk_at dksX4_edgeAt_1 0 rfl rfl)
theorem dX4_edgeAt_26 : decode cX4_edgeAt 26 = .ok (.iconst (-1), 1) := dk_2 (dk_at dksX4_edgeAt_1 3 rfl rfl)
theorem dX4_edgeAt_27 : decode cX4_edgeAt 27 = .ok (.ireturn, 1) := dk_172 (dk_at dksX4_edgeAt_1 4 rfl rfl)
abbrev cX4_quarrel : ByteArray := prog_11_method_55_code
def yX4_quarrel : MethodName := ⟨RX4, "quarrel", "(III)I"⟩
def dkwX4_quarrel_2 : List UInt8 := [154, 0, 12, 42, 27, 21, 5, 29, 182, 0, 166, 172, 132, 4, 255, 132, 5, 1, 167, 255, 219, 16, 252, 172]
abbrev dktX4_quarrel_2 : List UInt8 := dkwX4_quarrel_2 ++ []
def dkwX4_quarrel_1 : List UInt8 := [54, 4, 3, 54, 5, 21, 5, 16, 10, 162, 0, 36, 42, 27, 21, 5, 182, 0, 74, 158, 0, 20, 21, 4]
abbrev dktX4_quarrel_1 : List UInt8 := dkwX4_quarrel_1 ++ dktX4_quarrel_2
def dkwX4_quarrel_0 : List UInt8 := [42, 27, 182, 0, 160, 153, 0, 16, 28, 155, 0, 12, 29, 3, 6, 184, 0, 111, 154, 0, 5, 2, 172, 28]
abbrev dktX4_quarrel_0 : List UInt8 := dkwX4_quarrel_0 ++ dktX4_quarrel_1
theorem dksX4_quarrel_0 : cX4_quarrel.data.toList.drop 0 = dktX4_quarrel_0 := by decide +kernel
theorem dksX4_quarrel_1 : cX4_quarrel.data.toList.drop 24 = dktX4_quarrel_1 := dk_seg dksX4_quarrel_0 24 rfl rfl
theorem dksX4_quarrel_2 : cX4_quarrel.data.toList.drop 48 = dktX4_quarrel_2 := dk_seg dksX4_quarrel_1 24 rfl rfl
theorem dX4_quarrel_0 : decode cX4_quarrel 0 = .ok (.aload_n 0, 1) := dk_42 (dk_at dksX4_quarrel_0 0 rfl rfl)
theorem dX4_quarrel_1 : decode cX4_quarrel 1 = .ok (.iload_n 1, 1) := dk_27 (dk_at dksX4_quarrel_0 1 rfl rfl)
theorem dX4_quarrel_2 : decode cX4_quarrel 2 = .ok (.invokevirtual 160, 3) := dk_182 0 160 (dk_at dksX4_quarrel_0 2 rfl rfl)
theorem dX4_quarrel_5 : decode cX4_quarrel 5 = .ok (.ifCond .eq 16, 3) := dk_153 0 16 (dk_at dksX4_quarrel_0 5 rfl rfl)
theorem dX4_quarrel_8 : decode cX4_quarrel 8 = .ok (.iload_n 2, 1) := dk_28 (dk_at dksX4_quarrel_0 8 rfl rfl)
theorem dX4_quarrel_9 : decode cX4_quarrel 9 = .ok (.ifCond .lt 12, 3) := dk_155 0 12 (dk_at dksX4_quarrel_0 9 rfl rfl)
theorem dX4_quarrel_12 : decode cX4_quarrel 12 = .ok (.iload_n 3, 1) := dk_29 (dk_at dksX4_quarrel_0 12 rfl rfl)
theorem dX4_quarrel_13 : decode cX4_quarrel 13 = .ok (.iconst 0, 1) := dk_3 (dk_at dksX4_quarrel_0 13 rfl rfl)
theorem dX4_quarrel_14 : decode cX4_quarrel 14 = .ok (.iconst 3, 1) := dk_6 (dk_at dksX4_quarrel_0 14 rfl rfl)
theorem dX4_quarrel_15 : decode cX4_quarrel 15 = .ok (.invokestatic 111, 3) := dk_184 0 111 (dk_at dksX4_quarrel_0 15 rfl rfl)
theorem dX4_quarrel_18 : decode cX4_quarrel 18 = .ok (.ifCond .ne 5, 3) := dk_154 0 5 (dk_at dksX4_quarrel_0 18 rfl rfl)
theorem dX4_quarrel_21 : decode cX4_quarrel 21 = .ok (.iconst (-1), 1) := dk_2 (dk_at dksX4_quarrel_0 21 rfl rfl)
theorem dX4_quarrel_22 : decode cX4_quarrel 22 = .ok (.ireturn, 1) := dk_172 (dk_at dksX4_quarrel_0 22 rfl rfl)
theorem dX4_quarrel_23 : decode cX4_quarrel 23 = .ok (.iload_n 2, 1) := dk_28 (dk_at dksX4_quarrel_0 23 rfl rfl)
theorem dX4_quarrel_24 : decode cX4_quarrel 24 = .ok (.istore 4, 2) := dk_54 4 (dk_at dksX4_quarrel_1 0 rfl rfl)
theorem dX4_quarrel_26 : decode cX4_quarrel 26 = .ok (.iconst 0, 1) := dk_3 (dk_at dksX4_quarrel_1 2 rfl rfl)
theorem dX4_quarrel_27 : decode cX4_quarrel 27 = .ok (.istore 5, 2) := dk_54 5 (dk_at dksX4_quarrel_1 3 rfl rfl)
theorem dX4_quarrel_29 : decode cX4_quarrel 29 = .ok (.iload 5, 2) := dk_21 5 (dk_at dksX4_quarrel_1 5 rfl rfl)
theorem dX4_quarrel_31 : decode cX4_quarrel 31 = .ok (.bipush 10, 2) := dk_16 10 (dk_at dksX4_quarrel_1 7 rfl rfl)
theorem dX4_quarrel_33 : decode cX4_quarrel 33 = .ok (.if_icmp .ge 36, 3) := dk_162 0 36 (dk_at dksX4_quarrel_1 9 rfl rfl)
theorem dX4_quarrel_36 : decode cX4_quarrel 36 = .ok (.aload_n 0, 1) := dk_42 (dk_at dksX4_quarrel_1 12 rfl rfl)
theorem dX4_quarrel_37 : decode cX4_quarrel 37 = .ok (.iload_n 1, 1) := dk_27 (dk_at dksX4_quarrel_1 13 rfl rfl)
theorem dX4_quarrel_38 : decode cX4_quarrel 38 = .ok (.iload 5, 2) := dk_21 5 (dk_at dksX4_quarrel_1 14 rfl rfl)
theorem dX4_quarrel_40 : decode cX4_quarrel 40 = .ok (.invokevirtual 74, 3) := dk_182 0 74 (dk_at dksX4_quarrel_1 16 rfl rfl)
theorem dX4_quarrel_43 : decode cX4_quarrel 43 = .ok (.ifCond .le 20, 3) := dk_158 0 20 (dk_at dksX4_quarrel_1 19 rfl rfl)
theorem dX4_quarrel_46 : decode cX4_quarrel 46 = .ok (.iload 4, 2) := dk_21 4 (dk_at dksX4_quarrel_1 22 rfl rfl)
theorem dX4_quarrel_48 : decode cX4_quarrel 48 = .ok (.ifCond .ne 12, 3) := dk_154 0 12 (dk_at dksX4_quarrel_2 0 rfl rfl)
theorem dX4_quarrel_51 : decode cX4_quarrel 51 = .ok (.aload_n 0, 1) := dk_42 (dk_at dksX4_quarrel_2 3 rfl rfl)
theorem dX4_quarrel_52 : decode cX4_quarrel 52 = .ok (.iload_n 1, 1) := dk_27 (dk_at dksX4_quarrel_2 4 rfl rfl)
theorem dX4_quarrel_53 : decode cX4_quarrel 53 = .ok (.iload 5, 2) := dk_21 5 (dk_at dksX4_quarrel_2 5 rfl rfl)
theorem dX4_quarrel_55 : decode cX4_quarrel 55 = .ok (.iload_n 3, 1) := dk_29 (dk_at dksX4_quarrel_2 7 rfl rfl)
theorem dX4_quarrel_56 : decode cX4_quarrel 56 = .ok (.invokevirtual 166, 3) := dk_182 0 166 (dk_at dksX4_quarrel_2 8 rfl rfl)
theorem dX4_quarrel_59 : decode cX4_quarrel 59 = .ok (.ireturn, 1) := dk_172 (dk_at dksX4_quarrel_2 11 rfl rfl)
theorem dX4_quarrel_60 : decode cX4_quarrel 60 = .ok (.iinc 4 (-1), 3) := dk_132 4 255 (dk_at dksX4_quarrel_2 12 rfl rfl)
theorem dX4_quarrel_63 : decode cX4_quarrel 63 = .ok (.iinc 5 1, 3) := dk_132 5 1 (dk_at dksX4_quarrel_2 15 rfl rfl)
theorem dX4_quarrel_66 : decode cX4_quarrel 66 = .ok (.goto (-37), 3) := dk_167 255 219 (dk_at dksX4_quarrel_2 18 rfl rfl)
theorem dX4_quarrel_69 : decode cX4_quarrel 69 = .ok (.bipush (-4), 2) := dk_16 252 (dk_at dksX4_quarrel_2 21 rfl rfl)
theorem dX4_quarrel_71 : decode cX4_quarrel 71 = .ok (.ireturn, 1) := dk_172 (dk_at dksX4_quarrel_2 23 rfl rfl)
abbrev cX4_quarrelAt : ByteArray := prog_11_method_54_code
def yX4_quarrelAt : MethodName := ⟨RX4, "quarrelAt", "(III)I"⟩
def dkwX4_quarrelAt_2 : List UInt8 := [164, 0, 15, 21, 4, 16, 10, 160, 0, 8, 16, 252, 167, 0, 5, 21, 4, 172]
abbrev dktX4_quarrelAt_2 : List UInt8 := dkwX4_quarrelAt_2 ++ []
def dkwX4_quarrelAt_1 : List UInt8 := [160, 0, 12, 42, 27, 28, 182, 0, 68, 167, 0, 9, 42, 27, 28, 182, 0, 71, 54, 4, 29, 4]
abbrev dktX4_quarrelAt_1 : List UInt8 := dkwX4_quarrelAt_1 ++ dktX4_quarrelAt_2
def dkwX4_quarrelAt_0 : List UInt8 := [29, 154, 0, 7, 28, 167, 0, 37, 29, 4, 160, 0, 12, 42, 27, 28, 182, 0, 74, 167, 0, 23, 29, 5]
abbrev dktX4_quarrelAt_0 : List UInt8 := dkwX4_quarrelAt_0 ++ dktX4_quarrelAt_1
theorem dksX4_quarrelAt_0 : cX4_quarrelAt.data.toList.drop 0 = dktX4_quarrelAt_0 := by decide +kernel
theorem dksX4_quarrelAt_1 : cX4_quarrelAt.data.toList.drop 24 = dktX4_quarrelAt_1 := dk_seg dksX4_quarrelAt_0 24 rfl rfl
theorem dksX4_quarrelAt_2 : cX4_quarrelAt.data.toList.drop 46 = dktX4_quarrelAt_2 := dk_seg dksX4_quarrelAt_1 22 rfl rfl
theorem dX4_quarrelAt_0 : decode cX4_quarrelAt 0 = .ok (.iload_n 3, 1) := dk_29 (dk_at dksX4_quarrelAt_0 0 rfl rfl)
theorem dX4_quarrelAt_1 : decode cX4_quarrelAt 1 = .ok (.ifCond .ne 7, 3) := dk_154 0 7 (dk_at dksX4_quarrelAt_0 1 rfl rfl)
theorem dX4_quarrelAt_4 : decode cX4_quarrelAt 4 = .ok (.iload_n 2, 1) := dk_28 (dk_at dksX4_quarrelAt_0 4 rfl rfl)
theorem dX4_quarrelAt_5 : decode cX4_quarrelAt 5 = .ok (.goto 37, 3) := dk_167 0 37 (dk_at dksX4_quarrelAt_0 5 rfl rfl)
theorem dX4_quarrelAt_8 : decode cX4_quarrelAt 8 = .ok (.iload_n 3, 1) := dk_29 (dk_at dksX4_quarrelAt_0 8 rfl rfl)
theorem dX4_quarrelAt_9 : decode cX4_quarrelAt 9 = .ok (.iconst 1, 1) := dk_4 (dk_at dksX4_quarrelAt_0 9 rfl rfl)
theorem dX4_quarrelAt_10 : decode cX4_quarrelAt 10 = .ok (.if_icmp .ne 12, 3) := dk_160 0 12 (dk_at dksX4_quarrelAt_0 10 rfl rfl)
theorem dX4_quarrelAt_13 : decode cX4_quarrelAt 13 = .ok (.aload_n 0, 1) := dk_42 (dk_at dksX4_quarrelAt_0 13 rfl rfl)
theorem dX4_quarrelAt_14 : decode cX4_quarrelAt 14 = .ok (.iload_n 1, 1) := dk_27 (dk_at dksX4_quarrelAt_0 14 rfl rfl)
theorem dX4_quarrelAt_15 : decode cX4_quarrelAt 15 = .ok (.iload_n 2, 1) := dk_28 (dk_at dksX4_quarrelAt_0 15 rfl rfl)
theorem dX4_quarrelAt_16 : decode cX4_quarrelAt 16 = .ok (.invokevirtual 74, 3) := dk_182 0 74 (dk_at dksX4_quarrelAt_0 16 rfl rfl)
theorem dX4_quarrelAt_19 : decode cX4_quarrelAt 19 = .ok (.goto 23, 3) := dk_167 0 23 (dk_at dksX4_quarrelAt_0 19 rfl rfl)
theorem dX4_quarrelAt_22 : decode cX4_quarrelAt 22 = .ok (.iload_n 3, 1) := dk_29 (dk_at dksX4_quarrelAt_0 22 rfl rfl)
theorem dX4_quarrelAt_23 : decode cX4_quarrelAt 23 = .ok (.iconst 2, 1) := dk_5 (dk_at dksX4_quarrelAt_0 23 rfl rfl)
theorem dX4_quarrelAt_24 : decode cX4_quarrelAt 24 = .ok (.if_icmp .ne 12, 3) := dk_160 0 12 (dk_at dksX4_quarrelAt_1 0 rfl rfl)
theorem dX4_quarrelAt_27 : decode cX4_quarrelAt 27 = .ok (.aload_n 0, 1) := dk_42 (dk_at dksX4_quarrelAt_1 3 rfl rfl)
theorem dX4_quarrelAt_28 : decode cX4_quarrelAt 28 = .ok (.iload_n 1, 1) := dk_27 (dk_at dksX4_quarrelAt_1 4 rfl rfl)
theorem dX4_quarrelAt_29 : decode cX4_quarrelAt 29 = .ok (.iload_n 2, 1) := dk_28 (dk_at dksX4_quarrelAt_1 5 rfl rfl)
theorem dX4_quarrelAt_30 : decode cX4_quarrelAt 30 = .ok (.invokevirtual 68, 3) := dk_182 0 68 (dk_at dksX4_quarrelAt_1 6 rfl rfl)
theorem dX4_quarrelAt_33 : decode cX4_quarrelAt 33 = .ok (.goto 9, 3) := dk_167 0 9 (dk_at dksX4_quarrelAt_1 9 rfl rfl)
theorem dX4_quarrelAt_36 : decode cX4_quarrelAt 36 = .ok (.aload_n 0, 1) := dk_42 (dk_at dksX4_quarrelAt_1 12 rfl rfl)
theorem dX4_quarrelAt_37 : decode cX4_quarrelAt 37 = .ok (.iload_n 1, 1) := dk_27 (dk_at dksX4_quarrelAt_1 13 rfl rfl)
theorem dX4_quarrelAt_38 : decode cX4_quarrelAt 38 = .ok (.iload_n 2, 1) := dk_28 (dk_at dksX4_quarrelAt_1 14 rfl rfl)
theorem dX4_quarrelAt_39 : decode cX4_quarrelAt 39 = .ok (.invokevirtual 71, 3) := dk_182 0 71 (dk_at dksX4_quarrelAt_1 15 rfl rfl)
theorem dX4_quarrelAt_42 : decode cX4_quarrelAt 42 = .ok (.istore 4, 2) := dk_54 4 (dk_at dksX4_quarrelAt_1 18 rfl rfl)
theorem dX4_quarrelAt_44 : decode cX4_quarrelAt 44 = .ok (.iload_n 3, 1) := dk_29 (dk_at dksX4_quarrelAt_1 20 rfl rfl)
theorem dX4_quarrelAt_45 : decode cX4_quarrelAt 45 = .ok (.iconst 1, 1) := dk_4 (dk_at dksX4_quarrelAt_1 21 rfl rfl)
theorem dX4_quarrelAt_46 : decode cX4_quarrelAt 46 = .ok (.if_icmp .le 15, 3) := dk_164 0 15 (dk_at dksX4_quarrelAt_2 0 rfl rfl)
theorem dX4_quarrelAt_49 : decode cX4_quarrelAt 49 = .ok (.iload 4, 2) := dk_21 4 (dk_at dksX4_quarrelAt_2 3 rfl rfl)
theorem dX4_quarrelAt_51 : decode cX4_quarrelAt 51 = .ok (.bipush 10, 2) := dk_16 10 (dk_at dksX4_quarrelAt_2 5 rfl rfl)
theorem dX4_quarrelAt_53 : decode cX4_quarrelAt 53 = .ok (.if_icmp .ne 8, 3) := dk_160 0 8 (dk_at dksX4_quarrelAt_2 7 rfl rfl)
theorem dX4_quarrelAt_56 : decode cX4_quarrelAt 56 = .ok (.bipush (-4), 2) := dk_16 252 (dk_at dksX4_quarrelAt_2 10 rfl rfl)
theorem dX4_quarrelAt_58 : decode cX4_quarrelAt 58 = .ok (.goto 5, 3) := dk_167 0 5 (dk_at dksX4_quarrelAt_2 12 rfl rfl)
theorem dX4_quarrelAt_61 : decode cX4_quarrelAt 61 = .ok (.iload 4, 2) := dk_21 4 (dk_at dksX4_quarrelAt_2 15 rfl rfl)
theorem dX4_quarrelAt_63 : decode cX4_quarrelAt 63 = .ok (.ireturn, 1) := dk_172 (dk_at dksX4_quarrelAt_2 17 rfl rfl)
abbrev cX4_agree : ByteArray := prog_11_method_56_code
def yX4_agree : MethodName := ⟨RX4, "agree", "(I)I"⟩
def dkwX4_agree_2 : List UInt8 := [182, 0, 95, 172]
abbrev dktX4_agree_2 : List UInt8 := dkwX4_agree_2 ++ []
def dkwX4_agree_1 : List UInt8 := [182, 0, 115, 42, 180, 0, 7, 7, 27, 96, 46, 61, 42, 180, 0, 7, 7, 27, 96, 4, 79, 42, 28]
abbrev dktX4_agree_1 : List UInt8 := dkwX4_agree_1 ++ dktX4_agree_2
def dkwX4_agree_0 : List UInt8 := [42, 27, 182, 0, 160, 154, 0, 5, 2, 172, 42, 27, 182, 0, 81, 158, 0, 6, 16, 254, 172, 42]
abbrev dktX4_agree_0 : List UInt8 := dkwX4_agree_0 ++ dktX4_agree_1
theorem dksX4_agree_0 : cX4_agree.data.toList.drop 0 = dktX4_agree_0 := by decide +kernel
theorem dksX4_agree_1 : cX4_agree.data.toList.drop 22 = dktX4_agree_1 := dk_seg dksX4_agree_0 22 rfl rfl
theorem dksX4_agree_2 : cX4_agree.data.toList.drop 45 = dktX4_agree_2 := dk_seg dksX4_agree_1 23 rfl rfl
theorem dX4_agree_0 : decode cX4_agree 0 = .ok (.aload_n 0, 1) := dk_42 (dk_at dksX4_agree_0 0 rfl rfl)
theorem dX4_agree_1 : decode cX4_agree 1 = .ok (.iload_n 1, 1) := dk_27 (dk_at dksX4_agree_0 1 rfl rfl)
theorem dX4_agree_2 : decode cX4_agree 2 = .ok (.invokevirtual 160, 3) := dk_182 0 160 (dk_at dksX4_agree_0 2 rfl rfl)
theorem dX4_agree_5 : decode cX4_agree 5 = .ok (.ifCond .ne 5, 3) := dk_154 0 5 (dk_at dksX4_agree_0 5 rfl rfl)
theorem dX4_agree_8 : decode cX4_agree 8 = .ok (.iconst (-1), 1) := dk_2 (dk_at dksX4_agree_0 8 rfl rfl)
theorem dX4_agree_9 : decode cX4_agree 9 = .ok (.ireturn, 1) := dk_172 (dk_at dksX4_agree_0 9 rfl rfl)
theorem dX4_agree_10 : decode cX4_agree 10 = .ok (.aload_n 0, 1) := dk_42 (dk_at dksX4_agree_0 10 rfl rfl)
theorem dX4_agree_11 : decode cX4_agree 11 = .ok (.iload_n 1, 1) := dk_27 (dk_at dksX4_agree_0 11 rfl rfl)
theorem dX4_agree_12 : decode cX4_agree 12 = .ok (.invokevirtual 81, 3) := dk_182 0 81 (dk_at dksX4_agree_0 12 rfl rfl)
theorem dX4_agree_15 : decode cX4_agree 15 = .ok (.ifCond .le 6, 3) := dk_158 0 6 (dk_at dksX4_agree_0 15 rfl rfl)
theorem dX4_agree_18 : decode cX4_agree 18 = .ok (.bipush (-2), 2) := dk_16 254 (dk_at dksX4_agree_0 18 rfl rfl)
theorem dX4_agree_20 : decode cX4_agree 20 = .ok (.ireturn, 1) := dk_172 (dk_at dksX4_agree_0 20 rfl rfl)
theorem dX4_agree_21 : decode cX4_agree 21 = .ok (.aload_n 0, 1) := dk_42 (dk_at dksX4_agree_0 21 rfl rfl)
theorem dX4_agree_22 : decode cX4_agree 22 = .ok (.invokevirtual 115, 3) := dk_182 0 115 (dk_at dksX4_agree_1 0 rfl rfl)
theorem dX4_agree_25 : decode cX4_agree 25 = .ok (.aload_n 0, 1) := dk_42 (dk_at dksX4_agree_1 3 rfl rfl)
theorem dX4_agree_26 : decode cX4_agree 26 = .ok (.getfield 7, 3) := dk_180 0 7 (dk_at dksX4_agree_1 4 rfl rfl)
theorem dX4_agree_29 : decode cX4_agree 29 = .ok (.iconst 4, 1) := dk_7 (dk_at dksX4_agree_1 7 rfl rfl)
theorem dX4_agree_30 : decode cX4_agree 30 = .ok (.iload_n 1, 1) := dk_27 (dk_at dksX4_agree_1 8 rfl rfl)
theorem dX4_agree_31 : decode cX4_agree 31 = .ok (.iadd, 1) := dk_96 (dk_at dksX4_agree_1 9 rfl rfl)
theorem dX4_agree_32 : decode cX4_agree 32 = .ok (.iaload, 1) := dk_46 (dk_at dksX4_agree_1 10 rfl rfl)
theorem dX4_agree_33 : decode cX4_agree 33 = .ok (.istore_n 2, 1) := dk_61 (dk_at dksX4_agree_1 11 rfl rfl)
theorem dX4_agree_34 : decode cX4_agree 34 = .ok (.aload_n 0, 1) := dk_42 (dk_at dksX4_agree_1 12 rfl rfl)
theorem dX4_agree_35 : decode cX4_agree 35 = .ok (.getfield 7, 3) := dk_180 0 7 (dk_at dksX4_agree_1 13 rfl rfl)
theorem dX4_agree_38 : decode cX4_agree 38 = .ok (.iconst 4, 1) := dk_7 (dk_at dksX4_agree_1 16 rfl rfl)
theorem dX4_agree_39 : decode cX4_agree 39 = .ok (.iload_n 1, 1) := dk_27 (dk_at dksX4_agree_1 17 rfl rfl)
theorem dX4_agree_40 : decode cX4_agree 40 = .ok (.iadd, 1) := dk_96 (dk_at dksX4_agree_1 18 rfl rfl)
theorem dX4_agree_41 : decode cX4_agree 41 = .ok (.iconst 1, 1) := dk_4 (dk_at dksX4_agree_1 19 rfl rfl)
theorem dX4_agree_42 : decode cX4_agree 42 = .ok (.iastore, 1) := dk_79 (dk_at dksX4_agree_1 20 rfl rfl)
theorem dX4_agree_43 : decode cX4_agree 43 = .ok (.aload_n 0, 1) := dk_42 (dk_at dksX4_agree_1 21 rfl rfl)
theorem dX4_agree_44 : decode cX4_agree 44 = .ok (.iload_n 2, 1) := dk_28 (dk_at dksX4_agree_1 22 rfl rfl)
theorem dX4_agree_45 : decode cX4_agree 45 = .ok (.invokevirtual 95, 3) := dk_182 0 95 (dk_at dksX4_agree_2 0 rfl rfl)
theorem dX4_agree_48 : decode cX4_agree 48 = .ok (.ireturn, 1) := dk_172 (dk_at dksX4_agree_2 3 rfl rfl)
abbrev cX4_release : ByteArray := prog_11_method_57_code
def yX4_release : MethodName := ⟨RX4, "release", "(I)I"⟩
def dkwX4_release_1 : List UInt8 := [182, 0, 115, 42, 180, 0, 7, 7, 27, 96, 3, 79, 42, 42, 182, 0, 150, 182, 0, 95, 172]
abbrev dktX4_release_1 : List UInt8 := dkwX4_release_1 ++ []
def dkwX4_release_0 : List UInt8 := [42, 27, 182, 0, 160, 154, 0, 5, 2, 172, 42, 27, 182, 0, 77, 154, 0, 6, 16, 254, 172, 42]
abbrev dktX4_release_0 : List UInt8 := dkwX4_release_0 ++ dktX4_release_1
theorem dksX4_release_0 : cX4_release.data.toList.drop 0 = dktX4_release_0 := by decide +kernel
theorem dksX4_release_1 : cX4_release.data.toList.drop 22 = dktX4_release_1 := dk_seg dksX4_release_0 22 rfl rfl
theorem dX4_release_0 : decode cX4_release 0 = .ok (.aload_n 0, 1) := dk_42 (dk_at dksX4_release_0 0 rfl rfl)
theorem dX4_release_1 : decode cX4_release 1 = .ok (.iload_n 1, 1) := dk_27 (dk_at dksX4_release_0 1 rfl rfl)
theorem dX4_release_2 : decode cX4_release 2 = .ok (.invokevirtual 160, 3) := dk_182 0 160 (dk_at dksX4_release_0 2 rfl rfl)
theorem dX4_release_5 : decode cX4_release 5 = .ok (.ifCond .ne 5, 3) := dk_154 0 5 (dk_at dksX4_release_0 5 rfl rfl)
theorem dX4_release_8 : decode cX4_release 8 = .ok (.iconst (-1), 1) := dk_2 (dk_at dksX4_release_0 8 rfl rfl)
theorem dX4_release_9 : decode cX4_release 9 = .ok (.ireturn, 1) := dk_172 (dk_at dksX4_release_0 9 rfl rfl)
theorem dX4_release_10 : decode cX4_release 10 = .ok (.aload_n 0, 1) := dk_42 (dk_at dksX4_release_0 10 rfl rfl)
theorem dX4_release_11 : decode cX4_release 11 = .ok (.iload_n 1, 1) := dk_27 (dk_at dksX4_release_0 11 rfl rfl)
theorem dX4_release_12 : decode cX4_release 12 = .ok (.invokevirtual 77, 3) := dk_182 0 77 (dk_at dksX4_release_0 12 rfl rfl)
theorem dX4_release_15 : decode cX4_release 15 = .ok (.ifCond .ne 6, 3) := dk_154 0 6 (dk_at dksX4_release_0 15 rfl rfl)
theorem dX4_release_18 : decode cX4_release 18 = .ok (.bipush (-2), 2) := dk_16 254 (dk_at dksX4_release_0 18 rfl rfl)
theorem dX4_release_20 : decode cX4_release 20 = .ok (.ireturn, 1) := dk_172 (dk_at dksX4_release_0 20 rfl rfl)
theorem dX4_release_21 : decode cX4_release 21 = .ok (.aload_n 0, 1) := dk_42 (dk_at dksX4_release_0 21 rfl rfl)
theorem dX4_release_22 : decode cX4_release 22 = .ok (.invokevirtual 115, 3) := dk_182 0 115 (dk_at dksX4_release_1 0 rfl rfl)
theorem dX4_release_25 : decode cX4_release 25 = .ok (.aload_n 0, 1) := dk_42 (dk_at dksX4_release_1 3 rfl rfl)
theorem dX4_release_26 : decode cX4_release 26 = .ok (.getfield 7, 3) := dk_180 0 7 (dk_at dksX4_release_1 4 rfl rfl)
theorem dX4_release_29 : decode cX4_release 29 = .ok (.iconst 4, 1) := dk_7 (dk_at dksX4_release_1 7 rfl rfl)
theorem dX4_release_30 : decode cX4_release 30 = .ok (.iload_n 1, 1) := dk_27 (dk_at dksX4_release_1 8 rfl rfl)
theorem dX4_release_31 : decode cX4_release 31 = .ok (.iadd, 1) := dk_96 (dk_at dksX4_release_1 9 rfl rfl)
theorem dX4_release_32 : decode cX4_release 32 = .ok (.iconst 0, 1) := dk_3 (dk_at dksX4_release_1 10 rfl rfl)
theorem dX4_release_33 : decode cX4_release 33 = .ok (.iastore, 1) := dk_79 (dk_at dksX4_release_1 11 rfl rfl)
theorem dX4_release_34 : decode cX4_release 34 = .ok (.aload_n 0, 1) := dk_42 (dk_at dksX4_release_1 12 rfl rfl)
theorem dX4_release_35 : decode cX4_release 35 = .ok (.aload_n 0, 1) := dk_42 (dk_at dksX4_release_1 13 rfl rfl)
theorem dX4_release_36 : decode cX4_release 36 = .ok (.invokevirtual 150, 3) := dk_182 0 150 (dk_at dksX4_release_1 14 rfl rfl)
theorem dX4_release_39 : decode cX4_release 39 = .ok (.invokevirtual 95, 3) := dk_182 0 95 (dk_at dksX4_release_1 17 rfl rfl)
theorem dX4_release_42 : decode cX4_release 42 = .ok (.ireturn, 1) := dk_172 (dk_at dksX4_release_1 20 rfl rfl)
abbrev cX4_settle : ByteArray := prog_11_method_59_code
def yX4_settle : MethodName := ⟨RX4, "settle", "(II)I"⟩
def dkwX4_settle_9 : List UInt8 := [182, 0, 91, 42, 21, 6, 182, 0, 95, 172]
abbrev dktX4_settle_9 : List UInt8 := dkwX4_settle_9 ++ []
def dkwX4_settle_8 : List UInt8 := [21, 7, 96, 21, 9, 182, 0, 41, 132, 7, 1, 167, 255, 156, 21, 6, 158, 0, 9, 42, 21, 4]
abbrev dktX4_settle_8 : List UInt8 := dkwX4_settle_8 ++ dktX4_settle_9
def dkwX4_settle_7 : List UInt8 := [21, 9, 21, 8, 160, 0, 7, 3, 167, 0, 4, 4, 96, 54, 6, 42, 21, 4, 16, 10, 21, 5, 104]
abbrev dktX4_settle_7 : List UInt8 := dkwX4_settle_7 ++ dktX4_settle_8
def dkwX4_settle_6 : List UInt8 := [182, 0, 71, 182, 0, 169, 54, 9, 21, 9, 16, 252, 160, 0, 10, 42, 182, 0, 88, 16, 254, 172, 21, 6]
abbrev dktX4_settle_6 : List UInt8 := dkwX4_settle_6 ++ dktX4_settle_7
def dkwX4_settle_5 : List UInt8 := [42, 21, 4, 21, 8, 29, 153, 0, 13, 42, 27, 21, 7, 182, 0, 68, 167, 0, 10, 42, 27, 21, 7]
abbrev dktX4_settle_5 : List UInt8 := dkwX4_settle_5 ++ dktX4_settle_6
def dkwX4_settle_4 : List UInt8 := [54, 6, 3, 54, 7, 21, 7, 16, 10, 162, 0, 99, 42, 21, 4, 21, 5, 21, 7, 182, 0, 45, 54, 8]
abbrev dktX4_settle_4 : List UInt8 := dkwX4_settle_4 ++ dktX4_settle_5
def dkwX4_settle_3 : List UInt8 := [27, 182, 0, 59, 167, 0, 17, 42, 27, 182, 0, 59, 4, 160, 0, 7, 6, 167, 0, 4, 3, 54, 5, 3]
abbrev dktX4_settle_3 : List UInt8 := dkwX4_settle_3 ++ dktX4_settle_4
def dkwX4_settle_2 : List UInt8 := [29, 153, 0, 11, 42, 27, 182, 0, 65, 167, 0, 8, 42, 27, 182, 0, 55, 54, 4, 29, 154, 0, 11, 42]
abbrev dktX4_settle_2 : List UInt8 := dkwX4_settle_2 ++ dktX4_settle_3
def dkwX4_settle_1 : List UInt8 := [159, 0, 5, 2, 172, 42, 182, 0, 115, 28, 42, 27, 182, 0, 55, 160, 0, 7, 4, 167, 0, 4, 3, 62]
abbrev dktX4_settle_1 : List UInt8 := dkwX4_settle_1 ++ dktX4_settle_2
def dkwX4_settle_0 : List UInt8 := [42, 27, 182, 0, 160, 153, 0, 21, 28, 42, 27, 182, 0, 55, 159, 0, 14, 28, 42, 27, 182, 0, 65]
abbrev dktX4_settle_0 : List UInt8 := dkwX4_settle_0 ++ dktX4_settle_1
theorem dksX4_settle_0 : cX4_settle.data.toList.drop 0 = dktX4_settle_0 := by decide +kernel
theorem dksX4_settle_1 : cX4_settle.data.toList.drop 23 = dktX4_settle_1 := dk_seg dksX4_settle_0 23 rfl rfl
theorem dksX4_settle_2 : cX4_settle.data.toList.drop 47 = dktX4_settle_2 := dk_seg dksX4_settle_1 24 rfl rfl
theorem dksX4_settle_3 : cX4_settle.data.toList.drop 71 = dktX4_settle_3 := dk_seg dksX4_settle_2 24 rfl rfl
theorem dksX4_settle_4 : cX4_settle.data.toList.drop 95 = dktX4_settle_4 := dk_seg dksX4_settle_3 24 rfl rfl
theorem dksX4_settle_5 : cX4_settle.data.toList.drop 119 = dktX4_settle_5 := dk_seg dksX4_settle_4 24 rfl rfl
theorem dksX4_settle_6 : cX4_settle.data.toList.drop 142 = dktX4_settle_6 := dk_seg dksX4_settle_5 23 rfl rfl
theorem dksX4_settle_7 : cX4_settle.data.toList.drop 166 = dktX4_settle_7 := dk_seg dksX4_settle_6 24 rfl rfl
theorem dksX4_settle_8 : cX4_settle.data.toList.drop 189 = dktX4_settle_8 := dk_seg dksX4_settle_7 23 rfl rfl
theorem dksX4_settle_9 : cX4_settle.data.toList.drop 211 = dktX4_settle_9 := dk_seg dksX4_settle_8 22 rfl rfl
theorem dX4_settle_0 : decode cX4_settle 0 = .ok (.aload_n 0, 1) := dk_42 (dk_at dksX4_settle_0 0 rfl rfl)
theorem dX4_settle_1 : decode cX4_settle 1 = .ok (.iload_n 1, 1) := dk_27 (dk_at dksX4_settle_0 1 rfl rfl)
theorem dX4_settle_2 : decode cX4_settle 2 = .ok (.invokevirtual 160, 3) := dk_182 0 160 (dk_at dksX4_settle_0 2 rfl rfl)
theorem dX4_settle_5 : decode cX4_settle 5 = .ok (.ifCond .eq 21, 3) := dk_153 0 21 (dk_at dksX4_settle_0 5 rfl rfl)
theorem dX4_settle_8 : decode cX4_settle 8 = .ok (.iload_n 2, 1) := dk_28 (dk_at dksX4_settle_0 8 rfl rfl)
theorem dX4_settle_9 : decode cX4_settle 9 = .ok (.aload_n 0, 1) := dk_42 (dk_at dksX4_settle_0 9 rfl rfl)
theorem dX4_settle_10 : decode cX4_settle 10 = .ok (.iload_n 1, 1) := dk_27 (dk_at dksX4_settle_0 10 rfl rfl)
theorem dX4_settle_11 : decode cX4_settle 11 = .ok (.invokevirtual 55, 3) := dk_182 0 55 (dk_at dksX4_settle_0 11 rfl rfl)
theorem dX4_settle_14 : decode cX4_settle 14 = .ok (.if_icmp .eq 14, 3) := dk_159 0 14 (dk_at dksX4_settle_0 14 rfl rfl)
theorem dX4_settle_17 : decode cX4_settle 17 = .ok (.iload_n 2, 1) := dk_28 (dk_at dksX4_settle_0 17 rfl rfl)
theorem dX4_settle_18 : decode cX4_settle 18 = .ok (.aload_n 0, 1) := dk_42 (dk_at dksX4_settle_0 18 rfl rfl)
theorem dX4_settle_19 : decode cX4_settle 19 = .ok (.iload_n 1, 1) := dk_27 (dk_at dksX4_settle_0 19 rfl rfl)
theorem dX4_settle_20 : decode cX4_settle 20 = .ok (.invokevirtual 65, 3) := dk_182 0 65 (dk_at dksX4_settle_0 20 rfl rfl)
theorem dX4_settle_23 : decode cX4_settle 23 = .ok (.if_icmp .eq 5, 3) := dk_159 0 5 (dk_at dksX4_settle_1 0 rfl rfl)
theorem dX4_settle_26 : decode cX4_settle 26 = .ok (.iconst (-1), 1) := dk_2 (dk_at dksX4_settle_1 3 rfl rfl)
theorem dX4_settle_27 : decode cX4_settle 27 = .ok (.ireturn, 1) := dk_172 (dk_at dksX4_settle_1 4 rfl rfl)
theorem dX4_settle_28 : decode cX4_settle 28 = .ok (.aload_n 0, 1) := dk_42 (dk_at dksX4_settle_1 5 rfl rfl)
theorem dX4_settle_29 : decode cX4_settle 29 = .ok (.invokevirtual 115, 3) := dk_182 0 115 (dk_at dksX4_settle_1 6 rfl rfl)
theorem dX4_settle_32 : decode cX4_settle 32 = .ok (.iload_n 2, 1) := dk_28 (dk_at dksX4_settle_1 9 rfl rfl)
theorem dX4_settle_33 : decode cX4_settle 33 = .ok (.aload_n 0, 1) := dk_42 (dk_at dksX4_settle_1 10 rfl rfl)
theorem dX4_settle_34 : decode cX4_settle 34 = .ok (.iload_n 1, 1) := dk_27 (dk_at dksX4_settle_1 11 rfl rfl)
theorem dX4_settle_35 : decode cX4_settle 35 = .ok (.invokevirtual 55, 3) := dk_182 0 55 (dk_at dksX4_settle_1 12 rfl rfl)
theorem dX4_settle_38 : decode cX4_settle 38 = .ok (.if_icmp .ne 7, 3) := dk_160 0 7 (dk_at dksX4_settle_1 15 rfl rfl)
theorem dX4_settle_41 : decode cX4_settle 41 = .ok (.iconst 1, 1) := dk_4 (dk_at dksX4_settle_1 18 rfl rfl)
theorem dX4_settle_42 : decode cX4_settle 42 = .ok (.goto 4, 3) := dk_167 0 4 (dk_at dksX4_settle_1 19 rfl rfl)
theorem dX4_settle_45 : decode cX4_settle 45 = .ok (.iconst 0, 1) := dk_3 (dk_at dksX4_settle_1 22 rfl rfl)
theorem dX4_settle_46 : decode cX4_settle 46 = .ok (.istore_n 3, 1) := dk_62 (dk_at dksX4_settle_1 23 rfl rfl)
theorem dX4_settle_47 : decode cX4_settle 47 = .ok (.iload_n 3, 1) := dk_29 (dk_at dksX4_settle_2 0 rfl rfl)
theorem dX4_settle_48 : decode cX4_settle 48 = .ok (.ifCond .eq 11, 3) := dk_153 0 11 (dk_at dksX4_settle_2 1 rfl rfl)
theorem dX4_settle_51 : decode cX4_settle 51 = .ok (.aload_n 0, 1) := dk_42 (dk_at dksX4_settle_2 4 rfl rfl)
theorem dX4_settle_52 : decode cX4_settle 52 = .ok (.iload_n 1, 1) := dk_27 (dk_at dksX4_settle_2 5 rfl rfl)
theorem dX4_settle_53 : decode cX4_settle 53 = .ok (.invokevirtual 65, 3) := dk_182 0 65 (dk_at dksX4_settle_2 6 rfl rfl)
theorem dX4_settle_56 : decode cX4_settle 56 = .ok (.goto 8, 3) := dk_167 0 8 (dk_at dksX4_settle_2 9 rfl rfl)
theorem dX4_settle_59 : decode cX4_settle 59 = .ok (.aload_n 0, 1) := dk_42 (dk_at dksX4_settle_2 12 rfl rfl)
theorem dX4_settle_60 : decode cX4_settle 60 = .ok (.iload_n 1, 1) := dk_27 (dk_at dksX4_settle_2 13 rfl rfl)
theorem dX4_settle_61 : decode cX4_settle 61 = .ok (.invokevirtual 55, 3) := dk_182 0 55 (dk_at dksX4_settle_2 14 rfl rfl)
theorem dX4_settle_64 : decode cX4_settle 64 = .ok (.istore 4, 2) := dk_54 4 (dk_at dksX4_settle_2 17 rfl rfl)
theorem dX4_settle_66 : decode cX4_settle 66 = .ok (.iload_n 3, 1) := dk_29 (dk_at dksX4_settle_2 19 rfl rfl)
theorem dX4_settle_67 : decode cX4_settle 67 = .ok (.ifCond .ne 11, 3) := dk_154 0 11 (dk_at dksX4_settle_2 20 rfl rfl)
theorem dX4_settle_70 : decode cX4_settle 70 = .ok (.aload_n 0, 1) := dk_42 (dk_at dksX4_settle_2 23 rfl rfl)
theorem dX4_settle_71 : decode cX4_settle 71 = .ok (.iload_n 1, 1) := dk_27 (dk_at dksX4_settle_3 0 rfl rfl)
theorem dX4_settle_72 : decode cX4_settle 72 = .ok (.invokevirtual 59, 3) := dk_182 0 59 (dk_at dksX4_settle_3 1 rfl rfl)
theorem dX4_settle_75 : decode cX4_settle 75 = .ok (.goto 17, 3) := dk_167 0 17 (dk_at dksX4_settle_3 4 rfl rfl)
theorem dX4_settle_78 : decode cX4_settle 78 = .ok (.aload_n 0, 1) := dk_42 (dk_at dksX4_settle_3 7 rfl rfl)
theorem dX4_settle_79 : decode cX4_settle 79 = .ok (.iload_n 1, 1) := dk_27 (dk_at dksX4_settle_3 8 rfl rfl)
theorem dX4_settle_80 : decode cX4_settle 80 = .ok (.invokevirtual 59, 3) := dk_182 0 59 (dk_at dksX4_settle_3 9 rfl rfl)
theorem dX4_settle_83 : decode cX4_settle 83 = .ok (.iconst 1, 1) := dk_4 (dk_at dksX4_settle_3 12 rfl rfl)
theorem dX4_settle_84 : decode cX4_settle 84 = .ok (.if_icmp .ne 7, 3) := dk_160 0 7 (dk_at dksX4_settle_3 13 rfl rfl)
theorem dX4_settle_87 : decode cX4_settle 87 = .ok (.iconst 3, 1) := dk_6 (dk_at dksX4_settle_3 16 rfl rfl)
theorem dX4_settle_88 : decode cX4_settle 88 = .ok (.goto 4, 3) := dk_167 0 4 (dk_at dksX4_settle_3 17 rfl rfl)
theorem dX4_settle_91 : decode cX4_settle 91 = .ok (.iconst 0, 1) := dk_3 (dk_at dksX4_settle_3 20 rfl rfl)
theorem dX4_settle_92 : decode cX4_settle 92 = .ok (.istore 5, 2) := dk_54 5 (dk_at dksX4_settle_3 21 rfl rfl)
theorem dX4_settle_94 : decode cX4_settle 94 = .ok (.iconst 0, 1) := dk_3 (dk_at dksX4_settle_3 23 rfl rfl)
theorem dX4_settle_95 : decode cX4_settle 95 = .ok (.istore 6, 2) := dk_54 6 (dk_at dksX4_settle_4 0 rfl rfl)
theorem dX4_settle_97 : decode cX4_settle 97 = .ok (.iconst 0, 1) := dk_3 (dk_at dksX4_settle_4 2 rfl rfl)
theorem dX4_settle_98 : decode cX4_settle 98 = .ok (.istore 7, 2) := dk_54 7 (dk_at dksX4_settle_4 3 rfl rfl)
theorem dX4_settle_100 : decode cX4_settle 100 = .ok (.iload 7, 2) := dk_21 7 (dk_at dksX4_settle_4 5 rfl rfl)
theorem dX4_settle_102 : decode cX4_settle 102 = .ok (.bipush 10, 2) := dk_16 10 (dk_at dksX4_settle_4 7 rfl rfl)
theorem dX4_settle_104 : decode cX4_settle 104 = .ok (.if_icmp .ge 99, 3) := dk_162 0 99 (dk_at dksX4_settle_4 9 rfl rfl)
theorem dX4_settle_107 : decode cX4_settle 107 = .ok (.aload_n 0, 1) := dk_42 (dk_at dksX4_settle_4 12 rfl rfl)
theorem dX4_settle_108 : decode cX4_settle 108 = .ok (.iload 4, 2) := dk_21 4 (dk_at dksX4_settle_4 13 rfl rfl)
theorem dX4_settle_110 : decode cX4_settle 110 = .ok (.iload 5, 2) := dk_21 5 (dk_at dksX4_settle_4 15 rfl rfl)
theorem dX4_settle_112 : decode cX4_settle 112 = .ok (.iload 7, 2) := dk_21 7 (dk_at dksX4_settle_4 17 rfl rfl)
theorem dX4_settle_114 : decode cX4_settle 114 = .ok (.invokevirtual 45, 3) := dk_182 0 45 (dk_at dksX4_settle_4 19 rfl rfl)
theorem dX4_settle_117 : decode cX4_settle 117 = .ok (.istore 8, 2) := dk_54 8 (dk_at dksX4_settle_4 22 rfl rfl)
theorem dX4_settle_119 : decode cX4_settle 119 = .ok (.aload_n 0, 1) := dk_42 (dk_at dksX4_settle_5 0 rfl rfl)
theorem dX4_settle_120 : decode cX4_settle 120 = .ok (.iload 4, 2) := dk_21 4 (dk_at dksX4_settle_5 1 rfl rfl)
theorem dX4_settle_122 : decode cX4_settle 122 = .ok (.iload 8, 2) := dk_21 8 (dk_at dksX4_settle_5 3 rfl rfl)
theorem dX4_settle_124 : decode cX4_settle 124 = .ok (.iload_n 3, 1) := dk_29 (dk_at dksX4_settle_5 5 rfl rfl)
theorem dX4_settle_125 : decode cX4_settle 125 = .ok (.ifCond .eq 13, 3) := dk_153 0 13 (dk_at dksX4_settle_5 6 rfl rfl)
theorem dX4_settle_128 : decode cX4_settle 128 = .ok (.aload_n 0, 1) := dk_42 (dk_at dksX4_settle_5 9 rfl rfl)
theorem dX4_settle_129 : decode cX4_settle 129 = .ok (.iload_n 1, 1) := dk_27 (dk_at dksX4_settle_5 10 rfl rfl)
theorem dX4_settle_130 : decode cX4_settle 130 = .ok (.iload 7, 2) := dk_21 7 (dk_at dksX4_settle_5 11 rfl rfl)
theorem dX4_settle_132 : decode cX4_settle 132 = .ok (.invokevirtual 68, 3) := dk_182 0 68 (dk_at dksX4_settle_5 13 rfl rfl)
theorem dX4_settle_135 : decode cX4_settle 135 = .ok (.goto 10, 3) := dk_167 0 10 (dk_at dksX4_settle_5 16 rfl rfl)
theorem dX4_settle_138 : decode cX4_settle 138 = .ok (.aload_n 0, 1) := dk_42 (dk_at dksX4_settle_5 19 rfl rfl)
theorem dX4_settle_139 : decode cX4_settle 139 = .ok (.iload_n 1, 1) := dk_27 (dk_at dksX4_settle_5 20 rfl rfl)
theorem dX4_settle_140 : decode cX4_settle 140 = .ok (.iload 7, 2) := dk_21 7 (dk_at dksX4_settle_5 21 rfl rfl)
theorem dX4_settle_142 : decode cX4_settle 142 = .ok (.invokevirtual 71, 3) := dk_182 0 71 (dk_at dksX4_settle_6 0 rfl rfl)
theorem dX4_settle_145 : decode cX4_settle 145 = .ok (.invokevirtual 169, 3) := dk_182 0 169 (dk_at dksX4_settle_6 3 rfl rfl)
theorem dX4_settle_148 : decode cX4_settle 148 = .ok (.istore 9, 2) := dk_54 9 (dk_at dksX4_settle_6 6 rfl rfl)
theorem dX4_settle_150 : decode cX4_settle 150 = .ok (.iload 9, 2) := dk_21 9 (dk_at dksX4_settle_6 8 rfl rfl)
theorem dX4_settle_152 : decode cX4_settle 152 = .ok (.bipush (-4), 2) := dk_16 252 (dk_at dksX4_settle_6 10 rfl rfl)
theorem dX4_settle_154 : decode cX4_settle 154 = .ok (.if_icmp .ne 10, 3) := dk_160 0 10 (dk_at dksX4_settle_6 12 rfl rfl)
theorem dX4_settle_157 : decode cX4_settle 157 = .ok (.aload_n 0, 1) := dk_42 (dk_at dksX4_settle_6 15 rfl rfl)
theorem dX4_settle_158 : decode cX4_settle 158 = .ok (.invokevirtual 88, 3) := dk_182 0 88 (dk_at dksX4_settle_6 16 rfl rfl)
theorem dX4_settle_161 : decode cX4_settle 161 = .ok (.bipush (-2), 2) := dk_16 254 (dk_at dksX4_settle_6 19 rfl rfl)
theorem dX4_settle_163 : decode cX4_settle 163 = .ok (.ireturn, 1) := dk_172 (dk_at dksX4_settle_6 21 rfl rfl)
theorem dX4_settle_164 : decode cX4_settle 164 = .ok (.iload 6, 2) := dk_21 6 (dk_at dksX4_settle_6 22 rfl rfl)
theorem dX4_settle_166 : decode cX4_settle 166 = .ok (.iload 9, 2) := dk_21 9 (dk_at dksX4_settle_7 0 rfl rfl)
theorem dX4_settle_168 : decode cX4_settle 168 = .ok (.iload 8, 2) := dk_21 8 (dk_at dksX4_settle_7 2 rfl rfl)
theorem dX4_settle_170 : decode cX4_settle 170 = .ok (.if_icmp .ne 7, 3) := dk_160 0 7 (dk_at dksX4_settle_7 4 rfl rfl)
theorem dX4_settle_173 : decode cX4_settle 173 = .ok (.iconst 0, 1) := dk_3 (dk_at dksX4_settle_7 7 rfl rfl)
theorem dX4_settle_174 : decode cX4_settle 174 = .ok (.goto 4, 3) := dk_167 0 4 (dk_at dksX4_settle_7 8 rfl rfl)
theorem dX4_settle_177 : decode cX4_settle 177 = .ok (.iconst 1, 1) := dk_4 (dk_at dksX4_settle_7 11 rfl rfl)
theorem dX4_settle_178 : decode cX4_settle 178 = .ok (.iadd, 1) := dk_96 (dk_at dksX4_settle_7 12 rfl rfl)
theorem dX4_settle_179 : decode cX4_settle 179 = .ok (.istore 6, 2) := dk_54 6 (dk_at dksX4_settle_7 13 rfl rfl)
theorem dX4_settle_181 : decode cX4_settle 181 = .ok (.aload_n 0, 1) := dk_42 (dk_at dksX4_settle_7 15 rfl rfl)
theorem dX4_settle_182 : decode cX4_settle 182 = .ok (.iload 4, 2) := dk_21 4 (dk_at dksX4_settle_7 16 rfl rfl)
theorem dX4_settle_184 : decode cX4_settle 184 = .ok (.bipush 10, 2) := dk_16 10 (dk_at dksX4_settle_7 18 rfl rfl)
theorem dX4_settle_186 : decode cX4_settle 186 = .ok (.iload 5, 2) := dk_21 5 (dk_at dksX4_settle_7 20 rfl rfl)
theorem dX4_settle_188 : decode cX4_settle 188 = .ok (.imul, 1) := dk_104 (dk_at dksX4_settle_7 22 rfl rfl)
theorem dX4_settle_189 : decode cX4_settle 189 = .ok (.iload 7, 2) := dk_21 7 (dk_at dksX4_settle_8 0 rfl rfl)
theorem dX4_settle_191 : decode cX4_settle 191 = .ok (.iadd, 1) := dk_96 (dk_at dksX4_settle_8 2 rfl rfl)
theorem dX4_settle_192 : decode cX4_settle 192 = .ok (.iload 9, 2) := dk_21 9 (dk_at dksX4_settle_8 3 rfl rfl)
theorem dX4_settle_194 : decode cX4_settle 194 = .ok (.invokevirtual 41, 3) := dk_182 0 41 (dk_at dksX4_settle_8 5 rfl rfl)
theorem dX4_settle_197 : decode cX4_settle 197 = .ok (.iinc 7 1, 3) := dk_132 7 1 (dk_at dksX4_settle_8 8 rfl rfl)
theorem dX4_settle_200 : decode cX4_settle 200 = .ok (.goto (-100), 3) := dk_167 255 156 (dk_at dksX4_settle_8 11 rfl rfl)
theorem dX4_settle_203 : decode cX4_settle 203 = .ok (.iload 6, 2) := dk_21 6 (dk_at dksX4_settle_8 14 rfl rfl)
theorem dX4_settle_205 : decode cX4_settle 205 = .ok (.ifCond .le 9, 3) := dk_158 0 9 (dk_at dksX4_settle_8 16 rfl rfl)
theorem dX4_settle_208 : decode cX4_settle 208 = .ok (.aload_n 0, 1) := dk_42 (dk_at dksX4_settle_8 19 rfl rfl)
theorem dX4_settle_209 : decode cX4_settle 209 = .ok (.iload 4, 2) := dk_21 4 (dk_at dksX4_settle_8 20 rfl rfl)
theorem dX4_settle_211 : decode cX4_settle 211 = .ok (.invokevirtual 91, 3) := dk_182 0 91 (dk_at dksX4_settle_9 0 rfl rfl)
theorem dX4_settle_214 : decode cX4_settle 214 = .ok (.aload_n 0, 1) := dk_42 (dk_at dksX4_settle_9 3 rfl rfl)
theorem dX4_settle_215 : decode cX4_settle 215 = .ok (.iload 6, 2) := dk_21 6 (dk_at dksX4_settle_9 4 rfl rfl)
theorem dX4_settle_217 : decode cX4_settle 217 = .ok (.invokevirtual 95, 3) := dk_182 0 95 (dk_at dksX4_settle_9 6 rfl rfl)
theorem dX4_settle_220 : decode cX4_settle 220 = .ok (.ireturn, 1) := dk_172 (dk_at dksX4_settle_9 9 rfl rfl)
abbrev cX4_signFor : ByteArray := prog_11_method_58_code
def yX4_signFor : MethodName := ⟨RX4, "signFor", "(III)I"⟩
def dkwX4_signFor_3 : List UInt8 := [167, 255, 229, 16, 252, 172]
abbrev dktX4_signFor_3 : List UInt8 := dkwX4_signFor_3 ++ []
def dkwX4_signFor_2 : List UInt8 := [162, 0, 26, 42, 27, 16, 40, 21, 4, 96, 182, 0, 37, 29, 160, 0, 6, 21, 4, 172, 132, 4, 1]
abbrev dktX4_signFor_2 : List UInt8 := dkwX4_signFor_2 ++ dktX4_signFor_3
def dkwX4_signFor_1 : List UInt8 := [160, 0, 16, 29, 16, 10, 160, 0, 8, 16, 10, 167, 0, 4, 28, 172, 3, 54, 4, 21, 4, 16, 10]
abbrev dktX4_signFor_1 : List UInt8 := dkwX4_signFor_1 ++ dktX4_signFor_2
def dkwX4_signFor_0 : List UInt8 := [29, 16, 10, 159, 0, 22, 28, 16, 10, 159, 0, 29, 42, 27, 16, 40, 28, 96, 182, 0, 37, 29]
abbrev dktX4_signFor_0 : List UInt8 := dkwX4_signFor_0 ++ dktX4_signFor_1
theorem dksX4_signFor_0 : cX4_signFor.data.toList.drop 0 = dktX4_signFor_0 := by decide +kernel
theorem dksX4_signFor_1 : cX4_signFor.data.toList.drop 22 = dktX4_signFor_1 := dk_seg dksX4_signFor_0 22 rfl rfl
theorem dksX4_signFor_2 : cX4_signFor.data.toList.drop 45 = dktX4_signFor_2 := dk_seg dksX4_signFor_1 23 rfl rfl
theorem dksX4_signFor_3 : cX4_signFor.data.toList.drop 68 = dktX4_signFor_3 := dk_seg dksX4_signFor_2 23 rfl rfl
theorem dX4_signFor_0 : decode cX4_signFor 0 = .ok (.iload_n 3, 1) := dk_29 (dk_at dksX4_signFor_0 0 rfl rfl)
theorem dX4_signFor_1 : decode cX4_signFor 1 = .ok (.bipush 10, 2) := dk_16 10 (dk_at dksX4_signFor_0 1 rfl rfl)
theorem dX4_signFor_3 : decode cX4_signFor 3 = .ok (.if_icmp .eq 22, 3) := dk_159 0 22 (dk_at dksX4_signFor_0 3 rfl rfl)
theorem dX4_signFor_6 : decode cX4_signFor 6 = .ok (.iload_n 2, 1) := dk_28 (dk_at dksX4_signFor_0 6 rfl rfl)
theorem dX4_signFor_7 : decode cX4_signFor 7 = .ok (.bipush 10, 2) := dk_16 10 (dk_at dksX4_signFor_0 7 rfl rfl)
theorem dX4_signFor_9 : decode cX4_signFor 9 = .ok (.if_icmp .eq 29, 3) := dk_159 0 29 (dk_at dksX4_signFor_0 9 rfl rfl)
theorem dX4_signFor_12 : decode cX4_signFor 12 = .ok (.aload_n 0, 1) := dk_42 (dk_at dksX4_signFor_0 12 rfl rfl)
theorem dX4_signFor_13 : decode cX4_signFor 13 = .ok (.iload_n 1, 1) := dk_27 (dk_at dksX4_signFor_0 13 rfl rfl)
theorem dX4_signFor_14 : decode cX4_signFor 14 = .ok (.bipush 40, 2) := dk_16 40 (dk_at dksX4_signFor_0 14 rfl rfl)
theorem dX4_signFor_16 : decode cX4_signFor 16 = .ok (.iload_n 2, 1) := dk_28 (dk_at dksX4_signFor_0 16 rfl rfl)
theorem dX4_signFor_17 : decode cX4_signFor 17 = .ok (.iadd, 1) := dk_96 (dk_at dksX4_signFor_0 17 rfl rfl)
theorem dX4_signFor_18 : decode cX4_signFor 18 = .ok (.invokevirtual 37, 3) := dk_182 0 37 (dk_at dksX4_signFor_0 18 rfl rfl)
theorem dX4_signFor_21 : decode cX4_signFor 21 = .ok (.iload_n 3, 1) := dk_29 (dk_at dksX4_signFor_0 21 rfl rfl)
theorem dX4_signFor_22 : decode cX4_signFor 22 = .ok (.if_icmp .ne 16, 3) := dk_160 0 16 (dk_at dksX4_signFor_1 0 rfl rfl)
theorem dX4_signFor_25 : decode cX4_signFor 25 = .ok (.iload_n 3, 1) := dk_29 (dk_at dksX4_signFor_1 3 rfl rfl)
theorem dX4_signFor_26 : decode cX4_signFor 26 = .ok (.bipush 10, 2) := dk_16 10 (dk_at dksX4_signFor_1 4 rfl rfl)
theorem dX4_signFor_28 : decode cX4_signFor 28 = .ok (.if_icmp .ne 8, 3) := dk_160 0 8 (dk_at dksX4_signFor_1 6 rfl rfl)
theorem dX4_signFor_31 : decode cX4_signFor 31 = .ok (.bipush 10, 2) := dk_16 10 (dk_at dksX4_signFor_1 9 rfl rfl)
theorem dX4_signFor_33 : decode cX4_signFor 33 = .ok (.goto 4, 3) := dk_167 0 4 (dk_at dksX4_signFor_1 11 rfl rfl)
theorem dX4_signFor_36 : decode cX4_signFor 36 = .ok (.iload_n 2, 1) := dk_28 (dk_at dksX4_signFor_1 14 rfl rfl)
theorem dX4_signFor_37 : decode cX4_signFor 37 = .ok (.ireturn, 1) := dk_172 (dk_at dksX4_signFor_1 15 rfl rfl)
theorem dX4_signFor_38 : decode cX4_signFor 38 = .ok (.iconst 0, 1) := dk_3 (dk_at dksX4_signFor_1 16 rfl rfl)
theorem dX4_signFor_39 : decode cX4_signFor 39 = .ok (.istore 4, 2) := dk_54 4 (dk_at dksX4_signFor_1 17 rfl rfl)
theorem dX4_signFor_41 : decode cX4_signFor 41 = .ok (.iload 4, 2) := dk_21 4 (dk_at dksX4_signFor_1 19 rfl rfl)
theorem dX4_signFor_43 : decode cX4_signFor 43 = .ok (.bipush 10, 2) := dk_16 10 (dk_at dksX4_signFor_1 21 rfl rfl)
theorem dX4_signFor_45 : decode cX4_signFor 45 = .ok (.if_icmp .ge 26, 3) := dk_162 0 26 (dk_at dksX4_signFor_2 0 rfl rfl)
theorem dX4_signFor_48 : decode cX4_signFor 48 = .ok (.aload_n 0, 1) := dk_42 (dk_at dksX4_signFor_2 3 rfl rfl)
theorem dX4_signFor_49 : decode cX4_signFor 49 = .ok (.iload_n 1, 1) := dk_27 (dk_at dksX4_signFor_2 4 rfl rfl)
theorem dX4_signFor_50 : decode cX4_signFor 50 = .ok (.bipush 40, 2) := dk_16 40 (dk_at dksX4_signFor_2 5 rfl rfl)
theorem dX4_signFor_52 : decode cX4_signFor 52 = .ok (.iload 4, 2) := dk_21 4 (dk_at dksX4_signFor_2 7 rfl rfl)
theorem dX4_signFor_54 : decode cX4_signFor 54 = .ok (.iadd, 1) := dk_96 (dk_at dksX4_signFor_2 9 rfl rfl)
theorem dX4_signFor_55 : decode cX4_signFor 55 = .ok (.invokevirtual 37, 3) := dk_182 0 37 (dk_at dksX4_signFor_2 10 rfl rfl)
theorem dX4_signFor_58 : decode cX4_signFor 58 = .ok (.iload_n 3, 1) := dk_29 (dk_at dksX4_signFor_2 13 rfl rfl)
theorem dX4_signFor_59 : decode cX4_signFor 59 = .ok (.if_icmp .ne 6, 3) := dk_160 0 6 (dk_at dksX4_signFor_2 14 rfl rfl)
theorem dX4_signFor_62 : decode cX4_signFor 62 = .ok (.iload 4, 2) := dk_21 4 (dk_at dksX4_signFor_2 17 rfl rfl)
theorem dX4_signFor_64 : decode cX4_signFor 64 = .ok (.ireturn, 1) := dk_172 (dk_at dksX4_signFor_2 19 rfl rfl)
theorem dX4_signFor_65 : decode cX4_signFor 65 = .ok (.iinc 4 1, 3) := dk_132 4 1 (dk_at dksX4_signFor_2 20 rfl rfl)
theorem dX4_signFor_68 : decode cX4_signFor 68 = .ok (.goto (-27), 3) := dk_167 255 229 (dk_at dksX4_signFor_3 0 rfl rfl)
theorem dX4_signFor_71 : decode cX4_signFor 71 = .ok (.bipush (-4), 2) := dk_16 252 (dk_at dksX4_signFor_3 3 rfl rfl)
theorem dX4_signFor_73 : decode cX4_signFor 73 = .ok (.ireturn, 1) := dk_172 (dk_at dksX4_signFor_3 5 rfl rfl)
abbrev cX4_ratio : ByteArray := prog_11_method_60_code
def yX4_ratio : MethodName := ⟨RX4, "ratio", "(I)I"⟩
def dkwX4_ratio_0 : List UInt8 := [42, 27, 182, 0, 160, 153, 0, 14, 42, 27, 182, 0, 103, 184, 0, 172, 167, 0, 4, 2, 172]
abbrev dktX4_ratio_0 : List UInt8 := dkwX4_ratio_0 ++ []
theorem dksX4_ratio_0 : cX4_ratio.data.toList.drop 0 = dktX4_ratio_0 := by decide +kernel
theorem dX4_ratio_0 : decode cX4_ratio 0 = .ok (.aload_n 0, 1) := dk_42 (dk_at dksX4_ratio_0 0 rfl rfl)
theorem dX4_ratio_1 : decode cX4_ratio 1 = .ok (.iload_n 1, 1) := dk_27 (dk_at dksX4_ratio_0 1 rfl rfl)
theorem dX4_ratio_2 : decode cX4_ratio 2 = .ok (.invokevirtual 160, 3) := dk_182 0 160 (dk_at dksX4_ratio_0 2 rfl rfl)
theorem dX4_ratio_5 : decode cX4_ratio 5 = .ok (.ifCond .eq 14, 3) := dk_153 0 14 (dk_at dksX4_ratio_0 5 rfl rfl)
theorem dX4_ratio_8 : decode cX4_ratio 8 = .ok (.aload_n 0, 1) := dk_42 (dk_at dksX4_ratio_0 8 rfl rfl)
theorem dX4_ratio_9 : decode cX4_ratio 9 = .ok (.iload_n 1, 1) := dk_27 (dk_at dksX4_ratio_0 9 rfl rfl)
theorem dX4_ratio_10 : decode cX4_ratio 10 = .ok (.invokevirtual 103, 3) := dk_182 0 103 (dk_at dksX4_ratio_0 10 rfl rfl)
theorem dX4_ratio_13 : decode cX4_ratio 13 = .ok (.invokestatic 172, 3) := dk_184 0 172 (dk_at dksX4_ratio_0 13 rfl rfl)
theorem dX4_ratio_16 : decode cX4_ratio 16 = .ok (.goto 4, 3) := dk_167 0 4 (dk_at dksX4_ratio_0 16 rfl rfl)
theorem dX4_ratio_19 : decode cX4_ratio 19 = .ok (.iconst (-1), 1) := dk_2 (dk_at dksX4_ratio_0 19 rfl rfl)
theorem dX4_ratio_20 : decode cX4_ratio 20 = .ok (.ireturn, 1) := dk_172 (dk_at dksX4_ratio_0 20 rfl rfl)
abbrev cX4_publish : ByteArray := prog_11_method_61_code
def yX4_publish : MethodName := ⟨RX4, "publish", "(I)I"⟩
def dkwX4_publish_2 : List UInt8 := [42, 42, 27, 16, 50, 182, 0, 37, 182, 0, 95, 172]
abbrev dktX4_publish_2 : List UInt8 := dkwX4_publish_2 ++ []
def dkwX4_publish_1 : List UInt8 := [162, 0, 6, 16, 254, 172, 42, 182, 0, 115, 42, 27, 16, 51, 42, 27, 16, 50, 182, 0, 37, 182, 0, 41]
abbrev dktX4_publish_1 : List UInt8 := dkwX4_publish_1 ++ dktX4_publish_2
def dkwX4_publish_0 : List UInt8 := [42, 27, 182, 0, 118, 154, 0, 5, 2, 172, 42, 27, 4, 182, 0, 131, 42, 27, 3, 182, 0, 131]
abbrev dktX4_publish_0 : List UInt8 := dkwX4_publish_0 ++ dktX4_publish_1
theorem dksX4_publish_0 : cX4_publish.data.toList.drop 0 = dktX4_publish_0 := by decide +kernel
theorem dksX4_publish_1 : cX4_publish.data.toList.drop 22 = dktX4_publish_1 := dk_seg dksX4_publish_0 22 rfl rfl
theorem dksX4_publish_2 : cX4_publish.data.toList.drop 46 = dktX4_publish_2 := dk_seg dksX4_publish_1 24 rfl rfl
theorem dX4_publish_0 : decode cX4_publish 0 = .ok (.aload_n 0, 1) := dk_42 (dk_at dksX4_publish_0 0 rfl rfl)
theorem dX4_publish_1 : decode cX4_publish 1 = .ok (.iload_n 1, 1) := dk_27 (dk_at dksX4_publish_0 1 rfl rfl)
theorem dX4_publish_2 : decode cX4_publish 2 = .ok (.invokevirtual 118, 3) := dk_182 0 118 (dk_at dksX4_publish_0 2 rfl rfl)
theorem dX4_publish_5 : decode cX4_publish 5 = .ok (.ifCond .ne 5, 3) := dk_154 0 5 (dk_at dksX4_publish_0 5 rfl rfl)
theorem dX4_publish_8 : decode cX4_publish 8 = .ok (.iconst (-1), 1) := dk_2 (dk_at dksX4_publish_0 8 rfl rfl)
theorem dX4_publish_9 : decode cX4_publish 9 = .ok (.ireturn, 1) := dk_172 (dk_at dksX4_publish_0 9 rfl rfl)
theorem dX4_publish_10 : decode cX4_publish 10 = .ok (.aload_n 0, 1) := dk_42 (dk_at dksX4_publish_0 10 rfl rfl)
theorem dX4_publish_11 : decode cX4_publish 11 = .ok (.iload_n 1, 1) := dk_27 (dk_at dksX4_publish_0 11 rfl rfl)
theorem dX4_publish_12 : decode cX4_publish 12 = .ok (.iconst 1, 1) := dk_4 (dk_at dksX4_publish_0 12 rfl rfl)
theorem dX4_publish_13 : decode cX4_publish 13 = .ok (.invokevirtual 131, 3) := dk_182 0 131 (dk_at dksX4_publish_0 13 rfl rfl)
theorem dX4_publish_16 : decode cX4_publish 16 = .ok (.aload_n 0, 1) := dk_42 (dk_at dksX4_publish_0 16 rfl rfl)
theorem dX4_publish_17 : decode cX4_publish 17 = .ok (.iload_n 1, 1) := dk_27 (dk_at dksX4_publish_0 17 rfl rfl)
theorem dX4_publish_18 : decode cX4_publish 18 = .ok (.iconst 0, 1) := dk_3 (dk_at dksX4_publish_0 18 rfl rfl)
theorem dX4_publish_19 : decode cX4_publish 19 = .ok (.invokevirtual 131, 3) := dk_182 0 131 (dk_at dksX4_publish_0 19 rfl rfl)
theorem dX4_publish_22 : decode cX4_publish 22 = .ok (.if_icmp .ge 6, 3) := dk_162 0 6 (dk_at dksX4_publish_1 0 rfl rfl)
theorem dX4_publish_25 : decode cX4_publish 25 = .ok (.bipush (-2), 2) := dk_16 254 (dk_at dksX4_publish_1 3 rfl rfl)
theorem dX4_publish_27 : decode cX4_publish 27 = .ok (.ireturn, 1) := dk_172 (dk_at dksX4_publish_1 5 rfl rfl)
theorem dX4_publish_28 : decode cX4_publish 28 = .ok (.aload_n 0, 1) := dk_42 (dk_at dksX4_publish_1 6 rfl rfl)
theorem dX4_publish_29 : decode cX4_publish 29 = .ok (.invokevirtual 115, 3) := dk_182 0 115 (dk_at dksX4_publish_1 7 rfl rfl)
theorem dX4_publish_32 : decode cX4_publish 32 = .ok (.aload_n 0, 1) := dk_42 (dk_at dksX4_publish_1 10 rfl rfl)
theorem dX4_publish_33 : decode cX4_publish 33 = .ok (.iload_n 1, 1) := dk_27 (dk_at dksX4_publish_1 11 rfl rfl)
theorem dX4_publish_34 : decode cX4_publish 34 = .ok (.bipush 51, 2) := dk_16 51 (dk_at dksX4_publish_1 12 rfl rfl)
theorem dX4_publish_36 : decode cX4_publish 36 = .ok (.aload_n 0, 1) := dk_42 (dk_at dksX4_publish_1 14 rfl rfl)
theorem dX4_publish_37 : decode cX4_publish 37 = .ok (.iload_n 1, 1) := dk_27 (dk_at dksX4_publish_1 15 rfl rfl)
theorem dX4_publish_38 : decode cX4_publish 38 = .ok (.bipush 50, 2) := dk_16 50 (dk_at dksX4_publish_1 16 rfl rfl)
theorem dX4_publish_40 : decode cX4_publish 40 = .ok (.invokevirtual 37, 3) := dk_182 0 37 (dk_at dksX4_publish_1 18 rfl rfl)
theorem dX4_publish_43 : decode cX4_publish 43 = .ok (.invokevirtual 41, 3) := dk_182 0 41 (dk_at dksX4_publish_1 21 rfl rfl)
theorem dX4_publish_46 : decode cX4_publish 46 = .ok (.aload_n 0, 1) := dk_42 (dk_at dksX4_publish_2 0 rfl rfl)
theorem dX4_publish_47 : decode cX4_publish 47 = .ok (.aload_n 0, 1) := dk_42 (dk_at dksX4_publish_2 1 rfl rfl)
theorem dX4_publish_48 : decode cX4_publish 48 = .ok (.iload_n 1, 1) := dk_27 (dk_at dksX4_publish_2 2 rfl rfl)
theorem dX4_publish_49 : decode cX4_publish 49 = .ok (.bipush 50, 2) := dk_16 50 (dk_at dksX4_publish_2 3 rfl rfl)
theorem dX4_publish_51 : decode cX4_publish 51 = .ok (.invokevirtual 37, 3) := dk_182 0 37 (dk_at dksX4_publish_2 5 rfl rfl)
theorem dX4_publish_54 : decode cX4_publish 54 = .ok (.invokevirtual 95, 3) := dk_182 0 95 (dk_at dksX4_publish_2 8 rfl rfl)
theorem dX4_publish_57 : decode cX4_publish 57 = .ok (.ireturn, 1) := dk_172 (dk_at dksX4_publish_2 11 rfl rfl)
abbrev cX4_scale : ByteArray := prog_11_method_62_code
def yX4_scale : MethodName := ⟨RX4, "scale", "(II)I"⟩
def dkwX4_scale_1 : List UInt8 := [42, 27, 16, 52, 182, 0, 37, 62, 42, 27, 16, 52, 28, 182, 0, 41, 42, 29, 182, 0, 95, 172]
abbrev dktX4_scale_1 : List UInt8 := dkwX4_scale_1 ++ []
def dkwX4_scale_0 : List UInt8 := [42, 27, 182, 0, 118, 153, 0, 13, 28, 4, 18, 178, 184, 0, 111, 154, 0, 5, 2, 172, 42, 182, 0, 115]
abbrev dktX4_scale_0 : List UInt8 := dkwX4_scale_0 ++ dktX4_scale_1
theorem dksX4_scale_0 : cX4_scale.data.toList.drop 0 = dktX4_scale_0 := by decide +kernel
theorem dksX4_scale_1 : cX4_scale.data.toList.drop 24 = dktX4_scale_1 := dk_seg dksX4_scale_0 24 rfl rfl
theorem dX4_scale_0 : decode cX4_scale 0 = .ok (.aload_n 0, 1) := dk_42 (dk_at dksX4_scale_0 0 rfl rfl)
theorem dX4_scale_1 : decode cX4_scale 1 = .ok (.iload_n 1, 1) := dk_27 (dk_at dksX4_scale_0 1 rfl rfl)
theorem dX4_scale_2 : decode cX4_scale 2 = .ok (.invokevirtual 118, 3) := dk_182 0 118 (dk_at dksX4_scale_0 2 rfl rfl)
theorem dX4_scale_5 : decode cX4_scale 5 = .ok (.ifCond .eq 13, 3) := dk_153 0 13 (dk_at dksX4_scale_0 5 rfl rfl)
theorem dX4_scale_8 : decode cX4_scale 8 = .ok (.iload_n 2, 1) := dk_28 (dk_at dksX4_scale_0 8 rfl rfl)
theorem dX4_scale_9 : decode cX4_scale 9 = .ok (.iconst 1, 1) := dk_4 (dk_at dksX4_scale_0 9 rfl rfl)
theorem dX4_scale_10 : decode cX4_scale 10 = .ok (.ldc 178, 2) := dk_18 178 (dk_at dksX4_scale_0 10 rfl rfl)
theorem dX4_scale_12 : decode cX4_scale 12 = .ok (.invokestatic 111, 3) := dk_184 0 111 (dk_at dksX4_scale_0 12 rfl rfl)
theorem dX4_scale_15 : decode cX4_scale 15 = .ok (.ifCond .ne 5, 3) := dk_154 0 5 (dk_at dksX4_scale_0 15 rfl rfl)
theorem dX4_scale_18 : decode cX4_scale 18 = .ok (.iconst (-1), 1) := dk_2 (dk_at dksX4_scale_0 18 rfl rfl)
theorem dX4_scale_19 : decode cX4_scale 19 = .ok (.ireturn, 1) := dk_172 (dk_at dksX4_scale_0 19 rfl rfl)
theorem dX4_scale_20 : decode cX4_scale 20 = .ok (.aload_n 0, 1) := dk_42 (dk_at dksX4_scale_0 20 rfl rfl)
theorem dX4_scale_21 : decode cX4_scale 21 = .ok (.invokevirtual 115, 3) := dk_182 0 115 (dk_at dksX4_scale_0 21 rfl rfl)
theorem dX4_scale_24 : decode cX4_scale 24 = .ok (.aload_n 0, 1) := dk_42 (dk_at dksX4_scale_1 0 rfl rfl)
theorem dX4_scale_25 : decode cX4_scale 25 = .ok (.iload_n 1, 1) := dk_27 (dk_at dksX4_scale_1 1 rfl rfl)
theorem dX4_scale_26 : decode cX4_scale 26 = .ok (.bipush 52, 2) := dk_16 52 (dk_at dksX4_scale_1 2 rfl rfl)
theorem dX4_scale_28 : decode cX4_scale 28 = .ok (.invokevirtual 37, 3) := dk_182 0 37 (dk_at dksX4_scale_1 4 rfl rfl)
theorem dX4_scale_31 : decode cX4_scale 31 = .ok (.istore_n 3, 1) := dk_62 (dk_at dksX4_scale_1 7 rfl rfl)
theorem dX4_scale_32 : decode cX4_scale 32 = .ok (.aload_n 0, 1) := dk_42 (dk_at dksX4_scale_1 8 rfl rfl)
theorem dX4_scale_33 : decode cX4_scale 33 = .ok (.iload_n 1, 1) := dk_27 (dk_at dksX4_scale_1 9 rfl rfl)
theorem dX4_scale_34 : decode cX4_scale 34 = .ok (.bipush 52, 2) := dk_16 52 (dk_at dksX4_scale_1 10 rfl rfl)
theorem dX4_scale_36 : decode cX4_scale 36 = .ok (.iload_n 2, 1) := dk_28 (dk_at dksX4_scale_1 12 rfl rfl)
theorem dX4_scale_37 : decode cX4_scale 37 = .ok (.invokevirtual 41, 3) := dk_182 0 41 (dk_at dksX4_scale_1 13 rfl rfl)
theorem dX4_scale_40 : decode cX4_scale 40 = .ok (.aload_n 0, 1) := dk_42 (dk_at dksX4_scale_1 16 rfl rfl)
theorem dX4_scale_41 : decode cX4_scale 41 = .ok (.iload_n 3, 1) := dk_29 (dk_at dksX4_scale_1 17 rfl rfl)
theorem dX4_scale_42 : decode cX4_scale 42 = .ok (.invokevirtual 95, 3) := dk_182 0 95 (dk_at dksX4_scale_1 18 rfl rfl)
theorem dX4_scale_45 : decode cX4_scale 45 = .ok (.ireturn, 1) := dk_172 (dk_at dksX4_scale_1 21 rfl rfl)
abbrev cX4_stretched : ByteArray := prog_11_method_63_code
def yX4_stretched : MethodName := ⟨RX4, "stretched", "(II)I"⟩
def dkwX4_stretched_1 : List UInt8 := [182, 0, 99, 106, 139, 167, 0, 4, 2, 172]
abbrev dktX4_stretched_1 : List UInt8 := dkwX4_stretched_1 ++ []
def dkwX4_stretched_0 : List UInt8 := [42, 27, 182, 0, 118, 153, 0, 25, 28, 3, 18, 179, 184, 0, 111, 153, 0, 15, 28, 134, 42, 27]
abbrev dktX4_stretched_0 : List UInt8 := dkwX4_stretched_0 ++ dktX4_stretched_1
theorem dksX4_stretched_0 : cX4_stretched.data.toList.drop 0 = dktX4_stretched_0 := by decide +kernel
theorem dksX4_stretched_1 : cX4_stretched.data.toList.drop 22 = dktX4_stretched_1 := dk_seg dksX4_stretched_0 22 rfl rfl
theorem dX4_stretched_0 : decode cX4_stretched 0 = .ok (.aload_n 0, 1) := dk_42 (dk_at dksX4_stretched_0 0 rfl rfl)
theorem dX4_stretched_1 : decode cX4_stretched 1 = .ok (.iload_n 1, 1) := dk_27 (dk_at dksX4_stretched_0 1 rfl rfl)
theorem dX4_stretched_2 : decode cX4_stretched 2 = .ok (.invokevirtual 118, 3) := dk_182 0 118 (dk_at dksX4_stretched_0 2 rfl rfl)
theorem dX4_stretched_5 : decode cX4_stretched 5 = .ok (.ifCond .eq 25, 3) := dk_153 0 25 (dk_at dksX4_stretched_0 5 rfl rfl)
theorem dX4_stretched_8 : decode cX4_stretched 8 = .ok (.iload_n 2, 1) := dk_28 (dk_at dksX4_stretched_0 8 rfl rfl)
theorem dX4_stretched_9 : decode cX4_stretched 9 = .ok (.iconst 0, 1) := dk_3 (dk_at dksX4_stretched_0 9 rfl rfl)
theorem dX4_stretched_10 : decode cX4_stretched 10 = .ok (.ldc 179, 2) := dk_18 179 (dk_at dksX4_stretched_0 10 rfl rfl)
theorem dX4_stretched_12 : decode cX4_stretched 12 = .ok (.invokestatic 111, 3) := dk_184 0 111 (dk_at dksX4_stretched_0 12 rfl rfl)
theorem dX4_stretched_15 : decode cX4_stretched 15 = .ok (.ifCond .eq 15, 3) := dk_153 0 15 (dk_at dksX4_stretched_0 15 rfl rfl)
theorem dX4_stretched_18 : decode cX4_stretched 18 = .ok (.iload_n 2, 1) := dk_28 (dk_at dksX4_stretched_0 18 rfl rfl)
theorem dX4_stretched_19 : decode cX4_stretched 19 = .ok (.i2f, 1) := dk_134 (dk_at dksX4_stretched_0 19 rfl rfl)
theorem dX4_stretched_20 : decode cX4_stretched 20 = .ok (.aload_n 0, 1) := dk_42 (dk_at dksX4_stretched_0 20 rfl rfl)
theorem dX4_stretched_21 : decode cX4_stretched 21 = .ok (.iload_n 1, 1) := dk_27 (dk_at dksX4_stretched_0 21 rfl rfl)
theorem dX4_stretched_22 : decode cX4_stretched 22 = .ok (.invokevirtual 99, 3) := dk_182 0 99 (dk_at dksX4_stretched_1 0 rfl rfl)
theorem dX4_stretched_25 : decode cX4_stretched 25 = .ok (.fmul, 1) := dk_106 (dk_at dksX4_stretched_1 3 rfl rfl)
theorem dX4_stretched_26 : decode cX4_stretched 26 = .ok (.f2i, 1) := dk_139 (dk_at dksX4_stretched_1 4 rfl rfl)
theorem dX4_stretched_27 : decode cX4_stretched 27 = .ok (.goto 4, 3) := dk_167 0 4 (dk_at dksX4_stretched_1 5 rfl rfl)
theorem dX4_stretched_30 : decode cX4_stretched 30 = .ok (.iconst (-1), 1) := dk_2 (dk_at dksX4_stretched_1 8 rfl rfl)
theorem dX4_stretched_31 : decode cX4_stretched 31 = .ok (.ireturn, 1) := dk_172 (dk_at dksX4_stretched_1 9 rfl rfl)
abbrev cX4_type : ByteArray := prog_11_method_64_code
def yX4_type : MethodName := ⟨RX4, "type", "(I)I"⟩
def dkwX4_type_2 : List UInt8 := [180, 0, 157, 172]
abbrev dktX4_type_2 : List UInt8 := dkwX4_type_2 ++ []
def dkwX4_type_1 : List UInt8 := [172, 42, 180, 0, 19, 42, 180, 0, 157, 27, 79, 42, 89, 180, 0, 157, 4, 96, 181, 0, 157, 42]
abbrev dktX4_type_1 : List UInt8 := dkwX4_type_1 ++ dktX4_type_2
def dkwX4_type_0 : List UInt8 := [27, 16, 32, 16, 126, 184, 0, 111, 154, 0, 5, 2, 172, 42, 180, 0, 157, 16, 100, 160, 0, 6, 16, 253]
abbrev dktX4_type_0 : List UInt8 := dkwX4_type_0 ++ dktX4_type_1
theorem dksX4_type_0 : cX4_type.data.toList.drop 0 = dktX4_type_0 := by decide +kernel
theorem dksX4_type_1 : cX4_type.data.toList.drop 24 = dktX4_type_1 := dk_seg dksX4_type_0 24 rfl rfl
theorem dksX4_type_2 : cX4_type.data.toList.drop 46 = dktX4_type_2 := dk_seg dksX4_type_1 22 rfl rfl
theorem dX4_type_0 : decode cX4_type 0 = .ok (.iload_n 1, 1) := dk_27 (dk_at dksX4_type_0 0 rfl rfl)
theorem dX4_type_1 : decode cX4_type 1 = .ok (.bipush 32, 2) := dk_16 32 (dk_at dksX4_type_0 1 rfl rfl)
theorem dX4_type_3 : decode cX4_type 3 = .ok (.bipush 126, 2) := dk_16 126 (dk_at dksX4_type_0 3 rfl rfl)
theorem dX4_type_5 : decode cX4_type 5 = .ok (.invokestatic 111, 3) := dk_184 0 111 (dk_at dksX4_type_0 5 rfl rfl)
theorem dX4_type_8 : decode cX4_type 8 = .ok (.ifCond .ne 5, 3) := dk_154 0 5 (dk_at dksX4_type_0 8 rfl rfl)
theorem dX4_type_11 : decode cX4_type 11 = .ok (.iconst (-1), 1) := dk_2 (dk_at dksX4_type_0 11 rfl rfl)
theorem dX4_type_12 : decode cX4_type 12 = .ok (.ireturn, 1) := dk_172 (dk_at dksX4_type_0 12 rfl rfl)
theorem dX4_type_13 : decode cX4_type 13 = .ok (.aload_n 0, 1) := dk_42 (dk_at dksX4_type_0 13 rfl rfl)
theorem dX4_type_14 : decode cX4_type 14 = .ok (.getfield 157, 3) := dk_180 0 157 (dk_at dksX4_type_0 14 rfl rfl)
theorem dX4_type_17 : decode cX4_type 17 = .ok (.bipush 100, 2) := dk_16 100 (dk_at dksX4_type_0 17 rfl rfl)
theorem dX4_type_19 : decode cX4_type 19 = .ok (.if_icmp .ne 6, 3) := dk_160 0 6 (dk_at dksX4_type_0 19 rfl rfl)
theorem dX4_type_22 : decode cX4_type 22 = .ok (.bipush (-3), 2) := dk_16 253 (dk_at dksX4_type_0 22 rfl rfl)
theorem dX4_type_24 : decode cX4_type 24 = .ok (.ireturn, 1) := dk_172 (dk_at dksX4_type_1 0 rfl rfl)
theorem dX4_type_25 : decode cX4_type 25 = .ok (.aload_n 0, 1) := dk_42 (dk_at dksX4_type_1 1 rfl rfl)
theorem dX4_type_26 : decode cX4_type 26 = .ok (.getfield 19, 3) := dk_180 0 19 (dk_at dksX4_type_1 2 rfl rfl)
theorem dX4_type_29 : decode cX4_type 29 = .ok (.aload_n 0, 1) := dk_42 (dk_at dksX4_type_1 5 rfl rfl)
theorem dX4_type_30 : decode cX4_type 30 = .ok (.getfield 157, 3) := dk_180 0 157 (dk_at dksX4_type_1 6 rfl rfl)
theorem dX4_type_33 : decode cX4_type 33 = .ok (.iload_n 1, 1) := dk_27 (dk_at dksX4_type_1 9 rfl rfl)
theorem dX4_type_34 : decode cX4_type 34 = .ok (.iastore, 1) := dk_79 (dk_at dksX4_type_1 10 rfl rfl)
theorem dX4_type_35 : decode cX4_type 35 = .ok (.aload_n 0, 1) := dk_42 (dk_at dksX4_type_1 11 rfl rfl)
theorem dX4_type_36 : decode cX4_type 36 = .ok (.dup, 1) := dk_89 (dk_at dksX4_type_1 12 rfl rfl)
theorem dX4_type_37 : decode cX4_type 37 = .ok (.getfield 157, 3) := dk_180 0 157 (dk_at dksX4_type_1 13 rfl rfl)
theorem dX4_type_40 : decode cX4_type 40 = .ok (.iconst 1, 1) := dk_4 (dk_at dksX4_type_1 16 rfl rfl)
theorem dX4_type_41 : decode cX4_type 41 = .ok (.iadd, 1) := dk_96 (dk_at dksX4_type_1 17 rfl rfl)
theorem dX4_type_42 : decode cX4_type 42 = .ok (.putfield 157, 3) := dk_181 0 157 (dk_at dksX4_type_1 18 rfl rfl)
theorem dX4_type_45 : decode cX4_type 45 = .ok (.aload_n 0, 1) := dk_42 (dk_at dksX4_type_1 21 rfl rfl)
theorem dX4_type_46 : decode cX4_type 46 = .ok (.getfield 157, 3) := dk_180 0 157 (dk_at dksX4_type_2 0 rfl rfl)
theorem dX4_type_49 : decode cX4_type 49 = .ok (.ireturn, 1) := dk_172 (dk_at dksX4_type_2 3 rfl rfl)
abbrev cX4_clearText : ByteArray := prog_11_method_65_code
def yX4_clearText : MethodName := ⟨RX4, "clearText", "()I"⟩
def dkwX4_clearText_0 : List UInt8 := [42, 180, 0, 157, 60, 42, 3, 181, 0, 157, 27, 172]
abbrev dktX4_clearText_0 : List UInt8 := dkwX4_clearText_0 ++ []
theorem dksX4_clearText_0 : cX4_clearText.data.toList.drop 0 = dktX4_clearText_0 := by decide +kernel
theorem dX4_clearText_0 : decode cX4_clearText 0 = .ok (.aload_n 0, 1) := dk_42 (dk_at dksX4_clearText_0 0 rfl rfl)
theorem dX4_clearText_1 : decode cX4_clearText 1 = .ok (.getfield 157, 3) := dk_180 0 157 (dk_at dksX4_clearText_0 1 rfl rfl)
theorem dX4_clearText_4 : decode cX4_clearText 4 = .ok (.istore_n 1, 1) := dk_60 (dk_at dksX4_clearText_0 4 rfl rfl)
theorem dX4_clearText_5 : decode cX4_clearText 5 = .ok (.aload_n 0, 1) := dk_42 (dk_at dksX4_clearText_0 5 rfl rfl)
theorem dX4_clearText_6 : decode cX4_clearText 6 = .ok (.iconst 0, 1) := dk_3 (dk_at dksX4_clearText_0 6 rfl rfl)
theorem dX4_clearText_7 : decode cX4_clearText 7 = .ok (.putfield 157, 3) := dk_181 0 157 (dk_at dksX4_clearText_0 7 rfl rfl)
theorem dX4_clearText_10 : decode cX4_clearText 10 = .ok (.iload_n 1, 1) := dk_27 (dk_at dksX4_clearText_0 10 rfl rfl)
theorem dX4_clearText_11 : decode cX4_clearText 11 = .ok (.ireturn, 1) := dk_172 (dk_at dksX4_clearText_0 11 rfl rfl)
abbrev cX4_fault : ByteArray := prog_11_method_71_code
def yX4_fault : MethodName := ⟨RX4, "fault", "()I"⟩
theorem dX4_fault_0 : decode cX4_fault 0 = .ok (.aload_n 0, 1) := by decide +kernel
theorem dX4_fault_1 : decode cX4_fault 1 = .ok (.invokevirtual 193, 3) := by decide +kernel
theorem dX4_fault_4 : decode cX4_fault 4 = .ok (.ireturn, 1) := by decide +kernel
abbrev cX4_faultAt : ByteArray := prog_11_method_70_code
def yX4_faultAt : MethodName := ⟨RX4, "faultAt", "()I"⟩
def dkwX4_faultAt_1 : List UInt8 := [100, 172, 27, 28, 96, 60, 167, 255, 228, 16, 252, 172]
abbrev dktX4_faultAt_1 : List UInt8 := dkwX4_faultAt_1 ++ []
def dkwX4_faultAt_0 : List UInt8 := [3, 60, 27, 42, 180, 0, 157, 162, 0, 26, 42, 27, 182, 0, 190, 61, 28, 156, 0, 9, 27, 28, 100, 4]
abbrev dktX4_faultAt_0 : List UInt8 := dkwX4_faultAt_0 ++ dktX4_faultAt_1
theorem dksX4_faultAt_0 : cX4_faultAt.data.toList.drop 0 = dktX4_faultAt_0 := by decide +kernel
theorem dksX4_faultAt_1 : cX4_faultAt.data.toList.drop 24 = dktX4_faultAt_1 := dk_seg dksX4_faultAt_0 24 rfl rfl
theorem dX4_faultAt_0 : decode cX4_faultAt 0 = .ok (.iconst 0, 1) := dk_3 (dk_at dksX4_faultAt_0 0 rfl rfl)
theorem dX4_faultAt_1 : decode cX4_faultAt 1 = .ok (.istore_n 1, 1) := dk_60 (dk_at dksX4_faultAt_0 1 rfl rfl)
theorem dX4_faultAt_2 : decode cX4_faultAt 2 = .ok (.iload_n 1, 1) := dk_27 (dk_at dksX4_faultAt_0 2 rfl rfl)
theorem dX4_faultAt_3 : decode cX4_faultAt 3 = .ok (.aload_n 0, 1) := dk_42 (dk_at dksX4_faultAt_0 3 rfl rfl)
theorem dX4_faultAt_4 : decode cX4_faultAt 4 = .ok (.getfield 157, 3) := dk_180 0 157 (dk_at dksX4_faultAt_0 4 rfl rfl)
theorem dX4_faultAt_7 : decode cX4_faultAt 7 = .ok (.if_icmp .ge 26, 3) := dk_162 0 26 (dk_at dksX4_faultAt_0 7 rfl rfl)
theorem dX4_faultAt_10 : decode cX4_faultAt 10 = .ok (.aload_n 0, 1) := dk_42 (dk_at dksX4_faultAt_0 10 rfl rfl)
theorem dX4_faultAt_11 : decode cX4_faultAt 11 = .ok (.iload_n 1, 1) := dk_27 (dk_at dksX4_faultAt_0 11 rfl rfl)
theorem dX4_faultAt_12 : decode cX4_faultAt 12 = .ok (.invokevirtual 190, 3) := dk_182 0 190 (dk_at dksX4_faultAt_0 12 rfl rfl)
theorem dX4_faultAt_15 : decode cX4_faultAt 15 = .ok (.istore_n 2, 1) := dk_61 (dk_at dksX4_faultAt_0 15 rfl rfl)
theorem dX4_faultAt_16 : decode cX4_faultAt 16 = .ok (.iload_n 2, 1) := dk_28 (dk_at dksX4_faultAt_0 16 rfl rfl)
theorem dX4_faultAt_17 : decode cX4_faultAt 17 = .ok (.ifCond .ge 9, 3) := dk_156 0 9 (dk_at dksX4_faultAt_0 17 rfl rfl)
theorem dX4_faultAt_20 : decode cX4_faultAt 20 = .ok (.iload_n 1, 1) := dk_27 (dk_at dksX4_faultAt_0 20 rfl rfl)
theorem dX4_faultAt_21 : decode cX4_faultAt 21 = .ok (.iload_n 2, 1) := dk_28 (dk_at dksX4_faultAt_0 21 rfl rfl)
theorem dX4_faultAt_22 : decode cX4_faultAt 22 = .ok (.isub, 1) := dk_100 (dk_at dksX4_faultAt_0 22 rfl rfl)
theorem dX4_faultAt_23 : decode cX4_faultAt 23 = .ok (.iconst 1, 1) := dk_4 (dk_at dksX4_faultAt_0 23 rfl rfl)
theorem dX4_faultAt_24 : decode cX4_faultAt 24 = .ok (.isub, 1) := dk_100 (dk_at dksX4_faultAt_1 0 rfl rfl)
theorem dX4_faultAt_25 : decode cX4_faultAt 25 = .ok (.ireturn, 1) := dk_172 (dk_at dksX4_faultAt_1 1 rfl rfl)
theorem dX4_faultAt_26 : decode cX4_faultAt 26 = .ok (.iload_n 1, 1) := dk_27 (dk_at dksX4_faultAt_1 2 rfl rfl)
theorem dX4_faultAt_27 : decode cX4_faultAt 27 = .ok (.iload_n 2, 1) := dk_28 (dk_at dksX4_faultAt_1 3 rfl rfl)
theorem dX4_faultAt_28 : decode cX4_faultAt 28 = .ok (.iadd, 1) := dk_96 (dk_at dksX4_faultAt_1 4 rfl rfl)
theorem dX4_faultAt_29 : decode cX4_faultAt 29 = .ok (.istore_n 1, 1) := dk_60 (dk_at dksX4_faultAt_1 5 rfl rfl)
theorem dX4_faultAt_30 : decode cX4_faultAt 30 = .ok (.goto (-28), 3) := dk_167 255 228 (dk_at dksX4_faultAt_1 6 rfl rfl)
theorem dX4_faultAt_33 : decode cX4_faultAt 33 = .ok (.bipush (-4), 2) := dk_16 252 (dk_at dksX4_faultAt_1 9 rfl rfl)
theorem dX4_faultAt_35 : decode cX4_faultAt 35 = .ok (.ireturn, 1) := dk_172 (dk_at dksX4_faultAt_1 11 rfl rfl)
abbrev cX4_itemAt : ByteArray := prog_11_method_69_code
def yX4_itemAt : MethodName := ⟨RX4, "itemAt", "(I)I"⟩
def dkwX4_itemAt_4 : List UInt8 := [16, 252, 167, 0, 21, 42, 27, 7, 96, 16, 59, 182, 0, 186, 153, 0, 7, 8, 167, 0, 5, 16, 251, 172]
abbrev dktX4_itemAt_4 : List UInt8 := dkwX4_itemAt_4 ++ []
def dkwX4_itemAt_3 : List UInt8 := [5, 96, 16, 61, 182, 0, 186, 154, 0, 6, 16, 253, 172, 42, 27, 6, 96, 182, 0, 183, 154, 0, 8]
abbrev dktX4_itemAt_3 : List UInt8 := dkwX4_itemAt_3 ++ dktX4_itemAt_4
def dkwX4_itemAt_2 : List UInt8 := [153, 0, 22, 42, 27, 6, 96, 16, 59, 182, 0, 186, 153, 0, 7, 7, 167, 0, 5, 16, 252, 172, 42, 27]
abbrev dktX4_itemAt_2 : List UInt8 := dkwX4_itemAt_2 ++ dktX4_itemAt_3
def dkwX4_itemAt_1 : List UInt8 := [42, 27, 4, 96, 182, 0, 183, 154, 0, 6, 16, 254, 172, 42, 27, 5, 96, 16, 45, 182, 0, 186]
abbrev dktX4_itemAt_1 : List UInt8 := dkwX4_itemAt_1 ++ dktX4_itemAt_2
def dkwX4_itemAt_0 : List UInt8 := [27, 42, 180, 0, 157, 159, 0, 17, 42, 180, 0, 19, 27, 46, 184, 0, 180, 16, 252, 160, 0, 5, 2, 172]
abbrev dktX4_itemAt_0 : List UInt8 := dkwX4_itemAt_0 ++ dktX4_itemAt_1
theorem dksX4_itemAt_0 : cX4_itemAt.data.toList.drop 0 = dktX4_itemAt_0 := by decide +kernel
theorem dksX4_itemAt_1 : cX4_itemAt.data.toList.drop 24 = dktX4_itemAt_1 := dk_seg dksX4_itemAt_0 24 rfl rfl
theorem dksX4_itemAt_2 : cX4_itemAt.data.toList.drop 46 = dktX4_itemAt_2 := dk_seg dksX4_itemAt_1 22 rfl rfl
theorem dksX4_itemAt_3 : cX4_itemAt.data.toList.drop 70 = dktX4_itemAt_3 := dk_seg dksX4_itemAt_2 24 rfl rfl
theorem dksX4_itemAt_4 : cX4_itemAt.data.toList.drop 93 = dktX4_itemAt_4 := dk_seg dksX4_itemAt_3 23 rfl rfl
theorem dX4_itemAt_0 : decode cX4_itemAt 0 = .ok (.iload_n 1, 1) := dk_27 (dk_at dksX4_itemAt_0 0 rfl rfl)
theorem dX4_itemAt_1 : decode cX4_itemAt 1 = .ok (.aload_n 0, 1) := dk_42 (dk_at dksX4_itemAt_0 1 rfl rfl)
theorem dX4_itemAt_2 : decode cX4_itemAt 2 = .ok (.getfield 157, 3) := dk_180 0 157 (dk_at dksX4_itemAt_0 2 rfl rfl)
theorem dX4_itemAt_5 : decode cX4_itemAt 5 = .ok (.if_icmp .eq 17, 3) := dk_159 0 17 (dk_at dksX4_itemAt_0 5 rfl rfl)
theorem dX4_itemAt_8 : decode cX4_itemAt 8 = .ok (.aload_n 0, 1) := dk_42 (dk_at dksX4_itemAt_0 8 rfl rfl)
theorem dX4_itemAt_9 : decode cX4_itemAt 9 = .ok (.getfield 19, 3) := dk_180 0 19 (dk_at dksX4_itemAt_0 9 rfl rfl)
theorem dX4_itemAt_12 : decode cX4_itemAt 12 = .ok (.iload_n 1, 1) := dk_27 (dk_at dksX4_itemAt_0 12 rfl rfl)
theorem dX4_itemAt_13 : decode cX4_itemAt 13 = .ok (.iaload, 1) := dk_46 (dk_at dksX4_itemAt_0 13 rfl rfl)
theorem dX4_itemAt_14 : decode cX4_itemAt 14 = .ok (.invokestatic 180, 3) := dk_184 0 180 (dk_at dksX4_itemAt_0 14 rfl rfl)
theorem dX4_itemAt_17 : decode cX4_itemAt 17 = .ok (.bipush (-4), 2) := dk_16 252 (dk_at dksX4_itemAt_0 17 rfl rfl)
theorem dX4_itemAt_19 : decode cX4_itemAt 19 = .ok (.if_icmp .ne 5, 3) := dk_160 0 5 (dk_at dksX4_itemAt_0 19 rfl rfl)
theorem dX4_itemAt_22 : decode cX4_itemAt 22 = .ok (.iconst (-1), 1) := dk_2 (dk_at dksX4_itemAt_0 22 rfl rfl)
theorem dX4_itemAt_23 : decode cX4_itemAt 23 = .ok (.ireturn, 1) := dk_172 (dk_at dksX4_itemAt_0 23 rfl rfl)
theorem dX4_itemAt_24 : decode cX4_itemAt 24 = .ok (.aload_n 0, 1) := dk_42 (dk_at dksX4_itemAt_1 0 rfl rfl)
theorem dX4_itemAt_25 : decode cX4_itemAt 25 = .ok (.iload_n 1, 1) := dk_27 (dk_at dksX4_itemAt_1 1 rfl rfl)
theorem dX4_itemAt_26 : decode cX4_itemAt 26 = .ok (.iconst 1, 1) := dk_4 (dk_at dksX4_itemAt_1 2 rfl rfl)
theorem dX4_itemAt_27 : decode cX4_itemAt 27 = .ok (.iadd, 1) := dk_96 (dk_at dksX4_itemAt_1 3 rfl rfl)
theorem dX4_itemAt_28 : decode cX4_itemAt 28 = .ok (.invokevirtual 183, 3) := dk_182 0 183 (dk_at dksX4_itemAt_1 4 rfl rfl)
theorem dX4_itemAt_31 : decode cX4_itemAt 31 = .ok (.ifCond .ne 6, 3) := dk_154 0 6 (dk_at dksX4_itemAt_1 7 rfl rfl)
theorem dX4_itemAt_34 : decode cX4_itemAt 34 = .ok (.bipush (-2), 2) := dk_16 254 (dk_at dksX4_itemAt_1 10 rfl rfl)
theorem dX4_itemAt_36 : decode cX4_itemAt 36 = .ok (.ireturn, 1) := dk_172 (dk_at dksX4_itemAt_1 12 rfl rfl)
theorem dX4_itemAt_37 : decode cX4_itemAt 37 = .ok (.aload_n 0, 1) := dk_42 (dk_at dksX4_itemAt_1 13 rfl rfl)
theorem dX4_itemAt_38 : decode cX4_itemAt 38 = .ok (.iload_n 1, 1) := dk_27 (dk_at dksX4_itemAt_1 14 rfl rfl)
theorem dX4_itemAt_39 : decode cX4_itemAt 39 = .ok (.iconst 2, 1) := dk_5 (dk_at dksX4_itemAt_1 15 rfl rfl)
theorem dX4_itemAt_40 : decode cX4_itemAt 40 = .ok (.iadd, 1) := dk_96 (dk_at dksX4_itemAt_1 16 rfl rfl)
theorem dX4_itemAt_41 : decode cX4_itemAt 41 = .ok (.bipush 45, 2) := dk_16 45 (dk_at dksX4_itemAt_1 17 rfl rfl)
theorem dX4_itemAt_43 : decode cX4_itemAt 43 = .ok (.invokevirtual 186, 3) := dk_182 0 186 (dk_at dksX4_itemAt_1 19 rfl rfl)
theorem dX4_itemAt_46 : decode cX4_itemAt 46 = .ok (.ifCond .eq 22, 3) := dk_153 0 22 (dk_at dksX4_itemAt_2 0 rfl rfl)
theorem dX4_itemAt_49 : decode cX4_itemAt 49 = .ok (.aload_n 0, 1) := dk_42 (dk_at dksX4_itemAt_2 3 rfl rfl)
theorem dX4_itemAt_50 : decode cX4_itemAt 50 = .ok (.iload_n 1, 1) := dk_27 (dk_at dksX4_itemAt_2 4 rfl rfl)
theorem dX4_itemAt_51 : decode cX4_itemAt 51 = .ok (.iconst 3, 1) := dk_6 (dk_at dksX4_itemAt_2 5 rfl rfl)
theorem dX4_itemAt_52 : decode cX4_itemAt 52 = .ok (.iadd, 1) := dk_96 (dk_at dksX4_itemAt_2 6 rfl rfl)
theorem dX4_itemAt_53 : decode cX4_itemAt 53 = .ok (.bipush 59, 2) := dk_16 59 (dk_at dksX4_itemAt_2 7 rfl rfl)
theorem dX4_itemAt_55 : decode cX4_itemAt 55 = .ok (.invokevirtual 186, 3) := dk_182 0 186 (dk_at dksX4_itemAt_2 9 rfl rfl)
theorem dX4_itemAt_58 : decode cX4_itemAt 58 = .ok (.ifCond .eq 7, 3) := dk_153 0 7 (dk_at dksX4_itemAt_2 12 rfl rfl)
theorem dX4_itemAt_61 : decode cX4_itemAt 61 = .ok (.iconst 4, 1) := dk_7 (dk_at dksX4_itemAt_2 15 rfl rfl)
theorem dX4_itemAt_62 : decode cX4_itemAt 62 = .ok (.goto 5, 3) := dk_167 0 5 (dk_at dksX4_itemAt_2 16 rfl rfl)
theorem dX4_itemAt_65 : decode cX4_itemAt 65 = .ok (.bipush (-4), 2) := dk_16 252 (dk_at dksX4_itemAt_2 19 rfl rfl)
theorem dX4_itemAt_67 : decode cX4_itemAt 67 = .ok (.ireturn, 1) := dk_172 (dk_at dksX4_itemAt_2 21 rfl rfl)
theorem dX4_itemAt_68 : decode cX4_itemAt 68 = .ok (.aload_n 0, 1) := dk_42 (dk_at dksX4_itemAt_2 22 rfl rfl)
theorem dX4_itemAt_69 : decode cX4_itemAt 69 = .ok (.iload_n 1, 1) := dk_27 (dk_at dksX4_itemAt_2 23 rfl rfl)
theorem dX4_itemAt_70 : decode cX4_itemAt 70 = .ok (.iconst 2, 1) := dk_5 (dk_at dksX4_itemAt_3 0 rfl rfl)
theorem dX4_itemAt_71 : decode cX4_itemAt 71 = .ok (.iadd, 1) := dk_96 (dk_at dksX4_itemAt_3 1 rfl rfl)
theorem dX4_itemAt_72 : decode cX4_itemAt 72 = .ok (.bipush 61, 2) := dk_16 61 (dk_at dksX4_itemAt_3 2 rfl rfl)
theorem dX4_itemAt_74 : decode cX4_itemAt 74 = .ok (.invokevirtual 186, 3) := dk_182 0 186 (dk_at dksX4_itemAt_3 4 rfl rfl)
theorem dX4_itemAt_77 : decode cX4_itemAt 77 = .ok (.ifCond .ne 6, 3) := dk_154 0 6 (dk_at dksX4_itemAt_3 7 rfl rfl)
theorem dX4_itemAt_80 : decode cX4_itemAt 80 = .ok (.bipush (-3), 2) := dk_16 253 (dk_at dksX4_itemAt_3 10 rfl rfl)
theorem dX4_itemAt_82 : decode cX4_itemAt 82 = .ok (.ireturn, 1) := dk_172 (dk_at dksX4_itemAt_3 12 rfl rfl)
theorem dX4_itemAt_83 : decode cX4_itemAt 83 = .ok (.aload_n 0, 1) := dk_42 (dk_at dksX4_itemAt_3 13 rfl rfl)
theorem dX4_itemAt_84 : decode cX4_itemAt 84 = .ok (.iload_n 1, 1) := dk_27 (dk_at dksX4_itemAt_3 14 rfl rfl)
theorem dX4_itemAt_85 : decode cX4_itemAt 85 = .ok (.iconst 3, 1) := dk_6 (dk_at dksX4_itemAt_3 15 rfl rfl)
theorem dX4_itemAt_86 : decode cX4_itemAt 86 = .ok (.iadd, 1) := dk_96 (dk_at dksX4_itemAt_3 16 rfl rfl)
theorem dX4_itemAt_87 : decode cX4_itemAt 87 = .ok (.invokevirtual 183, 3) := dk_182 0 183 (dk_at dksX4_itemAt_3 17 rfl rfl)
theorem dX4_itemAt_90 : decode cX4_itemAt 90 = .ok (.ifCond .ne 8, 3) := dk_154 0 8 (dk_at dksX4_itemAt_3 20 rfl rfl)
theorem dX4_itemAt_93 : decode cX4_itemAt 93 = .ok (.bipush (-4), 2) := dk_16 252 (dk_at dksX4_itemAt_4 0 rfl rfl)
theorem dX4_itemAt_95 : decode cX4_itemAt 95 = .ok (.goto 21, 3) := dk_167 0 21 (dk_at dksX4_itemAt_4 2 rfl rfl)
theorem dX4_itemAt_98 : decode cX4_itemAt 98 = .ok (.aload_n 0, 1) := dk_42 (dk_at dksX4_itemAt_4 5 rfl rfl)
theorem dX4_itemAt_99 : decode cX4_itemAt 99 = .ok (.iload_n 1, 1) := dk_27 (dk_at dksX4_itemAt_4 6 rfl rfl)
theorem dX4_itemAt_100 : decode cX4_itemAt 100 = .ok (.iconst 4, 1) := dk_7 (dk_at dksX4_itemAt_4 7 rfl rfl)
theorem dX4_itemAt_101 : decode cX4_itemAt 101 = .ok (.iadd, 1) := dk_96 (dk_at dksX4_itemAt_4 8 rfl rfl)
theorem dX4_itemAt_102 : decode cX4_itemAt 102 = .ok (.bipush 59, 2) := dk_16 59 (dk_at dksX4_itemAt_4 9 rfl rfl)
theorem dX4_itemAt_104 : decode cX4_itemAt 104 = .ok (.invokevirtual 186, 3) := dk_182 0 186 (dk_at dksX4_itemAt_4 11 rfl rfl)
theorem dX4_itemAt_107 : decode cX4_itemAt 107 = .ok (.ifCond .eq 7, 3) := dk_153 0 7 (dk_at dksX4_itemAt_4 14 rfl rfl)
theorem dX4_itemAt_110 : decode cX4_itemAt 110 = .ok (.iconst 5, 1) := dk_8 (dk_at dksX4_itemAt_4 17 rfl rfl)
theorem dX4_itemAt_111 : decode cX4_itemAt 111 = .ok (.goto 5, 3) := dk_167 0 5 (dk_at dksX4_itemAt_4 18 rfl rfl)
theorem dX4_itemAt_114 : decode cX4_itemAt 114 = .ok (.bipush (-5), 2) := dk_16 251 (dk_at dksX4_itemAt_4 21 rfl rfl)
theorem dX4_itemAt_116 : decode cX4_itemAt 116 = .ok (.ireturn, 1) := dk_172 (dk_at dksX4_itemAt_4 23 rfl rfl)
abbrev cX4_sideNamed : ByteArray := prog_11_method_66_code
def yX4_sideNamed : MethodName := ⟨RX4, "sideNamed", "(I)I"⟩
def dkwX4_sideNamed_1 : List UInt8 := [160, 0, 7, 5, 167, 0, 15, 26, 16, 119, 160, 0, 7, 6, 167, 0, 5, 16, 252, 172]
abbrev dktX4_sideNamed_1 : List UInt8 := dkwX4_sideNamed_1 ++ []
def dkwX4_sideNamed_0 : List UInt8 := [26, 16, 110, 160, 0, 7, 3, 167, 0, 35, 26, 16, 101, 160, 0, 7, 4, 167, 0, 25, 26, 16, 115]
abbrev dktX4_sideNamed_0 : List UInt8 := dkwX4_sideNamed_0 ++ dktX4_sideNamed_1
theorem dksX4_sideNamed_0 : cX4_sideNamed.data.toList.drop 0 = dktX4_sideNamed_0 := by decide +kernel
theorem dksX4_sideNamed_1 : cX4_sideNamed.data.toList.drop 23 = dktX4_sideNamed_1 := dk_seg dksX4_sideNamed_0 23 rfl rfl
theorem dX4_sideNamed_0 : decode cX4_sideNamed 0 = .ok (.iload_n 0, 1) := dk_26 (dk_at dksX4_sideNamed_0 0 rfl rfl)
theorem dX4_sideNamed_1 : decode cX4_sideNamed 1 = .ok (.bipush 110, 2) := dk_16 110 (dk_at dksX4_sideNamed_0 1 rfl rfl)
theorem dX4_sideNamed_3 : decode cX4_sideNamed 3 = .ok (.if_icmp .ne 7, 3) := dk_160 0 7 (dk_at dksX4_sideNamed_0 3 rfl rfl)
theorem dX4_sideNamed_6 : decode cX4_sideNamed 6 = .ok (.iconst 0, 1) := dk_3 (dk_at dksX4_sideNamed_0 6 rfl rfl)
theorem dX4_sideNamed_7 : decode cX4_sideNamed 7 = .ok (.goto 35, 3) := dk_167 0 35 (dk_at dksX4_sideNamed_0 7 rfl rfl)
theorem dX4_sideNamed_10 : decode cX4_sideNamed 10 = .ok (.iload_n 0, 1) := dk_26 (dk_at dksX4_sideNamed_0 10 rfl rfl)
theorem dX4_sideNamed_11 : decode cX4_sideNamed 11 = .ok (.bipush 101, 2) := dk_16 101 (dk_at dksX4_sideNamed_0 11 rfl rfl)
theorem dX4_sideNamed_13 : decode cX4_sideNamed 13 = .ok (.if_icmp .ne 7, 3) := dk_160 0 7 (dk_at dksX4_sideNamed_0 13 rfl rfl)
theorem dX4_sideNamed_16 : decode cX4_sideNamed 16 = .ok (.iconst 1, 1) := dk_4 (dk_at dksX4_sideNamed_0 16 rfl rfl)
theorem dX4_sideNamed_17 : decode cX4_sideNamed 17 = .ok (.goto 25, 3) := dk_167 0 25 (dk_at dksX4_sideNamed_0 17 rfl rfl)
theorem dX4_sideNamed_20 : decode cX4_sideNamed 20 = .ok (.iload_n 0, 1) := dk_26 (dk_at dksX4_sideNamed_0 20 rfl rfl)
theorem dX4_sideNamed_21 : decode cX4_sideNamed 21 = .ok (.bipush 115, 2) := dk_16 115 (dk_at dksX4_sideNamed_0 21 rfl rfl)
theorem dX4_sideNamed_23 : decode cX4_sideNamed 23 = .ok (.if_icmp .ne 7, 3) := dk_160 0 7 (dk_at dksX4_sideNamed_1 0 rfl rfl)
theorem dX4_sideNamed_26 : decode cX4_sideNamed 26 = .ok (.iconst 2, 1) := dk_5 (dk_at dksX4_sideNamed_1 3 rfl rfl)
theorem dX4_sideNamed_27 : decode cX4_sideNamed 27 = .ok (.goto 15, 3) := dk_167 0 15 (dk_at dksX4_sideNamed_1 4 rfl rfl)
theorem dX4_sideNamed_30 : decode cX4_sideNamed 30 = .ok (.iload_n 0, 1) := dk_26 (dk_at dksX4_sideNamed_1 7 rfl rfl)
theorem dX4_sideNamed_31 : decode cX4_sideNamed 31 = .ok (.bipush 119, 2) := dk_16 119 (dk_at dksX4_sideNamed_1 8 rfl rfl)
theorem dX4_sideNamed_33 : decode cX4_sideNamed 33 = .ok (.if_icmp .ne 7, 3) := dk_160 0 7 (dk_at dksX4_sideNamed_1 10 rfl rfl)
theorem dX4_sideNamed_36 : decode cX4_sideNamed 36 = .ok (.iconst 3, 1) := dk_6 (dk_at dksX4_sideNamed_1 13 rfl rfl)
theorem dX4_sideNamed_37 : decode cX4_sideNamed 37 = .ok (.goto 5, 3) := dk_167 0 5 (dk_at dksX4_sideNamed_1 14 rfl rfl)
theorem dX4_sideNamed_40 : decode cX4_sideNamed 40 = .ok (.bipush (-4), 2) := dk_16 252 (dk_at dksX4_sideNamed_1 17 rfl rfl)
theorem dX4_sideNamed_42 : decode cX4_sideNamed 42 = .ok (.ireturn, 1) := dk_172 (dk_at dksX4_sideNamed_1 19 rfl rfl)
abbrev cX4_isDigit : ByteArray := prog_11_method_67_code
def yX4_isDigit : MethodName := ⟨RX4, "isDigit", "(I)Z"⟩
def dkwX4_isDigit_1 : List UInt8 := [4, 167, 0, 4, 3, 172]
abbrev dktX4_isDigit_1 : List UInt8 := dkwX4_isDigit_1 ++ []
def dkwX4_isDigit_0 : List UInt8 := [27, 42, 180, 0, 157, 162, 0, 23, 42, 180, 0, 19, 27, 46, 16, 48, 16, 57, 184, 0, 111, 153, 0, 7]
abbrev dktX4_isDigit_0 : List UInt8 := dkwX4_isDigit_0 ++ dktX4_isDigit_1
theorem dksX4_isDigit_0 : cX4_isDigit.data.toList.drop 0 = dktX4_isDigit_0 := by decide +kernel
theorem dksX4_isDigit_1 : cX4_isDigit.data.toList.drop 24 = dktX4_isDigit_1 := dk_seg dksX4_isDigit_0 24 rfl rfl
theorem dX4_isDigit_0 : decode cX4_isDigit 0 = .ok (.iload_n 1, 1) := dk_27 (dk_at dksX4_isDigit_0 0 rfl rfl)
theorem dX4_isDigit_1 : decode cX4_isDigit 1 = .ok (.aload_n 0, 1) := dk_42 (dk_at dksX4_isDigit_0 1 rfl rfl)
theorem dX4_isDigit_2 : decode cX4_isDigit 2 = .ok (.getfield 157, 3) := dk_180 0 157 (dk_at dksX4_isDigit_0 2 rfl rfl)
theorem dX4_isDigit_5 : decode cX4_isDigit 5 = .ok (.if_icmp .ge 23, 3) := dk_162 0 23 (dk_at dksX4_isDigit_0 5 rfl rfl)
theorem dX4_isDigit_8 : decode cX4_isDigit 8 = .ok (.aload_n 0, 1) := dk_42 (dk_at dksX4_isDigit_0 8 rfl rfl)
theorem dX4_isDigit_9 : decode cX4_isDigit 9 = .ok (.getfield 19, 3) := dk_180 0 19 (dk_at dksX4_isDigit_0 9 rfl rfl)
theorem dX4_isDigit_12 : decode cX4_isDigit 12 = .ok (.iload_n 1, 1) := dk_27 (dk_at dksX4_isDigit_0 12 rfl rfl)
theorem dX4_isDigit_13 : decode cX4_isDigit 13 = .ok (.iaload, 1) := dk_46 (dk_at dksX4_isDigit_0 13 rfl rfl)
theorem dX4_isDigit_14 : decode cX4_isDigit 14 = .ok (.bipush 48, 2) := dk_16 48 (dk_at dksX4_isDigit_0 14 rfl rfl)
theorem dX4_isDigit_16 : decode cX4_isDigit 16 = .ok (.bipush 57, 2) := dk_16 57 (dk_at dksX4_isDigit_0 16 rfl rfl)
theorem dX4_isDigit_18 : decode cX4_isDigit 18 = .ok (.invokestatic 111, 3) := dk_184 0 111 (dk_at dksX4_isDigit_0 18 rfl rfl)
theorem dX4_isDigit_21 : decode cX4_isDigit 21 = .ok (.ifCond .eq 7, 3) := dk_153 0 7 (dk_at dksX4_isDigit_0 21 rfl rfl)
theorem dX4_isDigit_24 : decode cX4_isDigit 24 = .ok (.iconst 1, 1) := dk_4 (dk_at dksX4_isDigit_1 0 rfl rfl)
theorem dX4_isDigit_25 : decode cX4_isDigit 25 = .ok (.goto 4, 3) := dk_167 0 4 (dk_at dksX4_isDigit_1 1 rfl rfl)
theorem dX4_isDigit_28 : decode cX4_isDigit 28 = .ok (.iconst 0, 1) := dk_3 (dk_at dksX4_isDigit_1 4 rfl rfl)
theorem dX4_isDigit_29 : decode cX4_isDigit 29 = .ok (.ireturn, 1) := dk_172 (dk_at dksX4_isDigit_1 5 rfl rfl)
abbrev cX4_isAt : ByteArray := prog_11_method_68_code
def yX4_isAt : MethodName := ⟨RX4, "isAt", "(II)Z"⟩
def dkwX4_isAt_0 : List UInt8 := [27, 42, 180, 0, 157, 162, 0, 17, 42, 180, 0, 19, 27, 46, 28, 160, 0, 7, 4, 167, 0, 4, 3, 172]
abbrev dktX4_isAt_0 : List UInt8 := dkwX4_isAt_0 ++ []
theorem dksX4_isAt_0 : cX4_isAt.data.toList.drop 0 = dktX4_isAt_0 := by decide +kernel
theorem dX4_isAt_0 : decode cX4_isAt 0 = .ok (.iload_n 1, 1) := dk_27 (dk_at dksX4_isAt_0 0 rfl rfl)
theorem dX4_isAt_1 : decode cX4_isAt 1 = .ok (.aload_n 0, 1) := dk_42 (dk_at dksX4_isAt_0 1 rfl rfl)
theorem dX4_isAt_2 : decode cX4_isAt 2 = .ok (.getfield 157, 3) := dk_180 0 157 (dk_at dksX4_isAt_0 2 rfl rfl)
theorem dX4_isAt_5 : decode cX4_isAt 5 = .ok (.if_icmp .ge 17, 3) := dk_162 0 17 (dk_at dksX4_isAt_0 5 rfl rfl)
theorem dX4_isAt_8 : decode cX4_isAt 8 = .ok (.aload_n 0, 1) := dk_42 (dk_at dksX4_isAt_0 8 rfl rfl)
theorem dX4_isAt_9 : decode cX4_isAt 9 = .ok (.getfield 19, 3) := dk_180 0 19 (dk_at dksX4_isAt_0 9 rfl rfl)
theorem dX4_isAt_12 : decode cX4_isAt 12 = .ok (.iload_n 1, 1) := dk_27 (dk_at dksX4_isAt_0 12 rfl rfl)
theorem dX4_isAt_13 : decode cX4_isAt 13 = .ok (.iaload, 1) := dk_46 (dk_at dksX4_isAt_0 13 rfl rfl)
theorem dX4_isAt_14 : decode cX4_isAt 14 = .ok (.iload_n 2, 1) := dk_28 (dk_at dksX4_isAt_0 14 rfl rfl)
theorem dX4_isAt_15 : decode cX4_isAt 15 = .ok (.if_icmp .ne 7, 3) := dk_160 0 7 (dk_at dksX4_isAt_0 15 rfl rfl)
theorem dX4_isAt_18 : decode cX4_isAt 18 = .ok (.iconst 1, 1) := dk_4 (dk_at dksX4_isAt_0 18 rfl rfl)
theorem dX4_isAt_19 : decode cX4_isAt 19 = .ok (.goto 4, 3) := dk_167 0 4 (dk_at dksX4_isAt_0 19 rfl rfl)
theorem dX4_isAt_22 : decode cX4_isAt 22 = .ok (.iconst 0, 1) := dk_3 (dk_at dksX4_isAt_0 22 rfl rfl)
theorem dX4_isAt_23 : decode cX4_isAt 23 = .ok (.ireturn, 1) := dk_172 (dk_at dksX4_isAt_0 23 rfl rfl)
abbrev cX4_read : ByteArray := prog_11_method_72_code
def yX4_read : MethodName := ⟨RX4, "read", "(I)I"⟩
def dkwX4_read_5 : List UInt8 := [167, 0, 4, 3, 28, 182, 0, 124, 172]
abbrev dktX4_read_5 : List UInt8 := dkwX4_read_5 ++ []
def dkwX4_read_4 : List UInt8 := [21, 5, 182, 0, 41, 132, 2, 1, 29, 21, 4, 96, 62, 167, 255, 178, 42, 27, 28, 158, 0, 7, 4]
abbrev dktX4_read_4 : List UInt8 := dkwX4_read_4 ++ dktX4_read_5
def dkwX4_read_3 : List UInt8 := [16, 10, 42, 180, 0, 19, 29, 46, 184, 0, 180, 104, 42, 180, 0, 19, 29, 4, 96, 46, 96, 16, 48, 100]
abbrev dktX4_read_3 : List UInt8 := dkwX4_read_3 ++ dktX4_read_4
def dkwX4_read_2 : List UInt8 := [7, 160, 0, 8, 16, 10, 167, 0, 14, 42, 180, 0, 19, 29, 6, 96, 46, 16, 48, 100, 54, 5, 42, 27]
abbrev dktX4_read_2 : List UInt8 := dkwX4_read_2 ++ dktX4_read_3
def dkwX4_read_1 : List UInt8 := [182, 0, 115, 3, 61, 3, 62, 29, 42, 180, 0, 157, 162, 0, 76, 42, 29, 182, 0, 190, 54, 4, 21, 4]
abbrev dktX4_read_1 : List UInt8 := dkwX4_read_1 ++ dktX4_read_2
def dkwX4_read_0 : List UInt8 := [42, 27, 182, 0, 118, 154, 0, 5, 2, 172, 42, 182, 0, 193, 16, 252, 159, 0, 6, 16, 254, 172, 42]
abbrev dktX4_read_0 : List UInt8 := dkwX4_read_0 ++ dktX4_read_1
theorem dksX4_read_0 : cX4_read.data.toList.drop 0 = dktX4_read_0 := by decide +kernel
theorem dksX4_read_1 : cX4_read.data.toList.drop 23 = dktX4_read_1 := dk_seg dksX4_read_0 23 rfl rfl
theorem dksX4_read_2 : cX4_read.data.toList.drop 47 = dktX4_read_2 := dk_seg dksX4_read_1 24 rfl rfl
theorem dksX4_read_3 : cX4_read.data.toList.drop 71 = dktX4_read_3 := dk_seg dksX4_read_2 24 rfl rfl
theorem dksX4_read_4 : cX4_read.data.toList.drop 95 = dktX4_read_4 := dk_seg dksX4_read_3 24 rfl rfl
theorem dksX4_read_5 : cX4_read.data.toList.drop 118 = dktX4_read_5 := dk_seg dksX4_read_4 23 rfl rfl
theorem dX4_read_0 : decode cX4_read 0 = .ok (.aload_n 0, 1) := dk_42 (dk_at dksX4_read_0 0 rfl rfl)
theorem dX4_read_1 : decode cX4_read 1 = .ok (.iload_n 1, 1) := dk_27 (dk_at dksX4_read_0 1 rfl rfl)
theorem dX4_read_2 : decode cX4_read 2 = .ok (.invokevirtual 118, 3) := dk_182 0 118 (dk_at dksX4_read_0 2 rfl rfl)
theorem dX4_read_5 : decode cX4_read 5 = .ok (.ifCond .ne 5, 3) := dk_154 0 5 (dk_at dksX4_read_0 5 rfl rfl)
theorem dX4_read_8 : decode cX4_read 8 = .ok (.iconst (-1), 1) := dk_2 (dk_at dksX4_read_0 8 rfl rfl)
theorem dX4_read_9 : decode cX4_read 9 = .ok (.ireturn, 1) := dk_172 (dk_at dksX4_read_0 9 rfl rfl)
theorem dX4_read_10 : decode cX4_read 10 = .ok (.aload_n 0, 1) := dk_42 (dk_at dksX4_read_0 10 rfl rfl)
theorem dX4_read_11 : decode cX4_read 11 = .ok (.invokevirtual 193, 3) := dk_182 0 193 (dk_at dksX4_read_0 11 rfl rfl)
theorem dX4_read_14 : decode cX4_read 14 = .ok (.bipush (-4), 2) := dk_16 252 (dk_at dksX4_read_0 14 rfl rfl)
theorem dX4_read_16 : decode cX4_read 16 = .ok (.if_icmp .eq 6, 3) := dk_159 0 6 (dk_at dksX4_read_0 16 rfl rfl)
theorem dX4_read_19 : decode cX4_read 19 = .ok (.bipush (-2), 2) := dk_16 254 (dk_at dksX4_read_0 19 rfl rfl)
theorem dX4_read_21 : decode cX4_read 21 = .ok (.ireturn, 1) := dk_172 (dk_at dksX4_read_0 21 rfl rfl)
theorem dX4_read_22 : decode cX4_read 22 = .ok (.aload_n 0, 1) := dk_42 (dk_at dksX4_read_0 22 rfl rfl)
theorem dX4_read_23 : decode cX4_read 23 = .ok (.invokevirtual 115, 3) := dk_182 0 115 (dk_at dksX4_read_1 0 rfl rfl)
theorem dX4_read_26 : decode cX4_read 26 = .ok (.iconst 0, 1) := dk_3 (dk_at dksX4_read_1 3 rfl rfl)
theorem dX4_read_27 : decode cX4_read 27 = .ok (.istore_n 2, 1) := dk_61 (dk_at dksX4_read_1 4 rfl rfl)
theorem dX4_read_28 : decode cX4_read 28 = .ok (.iconst 0, 1) := dk_3 (dk_at dksX4_read_1 5 rfl rfl)
theorem dX4_read_29 : decode cX4_read 29 = .ok (.istore_n 3, 1) := dk_62 (dk_at dksX4_read_1 6 rfl rfl)
theorem dX4_read_30 : decode cX4_read 30 = .ok (.iload_n 3, 1) := dk_29 (dk_at dksX4_read_1 7 rfl rfl)
theorem dX4_read_31 : decode cX4_read 31 = .ok (.aload_n 0, 1) := dk_42 (dk_at dksX4_read_1 8 rfl rfl)
theorem dX4_read_32 : decode cX4_read 32 = .ok (.getfield 157, 3) := dk_180 0 157 (dk_at dksX4_read_1 9 rfl rfl)
theorem dX4_read_35 : decode cX4_read 35 = .ok (.if_icmp .ge 76, 3) := dk_162 0 76 (dk_at dksX4_read_1 12 rfl rfl)
theorem dX4_read_38 : decode cX4_read 38 = .ok (.aload_n 0, 1) := dk_42 (dk_at dksX4_read_1 15 rfl rfl)
theorem dX4_read_39 : decode cX4_read 39 = .ok (.iload_n 3, 1) := dk_29 (dk_at dksX4_read_1 16 rfl rfl)
theorem dX4_read_40 : decode cX4_read 40 = .ok (.invokevirtual 190, 3) := dk_182 0 190 (dk_at dksX4_read_1 17 rfl rfl)
theorem dX4_read_43 : decode cX4_read 43 = .ok (.istore 4, 2) := dk_54 4 (dk_at dksX4_read_1 20 rfl rfl)
theorem dX4_read_45 : decode cX4_read 45 = .ok (.iload 4, 2) := dk_21 4 (dk_at dksX4_read_1 22 rfl rfl)
theorem dX4_read_47 : decode cX4_read 47 = .ok (.iconst 4, 1) := dk_7 (dk_at dksX4_read_2 0 rfl rfl)
theorem dX4_read_48 : decode cX4_read 48 = .ok (.if_icmp .ne 8, 3) := dk_160 0 8 (dk_at dksX4_read_2 1 rfl rfl)
theorem dX4_read_51 : decode cX4_read 51 = .ok (.bipush 10, 2) := dk_16 10 (dk_at dksX4_read_2 4 rfl rfl)
theorem dX4_read_53 : decode cX4_read 53 = .ok (.goto 14, 3) := dk_167 0 14 (dk_at dksX4_read_2 6 rfl rfl)
theorem dX4_read_56 : decode cX4_read 56 = .ok (.aload_n 0, 1) := dk_42 (dk_at dksX4_read_2 9 rfl rfl)
theorem dX4_read_57 : decode cX4_read 57 = .ok (.getfield 19, 3) := dk_180 0 19 (dk_at dksX4_read_2 10 rfl rfl)
theorem dX4_read_60 : decode cX4_read 60 = .ok (.iload_n 3, 1) := dk_29 (dk_at dksX4_read_2 13 rfl rfl)
theorem dX4_read_61 : decode cX4_read 61 = .ok (.iconst 3, 1) := dk_6 (dk_at dksX4_read_2 14 rfl rfl)
theorem dX4_read_62 : decode cX4_read 62 = .ok (.iadd, 1) := dk_96 (dk_at dksX4_read_2 15 rfl rfl)
theorem dX4_read_63 : decode cX4_read 63 = .ok (.iaload, 1) := dk_46 (dk_at dksX4_read_2 16 rfl rfl)
theorem dX4_read_64 : decode cX4_read 64 = .ok (.bipush 48, 2) := dk_16 48 (dk_at dksX4_read_2 17 rfl rfl)
theorem dX4_read_66 : decode cX4_read 66 = .ok (.isub, 1) := dk_100 (dk_at dksX4_read_2 19 rfl rfl)
theorem dX4_read_67 : decode cX4_read 67 = .ok (.istore 5, 2) := dk_54 5 (dk_at dksX4_read_2 20 rfl rfl)
theorem dX4_read_69 : decode cX4_read 69 = .ok (.aload_n 0, 1) := dk_42 (dk_at dksX4_read_2 22 rfl rfl)
theorem dX4_read_70 : decode cX4_read 70 = .ok (.iload_n 1, 1) := dk_27 (dk_at dksX4_read_2 23 rfl rfl)
theorem dX4_read_71 : decode cX4_read 71 = .ok (.bipush 10, 2) := dk_16 10 (dk_at dksX4_read_3 0 rfl rfl)
theorem dX4_read_73 : decode cX4_read 73 = .ok (.aload_n 0, 1) := dk_42 (dk_at dksX4_read_3 2 rfl rfl)
theorem dX4_read_74 : decode cX4_read 74 = .ok (.getfield 19, 3) := dk_180 0 19 (dk_at dksX4_read_3 3 rfl rfl)
theorem dX4_read_77 : decode cX4_read 77 = .ok (.iload_n 3, 1) := dk_29 (dk_at dksX4_read_3 6 rfl rfl)
theorem dX4_read_78 : decode cX4_read 78 = .ok (.iaload, 1) := dk_46 (dk_at dksX4_read_3 7 rfl rfl)
theorem dX4_read_79 : decode cX4_read 79 = .ok (.invokestatic 180, 3) := dk_184 0 180 (dk_at dksX4_read_3 8 rfl rfl)
theorem dX4_read_82 : decode cX4_read 82 = .ok (.imul, 1) := dk_104 (dk_at dksX4_read_3 11 rfl rfl)
theorem dX4_read_83 : decode cX4_read 83 = .ok (.aload_n 0, 1) := dk_42 (dk_at dksX4_read_3 12 rfl rfl)
theorem dX4_read_84 : decode cX4_read 84 = .ok (.getfield 19, 3) := dk_180 0 19 (dk_at dksX4_read_3 13 rfl rfl)
theorem dX4_read_87 : decode cX4_read 87 = .ok (.iload_n 3, 1) := dk_29 (dk_at dksX4_read_3 16 rfl rfl)
theorem dX4_read_88 : decode cX4_read 88 = .ok (.iconst 1, 1) := dk_4 (dk_at dksX4_read_3 17 rfl rfl)
theorem dX4_read_89 : decode cX4_read 89 = .ok (.iadd, 1) := dk_96 (dk_at dksX4_read_3 18 rfl rfl)
theorem dX4_read_90 : decode cX4_read 90 = .ok (.iaload, 1) := dk_46 (dk_at dksX4_read_3 19 rfl rfl)
theorem dX4_read_91 : decode cX4_read 91 = .ok (.iadd, 1) := dk_96 (dk_at dksX4_read_3 20 rfl rfl)
theorem dX4_read_92 : decode cX4_read 92 = .ok (.bipush 48, 2) := dk_16 48 (dk_at dksX4_read_3 21 rfl rfl)
theorem dX4_read_94 : decode cX4_read 94 = .ok (.isub, 1) := dk_100 (dk_at dksX4_read_3 23 rfl rfl)
theorem dX4_read_95 : decode cX4_read 95 = .ok (.iload 5, 2) := dk_21 5 (dk_at dksX4_read_4 0 rfl rfl)
theorem dX4_read_97 : decode cX4_read 97 = .ok (.invokevirtual 41, 3) := dk_182 0 41 (dk_at dksX4_read_4 2 rfl rfl)
theorem dX4_read_100 : decode cX4_read 100 = .ok (.iinc 2 1, 3) := dk_132 2 1 (dk_at dksX4_read_4 5 rfl rfl)
theorem dX4_read_103 : decode cX4_read 103 = .ok (.iload_n 3, 1) := dk_29 (dk_at dksX4_read_4 8 rfl rfl)
theorem dX4_read_104 : decode cX4_read 104 = .ok (.iload 4, 2) := dk_21 4 (dk_at dksX4_read_4 9 rfl rfl)
theorem dX4_read_106 : decode cX4_read 106 = .ok (.iadd, 1) := dk_96 (dk_at dksX4_read_4 11 rfl rfl)
theorem dX4_read_107 : decode cX4_read 107 = .ok (.istore_n 3, 1) := dk_62 (dk_at dksX4_read_4 12 rfl rfl)
theorem dX4_read_108 : decode cX4_read 108 = .ok (.goto (-78), 3) := dk_167 255 178 (dk_at dksX4_read_4 13 rfl rfl)
theorem dX4_read_111 : decode cX4_read 111 = .ok (.aload_n 0, 1) := dk_42 (dk_at dksX4_read_4 16 rfl rfl)
theorem dX4_read_112 : decode cX4_read 112 = .ok (.iload_n 1, 1) := dk_27 (dk_at dksX4_read_4 17 rfl rfl)
theorem dX4_read_113 : decode cX4_read 113 = .ok (.iload_n 2, 1) := dk_28 (dk_at dksX4_read_4 18 rfl rfl)
theorem dX4_read_114 : decode cX4_read 114 = .ok (.ifCond .le 7, 3) := dk_158 0 7 (dk_at dksX4_read_4 19 rfl rfl)
theorem dX4_read_117 : decode cX4_read 117 = .ok (.iconst 1, 1) := dk_4 (dk_at dksX4_read_4 22 rfl rfl)
theorem dX4_read_118 : decode cX4_read 118 = .ok (.goto 4, 3) := dk_167 0 4 (dk_at dksX4_read_5 0 rfl rfl)
theorem dX4_read_121 : decode cX4_read 121 = .ok (.iconst 0, 1) := dk_3 (dk_at dksX4_read_5 3 rfl rfl)
theorem dX4_read_122 : decode cX4_read 122 = .ok (.iload_n 2, 1) := dk_28 (dk_at dksX4_read_5 4 rfl rfl)
theorem dX4_read_123 : decode cX4_read 123 = .ok (.invokevirtual 124, 3) := dk_182 0 124 (dk_at dksX4_read_5 5 rfl rfl)
theorem dX4_read_126 : decode cX4_read 126 = .ok (.ireturn, 1) := dk_172 (dk_at dksX4_read_5 8 rfl rfl)
theorem q79 : (Jvm.Cond.initialized "MapSheetsModel") ∈ lw_all := lw_g (lw_at lw_m1 17 rfl) rfl
theorem q296 : (Jvm.Cond.selects "MapSheetsModel" ({ cls := "java/lang/Object", name := "getClass", desc := "()Ljava/lang/Class;" } : Jvm.MethodName) ({ cls := "java/lang/Object", name := "getClass", desc := "()Ljava/lang/Class;" } : Jvm.MethodName)) ∈ lw_all := lw_g (lw_at lw_m1 234 rfl) rfl
theorem q723 : (Jvm.Cond.selects "MapSheetsModel" ({ cls := "java/lang/Object", name := "equals", desc := "(Ljava/lang/Object;)Z" } : Jvm.MethodName) ({ cls := "java/lang/Object", name := "equals", desc := "(Ljava/lang/Object;)Z" } : Jvm.MethodName)) ∈ lw_all := lw_g (lw_at lw_m3 181 rfl) rfl
theorem q1151 : (Jvm.Cond.instantiable "MapSheetsModel" (7 : Nat)) ∈ lw_all := lw_g (lw_at lw_m5 129 rfl) rfl
theorem q1153 : (Jvm.Cond.instanceMethod ({ cls := "MapSheetsModel", name := "<init>", desc := "()V" } : Jvm.MethodName)) ∈ lw_all := lw_g (lw_at lw_m5 131 rfl) rfl
theorem q1154 : (Jvm.Cond.code ({ cls := "MapSheetsModel", name := "<init>", desc := "()V" } : Jvm.MethodName) prog_11_method_1_code (1 : Nat) (Option.none : Option Jvm.ClassFile.FieldType)) ∈ lw_all := lw_g (lw_at lw_m5 132 rfl) rfl
theorem q1155 : (Jvm.Cond.methodLink "MapSheetsModel" (1 : Nat) ({ cls := "java/lang/Object", name := "<init>", desc := "()V" } : Jvm.MethodName)) ∈ lw_all := lw_g (lw_at lw_m5 133 rfl) rfl
theorem q1156 : (Jvm.Cond.methodLink "MapSheetsModel" (25 : Nat) ({ cls := "MapSheetsModel", name := "begins", desc := "(II)V" } : Jvm.MethodName)) ∈ lw_all := lw_g (lw_at lw_m5 134 rfl) rfl
theorem q1157 : (Jvm.Cond.privateMethod ({ cls := "MapSheetsModel", name := "begins", desc := "(II)V" } : Jvm.MethodName)) ∈ lw_tbl := lw_at lw_m5 135 rfl
theorem q1158 : (Jvm.Cond.instanceMethod ({ cls := "MapSheetsModel", name := "begins", desc := "(II)V" } : Jvm.MethodName)) ∈ lw_all := lw_g (lw_at lw_m5 136 rfl) rfl
theorem q1159 : (Jvm.Cond.code ({ cls := "MapSheetsModel", name := "begins", desc := "(II)V" } : Jvm.MethodName) prog_11_method_4_code (5 : Nat) (Option.none : Option Jvm.ClassFile.FieldType)) ∈ lw_all := lw_g (lw_at lw_m5 137 rfl) rfl
theorem q1160 : (Jvm.Cond.fieldLink "MapSheetsModel" (7 : Nat) "MapSheetsModel" "s" "[I") ∈ lw_all := lw_g (lw_at lw_m5 138 rfl) rfl
theorem q1161 : (Jvm.Cond.fieldLink "MapSheetsModel" (13 : Nat) "MapSheetsModel" "was" "[I") ∈ lw_all := lw_g (lw_at lw_m5 139 rfl) rfl
theorem q1162 : (Jvm.Cond.fieldLink "MapSheetsModel" (16 : Nat) "MapSheetsModel" "aside" "[I") ∈ lw_all := lw_g (lw_at lw_m5 140 rfl) rfl
theorem q1163 : (Jvm.Cond.fieldLink "MapSheetsModel" (29 : Nat) "MapSheetsModel" "states" "I") ∈ lw_all := lw_g (lw_at lw_m5 141 rfl) rfl
theorem q1164 : (Jvm.Cond.fieldLink "MapSheetsModel" (19 : Nat) "MapSheetsModel" "text" "[I") ∈ lw_all := lw_g (lw_at lw_m5 142 rfl) rfl
theorem q1165 : (Jvm.Cond.fieldLink "MapSheetsModel" (157 : Nat) "MapSheetsModel" "typed" "I") ∈ lw_all := lw_g (lw_at lw_m5 143 rfl) rfl
theorem q1166 : (Jvm.Cond.fieldLink "MapSheetsModel" (22 : Nat) "MapSheetsModel" "block" "[I") ∈ lw_all := lw_g (lw_at lw_m5 144 rfl) rfl
theorem q1167 : (Jvm.Cond.laysFinal "MapSheetsModel" "MapSheetsModel" "s" "[I") ∈ lw_all := lw_g (lw_at lw_m5 145 rfl) rfl
theorem q1168 : (Jvm.Cond.soleField "MapSheetsModel" "s") ∈ lw_all := lw_g (lw_at lw_m5 146 rfl) rfl
theorem q1169 : (Jvm.Cond.laysFinal "MapSheetsModel" "MapSheetsModel" "was" "[I") ∈ lw_all := lw_g (lw_at lw_m5 147 rfl) rfl
theorem q1170 : (Jvm.Cond.soleField "MapSheetsModel" "was") ∈ lw_all := lw_g (lw_at lw_m5 148 rfl) rfl
theorem q1171 : (Jvm.Cond.laysFinal "MapSheetsModel" "MapSheetsModel" "aside" "[I") ∈ lw_all := lw_g (lw_at lw_m5 149 rfl) rfl
theorem q1172 : (Jvm.Cond.soleField "MapSheetsModel" "aside") ∈ lw_all := lw_g (lw_at lw_m5 150 rfl) rfl
theorem q1173 : (Jvm.Cond.lays "MapSheetsModel" "MapSheetsModel" "states" "I") ∈ lw_all := lw_g (lw_at lw_m5 151 rfl) rfl
theorem q1174 : (Jvm.Cond.soleField "MapSheetsModel" "states") ∈ lw_all := lw_g (lw_at lw_m5 152 rfl) rfl
theorem q1175 : (Jvm.Cond.laysFinal "MapSheetsModel" "MapSheetsModel" "text" "[I") ∈ lw_all := lw_g (lw_at lw_m5 153 rfl) rfl
theorem q1176 : (Jvm.Cond.soleField "MapSheetsModel" "text") ∈ lw_all := lw_g (lw_at lw_m5 154 rfl) rfl
theorem q1177 : (Jvm.Cond.lays "MapSheetsModel" "MapSheetsModel" "typed" "I") ∈ lw_all := lw_g (lw_at lw_m5 155 rfl) rfl
theorem q1178 : (Jvm.Cond.soleField "MapSheetsModel" "typed") ∈ lw_all := lw_g (lw_at lw_m5 156 rfl) rfl
theorem q1179 : (Jvm.Cond.laysFinal "MapSheetsModel" "MapSheetsModel" "block" "[I") ∈ lw_all := lw_g (lw_at lw_m5 157 rfl) rfl
theorem q1180 : (Jvm.Cond.soleField "MapSheetsModel" "block") ∈ lw_all := lw_g (lw_at lw_m5 158 rfl) rfl
theorem q1181 : (Jvm.Cond.superclass "MapSheetsModel" "java/lang/Object") ∈ lw_all := lw_g (lw_at lw_m5 159 rfl) rfl
theorem q1183 : (Jvm.Cond.instanceMethod ({ cls := "MapSheetsModel", name := "grid", desc := "(II)I" } : Jvm.MethodName)) ∈ lw_all := lw_g (lw_at lw_m5 161 rfl) rfl
theorem q1184 : (Jvm.Cond.selects "MapSheetsModel" ({ cls := "MapSheetsModel", name := "grid", desc := "(II)I" } : Jvm.MethodName) ({ cls := "MapSheetsModel", name := "grid", desc := "(II)I" } : Jvm.MethodName)) ∈ lw_all := lw_g (lw_at lw_m5 162 rfl) rfl
theorem q1185 : (Jvm.Cond.code ({ cls := "MapSheetsModel", name := "grid", desc := "(II)I" } : Jvm.MethodName) prog_11_method_36_code (3 : Nat) (Option.some Jvm.ClassFile.FieldType.int)) ∈ lw_all := lw_g (lw_at lw_m5 163 rfl) rfl
theorem q1186 : (Jvm.Cond.methodLink "MapSheetsModel" (111 : Nat) ({ cls := "MapSheetsModel", name := "in", desc := "(III)Z" } : Jvm.MethodName)) ∈ lw_all := lw_g (lw_at lw_m5 164 rfl) rfl
theorem q1187 : (Jvm.Cond.static ({ cls := "MapSheetsModel", name := "in", desc := "(III)Z" } : Jvm.MethodName)) ∈ lw_all := lw_g (lw_at lw_m5 165 rfl) rfl
theorem q1188 : (Jvm.Cond.code ({ cls := "MapSheetsModel", name := "in", desc := "(III)Z" } : Jvm.MethodName) prog_11_method_3_code (3 : Nat) (Option.some Jvm.ClassFile.FieldType.boolean)) ∈ lw_all := lw_g (lw_at lw_m5 166 rfl) rfl
theorem q1189 : (Jvm.Cond.methodLink "MapSheetsModel" (115 : Nat) ({ cls := "MapSheetsModel", name := "hold", desc := "()V" } : Jvm.MethodName)) ∈ lw_all := lw_g (lw_at lw_m5 167 rfl) rfl
theorem q1190 : (Jvm.Cond.privateMethod ({ cls := "MapSheetsModel", name := "hold", desc := "()V" } : Jvm.MethodName)) ∈ lw_tbl := lw_at lw_m5 168 rfl
theorem q1191 : (Jvm.Cond.instanceMethod ({ cls := "MapSheetsModel", name := "hold", desc := "()V" } : Jvm.MethodName)) ∈ lw_all := lw_g (lw_at lw_m5 169 rfl) rfl
theorem q1192 : (Jvm.Cond.code ({ cls := "MapSheetsModel", name := "hold", desc := "()V" } : Jvm.MethodName) prog_11_method_5_code (2 : Nat) (Option.none : Option Jvm.ClassFile.FieldType)) ∈ lw_all := lw_g (lw_at lw_m5 170 rfl) rfl
theorem q1193 : (Jvm.Cond.methodLink "MapSheetsModel" (52 : Nat) ({ cls := "MapSheetsModel", name := "edges", desc := "()I" } : Jvm.MethodName)) ∈ lw_all := lw_g (lw_at lw_m5 171 rfl) rfl
theorem q1194 : (Jvm.Cond.privateMethod ({ cls := "MapSheetsModel", name := "edges", desc := "()I" } : Jvm.MethodName)) ∈ lw_tbl := lw_at lw_m5 172 rfl
theorem q1195 : (Jvm.Cond.instanceMethod ({ cls := "MapSheetsModel", name := "edges", desc := "()I" } : Jvm.MethodName)) ∈ lw_all := lw_g (lw_at lw_m5 173 rfl) rfl
theorem q1196 : (Jvm.Cond.code ({ cls := "MapSheetsModel", name := "edges", desc := "()I" } : Jvm.MethodName) prog_11_method_16_code (1 : Nat) (Option.some Jvm.ClassFile.FieldType.int)) ∈ lw_all := lw_g (lw_at lw_m5 174 rfl) rfl
theorem q1197 : (Jvm.Cond.methodLink "MapSheetsModel" (49 : Nat) ({ cls := "MapSheetsModel", name := "rowEdges", desc := "()I" } : Jvm.MethodName)) ∈ lw_all := lw_g (lw_at lw_m5 175 rfl) rfl
theorem q1198 : (Jvm.Cond.privateMethod ({ cls := "MapSheetsModel", name := "rowEdges", desc := "()I" } : Jvm.MethodName)) ∈ lw_tbl := lw_at lw_m5 176 rfl
theorem q1199 : (Jvm.Cond.instanceMethod ({ cls := "MapSheetsModel", name := "rowEdges", desc := "()I" } : Jvm.MethodName)) ∈ lw_all := lw_g (lw_at lw_m5 177 rfl) rfl
theorem q1200 : (Jvm.Cond.code ({ cls := "MapSheetsModel", name := "rowEdges", desc := "()I" } : Jvm.MethodName) prog_11_method_15_code (1 : Nat) (Option.some Jvm.ClassFile.FieldType.int)) ∈ lw_all := lw_g (lw_at lw_m5 178 rfl) rfl
theorem q1201 : (Jvm.Cond.methodLink "MapSheetsModel" (95 : Nat) ({ cls := "MapSheetsModel", name := "records", desc := "(I)I" } : Jvm.MethodName)) ∈ lw_all := lw_g (lw_at lw_m5 179 rfl) rfl
theorem q1202 : (Jvm.Cond.privateMethod ({ cls := "MapSheetsModel", name := "records", desc := "(I)I" } : Jvm.MethodName)) ∈ lw_tbl := lw_at lw_m5 180 rfl
theorem q1203 : (Jvm.Cond.instanceMethod ({ cls := "MapSheetsModel", name := "records", desc := "(I)I" } : Jvm.MethodName)) ∈ lw_all := lw_g (lw_at lw_m5 181 rfl) rfl
theorem q1204 : (Jvm.Cond.code ({ cls := "MapSheetsModel", name := "records", desc := "(I)I" } : Jvm.MethodName) prog_11_method_7_code (3 : Nat) (Option.some Jvm.ClassFile.FieldType.int)) ∈ lw_all := lw_g (lw_at lw_m5 182 rfl) rfl
theorem q1206 : (Jvm.Cond.instanceMethod ({ cls := "MapSheetsModel", name := "set", desc := "(II)I" } : Jvm.MethodName)) ∈ lw_all := lw_g (lw_at lw_m5 184 rfl) rfl
theorem q1207 : (Jvm.Cond.selects "MapSheetsModel" ({ cls := "MapSheetsModel", name := "set", desc := "(II)I" } : Jvm.MethodName) ({ cls := "MapSheetsModel", name := "set", desc := "(II)I" } : Jvm.MethodName)) ∈ lw_all := lw_g (lw_at lw_m5 185 rfl) rfl
theorem q1208 : (Jvm.Cond.code ({ cls := "MapSheetsModel", name := "set", desc := "(II)I" } : Jvm.MethodName) prog_11_method_37_code (4 : Nat) (Option.some Jvm.ClassFile.FieldType.int)) ∈ lw_all := lw_g (lw_at lw_m5 186 rfl) rfl
theorem q1210 : (Jvm.Cond.instanceMethod ({ cls := "MapSheetsModel", name := "show", desc := "(IIII)I" } : Jvm.MethodName)) ∈ lw_all := lw_g (lw_at lw_m5 188 rfl) rfl
theorem q1211 : (Jvm.Cond.selects "MapSheetsModel" ({ cls := "MapSheetsModel", name := "show", desc := "(IIII)I" } : Jvm.MethodName) ({ cls := "MapSheetsModel", name := "show", desc := "(IIII)I" } : Jvm.MethodName)) ∈ lw_all := lw_g (lw_at lw_m5 189 rfl) rfl
theorem q1212 : (Jvm.Cond.code ({ cls := "MapSheetsModel", name := "show", desc := "(IIII)I" } : Jvm.MethodName) prog_11_method_39_code (6 : Nat) (Option.some Jvm.ClassFile.FieldType.int)) ∈ lw_all := lw_g (lw_at lw_m5 190 rfl) rfl
theorem q1213 : (Jvm.Cond.methodLink "MapSheetsModel" (121 : Nat) ({ cls := "MapSheetsModel", name := "isPlace", desc := "(III)Z" } : Jvm.MethodName)) ∈ lw_all := lw_g (lw_at lw_m5 191 rfl) rfl
theorem q1214 : (Jvm.Cond.privateMethod ({ cls := "MapSheetsModel", name := "isPlace", desc := "(III)Z" } : Jvm.MethodName)) ∈ lw_tbl := lw_at lw_m5 192 rfl
theorem q1215 : (Jvm.Cond.instanceMethod ({ cls := "MapSheetsModel", name := "isPlace", desc := "(III)Z" } : Jvm.MethodName)) ∈ lw_all := lw_g (lw_at lw_m5 193 rfl) rfl
theorem q1216 : (Jvm.Cond.code ({ cls := "MapSheetsModel", name := "isPlace", desc := "(III)Z" } : Jvm.MethodName) prog_11_method_38_code (4 : Nat) (Option.some Jvm.ClassFile.FieldType.boolean)) ∈ lw_all := lw_g (lw_at lw_m5 194 rfl) rfl
theorem q1217 : (Jvm.Cond.methodLink "MapSheetsModel" (118 : Nat) ({ cls := "MapSheetsModel", name := "isSheet", desc := "(I)Z" } : Jvm.MethodName)) ∈ lw_all := lw_g (lw_at lw_m5 195 rfl) rfl
theorem q1218 : (Jvm.Cond.privateMethod ({ cls := "MapSheetsModel", name := "isSheet", desc := "(I)Z" } : Jvm.MethodName)) ∈ lw_tbl := lw_at lw_m5 196 rfl
theorem q1219 : (Jvm.Cond.instanceMethod ({ cls := "MapSheetsModel", name := "isSheet", desc := "(I)Z" } : Jvm.MethodName)) ∈ lw_all := lw_g (lw_at lw_m5 197 rfl) rfl
theorem q1220 : (Jvm.Cond.code ({ cls := "MapSheetsModel", name := "isSheet", desc := "(I)Z" } : Jvm.MethodName) prog_11_method_9_code (2 : Nat) (Option.some Jvm.ClassFile.FieldType.boolean)) ∈ lw_all := lw_g (lw_at lw_m5 198 rfl) rfl
theorem q1221 : (Jvm.Cond.methodLink "MapSheetsModel" (33 : Nat) ({ cls := "MapSheetsModel", name := "sheets", desc := "()I" } : Jvm.MethodName)) ∈ lw_all := lw_g (lw_at lw_m5 199 rfl) rfl
theorem q1222 : (Jvm.Cond.privateMethod ({ cls := "MapSheetsModel", name := "sheets", desc := "()I" } : Jvm.MethodName)) ∈ lw_tbl := lw_at lw_m5 200 rfl
theorem q1223 : (Jvm.Cond.instanceMethod ({ cls := "MapSheetsModel", name := "sheets", desc := "()I" } : Jvm.MethodName)) ∈ lw_all := lw_g (lw_at lw_m5 201 rfl) rfl
theorem q1224 : (Jvm.Cond.code ({ cls := "MapSheetsModel", name := "sheets", desc := "()I" } : Jvm.MethodName) prog_11_method_8_code (1 : Nat) (Option.some Jvm.ClassFile.FieldType.int)) ∈ lw_all := lw_g (lw_at lw_m5 202 rfl) rfl
theorem q1225 : (Jvm.Cond.methodLink "MapSheetsModel" (45 : Nat) ({ cls := "MapSheetsModel", name := "signAt", desc := "(III)I" } : Jvm.MethodName)) ∈ lw_all := lw_g (lw_at lw_m5 203 rfl) rfl
theorem q1226 : (Jvm.Cond.privateMethod ({ cls := "MapSheetsModel", name := "signAt", desc := "(III)I" } : Jvm.MethodName)) ∈ lw_tbl := lw_at lw_m5 204 rfl
theorem q1227 : (Jvm.Cond.instanceMethod ({ cls := "MapSheetsModel", name := "signAt", desc := "(III)I" } : Jvm.MethodName)) ∈ lw_all := lw_g (lw_at lw_m5 205 rfl) rfl
theorem q1228 : (Jvm.Cond.code ({ cls := "MapSheetsModel", name := "signAt", desc := "(III)I" } : Jvm.MethodName) prog_11_method_13_code (4 : Nat) (Option.some Jvm.ClassFile.FieldType.int)) ∈ lw_all := lw_g (lw_at lw_m5 206 rfl) rfl
theorem q1229 : (Jvm.Cond.methodLink "MapSheetsModel" (37 : Nat) ({ cls := "MapSheetsModel", name := "of", desc := "(II)I" } : Jvm.MethodName)) ∈ lw_all := lw_g (lw_at lw_m5 207 rfl) rfl
theorem q1230 : (Jvm.Cond.privateMethod ({ cls := "MapSheetsModel", name := "of", desc := "(II)I" } : Jvm.MethodName)) ∈ lw_tbl := lw_at lw_m5 208 rfl
theorem q1231 : (Jvm.Cond.instanceMethod ({ cls := "MapSheetsModel", name := "of", desc := "(II)I" } : Jvm.MethodName)) ∈ lw_all := lw_g (lw_at lw_m5 209 rfl) rfl
theorem q1232 : (Jvm.Cond.code ({ cls := "MapSheetsModel", name := "of", desc := "(II)I" } : Jvm.MethodName) prog_11_method_10_code (3 : Nat) (Option.some Jvm.ClassFile.FieldType.int)) ∈ lw_all := lw_g (lw_at lw_m5 210 rfl) rfl
theorem q1233 : (Jvm.Cond.methodLink "MapSheetsModel" (41 : Nat) ({ cls := "MapSheetsModel", name := "puts", desc := "(III)V" } : Jvm.MethodName)) ∈ lw_all := lw_g (lw_at lw_m5 211 rfl) rfl
theorem q1234 : (Jvm.Cond.privateMethod ({ cls := "MapSheetsModel", name := "puts", desc := "(III)V" } : Jvm.MethodName)) ∈ lw_tbl := lw_at lw_m5 212 rfl
theorem q1235 : (Jvm.Cond.instanceMethod ({ cls := "MapSheetsModel", name := "puts", desc := "(III)V" } : Jvm.MethodName)) ∈ lw_all := lw_g (lw_at lw_m5 213 rfl) rfl
theorem q1236 : (Jvm.Cond.code ({ cls := "MapSheetsModel", name := "puts", desc := "(III)V" } : Jvm.MethodName) prog_11_method_11_code (4 : Nat) (Option.none : Option Jvm.ClassFile.FieldType)) ∈ lw_all := lw_g (lw_at lw_m5 214 rfl) rfl
theorem q1237 : (Jvm.Cond.methodLink "MapSheetsModel" (124 : Nat) ({ cls := "MapSheetsModel", name := "keeps", desc := "(IZI)I" } : Jvm.MethodName)) ∈ lw_all := lw_g (lw_at lw_m5 215 rfl) rfl
theorem q1238 : (Jvm.Cond.privateMethod ({ cls := "MapSheetsModel", name := "keeps", desc := "(IZI)I" } : Jvm.MethodName)) ∈ lw_tbl := lw_at lw_m5 216 rfl
theorem q1239 : (Jvm.Cond.instanceMethod ({ cls := "MapSheetsModel", name := "keeps", desc := "(IZI)I" } : Jvm.MethodName)) ∈ lw_all := lw_g (lw_at lw_m5 217 rfl) rfl
theorem q1240 : (Jvm.Cond.code ({ cls := "MapSheetsModel", name := "keeps", desc := "(IZI)I" } : Jvm.MethodName) prog_11_method_29_code (4 : Nat) (Option.some Jvm.ClassFile.FieldType.int)) ∈ lw_all := lw_g (lw_at lw_m5 218 rfl) rfl
theorem q1241 : (Jvm.Cond.methodLink "MapSheetsModel" (84 : Nat) ({ cls := "MapSheetsModel", name := "isGuarded", desc := "()Z" } : Jvm.MethodName)) ∈ lw_all := lw_g (lw_at lw_m5 219 rfl) rfl
theorem q1242 : (Jvm.Cond.privateMethod ({ cls := "MapSheetsModel", name := "isGuarded", desc := "()Z" } : Jvm.MethodName)) ∈ lw_tbl := lw_at lw_m5 220 rfl
theorem q1243 : (Jvm.Cond.instanceMethod ({ cls := "MapSheetsModel", name := "isGuarded", desc := "()Z" } : Jvm.MethodName)) ∈ lw_all := lw_g (lw_at lw_m5 221 rfl) rfl
theorem q1244 : (Jvm.Cond.code ({ cls := "MapSheetsModel", name := "isGuarded", desc := "()Z" } : Jvm.MethodName) prog_11_method_28_code (3 : Nat) (Option.some Jvm.ClassFile.FieldType.boolean)) ∈ lw_all := lw_g (lw_at lw_m5 222 rfl) rfl
theorem q1245 : (Jvm.Cond.methodLink "MapSheetsModel" (77 : Nat) ({ cls := "MapSheetsModel", name := "isAgreed", desc := "(I)Z" } : Jvm.MethodName)) ∈ lw_all := lw_g (lw_at lw_m5 223 rfl) rfl
theorem q1246 : (Jvm.Cond.privateMethod ({ cls := "MapSheetsModel", name := "isAgreed", desc := "(I)Z" } : Jvm.MethodName)) ∈ lw_tbl := lw_at lw_m5 224 rfl
theorem q1247 : (Jvm.Cond.instanceMethod ({ cls := "MapSheetsModel", name := "isAgreed", desc := "(I)Z" } : Jvm.MethodName)) ∈ lw_all := lw_g (lw_at lw_m5 225 rfl) rfl
theorem q1248 : (Jvm.Cond.code ({ cls := "MapSheetsModel", name := "isAgreed", desc := "(I)Z" } : Jvm.MethodName) prog_11_method_22_code (2 : Nat) (Option.some Jvm.ClassFile.FieldType.boolean)) ∈ lw_all := lw_g (lw_at lw_m5 226 rfl) rfl
theorem q1249 : (Jvm.Cond.methodLink "MapSheetsModel" (81 : Nat) ({ cls := "MapSheetsModel", name := "quarrels", desc := "(I)I" } : Jvm.MethodName)) ∈ lw_all := lw_g (lw_at lw_m5 227 rfl) rfl
theorem q1250 : (Jvm.Cond.privateMethod ({ cls := "MapSheetsModel", name := "quarrels", desc := "(I)I" } : Jvm.MethodName)) ∈ lw_tbl := lw_at lw_m5 228 rfl
theorem q1251 : (Jvm.Cond.instanceMethod ({ cls := "MapSheetsModel", name := "quarrels", desc := "(I)I" } : Jvm.MethodName)) ∈ lw_all := lw_g (lw_at lw_m5 229 rfl) rfl
theorem q1252 : (Jvm.Cond.code ({ cls := "MapSheetsModel", name := "quarrels", desc := "(I)I" } : Jvm.MethodName) prog_11_method_26_code (4 : Nat) (Option.some Jvm.ClassFile.FieldType.int)) ∈ lw_all := lw_g (lw_at lw_m5 230 rfl) rfl
theorem q1253 : (Jvm.Cond.methodLink "MapSheetsModel" (74 : Nat) ({ cls := "MapSheetsModel", name := "reasonAt", desc := "(II)I" } : Jvm.MethodName)) ∈ lw_all := lw_g (lw_at lw_m5 231 rfl) rfl
theorem q1254 : (Jvm.Cond.privateMethod ({ cls := "MapSheetsModel", name := "reasonAt", desc := "(II)I" } : Jvm.MethodName)) ∈ lw_tbl := lw_at lw_m5 232 rfl
theorem q1255 : (Jvm.Cond.instanceMethod ({ cls := "MapSheetsModel", name := "reasonAt", desc := "(II)I" } : Jvm.MethodName)) ∈ lw_all := lw_g (lw_at lw_m5 233 rfl) rfl
theorem q1256 : (Jvm.Cond.code ({ cls := "MapSheetsModel", name := "reasonAt", desc := "(II)I" } : Jvm.MethodName) prog_11_method_25_code (5 : Nat) (Option.some Jvm.ClassFile.FieldType.int)) ∈ lw_all := lw_g (lw_at lw_m5 234 rfl) rfl
theorem q1257 : (Jvm.Cond.methodLink "MapSheetsModel" (68 : Nat) ({ cls := "MapSheetsModel", name := "firstMeans", desc := "(II)I" } : Jvm.MethodName)) ∈ lw_all := lw_g (lw_at lw_m5 235 rfl) rfl
theorem q1258 : (Jvm.Cond.privateMethod ({ cls := "MapSheetsModel", name := "firstMeans", desc := "(II)I" } : Jvm.MethodName)) ∈ lw_tbl := lw_at lw_m5 236 rfl
theorem q1259 : (Jvm.Cond.instanceMethod ({ cls := "MapSheetsModel", name := "firstMeans", desc := "(II)I" } : Jvm.MethodName)) ∈ lw_all := lw_g (lw_at lw_m5 237 rfl) rfl
theorem q1260 : (Jvm.Cond.code ({ cls := "MapSheetsModel", name := "firstMeans", desc := "(II)I" } : Jvm.MethodName) prog_11_method_23_code (3 : Nat) (Option.some Jvm.ClassFile.FieldType.int)) ∈ lw_all := lw_g (lw_at lw_m5 238 rfl) rfl
theorem q1261 : (Jvm.Cond.methodLink "MapSheetsModel" (55 : Nat) ({ cls := "MapSheetsModel", name := "firstOf", desc := "(I)I" } : Jvm.MethodName)) ∈ lw_all := lw_g (lw_at lw_m5 239 rfl) rfl
theorem q1262 : (Jvm.Cond.privateMethod ({ cls := "MapSheetsModel", name := "firstOf", desc := "(I)I" } : Jvm.MethodName)) ∈ lw_tbl := lw_at lw_m6 0 rfl
theorem q1263 : (Jvm.Cond.instanceMethod ({ cls := "MapSheetsModel", name := "firstOf", desc := "(I)I" } : Jvm.MethodName)) ∈ lw_all := lw_g (lw_at lw_m6 1 rfl) rfl
theorem q1264 : (Jvm.Cond.code ({ cls := "MapSheetsModel", name := "firstOf", desc := "(I)I" } : Jvm.MethodName) prog_11_method_18_code (3 : Nat) (Option.some Jvm.ClassFile.FieldType.int)) ∈ lw_all := lw_g (lw_at lw_m6 2 rfl) rfl
theorem q1265 : (Jvm.Cond.methodLink "MapSheetsModel" (59 : Nat) ({ cls := "MapSheetsModel", name := "sideOf", desc := "(I)I" } : Jvm.MethodName)) ∈ lw_all := lw_g (lw_at lw_m6 3 rfl) rfl
theorem q1266 : (Jvm.Cond.privateMethod ({ cls := "MapSheetsModel", name := "sideOf", desc := "(I)I" } : Jvm.MethodName)) ∈ lw_tbl := lw_at lw_m6 4 rfl
theorem q1267 : (Jvm.Cond.instanceMethod ({ cls := "MapSheetsModel", name := "sideOf", desc := "(I)I" } : Jvm.MethodName)) ∈ lw_all := lw_g (lw_at lw_m6 5 rfl) rfl
theorem q1268 : (Jvm.Cond.code ({ cls := "MapSheetsModel", name := "sideOf", desc := "(I)I" } : Jvm.MethodName) prog_11_method_20_code (2 : Nat) (Option.some Jvm.ClassFile.FieldType.int)) ∈ lw_all := lw_g (lw_at lw_m6 6 rfl) rfl
theorem q1269 : (Jvm.Cond.methodLink "MapSheetsModel" (62 : Nat) ({ cls := "MapSheetsModel", name := "meansAt", desc := "(III)I" } : Jvm.MethodName)) ∈ lw_all := lw_g (lw_at lw_m6 7 rfl) rfl
theorem q1270 : (Jvm.Cond.privateMethod ({ cls := "MapSheetsModel", name := "meansAt", desc := "(III)I" } : Jvm.MethodName)) ∈ lw_tbl := lw_at lw_m6 8 rfl
theorem q1271 : (Jvm.Cond.instanceMethod ({ cls := "MapSheetsModel", name := "meansAt", desc := "(III)I" } : Jvm.MethodName)) ∈ lw_all := lw_g (lw_at lw_m6 9 rfl) rfl
theorem q1272 : (Jvm.Cond.code ({ cls := "MapSheetsModel", name := "meansAt", desc := "(III)I" } : Jvm.MethodName) prog_11_method_14_code (5 : Nat) (Option.some Jvm.ClassFile.FieldType.int)) ∈ lw_all := lw_g (lw_at lw_m6 10 rfl) rfl
theorem q1273 : (Jvm.Cond.methodLink "MapSheetsModel" (71 : Nat) ({ cls := "MapSheetsModel", name := "secondMeans", desc := "(II)I" } : Jvm.MethodName)) ∈ lw_all := lw_g (lw_at lw_m6 11 rfl) rfl
theorem q1274 : (Jvm.Cond.privateMethod ({ cls := "MapSheetsModel", name := "secondMeans", desc := "(II)I" } : Jvm.MethodName)) ∈ lw_tbl := lw_at lw_m6 12 rfl
theorem q1275 : (Jvm.Cond.instanceMethod ({ cls := "MapSheetsModel", name := "secondMeans", desc := "(II)I" } : Jvm.MethodName)) ∈ lw_all := lw_g (lw_at lw_m6 13 rfl) rfl
theorem q1276 : (Jvm.Cond.code ({ cls := "MapSheetsModel", name := "secondMeans", desc := "(II)I" } : Jvm.MethodName) prog_11_method_24_code (3 : Nat) (Option.some Jvm.ClassFile.FieldType.int)) ∈ lw_all := lw_g (lw_at lw_m6 14 rfl) rfl
theorem q1277 : (Jvm.Cond.methodLink "MapSheetsModel" (65 : Nat) ({ cls := "MapSheetsModel", name := "secondOf", desc := "(I)I" } : Jvm.MethodName)) ∈ lw_all := lw_g (lw_at lw_m6 15 rfl) rfl
theorem q1278 : (Jvm.Cond.privateMethod ({ cls := "MapSheetsModel", name := "secondOf", desc := "(I)I" } : Jvm.MethodName)) ∈ lw_tbl := lw_at lw_m6 16 rfl
theorem q1279 : (Jvm.Cond.instanceMethod ({ cls := "MapSheetsModel", name := "secondOf", desc := "(I)I" } : Jvm.MethodName)) ∈ lw_all := lw_g (lw_at lw_m6 17 rfl) rfl
theorem q1280 : (Jvm.Cond.code ({ cls := "MapSheetsModel", name := "secondOf", desc := "(I)I" } : Jvm.MethodName) prog_11_method_19_code (2 : Nat) (Option.some Jvm.ClassFile.FieldType.int)) ∈ lw_all := lw_g (lw_at lw_m6 18 rfl) rfl
theorem q1281 : (Jvm.Cond.methodLink "MapSheetsModel" (88 : Nat) ({ cls := "MapSheetsModel", name := "restore", desc := "()V" } : Jvm.MethodName)) ∈ lw_all := lw_g (lw_at lw_m6 19 rfl) rfl
theorem q1282 : (Jvm.Cond.privateMethod ({ cls := "MapSheetsModel", name := "restore", desc := "()V" } : Jvm.MethodName)) ∈ lw_tbl := lw_at lw_m6 20 rfl
theorem q1283 : (Jvm.Cond.instanceMethod ({ cls := "MapSheetsModel", name := "restore", desc := "()V" } : Jvm.MethodName)) ∈ lw_all := lw_g (lw_at lw_m6 21 rfl) rfl
theorem q1284 : (Jvm.Cond.code ({ cls := "MapSheetsModel", name := "restore", desc := "()V" } : Jvm.MethodName) prog_11_method_6_code (2 : Nat) (Option.none : Option Jvm.ClassFile.FieldType)) ∈ lw_all := lw_g (lw_at lw_m6 22 rfl) rfl
theorem q1285 : (Jvm.Cond.methodLink "MapSheetsModel" (91 : Nat) ({ cls := "MapSheetsModel", name := "revises", desc := "(I)V" } : Jvm.MethodName)) ∈ lw_all := lw_g (lw_at lw_m6 23 rfl) rfl
theorem q1286 : (Jvm.Cond.privateMethod ({ cls := "MapSheetsModel", name := "revises", desc := "(I)V" } : Jvm.MethodName)) ∈ lw_tbl := lw_at lw_m6 24 rfl
theorem q1287 : (Jvm.Cond.instanceMethod ({ cls := "MapSheetsModel", name := "revises", desc := "(I)V" } : Jvm.MethodName)) ∈ lw_all := lw_g (lw_at lw_m6 25 rfl) rfl
theorem q1288 : (Jvm.Cond.code ({ cls := "MapSheetsModel", name := "revises", desc := "(I)V" } : Jvm.MethodName) prog_11_method_12_code (2 : Nat) (Option.none : Option Jvm.ClassFile.FieldType)) ∈ lw_all := lw_g (lw_at lw_m6 26 rfl) rfl
theorem q1290 : (Jvm.Cond.instanceMethod ({ cls := "MapSheetsModel", name := "erase", desc := "(III)I" } : Jvm.MethodName)) ∈ lw_all := lw_g (lw_at lw_m6 28 rfl) rfl
theorem q1291 : (Jvm.Cond.selects "MapSheetsModel" ({ cls := "MapSheetsModel", name := "erase", desc := "(III)I" } : Jvm.MethodName) ({ cls := "MapSheetsModel", name := "erase", desc := "(III)I" } : Jvm.MethodName)) ∈ lw_all := lw_g (lw_at lw_m6 29 rfl) rfl
theorem q1292 : (Jvm.Cond.code ({ cls := "MapSheetsModel", name := "erase", desc := "(III)I" } : Jvm.MethodName) prog_11_method_40_code (5 : Nat) (Option.some Jvm.ClassFile.FieldType.int)) ∈ lw_all := lw_g (lw_at lw_m6 30 rfl) rfl
theorem q1294 : (Jvm.Cond.instanceMethod ({ cls := "MapSheetsModel", name := "mean", desc := "(III)I" } : Jvm.MethodName)) ∈ lw_all := lw_g (lw_at lw_m6 32 rfl) rfl
theorem q1295 : (Jvm.Cond.selects "MapSheetsModel" ({ cls := "MapSheetsModel", name := "mean", desc := "(III)I" } : Jvm.MethodName) ({ cls := "MapSheetsModel", name := "mean", desc := "(III)I" } : Jvm.MethodName)) ∈ lw_all := lw_g (lw_at lw_m6 33 rfl) rfl
theorem q1296 : (Jvm.Cond.code ({ cls := "MapSheetsModel", name := "mean", desc := "(III)I" } : Jvm.MethodName) prog_11_method_41_code (5 : Nat) (Option.some Jvm.ClassFile.FieldType.int)) ∈ lw_all := lw_g (lw_at lw_m6 34 rfl) rfl
theorem q1298 : (Jvm.Cond.instanceMethod ({ cls := "MapSheetsModel", name := "sign", desc := "(III)I" } : Jvm.MethodName)) ∈ lw_all := lw_g (lw_at lw_m6 36 rfl) rfl
theorem q1299 : (Jvm.Cond.selects "MapSheetsModel" ({ cls := "MapSheetsModel", name := "sign", desc := "(III)I" } : Jvm.MethodName) ({ cls := "MapSheetsModel", name := "sign", desc := "(III)I" } : Jvm.MethodName)) ∈ lw_all := lw_g (lw_at lw_m6 37 rfl) rfl
theorem q1300 : (Jvm.Cond.code ({ cls := "MapSheetsModel", name := "sign", desc := "(III)I" } : Jvm.MethodName) prog_11_method_42_code (5 : Nat) (Option.some Jvm.ClassFile.FieldType.int)) ∈ lw_all := lw_g (lw_at lw_m6 38 rfl) rfl
theorem q1302 : (Jvm.Cond.instanceMethod ({ cls := "MapSheetsModel", name := "meaning", desc := "(II)I" } : Jvm.MethodName)) ∈ lw_all := lw_g (lw_at lw_m6 40 rfl) rfl
theorem q1303 : (Jvm.Cond.selects "MapSheetsModel" ({ cls := "MapSheetsModel", name := "meaning", desc := "(II)I" } : Jvm.MethodName) ({ cls := "MapSheetsModel", name := "meaning", desc := "(II)I" } : Jvm.MethodName)) ∈ lw_all := lw_g (lw_at lw_m6 41 rfl) rfl
theorem q1304 : (Jvm.Cond.code ({ cls := "MapSheetsModel", name := "meaning", desc := "(II)I" } : Jvm.MethodName) prog_11_method_43_code (3 : Nat) (Option.some Jvm.ClassFile.FieldType.int)) ∈ lw_all := lw_g (lw_at lw_m6 42 rfl) rfl
theorem q1306 : (Jvm.Cond.instanceMethod ({ cls := "MapSheetsModel", name := "sheet", desc := "(II)I" } : Jvm.MethodName)) ∈ lw_all := lw_g (lw_at lw_m6 44 rfl) rfl
theorem q1307 : (Jvm.Cond.selects "MapSheetsModel" ({ cls := "MapSheetsModel", name := "sheet", desc := "(II)I" } : Jvm.MethodName) ({ cls := "MapSheetsModel", name := "sheet", desc := "(II)I" } : Jvm.MethodName)) ∈ lw_all := lw_g (lw_at lw_m6 45 rfl) rfl
theorem q1308 : (Jvm.Cond.code ({ cls := "MapSheetsModel", name := "sheet", desc := "(II)I" } : Jvm.MethodName) prog_11_method_47_code (3 : Nat) (Option.some Jvm.ClassFile.FieldType.int)) ∈ lw_all := lw_g (lw_at lw_m6 46 rfl) rfl
theorem q1309 : (Jvm.Cond.methodLink "MapSheetsModel" (131 : Nat) ({ cls := "MapSheetsModel", name := "edgesOf", desc := "(IZ)I" } : Jvm.MethodName)) ∈ lw_all := lw_g (lw_at lw_m6 47 rfl) rfl
theorem q1310 : (Jvm.Cond.privateMethod ({ cls := "MapSheetsModel", name := "edgesOf", desc := "(IZ)I" } : Jvm.MethodName)) ∈ lw_tbl := lw_at lw_m6 48 rfl
theorem q1311 : (Jvm.Cond.instanceMethod ({ cls := "MapSheetsModel", name := "edgesOf", desc := "(IZ)I" } : Jvm.MethodName)) ∈ lw_all := lw_g (lw_at lw_m6 49 rfl) rfl
theorem q1312 : (Jvm.Cond.code ({ cls := "MapSheetsModel", name := "edgesOf", desc := "(IZ)I" } : Jvm.MethodName) prog_11_method_44_code (6 : Nat) (Option.some Jvm.ClassFile.FieldType.int)) ∈ lw_all := lw_g (lw_at lw_m6 50 rfl) rfl
theorem q1313 : (Jvm.Cond.methodLink "MapSheetsModel" (128 : Nat) ({ cls := "MapSheetsModel", name := "edgeOf", desc := "(II)I" } : Jvm.MethodName)) ∈ lw_all := lw_g (lw_at lw_m6 51 rfl) rfl
theorem q1314 : (Jvm.Cond.privateMethod ({ cls := "MapSheetsModel", name := "edgeOf", desc := "(II)I" } : Jvm.MethodName)) ∈ lw_tbl := lw_at lw_m6 52 rfl
theorem q1315 : (Jvm.Cond.instanceMethod ({ cls := "MapSheetsModel", name := "edgeOf", desc := "(II)I" } : Jvm.MethodName)) ∈ lw_all := lw_g (lw_at lw_m6 53 rfl) rfl
theorem q1316 : (Jvm.Cond.code ({ cls := "MapSheetsModel", name := "edgeOf", desc := "(II)I" } : Jvm.MethodName) prog_11_method_21_code (6 : Nat) (Option.some Jvm.ClassFile.FieldType.int)) ∈ lw_all := lw_g (lw_at lw_m6 54 rfl) rfl
theorem q1317 : (Jvm.Cond.methodLink "MapSheetsModel" (135 : Nat) ({ cls := "MapSheetsModel", name := "isUpToDate", desc := "(I)Z" } : Jvm.MethodName)) ∈ lw_all := lw_g (lw_at lw_m6 55 rfl) rfl
theorem q1318 : (Jvm.Cond.privateMethod ({ cls := "MapSheetsModel", name := "isUpToDate", desc := "(I)Z" } : Jvm.MethodName)) ∈ lw_tbl := lw_at lw_m6 56 rfl
theorem q1319 : (Jvm.Cond.instanceMethod ({ cls := "MapSheetsModel", name := "isUpToDate", desc := "(I)Z" } : Jvm.MethodName)) ∈ lw_all := lw_g (lw_at lw_m6 57 rfl) rfl
theorem q1320 : (Jvm.Cond.code ({ cls := "MapSheetsModel", name := "isUpToDate", desc := "(I)Z" } : Jvm.MethodName) prog_11_method_46_code (2 : Nat) (Option.some Jvm.ClassFile.FieldType.boolean)) ∈ lw_all := lw_g (lw_at lw_m6 58 rfl) rfl
theorem q1321 : (Jvm.Cond.methodLink "MapSheetsModel" (138 : Nat) ({ cls := "MapSheetsModel", name := "signsOf", desc := "(I)I" } : Jvm.MethodName)) ∈ lw_all := lw_g (lw_at lw_m6 59 rfl) rfl
theorem q1322 : (Jvm.Cond.privateMethod ({ cls := "MapSheetsModel", name := "signsOf", desc := "(I)I" } : Jvm.MethodName)) ∈ lw_tbl := lw_at lw_m6 60 rfl
theorem q1323 : (Jvm.Cond.instanceMethod ({ cls := "MapSheetsModel", name := "signsOf", desc := "(I)I" } : Jvm.MethodName)) ∈ lw_all := lw_g (lw_at lw_m6 61 rfl) rfl
theorem q1324 : (Jvm.Cond.code ({ cls := "MapSheetsModel", name := "signsOf", desc := "(I)I" } : Jvm.MethodName) prog_11_method_45_code (4 : Nat) (Option.some Jvm.ClassFile.FieldType.int)) ∈ lw_all := lw_g (lw_at lw_m6 62 rfl) rfl
theorem q1325 : (Jvm.Cond.methodLink "MapSheetsModel" (141 : Nat) ({ cls := "MapSheetsModel", name := "blockOf", desc := "(I)I" } : Jvm.MethodName)) ∈ lw_all := lw_g (lw_at lw_m6 63 rfl) rfl
theorem q1326 : (Jvm.Cond.privateMethod ({ cls := "MapSheetsModel", name := "blockOf", desc := "(I)I" } : Jvm.MethodName)) ∈ lw_tbl := lw_at lw_m6 64 rfl
theorem q1327 : (Jvm.Cond.instanceMethod ({ cls := "MapSheetsModel", name := "blockOf", desc := "(I)I" } : Jvm.MethodName)) ∈ lw_all := lw_g (lw_at lw_m6 65 rfl) rfl
theorem q1328 : (Jvm.Cond.code ({ cls := "MapSheetsModel", name := "blockOf", desc := "(I)I" } : Jvm.MethodName) prog_11_method_35_code (2 : Nat) (Option.some Jvm.ClassFile.FieldType.int)) ∈ lw_all := lw_g (lw_at lw_m6 66 rfl) rfl
theorem q1329 : (Jvm.Cond.methodLink "MapSheetsModel" (108 : Nat) ({ cls := "MapSheetsModel", name := "findsBlocks", desc := "()V" } : Jvm.MethodName)) ∈ lw_all := lw_g (lw_at lw_m6 67 rfl) rfl
theorem q1330 : (Jvm.Cond.privateMethod ({ cls := "MapSheetsModel", name := "findsBlocks", desc := "()V" } : Jvm.MethodName)) ∈ lw_tbl := lw_at lw_m6 68 rfl
theorem q1331 : (Jvm.Cond.instanceMethod ({ cls := "MapSheetsModel", name := "findsBlocks", desc := "()V" } : Jvm.MethodName)) ∈ lw_all := lw_g (lw_at lw_m6 69 rfl) rfl
theorem q1332 : (Jvm.Cond.code ({ cls := "MapSheetsModel", name := "findsBlocks", desc := "()V" } : Jvm.MethodName) prog_11_method_33_code (5 : Nat) (Option.none : Option Jvm.ClassFile.FieldType)) ∈ lw_all := lw_g (lw_at lw_m6 70 rfl) rfl
theorem q1334 : (Jvm.Cond.instanceMethod ({ cls := "MapSheetsModel", name := "count", desc := "(I)I" } : Jvm.MethodName)) ∈ lw_all := lw_g (lw_at lw_m6 72 rfl) rfl
theorem q1335 : (Jvm.Cond.selects "MapSheetsModel" ({ cls := "MapSheetsModel", name := "count", desc := "(I)I" } : Jvm.MethodName) ({ cls := "MapSheetsModel", name := "count", desc := "(I)I" } : Jvm.MethodName)) ∈ lw_all := lw_g (lw_at lw_m6 73 rfl) rfl
theorem q1336 : (Jvm.Cond.code ({ cls := "MapSheetsModel", name := "count", desc := "(I)I" } : Jvm.MethodName) prog_11_method_50_code (2 : Nat) (Option.some Jvm.ClassFile.FieldType.int)) ∈ lw_all := lw_g (lw_at lw_m6 74 rfl) rfl
theorem q1337 : (Jvm.Cond.methodLink "MapSheetsModel" (147 : Nat) ({ cls := "MapSheetsModel", name := "sumOf", desc := "(I)I" } : Jvm.MethodName)) ∈ lw_all := lw_g (lw_at lw_m6 75 rfl) rfl
theorem q1338 : (Jvm.Cond.privateMethod ({ cls := "MapSheetsModel", name := "sumOf", desc := "(I)I" } : Jvm.MethodName)) ∈ lw_tbl := lw_at lw_m6 76 rfl
theorem q1339 : (Jvm.Cond.instanceMethod ({ cls := "MapSheetsModel", name := "sumOf", desc := "(I)I" } : Jvm.MethodName)) ∈ lw_all := lw_g (lw_at lw_m6 77 rfl) rfl
theorem q1340 : (Jvm.Cond.code ({ cls := "MapSheetsModel", name := "sumOf", desc := "(I)I" } : Jvm.MethodName) prog_11_method_48_code (6 : Nat) (Option.some Jvm.ClassFile.FieldType.int)) ∈ lw_all := lw_g (lw_at lw_m6 78 rfl) rfl
theorem q1341 : (Jvm.Cond.methodLink "MapSheetsModel" (144 : Nat) ({ cls := "MapSheetsModel", name := "fits", desc := "(I)Z" } : Jvm.MethodName)) ∈ lw_all := lw_g (lw_at lw_m6 79 rfl) rfl
theorem q1342 : (Jvm.Cond.privateMethod ({ cls := "MapSheetsModel", name := "fits", desc := "(I)Z" } : Jvm.MethodName)) ∈ lw_tbl := lw_at lw_m6 80 rfl
theorem q1343 : (Jvm.Cond.instanceMethod ({ cls := "MapSheetsModel", name := "fits", desc := "(I)Z" } : Jvm.MethodName)) ∈ lw_all := lw_g (lw_at lw_m6 81 rfl) rfl
theorem q1344 : (Jvm.Cond.code ({ cls := "MapSheetsModel", name := "fits", desc := "(I)Z" } : Jvm.MethodName) prog_11_method_32_code (4 : Nat) (Option.some Jvm.ClassFile.FieldType.boolean)) ∈ lw_all := lw_g (lw_at lw_m6 82 rfl) rfl
theorem q1345 : (Jvm.Cond.methodLink "MapSheetsModel" (103 : Nat) ({ cls := "MapSheetsModel", name := "ratioOf", desc := "(I)F" } : Jvm.MethodName)) ∈ lw_all := lw_g (lw_at lw_m6 83 rfl) rfl
theorem q1346 : (Jvm.Cond.privateMethod ({ cls := "MapSheetsModel", name := "ratioOf", desc := "(I)F" } : Jvm.MethodName)) ∈ lw_tbl := lw_at lw_m6 84 rfl
theorem q1347 : (Jvm.Cond.instanceMethod ({ cls := "MapSheetsModel", name := "ratioOf", desc := "(I)F" } : Jvm.MethodName)) ∈ lw_all := lw_g (lw_at lw_m6 85 rfl) rfl
theorem q1348 : (Jvm.Cond.code ({ cls := "MapSheetsModel", name := "ratioOf", desc := "(I)F" } : Jvm.MethodName) prog_11_method_31_code (2 : Nat) (Option.some Jvm.ClassFile.FieldType.float)) ∈ lw_all := lw_g (lw_at lw_m6 86 rfl) rfl
theorem q1349 : (Jvm.Cond.methodLink "MapSheetsModel" (99 : Nat) ({ cls := "MapSheetsModel", name := "scaleOf", desc := "(I)F" } : Jvm.MethodName)) ∈ lw_all := lw_g (lw_at lw_m6 87 rfl) rfl
theorem q1350 : (Jvm.Cond.privateMethod ({ cls := "MapSheetsModel", name := "scaleOf", desc := "(I)F" } : Jvm.MethodName)) ∈ lw_tbl := lw_at lw_m6 88 rfl
theorem q1351 : (Jvm.Cond.instanceMethod ({ cls := "MapSheetsModel", name := "scaleOf", desc := "(I)F" } : Jvm.MethodName)) ∈ lw_all := lw_g (lw_at lw_m6 89 rfl) rfl
theorem q1352 : (Jvm.Cond.code ({ cls := "MapSheetsModel", name := "scaleOf", desc := "(I)F" } : Jvm.MethodName) prog_11_method_30_code (2 : Nat) (Option.some Jvm.ClassFile.FieldType.float)) ∈ lw_all := lw_g (lw_at lw_m6 90 rfl) rfl
theorem q1353 : (Jvm.Cond.constantFloat "MapSheetsModel" (98 : Nat) (1148846080 : UInt32)) ∈ lw_all := lw_g (lw_at lw_m6 91 rfl) rfl
theorem q1354 : (Jvm.Cond.constantDouble "MapSheetsModel" (106 : Nat) (4652007308841189376 : UInt64)) ∈ lw_all := lw_g (lw_at lw_m6 92 rfl) rfl
theorem q1355 : (Jvm.Cond.methodLink "MapSheetsModel" (150 : Nat) ({ cls := "MapSheetsModel", name := "blocks", desc := "()I" } : Jvm.MethodName)) ∈ lw_all := lw_g (lw_at lw_m6 93 rfl) rfl
theorem q1356 : (Jvm.Cond.privateMethod ({ cls := "MapSheetsModel", name := "blocks", desc := "()I" } : Jvm.MethodName)) ∈ lw_tbl := lw_at lw_m6 94 rfl
theorem q1357 : (Jvm.Cond.instanceMethod ({ cls := "MapSheetsModel", name := "blocks", desc := "()I" } : Jvm.MethodName)) ∈ lw_all := lw_g (lw_at lw_m6 95 rfl) rfl
theorem q1358 : (Jvm.Cond.code ({ cls := "MapSheetsModel", name := "blocks", desc := "()I" } : Jvm.MethodName) prog_11_method_34_code (3 : Nat) (Option.some Jvm.ClassFile.FieldType.int)) ∈ lw_all := lw_g (lw_at lw_m6 96 rfl) rfl
theorem q1359 : (Jvm.Cond.methodLink "MapSheetsModel" (153 : Nat) ({ cls := "MapSheetsModel", name := "published", desc := "(Z)I" } : Jvm.MethodName)) ∈ lw_all := lw_g (lw_at lw_m6 97 rfl) rfl
theorem q1360 : (Jvm.Cond.privateMethod ({ cls := "MapSheetsModel", name := "published", desc := "(Z)I" } : Jvm.MethodName)) ∈ lw_tbl := lw_at lw_m6 98 rfl
theorem q1361 : (Jvm.Cond.instanceMethod ({ cls := "MapSheetsModel", name := "published", desc := "(Z)I" } : Jvm.MethodName)) ∈ lw_all := lw_g (lw_at lw_m6 99 rfl) rfl
theorem q1362 : (Jvm.Cond.code ({ cls := "MapSheetsModel", name := "published", desc := "(Z)I" } : Jvm.MethodName) prog_11_method_49_code (4 : Nat) (Option.some Jvm.ClassFile.FieldType.int)) ∈ lw_all := lw_g (lw_at lw_m6 100 rfl) rfl
theorem q1364 : (Jvm.Cond.instanceMethod ({ cls := "MapSheetsModel", name := "undo", desc := "()I" } : Jvm.MethodName)) ∈ lw_all := lw_g (lw_at lw_m6 102 rfl) rfl
theorem q1365 : (Jvm.Cond.selects "MapSheetsModel" ({ cls := "MapSheetsModel", name := "undo", desc := "()I" } : Jvm.MethodName) ({ cls := "MapSheetsModel", name := "undo", desc := "()I" } : Jvm.MethodName)) ∈ lw_all := lw_g (lw_at lw_m6 103 rfl) rfl
theorem q1366 : (Jvm.Cond.code ({ cls := "MapSheetsModel", name := "undo", desc := "()I" } : Jvm.MethodName) prog_11_method_51_code (2 : Nat) (Option.some Jvm.ClassFile.FieldType.int)) ∈ lw_all := lw_g (lw_at lw_m6 104 rfl) rfl
theorem q1368 : (Jvm.Cond.instanceMethod ({ cls := "MapSheetsModel", name := "edge", desc := "(II)I" } : Jvm.MethodName)) ∈ lw_all := lw_g (lw_at lw_m6 106 rfl) rfl
theorem q1369 : (Jvm.Cond.selects "MapSheetsModel" ({ cls := "MapSheetsModel", name := "edge", desc := "(II)I" } : Jvm.MethodName) ({ cls := "MapSheetsModel", name := "edge", desc := "(II)I" } : Jvm.MethodName)) ∈ lw_all := lw_g (lw_at lw_m6 107 rfl) rfl
theorem q1370 : (Jvm.Cond.code ({ cls := "MapSheetsModel", name := "edge", desc := "(II)I" } : Jvm.MethodName) prog_11_method_52_code (3 : Nat) (Option.some Jvm.ClassFile.FieldType.int)) ∈ lw_all := lw_g (lw_at lw_m6 108 rfl) rfl
theorem q1371 : (Jvm.Cond.methodLink "MapSheetsModel" (160 : Nat) ({ cls := "MapSheetsModel", name := "isEdge", desc := "(I)Z" } : Jvm.MethodName)) ∈ lw_all := lw_g (lw_at lw_m6 109 rfl) rfl
theorem q1372 : (Jvm.Cond.privateMethod ({ cls := "MapSheetsModel", name := "isEdge", desc := "(I)Z" } : Jvm.MethodName)) ∈ lw_tbl := lw_at lw_m6 110 rfl
theorem q1373 : (Jvm.Cond.instanceMethod ({ cls := "MapSheetsModel", name := "isEdge", desc := "(I)Z" } : Jvm.MethodName)) ∈ lw_all := lw_g (lw_at lw_m6 111 rfl) rfl
theorem q1374 : (Jvm.Cond.code ({ cls := "MapSheetsModel", name := "isEdge", desc := "(I)Z" } : Jvm.MethodName) prog_11_method_17_code (2 : Nat) (Option.some Jvm.ClassFile.FieldType.boolean)) ∈ lw_all := lw_g (lw_at lw_m6 112 rfl) rfl
theorem q1375 : (Jvm.Cond.methodLink "MapSheetsModel" (163 : Nat) ({ cls := "MapSheetsModel", name := "crossings", desc := "(I)I" } : Jvm.MethodName)) ∈ lw_all := lw_g (lw_at lw_m6 113 rfl) rfl
theorem q1376 : (Jvm.Cond.privateMethod ({ cls := "MapSheetsModel", name := "crossings", desc := "(I)I" } : Jvm.MethodName)) ∈ lw_tbl := lw_at lw_m6 114 rfl
theorem q1377 : (Jvm.Cond.instanceMethod ({ cls := "MapSheetsModel", name := "crossings", desc := "(I)I" } : Jvm.MethodName)) ∈ lw_all := lw_g (lw_at lw_m6 115 rfl) rfl
theorem q1378 : (Jvm.Cond.code ({ cls := "MapSheetsModel", name := "crossings", desc := "(I)I" } : Jvm.MethodName) prog_11_method_27_code (4 : Nat) (Option.some Jvm.ClassFile.FieldType.int)) ∈ lw_all := lw_g (lw_at lw_m6 116 rfl) rfl
theorem q1380 : (Jvm.Cond.instanceMethod ({ cls := "MapSheetsModel", name := "edgeAt", desc := "(II)I" } : Jvm.MethodName)) ∈ lw_all := lw_g (lw_at lw_m6 118 rfl) rfl
theorem q1381 : (Jvm.Cond.selects "MapSheetsModel" ({ cls := "MapSheetsModel", name := "edgeAt", desc := "(II)I" } : Jvm.MethodName) ({ cls := "MapSheetsModel", name := "edgeAt", desc := "(II)I" } : Jvm.MethodName)) ∈ lw_all := lw_g (lw_at lw_m6 119 rfl) rfl
theorem q1382 : (Jvm.Cond.code ({ cls := "MapSheetsModel", name := "edgeAt", desc := "(II)I" } : Jvm.MethodName) prog_11_method_53_code (3 : Nat) (Option.some Jvm.ClassFile.FieldType.int)) ∈ lw_all := lw_g (lw_at lw_m6 120 rfl) rfl
theorem q1384 : (Jvm.Cond.instanceMethod ({ cls := "MapSheetsModel", name := "quarrel", desc := "(III)I" } : Jvm.MethodName)) ∈ lw_all := lw_g (lw_at lw_m6 122 rfl) rfl
theorem q1385 : (Jvm.Cond.selects "MapSheetsModel" ({ cls := "MapSheetsModel", name := "quarrel", desc := "(III)I" } : Jvm.MethodName) ({ cls := "MapSheetsModel", name := "quarrel", desc := "(III)I" } : Jvm.MethodName)) ∈ lw_all := lw_g (lw_at lw_m6 123 rfl) rfl
theorem q1386 : (Jvm.Cond.code ({ cls := "MapSheetsModel", name := "quarrel", desc := "(III)I" } : Jvm.MethodName) prog_11_method_55_code (6 : Nat) (Option.some Jvm.ClassFile.FieldType.int)) ∈ lw_all := lw_g (lw_at lw_m6 124 rfl) rfl
theorem q1387 : (Jvm.Cond.methodLink "MapSheetsModel" (166 : Nat) ({ cls := "MapSheetsModel", name := "quarrelAt", desc := "(III)I" } : Jvm.MethodName)) ∈ lw_all := lw_g (lw_at lw_m6 125 rfl) rfl
theorem q1388 : (Jvm.Cond.privateMethod ({ cls := "MapSheetsModel", name := "quarrelAt", desc := "(III)I" } : Jvm.MethodName)) ∈ lw_tbl := lw_at lw_m6 126 rfl
theorem q1389 : (Jvm.Cond.instanceMethod ({ cls := "MapSheetsModel", name := "quarrelAt", desc := "(III)I" } : Jvm.MethodName)) ∈ lw_all := lw_g (lw_at lw_m6 127 rfl) rfl
theorem q1390 : (Jvm.Cond.code ({ cls := "MapSheetsModel", name := "quarrelAt", desc := "(III)I" } : Jvm.MethodName) prog_11_method_54_code (5 : Nat) (Option.some Jvm.ClassFile.FieldType.int)) ∈ lw_all := lw_g (lw_at lw_m6 128 rfl) rfl
theorem q1392 : (Jvm.Cond.instanceMethod ({ cls := "MapSheetsModel", name := "agree", desc := "(I)I" } : Jvm.MethodName)) ∈ lw_all := lw_g (lw_at lw_m6 130 rfl) rfl
theorem q1393 : (Jvm.Cond.selects "MapSheetsModel" ({ cls := "MapSheetsModel", name := "agree", desc := "(I)I" } : Jvm.MethodName) ({ cls := "MapSheetsModel", name := "agree", desc := "(I)I" } : Jvm.MethodName)) ∈ lw_all := lw_g (lw_at lw_m6 131 rfl) rfl
theorem q1394 : (Jvm.Cond.code ({ cls := "MapSheetsModel", name := "agree", desc := "(I)I" } : Jvm.MethodName) prog_11_method_56_code (3 : Nat) (Option.some Jvm.ClassFile.FieldType.int)) ∈ lw_all := lw_g (lw_at lw_m6 132 rfl) rfl
theorem q1396 : (Jvm.Cond.instanceMethod ({ cls := "MapSheetsModel", name := "release", desc := "(I)I" } : Jvm.MethodName)) ∈ lw_all := lw_g (lw_at lw_m6 134 rfl) rfl
theorem q1397 : (Jvm.Cond.selects "MapSheetsModel" ({ cls := "MapSheetsModel", name := "release", desc := "(I)I" } : Jvm.MethodName) ({ cls := "MapSheetsModel", name := "release", desc := "(I)I" } : Jvm.MethodName)) ∈ lw_all := lw_g (lw_at lw_m6 135 rfl) rfl
theorem q1398 : (Jvm.Cond.code ({ cls := "MapSheetsModel", name := "release", desc := "(I)I" } : Jvm.MethodName) prog_11_method_57_code (2 : Nat) (Option.some Jvm.ClassFile.FieldType.int)) ∈ lw_all := lw_g (lw_at lw_m6 136 rfl) rfl
theorem q1400 : (Jvm.Cond.instanceMethod ({ cls := "MapSheetsModel", name := "settle", desc := "(II)I" } : Jvm.MethodName)) ∈ lw_all := lw_g (lw_at lw_m6 138 rfl) rfl
theorem q1401 : (Jvm.Cond.selects "MapSheetsModel" ({ cls := "MapSheetsModel", name := "settle", desc := "(II)I" } : Jvm.MethodName) ({ cls := "MapSheetsModel", name := "settle", desc := "(II)I" } : Jvm.MethodName)) ∈ lw_all := lw_g (lw_at lw_m6 139 rfl) rfl
theorem q1402 : (Jvm.Cond.code ({ cls := "MapSheetsModel", name := "settle", desc := "(II)I" } : Jvm.MethodName) prog_11_method_59_code (10 : Nat) (Option.some Jvm.ClassFile.FieldType.int)) ∈ lw_all := lw_g (lw_at lw_m6 140 rfl) rfl
theorem q1403 : (Jvm.Cond.methodLink "MapSheetsModel" (169 : Nat) ({ cls := "MapSheetsModel", name := "signFor", desc := "(III)I" } : Jvm.MethodName)) ∈ lw_all := lw_g (lw_at lw_m6 141 rfl) rfl
theorem q1404 : (Jvm.Cond.privateMethod ({ cls := "MapSheetsModel", name := "signFor", desc := "(III)I" } : Jvm.MethodName)) ∈ lw_tbl := lw_at lw_m6 142 rfl
theorem q1405 : (Jvm.Cond.instanceMethod ({ cls := "MapSheetsModel", name := "signFor", desc := "(III)I" } : Jvm.MethodName)) ∈ lw_all := lw_g (lw_at lw_m6 143 rfl) rfl
theorem q1406 : (Jvm.Cond.code ({ cls := "MapSheetsModel", name := "signFor", desc := "(III)I" } : Jvm.MethodName) prog_11_method_58_code (5 : Nat) (Option.some Jvm.ClassFile.FieldType.int)) ∈ lw_all := lw_g (lw_at lw_m6 144 rfl) rfl
theorem q1408 : (Jvm.Cond.instanceMethod ({ cls := "MapSheetsModel", name := "ratio", desc := "(I)I" } : Jvm.MethodName)) ∈ lw_all := lw_g (lw_at lw_m6 146 rfl) rfl
theorem q1409 : (Jvm.Cond.selects "MapSheetsModel" ({ cls := "MapSheetsModel", name := "ratio", desc := "(I)I" } : Jvm.MethodName) ({ cls := "MapSheetsModel", name := "ratio", desc := "(I)I" } : Jvm.MethodName)) ∈ lw_all := lw_g (lw_at lw_m6 147 rfl) rfl
theorem q1410 : (Jvm.Cond.code ({ cls := "MapSheetsModel", name := "ratio", desc := "(I)I" } : Jvm.MethodName) prog_11_method_60_code (2 : Nat) (Option.some Jvm.ClassFile.FieldType.int)) ∈ lw_all := lw_g (lw_at lw_m6 148 rfl) rfl
theorem q1411 : (Jvm.Cond.methodLink "MapSheetsModel" (172 : Nat) ({ cls := "java/lang/Float", name := "floatToIntBits", desc := "(F)I" } : Jvm.MethodName)) ∈ lw_all := lw_g (lw_at lw_m6 149 rfl) rfl
theorem q1413 : (Jvm.Cond.instanceMethod ({ cls := "MapSheetsModel", name := "publish", desc := "(I)I" } : Jvm.MethodName)) ∈ lw_all := lw_g (lw_at lw_m6 151 rfl) rfl
theorem q1414 : (Jvm.Cond.selects "MapSheetsModel" ({ cls := "MapSheetsModel", name := "publish", desc := "(I)I" } : Jvm.MethodName) ({ cls := "MapSheetsModel", name := "publish", desc := "(I)I" } : Jvm.MethodName)) ∈ lw_all := lw_g (lw_at lw_m6 152 rfl) rfl
theorem q1415 : (Jvm.Cond.code ({ cls := "MapSheetsModel", name := "publish", desc := "(I)I" } : Jvm.MethodName) prog_11_method_61_code (2 : Nat) (Option.some Jvm.ClassFile.FieldType.int)) ∈ lw_all := lw_g (lw_at lw_m6 153 rfl) rfl
theorem q1417 : (Jvm.Cond.instanceMethod ({ cls := "MapSheetsModel", name := "scale", desc := "(II)I" } : Jvm.MethodName)) ∈ lw_all := lw_g (lw_at lw_m6 155 rfl) rfl
theorem q1418 : (Jvm.Cond.selects "MapSheetsModel" ({ cls := "MapSheetsModel", name := "scale", desc := "(II)I" } : Jvm.MethodName) ({ cls := "MapSheetsModel", name := "scale", desc := "(II)I" } : Jvm.MethodName)) ∈ lw_all := lw_g (lw_at lw_m6 156 rfl) rfl
theorem q1419 : (Jvm.Cond.code ({ cls := "MapSheetsModel", name := "scale", desc := "(II)I" } : Jvm.MethodName) prog_11_method_62_code (4 : Nat) (Option.some Jvm.ClassFile.FieldType.int)) ∈ lw_all := lw_g (lw_at lw_m6 157 rfl) rfl
theorem q1420 : (Jvm.Cond.constant "MapSheetsModel" (178 : Nat) (1000000 : Int32)) ∈ lw_all := lw_g (lw_at lw_m6 158 rfl) rfl
theorem q1422 : (Jvm.Cond.instanceMethod ({ cls := "MapSheetsModel", name := "stretched", desc := "(II)I" } : Jvm.MethodName)) ∈ lw_all := lw_g (lw_at lw_m6 160 rfl) rfl
theorem q1423 : (Jvm.Cond.selects "MapSheetsModel" ({ cls := "MapSheetsModel", name := "stretched", desc := "(II)I" } : Jvm.MethodName) ({ cls := "MapSheetsModel", name := "stretched", desc := "(II)I" } : Jvm.MethodName)) ∈ lw_all := lw_g (lw_at lw_m6 161 rfl) rfl
theorem q1424 : (Jvm.Cond.code ({ cls := "MapSheetsModel", name := "stretched", desc := "(II)I" } : Jvm.MethodName) prog_11_method_63_code (3 : Nat) (Option.some Jvm.ClassFile.FieldType.int)) ∈ lw_all := lw_g (lw_at lw_m6 162 rfl) rfl
theorem q1425 : (Jvm.Cond.constant "MapSheetsModel" (179 : Nat) (10000000 : Int32)) ∈ lw_all := lw_g (lw_at lw_m6 163 rfl) rfl
theorem q1427 : (Jvm.Cond.instanceMethod ({ cls := "MapSheetsModel", name := "type", desc := "(I)I" } : Jvm.MethodName)) ∈ lw_all := lw_g (lw_at lw_m6 165 rfl) rfl
theorem q1428 : (Jvm.Cond.selects "MapSheetsModel" ({ cls := "MapSheetsModel", name := "type", desc := "(I)I" } : Jvm.MethodName) ({ cls := "MapSheetsModel", name := "type", desc := "(I)I" } : Jvm.MethodName)) ∈ lw_all := lw_g (lw_at lw_m6 166 rfl) rfl
theorem q1429 : (Jvm.Cond.code ({ cls := "MapSheetsModel", name := "type", desc := "(I)I" } : Jvm.MethodName) prog_11_method_64_code (2 : Nat) (Option.some Jvm.ClassFile.FieldType.int)) ∈ lw_all := lw_g (lw_at lw_m6 167 rfl) rfl
theorem q1431 : (Jvm.Cond.instanceMethod ({ cls := "MapSheetsModel", name := "clearText", desc := "()I" } : Jvm.MethodName)) ∈ lw_all := lw_g (lw_at lw_m6 169 rfl) rfl
theorem q1432 : (Jvm.Cond.selects "MapSheetsModel" ({ cls := "MapSheetsModel", name := "clearText", desc := "()I" } : Jvm.MethodName) ({ cls := "MapSheetsModel", name := "clearText", desc := "()I" } : Jvm.MethodName)) ∈ lw_all := lw_g (lw_at lw_m6 170 rfl) rfl
theorem q1433 : (Jvm.Cond.code ({ cls := "MapSheetsModel", name := "clearText", desc := "()I" } : Jvm.MethodName) prog_11_method_65_code (2 : Nat) (Option.some Jvm.ClassFile.FieldType.int)) ∈ lw_all := lw_g (lw_at lw_m6 171 rfl) rfl
theorem q1435 : (Jvm.Cond.instanceMethod ({ cls := "MapSheetsModel", name := "fault", desc := "()I" } : Jvm.MethodName)) ∈ lw_all := lw_g (lw_at lw_m6 173 rfl) rfl
theorem q1436 : (Jvm.Cond.selects "MapSheetsModel" ({ cls := "MapSheetsModel", name := "fault", desc := "()I" } : Jvm.MethodName) ({ cls := "MapSheetsModel", name := "fault", desc := "()I" } : Jvm.MethodName)) ∈ lw_all := lw_g (lw_at lw_m6 174 rfl) rfl
theorem q1437 : (Jvm.Cond.code ({ cls := "MapSheetsModel", name := "fault", desc := "()I" } : Jvm.MethodName) prog_11_method_71_code (1 : Nat) (Option.some Jvm.ClassFile.FieldType.int)) ∈ lw_all := lw_g (lw_at lw_m6 175 rfl) rfl
theorem q1438 : (Jvm.Cond.methodLink "MapSheetsModel" (193 : Nat) ({ cls := "MapSheetsModel", name := "faultAt", desc := "()I" } : Jvm.MethodName)) ∈ lw_all := lw_g (lw_at lw_m6 176 rfl) rfl
theorem q1439 : (Jvm.Cond.privateMethod ({ cls := "MapSheetsModel", name := "faultAt", desc := "()I" } : Jvm.MethodName)) ∈ lw_tbl := lw_at lw_m6 177 rfl
theorem q1440 : (Jvm.Cond.instanceMethod ({ cls := "MapSheetsModel", name := "faultAt", desc := "()I" } : Jvm.MethodName)) ∈ lw_all := lw_g (lw_at lw_m6 178 rfl) rfl
theorem q1441 : (Jvm.Cond.code ({ cls := "MapSheetsModel", name := "faultAt", desc := "()I" } : Jvm.MethodName) prog_11_method_70_code (3 : Nat) (Option.some Jvm.ClassFile.FieldType.int)) ∈ lw_all := lw_g (lw_at lw_m6 179 rfl) rfl
theorem q1442 : (Jvm.Cond.methodLink "MapSheetsModel" (190 : Nat) ({ cls := "MapSheetsModel", name := "itemAt", desc := "(I)I" } : Jvm.MethodName)) ∈ lw_all := lw_g (lw_at lw_m6 180 rfl) rfl
theorem q1443 : (Jvm.Cond.privateMethod ({ cls := "MapSheetsModel", name := "itemAt", desc := "(I)I" } : Jvm.MethodName)) ∈ lw_tbl := lw_at lw_m6 181 rfl
theorem q1444 : (Jvm.Cond.instanceMethod ({ cls := "MapSheetsModel", name := "itemAt", desc := "(I)I" } : Jvm.MethodName)) ∈ lw_all := lw_g (lw_at lw_m6 182 rfl) rfl
theorem q1445 : (Jvm.Cond.code ({ cls := "MapSheetsModel", name := "itemAt", desc := "(I)I" } : Jvm.MethodName) prog_11_method_69_code (2 : Nat) (Option.some Jvm.ClassFile.FieldType.int)) ∈ lw_all := lw_g (lw_at lw_m6 183 rfl) rfl
theorem q1446 : (Jvm.Cond.methodLink "MapSheetsModel" (180 : Nat) ({ cls := "MapSheetsModel", name := "sideNamed", desc := "(I)I" } : Jvm.MethodName)) ∈ lw_all := lw_g (lw_at lw_m6 184 rfl) rfl
theorem q1447 : (Jvm.Cond.static ({ cls := "MapSheetsModel", name := "sideNamed", desc := "(I)I" } : Jvm.MethodName)) ∈ lw_all := lw_g (lw_at lw_m6 185 rfl) rfl
theorem q1448 : (Jvm.Cond.code ({ cls := "MapSheetsModel", name := "sideNamed", desc := "(I)I" } : Jvm.MethodName) prog_11_method_66_code (1 : Nat) (Option.some Jvm.ClassFile.FieldType.int)) ∈ lw_all := lw_g (lw_at lw_m6 186 rfl) rfl
theorem q1449 : (Jvm.Cond.methodLink "MapSheetsModel" (183 : Nat) ({ cls := "MapSheetsModel", name := "isDigit", desc := "(I)Z" } : Jvm.MethodName)) ∈ lw_all := lw_g (lw_at lw_m6 187 rfl) rfl
theorem q1450 : (Jvm.Cond.privateMethod ({ cls := "MapSheetsModel", name := "isDigit", desc := "(I)Z" } : Jvm.MethodName)) ∈ lw_tbl := lw_at lw_m6 188 rfl
theorem q1451 : (Jvm.Cond.instanceMethod ({ cls := "MapSheetsModel", name := "isDigit", desc := "(I)Z" } : Jvm.MethodName)) ∈ lw_all := lw_g (lw_at lw_m6 189 rfl) rfl
theorem q1452 : (Jvm.Cond.code ({ cls := "MapSheetsModel", name := "isDigit", desc := "(I)Z" } : Jvm.MethodName) prog_11_method_67_code (2 : Nat) (Option.some Jvm.ClassFile.FieldType.boolean)) ∈ lw_all := lw_g (lw_at lw_m6 190 rfl) rfl
theorem q1453 : (Jvm.Cond.methodLink "MapSheetsModel" (186 : Nat) ({ cls := "MapSheetsModel", name := "isAt", desc := "(II)Z" } : Jvm.MethodName)) ∈ lw_all := lw_g (lw_at lw_m6 191 rfl) rfl
theorem q1454 : (Jvm.Cond.privateMethod ({ cls := "MapSheetsModel", name := "isAt", desc := "(II)Z" } : Jvm.MethodName)) ∈ lw_tbl := lw_at lw_m6 192 rfl
theorem q1455 : (Jvm.Cond.instanceMethod ({ cls := "MapSheetsModel", name := "isAt", desc := "(II)Z" } : Jvm.MethodName)) ∈ lw_all := lw_g (lw_at lw_m6 193 rfl) rfl
theorem q1456 : (Jvm.Cond.code ({ cls := "MapSheetsModel", name := "isAt", desc := "(II)Z" } : Jvm.MethodName) prog_11_method_68_code (3 : Nat) (Option.some Jvm.ClassFile.FieldType.boolean)) ∈ lw_all := lw_g (lw_at lw_m6 194 rfl) rfl
theorem q1458 : (Jvm.Cond.instanceMethod ({ cls := "MapSheetsModel", name := "read", desc := "(I)I" } : Jvm.MethodName)) ∈ lw_all := lw_g (lw_at lw_m6 196 rfl) rfl
theorem q1459 : (Jvm.Cond.selects "MapSheetsModel" ({ cls := "MapSheetsModel", name := "read", desc := "(I)I" } : Jvm.MethodName) ({ cls := "MapSheetsModel", name := "read", desc := "(I)I" } : Jvm.MethodName)) ∈ lw_all := lw_g (lw_at lw_m6 197 rfl) rfl
theorem q1460 : (Jvm.Cond.code ({ cls := "MapSheetsModel", name := "read", desc := "(I)I" } : Jvm.MethodName) prog_11_method_72_code (6 : Nat) (Option.some Jvm.ClassFile.FieldType.int)) ∈ lw_all := lw_g (lw_at lw_m6 198 rfl) rfl
theorem q1480 : (Jvm.Cond.castable "MapSheetsModel" "java/lang/Object") ∈ lw_tbl := lw_at lw_m6 218 rfl
theorem in_X4 : ∀ w ∈ wsX40, w ∈ lw_all := lw_in wsX40 [1167, 1169, 1171, 1173, 1175, 1177, 1179] (by decide +kernel) (by decide +kernel)

