/-! MapSheets$Library -/
set_option maxRecDepth 100000
def RX1 : String := "MapSheets$Library"
def TX1 : u_T := fun k => match k with
  | 0 => ("MapSheets$Library", "columns", "I", false)
  | 1 => ("MapSheets$Library", "rows", "I", false)
  | 2 => ("MapSheets$Library", "sheets", "Ljava/util/ArrayList;", true)
  | 3 => ("MapSheets$Library", "edges", "Ljava/util/ArrayList;", true)
  | _ => ("MapSheets$Library", "settings", "[I", false)
def tyX1 : Nat → FieldType := fun k => match k with
  | 0 => .int
  | 1 => .int
  | 2 => .object "java/util/ArrayList"
  | 3 => .object "java/util/ArrayList"
  | _ => .array .int
abbrev wsX10 : List Cond := u_ws RX1 TX1 5
theorem nmX1 : ∀ a, a < 5 → ∀ b, b < 5 → a ≠ b → (TX1 a).2.1 ≠ (TX1 b).2.1 := by decide +kernel
theorem tyX1_ok : ∀ k, k < 5 → parseFieldDescriptor (TX1 k).2.2.1 = some (tyX1 k) := by decide +kernel
abbrev cX1_init : ByteArray := prog_4_method_1_code
def yX1_init : MethodName := ⟨RX1, "<init>", "()V"⟩
def dkwX1_init_1 : List UInt8 := [181, 0, 18, 42, 5, 188, 10, 89, 3, 4, 79, 89, 4, 16, 20, 79, 181, 0, 21, 177]
abbrev dktX1_init_1 : List UInt8 := dkwX1_init_1 ++ []
def dkwX1_init_0 : List UInt8 := [42, 183, 0, 3, 42, 187, 0, 9, 89, 183, 0, 11, 181, 0, 12, 42, 187, 0, 9, 89, 183, 0, 11]
abbrev dktX1_init_0 : List UInt8 := dkwX1_init_0 ++ dktX1_init_1
theorem dksX1_init_0 : cX1_init.data.toList.drop 0 = dktX1_init_0 := by decide +kernel
theorem dksX1_init_1 : cX1_init.data.toList.drop 23 = dktX1_init_1 := dk_seg dksX1_init_0 23 rfl rfl
theorem dX1_init_0 : decode cX1_init 0 = .ok (.aload_n 0, 1) := dk_42 (dk_at dksX1_init_0 0 rfl rfl)
theorem dX1_init_1 : decode cX1_init 1 = .ok (.invokespecial 3, 3) := dk_183 0 3 (dk_at dksX1_init_0 1 rfl rfl)
theorem dX1_init_4 : decode cX1_init 4 = .ok (.aload_n 0, 1) := dk_42 (dk_at dksX1_init_0 4 rfl rfl)
theorem dX1_init_5 : decode cX1_init 5 = .ok (.new 9, 3) := dk_187 0 9 (dk_at dksX1_init_0 5 rfl rfl)
theorem dX1_init_8 : decode cX1_init 8 = .ok (.dup, 1) := dk_89 (dk_at dksX1_init_0 8 rfl rfl)
theorem dX1_init_9 : decode cX1_init 9 = .ok (.invokespecial 11, 3) := dk_183 0 11 (dk_at dksX1_init_0 9 rfl rfl)
theorem dX1_init_12 : decode cX1_init 12 = .ok (.putfield 12, 3) := dk_181 0 12 (dk_at dksX1_init_0 12 rfl rfl)
theorem dX1_init_15 : decode cX1_init 15 = .ok (.aload_n 0, 1) := dk_42 (dk_at dksX1_init_0 15 rfl rfl)
theorem dX1_init_16 : decode cX1_init 16 = .ok (.new 9, 3) := dk_187 0 9 (dk_at dksX1_init_0 16 rfl rfl)
theorem dX1_init_19 : decode cX1_init 19 = .ok (.dup, 1) := dk_89 (dk_at dksX1_init_0 19 rfl rfl)
theorem dX1_init_20 : decode cX1_init 20 = .ok (.invokespecial 11, 3) := dk_183 0 11 (dk_at dksX1_init_0 20 rfl rfl)
theorem dX1_init_23 : decode cX1_init 23 = .ok (.putfield 18, 3) := dk_181 0 18 (dk_at dksX1_init_1 0 rfl rfl)
theorem dX1_init_26 : decode cX1_init 26 = .ok (.aload_n 0, 1) := dk_42 (dk_at dksX1_init_1 3 rfl rfl)
theorem dX1_init_27 : decode cX1_init 27 = .ok (.iconst 2, 1) := dk_5 (dk_at dksX1_init_1 4 rfl rfl)
theorem dX1_init_28 : decode cX1_init 28 = .ok (.newarray .int, 2) := dk_188_10 (dk_at dksX1_init_1 5 rfl rfl)
theorem dX1_init_30 : decode cX1_init 30 = .ok (.dup, 1) := dk_89 (dk_at dksX1_init_1 7 rfl rfl)
theorem dX1_init_31 : decode cX1_init 31 = .ok (.iconst 0, 1) := dk_3 (dk_at dksX1_init_1 8 rfl rfl)
theorem dX1_init_32 : decode cX1_init 32 = .ok (.iconst 1, 1) := dk_4 (dk_at dksX1_init_1 9 rfl rfl)
theorem dX1_init_33 : decode cX1_init 33 = .ok (.iastore, 1) := dk_79 (dk_at dksX1_init_1 10 rfl rfl)
theorem dX1_init_34 : decode cX1_init 34 = .ok (.dup, 1) := dk_89 (dk_at dksX1_init_1 11 rfl rfl)
theorem dX1_init_35 : decode cX1_init 35 = .ok (.iconst 1, 1) := dk_4 (dk_at dksX1_init_1 12 rfl rfl)
theorem dX1_init_36 : decode cX1_init 36 = .ok (.bipush 20, 2) := dk_16 20 (dk_at dksX1_init_1 13 rfl rfl)
theorem dX1_init_38 : decode cX1_init 38 = .ok (.iastore, 1) := dk_79 (dk_at dksX1_init_1 15 rfl rfl)
theorem dX1_init_39 : decode cX1_init 39 = .ok (.putfield 21, 3) := dk_181 0 21 (dk_at dksX1_init_1 16 rfl rfl)
theorem dX1_init_42 : decode cX1_init 42 = .ok (.return_, 1) := dk_177 (dk_at dksX1_init_1 19 rfl rfl)
abbrev cX1_begin : ByteArray := prog_4_method_3_code
def yX1_begin : MethodName := ⟨RX1, "begin", "(II)V"⟩
def dkwX1_begin_2 : List UInt8 := [183, 0, 81, 182, 0, 53, 87, 132, 3, 1, 167, 255, 225, 42, 182, 0, 57, 177]
abbrev dktX1_begin_2 : List UInt8 := dkwX1_begin_2 ++ []
def dkwX1_begin_1 : List UInt8 := [3, 62, 29, 42, 180, 0, 26, 42, 180, 0, 30, 104, 162, 0, 24, 42, 180, 0, 12, 187, 0, 47, 89]
abbrev dktX1_begin_1 : List UInt8 := dkwX1_begin_1 ++ dktX1_begin_2
def dkwX1_begin_0 : List UInt8 := [42, 27, 181, 0, 26, 42, 28, 181, 0, 30, 42, 180, 0, 12, 182, 0, 78, 42, 180, 0, 18, 182, 0, 78]
abbrev dktX1_begin_0 : List UInt8 := dkwX1_begin_0 ++ dktX1_begin_1
theorem dksX1_begin_0 : cX1_begin.data.toList.drop 0 = dktX1_begin_0 := by decide +kernel
theorem dksX1_begin_1 : cX1_begin.data.toList.drop 24 = dktX1_begin_1 := dk_seg dksX1_begin_0 24 rfl rfl
theorem dksX1_begin_2 : cX1_begin.data.toList.drop 47 = dktX1_begin_2 := dk_seg dksX1_begin_1 23 rfl rfl
theorem dX1_begin_0 : decode cX1_begin 0 = .ok (.aload_n 0, 1) := dk_42 (dk_at dksX1_begin_0 0 rfl rfl)
theorem dX1_begin_1 : decode cX1_begin 1 = .ok (.iload_n 1, 1) := dk_27 (dk_at dksX1_begin_0 1 rfl rfl)
theorem dX1_begin_2 : decode cX1_begin 2 = .ok (.putfield 26, 3) := dk_181 0 26 (dk_at dksX1_begin_0 2 rfl rfl)
theorem dX1_begin_5 : decode cX1_begin 5 = .ok (.aload_n 0, 1) := dk_42 (dk_at dksX1_begin_0 5 rfl rfl)
theorem dX1_begin_6 : decode cX1_begin 6 = .ok (.iload_n 2, 1) := dk_28 (dk_at dksX1_begin_0 6 rfl rfl)
theorem dX1_begin_7 : decode cX1_begin 7 = .ok (.putfield 30, 3) := dk_181 0 30 (dk_at dksX1_begin_0 7 rfl rfl)
theorem dX1_begin_10 : decode cX1_begin 10 = .ok (.aload_n 0, 1) := dk_42 (dk_at dksX1_begin_0 10 rfl rfl)
theorem dX1_begin_11 : decode cX1_begin 11 = .ok (.getfield 12, 3) := dk_180 0 12 (dk_at dksX1_begin_0 11 rfl rfl)
theorem dX1_begin_14 : decode cX1_begin 14 = .ok (.invokevirtual 78, 3) := dk_182 0 78 (dk_at dksX1_begin_0 14 rfl rfl)
theorem dX1_begin_17 : decode cX1_begin 17 = .ok (.aload_n 0, 1) := dk_42 (dk_at dksX1_begin_0 17 rfl rfl)
theorem dX1_begin_18 : decode cX1_begin 18 = .ok (.getfield 18, 3) := dk_180 0 18 (dk_at dksX1_begin_0 18 rfl rfl)
theorem dX1_begin_21 : decode cX1_begin 21 = .ok (.invokevirtual 78, 3) := dk_182 0 78 (dk_at dksX1_begin_0 21 rfl rfl)
theorem dX1_begin_24 : decode cX1_begin 24 = .ok (.iconst 0, 1) := dk_3 (dk_at dksX1_begin_1 0 rfl rfl)
theorem dX1_begin_25 : decode cX1_begin 25 = .ok (.istore_n 3, 1) := dk_62 (dk_at dksX1_begin_1 1 rfl rfl)
theorem dX1_begin_26 : decode cX1_begin 26 = .ok (.iload_n 3, 1) := dk_29 (dk_at dksX1_begin_1 2 rfl rfl)
theorem dX1_begin_27 : decode cX1_begin 27 = .ok (.aload_n 0, 1) := dk_42 (dk_at dksX1_begin_1 3 rfl rfl)
theorem dX1_begin_28 : decode cX1_begin 28 = .ok (.getfield 26, 3) := dk_180 0 26 (dk_at dksX1_begin_1 4 rfl rfl)
theorem dX1_begin_31 : decode cX1_begin 31 = .ok (.aload_n 0, 1) := dk_42 (dk_at dksX1_begin_1 7 rfl rfl)
theorem dX1_begin_32 : decode cX1_begin 32 = .ok (.getfield 30, 3) := dk_180 0 30 (dk_at dksX1_begin_1 8 rfl rfl)
theorem dX1_begin_35 : decode cX1_begin 35 = .ok (.imul, 1) := dk_104 (dk_at dksX1_begin_1 11 rfl rfl)
theorem dX1_begin_36 : decode cX1_begin 36 = .ok (.if_icmp .ge 24, 3) := dk_162 0 24 (dk_at dksX1_begin_1 12 rfl rfl)
theorem dX1_begin_39 : decode cX1_begin 39 = .ok (.aload_n 0, 1) := dk_42 (dk_at dksX1_begin_1 15 rfl rfl)
theorem dX1_begin_40 : decode cX1_begin 40 = .ok (.getfield 12, 3) := dk_180 0 12 (dk_at dksX1_begin_1 16 rfl rfl)
theorem dX1_begin_43 : decode cX1_begin 43 = .ok (.new 47, 3) := dk_187 0 47 (dk_at dksX1_begin_1 19 rfl rfl)
theorem dX1_begin_46 : decode cX1_begin 46 = .ok (.dup, 1) := dk_89 (dk_at dksX1_begin_1 22 rfl rfl)
theorem dX1_begin_47 : decode cX1_begin 47 = .ok (.invokespecial 81, 3) := dk_183 0 81 (dk_at dksX1_begin_2 0 rfl rfl)
theorem dX1_begin_50 : decode cX1_begin 50 = .ok (.invokevirtual 53, 3) := dk_182 0 53 (dk_at dksX1_begin_2 3 rfl rfl)
theorem dX1_begin_53 : decode cX1_begin 53 = .ok (.pop, 1) := dk_87 (dk_at dksX1_begin_2 6 rfl rfl)
theorem dX1_begin_54 : decode cX1_begin 54 = .ok (.iinc 3 1, 3) := dk_132 3 1 (dk_at dksX1_begin_2 7 rfl rfl)
theorem dX1_begin_57 : decode cX1_begin 57 = .ok (.goto (-31), 3) := dk_167 255 225 (dk_at dksX1_begin_2 10 rfl rfl)
theorem dX1_begin_60 : decode cX1_begin 60 = .ok (.aload_n 0, 1) := dk_42 (dk_at dksX1_begin_2 13 rfl rfl)
theorem dX1_begin_61 : decode cX1_begin 61 = .ok (.invokevirtual 57, 3) := dk_182 0 57 (dk_at dksX1_begin_2 14 rfl rfl)
theorem dX1_begin_64 : decode cX1_begin 64 = .ok (.return_, 1) := dk_177 (dk_at dksX1_begin_2 17 rfl rfl)
abbrev cX1_addEdges : ByteArray := prog_4_method_4_code
def yX1_addEdges : MethodName := ⟨RX1, "addEdges", "()V"⟩
def dkwX1_addEdges_4 : List UInt8 := [182, 0, 53, 87, 132, 1, 1, 167, 255, 215, 177]
abbrev dktX1_addEdges_4 : List UInt8 := dkwX1_addEdges_4 ++ []
def dkwX1_addEdges_3 : List UInt8 := [162, 0, 32, 42, 180, 0, 18, 187, 0, 68, 89, 27, 27, 42, 180, 0, 26, 96, 5, 183, 0, 82]
abbrev dktX1_addEdges_3 : List UInt8 := dkwX1_addEdges_3 ++ dktX1_addEdges_4
def dkwX1_addEdges_2 : List UInt8 := [182, 0, 53, 87, 132, 1, 1, 167, 255, 205, 3, 60, 27, 42, 180, 0, 26, 42, 180, 0, 30, 4, 100, 104]
abbrev dktX1_addEdges_2 : List UInt8 := dkwX1_addEdges_2 ++ dktX1_addEdges_3
def dkwX1_addEdges_1 : List UInt8 := [180, 0, 26, 4, 100, 162, 0, 23, 42, 180, 0, 18, 187, 0, 68, 89, 27, 27, 4, 96, 4, 183, 0, 82]
abbrev dktX1_addEdges_1 : List UInt8 := dkwX1_addEdges_1 ++ dktX1_addEdges_2
def dkwX1_addEdges_0 : List UInt8 := [3, 60, 27, 42, 180, 0, 26, 42, 180, 0, 30, 104, 162, 0, 44, 27, 42, 180, 0, 26, 112, 42]
abbrev dktX1_addEdges_0 : List UInt8 := dkwX1_addEdges_0 ++ dktX1_addEdges_1
theorem dksX1_addEdges_0 : cX1_addEdges.data.toList.drop 0 = dktX1_addEdges_0 := by decide +kernel
theorem dksX1_addEdges_1 : cX1_addEdges.data.toList.drop 22 = dktX1_addEdges_1 := dk_seg dksX1_addEdges_0 22 rfl rfl
theorem dksX1_addEdges_2 : cX1_addEdges.data.toList.drop 46 = dktX1_addEdges_2 := dk_seg dksX1_addEdges_1 24 rfl rfl
theorem dksX1_addEdges_3 : cX1_addEdges.data.toList.drop 70 = dktX1_addEdges_3 := dk_seg dksX1_addEdges_2 24 rfl rfl
theorem dksX1_addEdges_4 : cX1_addEdges.data.toList.drop 92 = dktX1_addEdges_4 := dk_seg dksX1_addEdges_3 22 rfl rfl
theorem dX1_addEdges_0 : decode cX1_addEdges 0 = .ok (.iconst 0, 1) := dk_3 (dk_at dksX1_addEdges_0 0 rfl rfl)
theorem dX1_addEdges_1 : decode cX1_addEdges 1 = .ok (.istore_n 1, 1) := dk_60 (dk_at dksX1_addEdges_0 1 rfl rfl)
theorem dX1_addEdges_2 : decode cX1_addEdges 2 = .ok (.iload_n 1, 1) := dk_27 (dk_at dksX1_addEdges_0 2 rfl rfl)
theorem dX1_addEdges_3 : decode cX1_addEdges 3 = .ok (.aload_n 0, 1) := dk_42 (dk_at dksX1_addEdges_0 3 rfl rfl)
theorem dX1_addEdges_4 : decode cX1_addEdges 4 = .ok (.getfield 26, 3) := dk_180 0 26 (dk_at dksX1_addEdges_0 4 rfl rfl)
theorem dX1_addEdges_7 : decode cX1_addEdges 7 = .ok (.aload_n 0, 1) := dk_42 (dk_at dksX1_addEdges_0 7 rfl rfl)
theorem dX1_addEdges_8 : decode cX1_addEdges 8 = .ok (.getfield 30, 3) := dk_180 0 30 (dk_at dksX1_addEdges_0 8 rfl rfl)
theorem dX1_addEdges_11 : decode cX1_addEdges 11 = .ok (.imul, 1) := dk_104 (dk_at dksX1_addEdges_0 11 rfl rfl)
theorem dX1_addEdges_12 : decode cX1_addEdges 12 = .ok (.if_icmp .ge 44, 3) := dk_162 0 44 (dk_at dksX1_addEdges_0 12 rfl rfl)
theorem dX1_addEdges_15 : decode cX1_addEdges 15 = .ok (.iload_n 1, 1) := dk_27 (dk_at dksX1_addEdges_0 15 rfl rfl)
theorem dX1_addEdges_16 : decode cX1_addEdges 16 = .ok (.aload_n 0, 1) := dk_42 (dk_at dksX1_addEdges_0 16 rfl rfl)
theorem dX1_addEdges_17 : decode cX1_addEdges 17 = .ok (.getfield 26, 3) := dk_180 0 26 (dk_at dksX1_addEdges_0 17 rfl rfl)
theorem dX1_addEdges_20 : decode cX1_addEdges 20 = .ok (.irem, 1) := dk_112 (dk_at dksX1_addEdges_0 20 rfl rfl)
theorem dX1_addEdges_21 : decode cX1_addEdges 21 = .ok (.aload_n 0, 1) := dk_42 (dk_at dksX1_addEdges_0 21 rfl rfl)
theorem dX1_addEdges_22 : decode cX1_addEdges 22 = .ok (.getfield 26, 3) := dk_180 0 26 (dk_at dksX1_addEdges_1 0 rfl rfl)
theorem dX1_addEdges_25 : decode cX1_addEdges 25 = .ok (.iconst 1, 1) := dk_4 (dk_at dksX1_addEdges_1 3 rfl rfl)
theorem dX1_addEdges_26 : decode cX1_addEdges 26 = .ok (.isub, 1) := dk_100 (dk_at dksX1_addEdges_1 4 rfl rfl)
theorem dX1_addEdges_27 : decode cX1_addEdges 27 = .ok (.if_icmp .ge 23, 3) := dk_162 0 23 (dk_at dksX1_addEdges_1 5 rfl rfl)
theorem dX1_addEdges_30 : decode cX1_addEdges 30 = .ok (.aload_n 0, 1) := dk_42 (dk_at dksX1_addEdges_1 8 rfl rfl)
theorem dX1_addEdges_31 : decode cX1_addEdges 31 = .ok (.getfield 18, 3) := dk_180 0 18 (dk_at dksX1_addEdges_1 9 rfl rfl)
theorem dX1_addEdges_34 : decode cX1_addEdges 34 = .ok (.new 68, 3) := dk_187 0 68 (dk_at dksX1_addEdges_1 12 rfl rfl)
theorem dX1_addEdges_37 : decode cX1_addEdges 37 = .ok (.dup, 1) := dk_89 (dk_at dksX1_addEdges_1 15 rfl rfl)
theorem dX1_addEdges_38 : decode cX1_addEdges 38 = .ok (.iload_n 1, 1) := dk_27 (dk_at dksX1_addEdges_1 16 rfl rfl)
theorem dX1_addEdges_39 : decode cX1_addEdges 39 = .ok (.iload_n 1, 1) := dk_27 (dk_at dksX1_addEdges_1 17 rfl rfl)
theorem dX1_addEdges_40 : decode cX1_addEdges 40 = .ok (.iconst 1, 1) := dk_4 (dk_at dksX1_addEdges_1 18 rfl rfl)
theorem dX1_addEdges_41 : decode cX1_addEdges 41 = .ok (.iadd, 1) := dk_96 (dk_at dksX1_addEdges_1 19 rfl rfl)
theorem dX1_addEdges_42 : decode cX1_addEdges 42 = .ok (.iconst 1, 1) := dk_4 (dk_at dksX1_addEdges_1 20 rfl rfl)
theorem dX1_addEdges_43 : decode cX1_addEdges 43 = .ok (.invokespecial 82, 3) := dk_183 0 82 (dk_at dksX1_addEdges_1 21 rfl rfl)
theorem dX1_addEdges_46 : decode cX1_addEdges 46 = .ok (.invokevirtual 53, 3) := dk_182 0 53 (dk_at dksX1_addEdges_2 0 rfl rfl)
theorem dX1_addEdges_49 : decode cX1_addEdges 49 = .ok (.pop, 1) := dk_87 (dk_at dksX1_addEdges_2 3 rfl rfl)
theorem dX1_addEdges_50 : decode cX1_addEdges 50 = .ok (.iinc 1 1, 3) := dk_132 1 1 (dk_at dksX1_addEdges_2 4 rfl rfl)
theorem dX1_addEdges_53 : decode cX1_addEdges 53 = .ok (.goto (-51), 3) := dk_167 255 205 (dk_at dksX1_addEdges_2 7 rfl rfl)
theorem dX1_addEdges_56 : decode cX1_addEdges 56 = .ok (.iconst 0, 1) := dk_3 (dk_at dksX1_addEdges_2 10 rfl rfl)
theorem dX1_addEdges_57 : decode cX1_addEdges 57 = .ok (.istore_n 1, 1) := dk_60 (dk_at dksX1_addEdges_2 11 rfl rfl)
theorem dX1_addEdges_58 : decode cX1_addEdges 58 = .ok (.iload_n 1, 1) := dk_27 (dk_at dksX1_addEdges_2 12 rfl rfl)
theorem dX1_addEdges_59 : decode cX1_addEdges 59 = .ok (.aload_n 0, 1) := dk_42 (dk_at dksX1_addEdges_2 13 rfl rfl)
theorem dX1_addEdges_60 : decode cX1_addEdges 60 = .ok (.getfield 26, 3) := dk_180 0 26 (dk_at dksX1_addEdges_2 14 rfl rfl)
theorem dX1_addEdges_63 : decode cX1_addEdges 63 = .ok (.aload_n 0, 1) := dk_42 (dk_at dksX1_addEdges_2 17 rfl rfl)
theorem dX1_addEdges_64 : decode cX1_addEdges 64 = .ok (.getfield 30, 3) := dk_180 0 30 (dk_at dksX1_addEdges_2 18 rfl rfl)
theorem dX1_addEdges_67 : decode cX1_addEdges 67 = .ok (.iconst 1, 1) := dk_4 (dk_at dksX1_addEdges_2 21 rfl rfl)
theorem dX1_addEdges_68 : decode cX1_addEdges 68 = .ok (.isub, 1) := dk_100 (dk_at dksX1_addEdges_2 22 rfl rfl)
theorem dX1_addEdges_69 : decode cX1_addEdges 69 = .ok (.imul, 1) := dk_104 (dk_at dksX1_addEdges_2 23 rfl rfl)
theorem dX1_addEdges_70 : decode cX1_addEdges 70 = .ok (.if_icmp .ge 32, 3) := dk_162 0 32 (dk_at dksX1_addEdges_3 0 rfl rfl)
theorem dX1_addEdges_73 : decode cX1_addEdges 73 = .ok (.aload_n 0, 1) := dk_42 (dk_at dksX1_addEdges_3 3 rfl rfl)
theorem dX1_addEdges_74 : decode cX1_addEdges 74 = .ok (.getfield 18, 3) := dk_180 0 18 (dk_at dksX1_addEdges_3 4 rfl rfl)
theorem dX1_addEdges_77 : decode cX1_addEdges 77 = .ok (.new 68, 3) := dk_187 0 68 (dk_at dksX1_addEdges_3 7 rfl rfl)
theorem dX1_addEdges_80 : decode cX1_addEdges 80 = .ok (.dup, 1) := dk_89 (dk_at dksX1_addEdges_3 10 rfl rfl)
theorem dX1_addEdges_81 : decode cX1_addEdges 81 = .ok (.iload_n 1, 1) := dk_27 (dk_at dksX1_addEdges_3 11 rfl rfl)
theorem dX1_addEdges_82 : decode cX1_addEdges 82 = .ok (.iload_n 1, 1) := dk_27 (dk_at dksX1_addEdges_3 12 rfl rfl)
theorem dX1_addEdges_83 : decode cX1_addEdges 83 = .ok (.aload_n 0, 1) := dk_42 (dk_at dksX1_addEdges_3 13 rfl rfl)
theorem dX1_addEdges_84 : decode cX1_addEdges 84 = .ok (.getfield 26, 3) := dk_180 0 26 (dk_at dksX1_addEdges_3 14 rfl rfl)
theorem dX1_addEdges_87 : decode cX1_addEdges 87 = .ok (.iadd, 1) := dk_96 (dk_at dksX1_addEdges_3 17 rfl rfl)
theorem dX1_addEdges_88 : decode cX1_addEdges 88 = .ok (.iconst 2, 1) := dk_5 (dk_at dksX1_addEdges_3 18 rfl rfl)
theorem dX1_addEdges_89 : decode cX1_addEdges 89 = .ok (.invokespecial 82, 3) := dk_183 0 82 (dk_at dksX1_addEdges_3 19 rfl rfl)
theorem dX1_addEdges_92 : decode cX1_addEdges 92 = .ok (.invokevirtual 53, 3) := dk_182 0 53 (dk_at dksX1_addEdges_4 0 rfl rfl)
theorem dX1_addEdges_95 : decode cX1_addEdges 95 = .ok (.pop, 1) := dk_87 (dk_at dksX1_addEdges_4 3 rfl rfl)
theorem dX1_addEdges_96 : decode cX1_addEdges 96 = .ok (.iinc 1 1, 3) := dk_132 1 1 (dk_at dksX1_addEdges_4 4 rfl rfl)
theorem dX1_addEdges_99 : decode cX1_addEdges 99 = .ok (.goto (-41), 3) := dk_167 255 215 (dk_at dksX1_addEdges_4 7 rfl rfl)
theorem dX1_addEdges_102 : decode cX1_addEdges 102 = .ok (.return_, 1) := dk_177 (dk_at dksX1_addEdges_4 10 rfl rfl)
abbrev cX1_copy : ByteArray := prog_4_method_2_code
def yX1_copy : MethodName := ⟨RX1, "copy", "()LMapSheets$Library;"⟩
def dkwX1_copy_5 : List UInt8 := [180, 0, 21, 182, 0, 74, 192, 0, 75, 181, 0, 21, 43, 176]
abbrev dktX1_copy_5 : List UInt8 := dkwX1_copy_5 ++ []
def dkwX1_copy_4 : List UInt8 := [180, 0, 18, 28, 182, 0, 64, 192, 0, 68, 180, 0, 70, 181, 0, 70, 132, 2, 1, 167, 255, 214, 43, 42]
abbrev dktX1_copy_4 : List UInt8 := dkwX1_copy_4 ++ dktX1_copy_5
def dkwX1_copy_3 : List UInt8 := [61, 28, 42, 180, 0, 18, 182, 0, 60, 162, 0, 37, 43, 180, 0, 18, 28, 182, 0, 64, 192, 0, 68, 42]
abbrev dktX1_copy_3 : List UInt8 := dkwX1_copy_3 ++ dktX1_copy_4
def dkwX1_copy_2 : List UInt8 := [192, 0, 47, 78, 43, 180, 0, 12, 45, 182, 0, 49, 182, 0, 53, 87, 167, 255, 225, 43, 182, 0, 57, 3]
abbrev dktX1_copy_2 : List UInt8 := dkwX1_copy_2 ++ dktX1_copy_3
def dkwX1_copy_1 : List UInt8 := [42, 180, 0, 12, 182, 0, 33, 77, 44, 185, 0, 37, 1, 0, 153, 0, 28, 44, 185, 0, 43, 1, 0]
abbrev dktX1_copy_1 : List UInt8 := dkwX1_copy_1 ++ dktX1_copy_2
def dkwX1_copy_0 : List UInt8 := [187, 0, 13, 89, 183, 0, 25, 76, 43, 42, 180, 0, 26, 181, 0, 26, 43, 42, 180, 0, 30, 181, 0, 30]
abbrev dktX1_copy_0 : List UInt8 := dkwX1_copy_0 ++ dktX1_copy_1
theorem dksX1_copy_0 : cX1_copy.data.toList.drop 0 = dktX1_copy_0 := by decide +kernel
theorem dksX1_copy_1 : cX1_copy.data.toList.drop 24 = dktX1_copy_1 := dk_seg dksX1_copy_0 24 rfl rfl
theorem dksX1_copy_2 : cX1_copy.data.toList.drop 47 = dktX1_copy_2 := dk_seg dksX1_copy_1 23 rfl rfl
theorem dksX1_copy_3 : cX1_copy.data.toList.drop 71 = dktX1_copy_3 := dk_seg dksX1_copy_2 24 rfl rfl
theorem dksX1_copy_4 : cX1_copy.data.toList.drop 95 = dktX1_copy_4 := dk_seg dksX1_copy_3 24 rfl rfl
theorem dksX1_copy_5 : cX1_copy.data.toList.drop 119 = dktX1_copy_5 := dk_seg dksX1_copy_4 24 rfl rfl
theorem dX1_copy_0 : decode cX1_copy 0 = .ok (.new 13, 3) := dk_187 0 13 (dk_at dksX1_copy_0 0 rfl rfl)
theorem dX1_copy_3 : decode cX1_copy 3 = .ok (.dup, 1) := dk_89 (dk_at dksX1_copy_0 3 rfl rfl)
theorem dX1_copy_4 : decode cX1_copy 4 = .ok (.invokespecial 25, 3) := dk_183 0 25 (dk_at dksX1_copy_0 4 rfl rfl)
theorem dX1_copy_7 : decode cX1_copy 7 = .ok (.astore_n 1, 1) := dk_76 (dk_at dksX1_copy_0 7 rfl rfl)
theorem dX1_copy_8 : decode cX1_copy 8 = .ok (.aload_n 1, 1) := dk_43 (dk_at dksX1_copy_0 8 rfl rfl)
theorem dX1_copy_9 : decode cX1_copy 9 = .ok (.aload_n 0, 1) := dk_42 (dk_at dksX1_copy_0 9 rfl rfl)
theorem dX1_copy_10 : decode cX1_copy 10 = .ok (.getfield 26, 3) := dk_180 0 26 (dk_at dksX1_copy_0 10 rfl rfl)
theorem dX1_copy_13 : decode cX1_copy 13 = .ok (.putfield 26, 3) := dk_181 0 26 (dk_at dksX1_copy_0 13 rfl rfl)
theorem dX1_copy_16 : decode cX1_copy 16 = .ok (.aload_n 1, 1) := dk_43 (dk_at dksX1_copy_0 16 rfl rfl)
theorem dX1_copy_17 : decode cX1_copy 17 = .ok (.aload_n 0, 1) := dk_42 (dk_at dksX1_copy_0 17 rfl rfl)
theorem dX1_copy_18 : decode cX1_copy 18 = .ok (.getfield 30, 3) := dk_180 0 30 (dk_at dksX1_copy_0 18 rfl rfl)
theorem dX1_copy_21 : decode cX1_copy 21 = .ok (.putfield 30, 3) := dk_181 0 30 (dk_at dksX1_copy_0 21 rfl rfl)
theorem dX1_copy_24 : decode cX1_copy 24 = .ok (.aload_n 0, 1) := dk_42 (dk_at dksX1_copy_1 0 rfl rfl)
theorem dX1_copy_25 : decode cX1_copy 25 = .ok (.getfield 12, 3) := dk_180 0 12 (dk_at dksX1_copy_1 1 rfl rfl)
theorem dX1_copy_28 : decode cX1_copy 28 = .ok (.invokevirtual 33, 3) := dk_182 0 33 (dk_at dksX1_copy_1 4 rfl rfl)
theorem dX1_copy_31 : decode cX1_copy 31 = .ok (.astore_n 2, 1) := dk_77 (dk_at dksX1_copy_1 7 rfl rfl)
theorem dX1_copy_32 : decode cX1_copy 32 = .ok (.aload_n 2, 1) := dk_44 (dk_at dksX1_copy_1 8 rfl rfl)
theorem dX1_copy_33 : decode cX1_copy 33 = .ok (.invokeinterface 37 1, 5) := by decide +kernel
theorem dX1_copy_38 : decode cX1_copy 38 = .ok (.ifCond .eq 28, 3) := dk_153 0 28 (dk_at dksX1_copy_1 14 rfl rfl)
theorem dX1_copy_41 : decode cX1_copy 41 = .ok (.aload_n 2, 1) := dk_44 (dk_at dksX1_copy_1 17 rfl rfl)
theorem dX1_copy_42 : decode cX1_copy 42 = .ok (.invokeinterface 43 1, 5) := by decide +kernel
theorem dX1_copy_47 : decode cX1_copy 47 = .ok (.checkcast 47, 3) := dk_192 0 47 (dk_at dksX1_copy_2 0 rfl rfl)
theorem dX1_copy_50 : decode cX1_copy 50 = .ok (.astore_n 3, 1) := dk_78 (dk_at dksX1_copy_2 3 rfl rfl)
theorem dX1_copy_51 : decode cX1_copy 51 = .ok (.aload_n 1, 1) := dk_43 (dk_at dksX1_copy_2 4 rfl rfl)
theorem dX1_copy_52 : decode cX1_copy 52 = .ok (.getfield 12, 3) := dk_180 0 12 (dk_at dksX1_copy_2 5 rfl rfl)
theorem dX1_copy_55 : decode cX1_copy 55 = .ok (.aload_n 3, 1) := dk_45 (dk_at dksX1_copy_2 8 rfl rfl)
theorem dX1_copy_56 : decode cX1_copy 56 = .ok (.invokevirtual 49, 3) := dk_182 0 49 (dk_at dksX1_copy_2 9 rfl rfl)
theorem dX1_copy_59 : decode cX1_copy 59 = .ok (.invokevirtual 53, 3) := dk_182 0 53 (dk_at dksX1_copy_2 12 rfl rfl)
theorem dX1_copy_62 : decode cX1_copy 62 = .ok (.pop, 1) := dk_87 (dk_at dksX1_copy_2 15 rfl rfl)
theorem dX1_copy_63 : decode cX1_copy 63 = .ok (.goto (-31), 3) := dk_167 255 225 (dk_at dksX1_copy_2 16 rfl rfl)
theorem dX1_copy_66 : decode cX1_copy 66 = .ok (.aload_n 1, 1) := dk_43 (dk_at dksX1_copy_2 19 rfl rfl)
theorem dX1_copy_67 : decode cX1_copy 67 = .ok (.invokevirtual 57, 3) := dk_182 0 57 (dk_at dksX1_copy_2 20 rfl rfl)
theorem dX1_copy_70 : decode cX1_copy 70 = .ok (.iconst 0, 1) := dk_3 (dk_at dksX1_copy_2 23 rfl rfl)
theorem dX1_copy_71 : decode cX1_copy 71 = .ok (.istore_n 2, 1) := dk_61 (dk_at dksX1_copy_3 0 rfl rfl)
theorem dX1_copy_72 : decode cX1_copy 72 = .ok (.iload_n 2, 1) := dk_28 (dk_at dksX1_copy_3 1 rfl rfl)
theorem dX1_copy_73 : decode cX1_copy 73 = .ok (.aload_n 0, 1) := dk_42 (dk_at dksX1_copy_3 2 rfl rfl)
theorem dX1_copy_74 : decode cX1_copy 74 = .ok (.getfield 18, 3) := dk_180 0 18 (dk_at dksX1_copy_3 3 rfl rfl)
theorem dX1_copy_77 : decode cX1_copy 77 = .ok (.invokevirtual 60, 3) := dk_182 0 60 (dk_at dksX1_copy_3 6 rfl rfl)
theorem dX1_copy_80 : decode cX1_copy 80 = .ok (.if_icmp .ge 37, 3) := dk_162 0 37 (dk_at dksX1_copy_3 9 rfl rfl)
theorem dX1_copy_83 : decode cX1_copy 83 = .ok (.aload_n 1, 1) := dk_43 (dk_at dksX1_copy_3 12 rfl rfl)
theorem dX1_copy_84 : decode cX1_copy 84 = .ok (.getfield 18, 3) := dk_180 0 18 (dk_at dksX1_copy_3 13 rfl rfl)
theorem dX1_copy_87 : decode cX1_copy 87 = .ok (.iload_n 2, 1) := dk_28 (dk_at dksX1_copy_3 16 rfl rfl)
theorem dX1_copy_88 : decode cX1_copy 88 = .ok (.invokevirtual 64, 3) := dk_182 0 64 (dk_at dksX1_copy_3 17 rfl rfl)
theorem dX1_copy_91 : decode cX1_copy 91 = .ok (.checkcast 68, 3) := dk_192 0 68 (dk_at dksX1_copy_3 20 rfl rfl)
theorem dX1_copy_94 : decode cX1_copy 94 = .ok (.aload_n 0, 1) := dk_42 (dk_at dksX1_copy_3 23 rfl rfl)
theorem dX1_copy_95 : decode cX1_copy 95 = .ok (.getfield 18, 3) := dk_180 0 18 (dk_at dksX1_copy_4 0 rfl rfl)
theorem dX1_copy_98 : decode cX1_copy 98 = .ok (.iload_n 2, 1) := dk_28 (dk_at dksX1_copy_4 3 rfl rfl)
theorem dX1_copy_99 : decode cX1_copy 99 = .ok (.invokevirtual 64, 3) := dk_182 0 64 (dk_at dksX1_copy_4 4 rfl rfl)
theorem dX1_copy_102 : decode cX1_copy 102 = .ok (.checkcast 68, 3) := dk_192 0 68 (dk_at dksX1_copy_4 7 rfl rfl)
theorem dX1_copy_105 : decode cX1_copy 105 = .ok (.getfield 70, 3) := dk_180 0 70 (dk_at dksX1_copy_4 10 rfl rfl)
theorem dX1_copy_108 : decode cX1_copy 108 = .ok (.putfield 70, 3) := dk_181 0 70 (dk_at dksX1_copy_4 13 rfl rfl)
theorem dX1_copy_111 : decode cX1_copy 111 = .ok (.iinc 2 1, 3) := dk_132 2 1 (dk_at dksX1_copy_4 16 rfl rfl)
theorem dX1_copy_114 : decode cX1_copy 114 = .ok (.goto (-42), 3) := dk_167 255 214 (dk_at dksX1_copy_4 19 rfl rfl)
theorem dX1_copy_117 : decode cX1_copy 117 = .ok (.aload_n 1, 1) := dk_43 (dk_at dksX1_copy_4 22 rfl rfl)
theorem dX1_copy_118 : decode cX1_copy 118 = .ok (.aload_n 0, 1) := dk_42 (dk_at dksX1_copy_4 23 rfl rfl)
theorem dX1_copy_119 : decode cX1_copy 119 = .ok (.getfield 21, 3) := dk_180 0 21 (dk_at dksX1_copy_5 0 rfl rfl)
theorem dX1_copy_122 : decode cX1_copy 122 = .ok (.invokevirtual 74, 3) := dk_182 0 74 (dk_at dksX1_copy_5 3 rfl rfl)
theorem dX1_copy_125 : decode cX1_copy 125 = .ok (.checkcast 75, 3) := dk_192 0 75 (dk_at dksX1_copy_5 6 rfl rfl)
theorem dX1_copy_128 : decode cX1_copy 128 = .ok (.putfield 21, 3) := dk_181 0 21 (dk_at dksX1_copy_5 9 rfl rfl)
theorem dX1_copy_131 : decode cX1_copy 131 = .ok (.aload_n 1, 1) := dk_43 (dk_at dksX1_copy_5 12 rfl rfl)
theorem dX1_copy_132 : decode cX1_copy 132 = .ok (.areturn, 1) := dk_176 (dk_at dksX1_copy_5 13 rfl rfl)
abbrev cX1_sheet : ByteArray := prog_4_method_5_code
def yX1_sheet : MethodName := ⟨RX1, "sheet", "(I)LMapSheets$Sheet;"⟩
def dkwX1_sheet_0 : List UInt8 := [42, 180, 0, 12, 27, 182, 0, 64, 192, 0, 47, 176]
abbrev dktX1_sheet_0 : List UInt8 := dkwX1_sheet_0 ++ []
theorem dksX1_sheet_0 : cX1_sheet.data.toList.drop 0 = dktX1_sheet_0 := by decide +kernel
theorem dX1_sheet_0 : decode cX1_sheet 0 = .ok (.aload_n 0, 1) := dk_42 (dk_at dksX1_sheet_0 0 rfl rfl)
theorem dX1_sheet_1 : decode cX1_sheet 1 = .ok (.getfield 12, 3) := dk_180 0 12 (dk_at dksX1_sheet_0 1 rfl rfl)
theorem dX1_sheet_4 : decode cX1_sheet 4 = .ok (.iload_n 1, 1) := dk_27 (dk_at dksX1_sheet_0 4 rfl rfl)
theorem dX1_sheet_5 : decode cX1_sheet 5 = .ok (.invokevirtual 64, 3) := dk_182 0 64 (dk_at dksX1_sheet_0 5 rfl rfl)
theorem dX1_sheet_8 : decode cX1_sheet 8 = .ok (.checkcast 47, 3) := dk_192 0 47 (dk_at dksX1_sheet_0 8 rfl rfl)
theorem dX1_sheet_11 : decode cX1_sheet 11 = .ok (.areturn, 1) := dk_176 (dk_at dksX1_sheet_0 11 rfl rfl)
abbrev cX1_isGuarded : ByteArray := prog_4_method_10_code
def yX1_isGuarded : MethodName := ⟨RX1, "isGuarded", "(I)Z"⟩
def dkwX1_isGuarded_3 : List UInt8 := [167, 255, 202, 28, 172]
abbrev dktX1_isGuarded_3 : List UInt8 := dkwX1_isGuarded_3 ++ []
def dkwX1_isGuarded_2 : List UInt8 := [180, 0, 70, 153, 0, 12, 42, 25, 4, 182, 0, 122, 153, 0, 7, 4, 167, 0, 4, 3, 126, 61]
abbrev dktX1_isGuarded_2 : List UInt8 := dkwX1_isGuarded_2 ++ dktX1_isGuarded_3
def dkwX1_isGuarded_1 : List UInt8 := [185, 0, 43, 1, 0, 192, 0, 68, 58, 4, 28, 25, 4, 27, 182, 0, 85, 153, 0, 20, 25, 4]
abbrev dktX1_isGuarded_1 : List UInt8 := dkwX1_isGuarded_1 ++ dktX1_isGuarded_2
def dkwX1_isGuarded_0 : List UInt8 := [4, 61, 42, 180, 0, 18, 182, 0, 33, 78, 45, 185, 0, 37, 1, 0, 153, 0, 51, 45]
abbrev dktX1_isGuarded_0 : List UInt8 := dkwX1_isGuarded_0 ++ dktX1_isGuarded_1
theorem dksX1_isGuarded_0 : cX1_isGuarded.data.toList.drop 0 = dktX1_isGuarded_0 := by decide +kernel
theorem dksX1_isGuarded_1 : cX1_isGuarded.data.toList.drop 20 = dktX1_isGuarded_1 := dk_seg dksX1_isGuarded_0 20 rfl rfl
theorem dksX1_isGuarded_2 : cX1_isGuarded.data.toList.drop 42 = dktX1_isGuarded_2 := dk_seg dksX1_isGuarded_1 22 rfl rfl
theorem dksX1_isGuarded_3 : cX1_isGuarded.data.toList.drop 64 = dktX1_isGuarded_3 := dk_seg dksX1_isGuarded_2 22 rfl rfl
theorem dX1_isGuarded_0 : decode cX1_isGuarded 0 = .ok (.iconst 1, 1) := dk_4 (dk_at dksX1_isGuarded_0 0 rfl rfl)
theorem dX1_isGuarded_1 : decode cX1_isGuarded 1 = .ok (.istore_n 2, 1) := dk_61 (dk_at dksX1_isGuarded_0 1 rfl rfl)
theorem dX1_isGuarded_2 : decode cX1_isGuarded 2 = .ok (.aload_n 0, 1) := dk_42 (dk_at dksX1_isGuarded_0 2 rfl rfl)
theorem dX1_isGuarded_3 : decode cX1_isGuarded 3 = .ok (.getfield 18, 3) := dk_180 0 18 (dk_at dksX1_isGuarded_0 3 rfl rfl)
theorem dX1_isGuarded_6 : decode cX1_isGuarded 6 = .ok (.invokevirtual 33, 3) := dk_182 0 33 (dk_at dksX1_isGuarded_0 6 rfl rfl)
theorem dX1_isGuarded_9 : decode cX1_isGuarded 9 = .ok (.astore_n 3, 1) := dk_78 (dk_at dksX1_isGuarded_0 9 rfl rfl)
theorem dX1_isGuarded_10 : decode cX1_isGuarded 10 = .ok (.aload_n 3, 1) := dk_45 (dk_at dksX1_isGuarded_0 10 rfl rfl)
theorem dX1_isGuarded_11 : decode cX1_isGuarded 11 = .ok (.invokeinterface 37 1, 5) := by decide +kernel
theorem dX1_isGuarded_16 : decode cX1_isGuarded 16 = .ok (.ifCond .eq 51, 3) := dk_153 0 51 (dk_at dksX1_isGuarded_0 16 rfl rfl)
theorem dX1_isGuarded_19 : decode cX1_isGuarded 19 = .ok (.aload_n 3, 1) := dk_45 (dk_at dksX1_isGuarded_0 19 rfl rfl)
theorem dX1_isGuarded_20 : decode cX1_isGuarded 20 = .ok (.invokeinterface 43 1, 5) := by decide +kernel
theorem dX1_isGuarded_25 : decode cX1_isGuarded 25 = .ok (.checkcast 68, 3) := dk_192 0 68 (dk_at dksX1_isGuarded_1 5 rfl rfl)
theorem dX1_isGuarded_28 : decode cX1_isGuarded 28 = .ok (.astore 4, 2) := dk_58 4 (dk_at dksX1_isGuarded_1 8 rfl rfl)
theorem dX1_isGuarded_30 : decode cX1_isGuarded 30 = .ok (.iload_n 2, 1) := dk_28 (dk_at dksX1_isGuarded_1 10 rfl rfl)
theorem dX1_isGuarded_31 : decode cX1_isGuarded 31 = .ok (.aload 4, 2) := dk_25 4 (dk_at dksX1_isGuarded_1 11 rfl rfl)
theorem dX1_isGuarded_33 : decode cX1_isGuarded 33 = .ok (.iload_n 1, 1) := dk_27 (dk_at dksX1_isGuarded_1 13 rfl rfl)
theorem dX1_isGuarded_34 : decode cX1_isGuarded 34 = .ok (.invokevirtual 85, 3) := dk_182 0 85 (dk_at dksX1_isGuarded_1 14 rfl rfl)
theorem dX1_isGuarded_37 : decode cX1_isGuarded 37 = .ok (.ifCond .eq 20, 3) := dk_153 0 20 (dk_at dksX1_isGuarded_1 17 rfl rfl)
theorem dX1_isGuarded_40 : decode cX1_isGuarded 40 = .ok (.aload 4, 2) := dk_25 4 (dk_at dksX1_isGuarded_1 20 rfl rfl)
theorem dX1_isGuarded_42 : decode cX1_isGuarded 42 = .ok (.getfield 70, 3) := dk_180 0 70 (dk_at dksX1_isGuarded_2 0 rfl rfl)
theorem dX1_isGuarded_45 : decode cX1_isGuarded 45 = .ok (.ifCond .eq 12, 3) := dk_153 0 12 (dk_at dksX1_isGuarded_2 3 rfl rfl)
theorem dX1_isGuarded_48 : decode cX1_isGuarded 48 = .ok (.aload_n 0, 1) := dk_42 (dk_at dksX1_isGuarded_2 6 rfl rfl)
theorem dX1_isGuarded_49 : decode cX1_isGuarded 49 = .ok (.aload 4, 2) := dk_25 4 (dk_at dksX1_isGuarded_2 7 rfl rfl)
theorem dX1_isGuarded_51 : decode cX1_isGuarded 51 = .ok (.invokevirtual 122, 3) := dk_182 0 122 (dk_at dksX1_isGuarded_2 9 rfl rfl)
theorem dX1_isGuarded_54 : decode cX1_isGuarded 54 = .ok (.ifCond .eq 7, 3) := dk_153 0 7 (dk_at dksX1_isGuarded_2 12 rfl rfl)
theorem dX1_isGuarded_57 : decode cX1_isGuarded 57 = .ok (.iconst 1, 1) := dk_4 (dk_at dksX1_isGuarded_2 15 rfl rfl)
theorem dX1_isGuarded_58 : decode cX1_isGuarded 58 = .ok (.goto 4, 3) := dk_167 0 4 (dk_at dksX1_isGuarded_2 16 rfl rfl)
theorem dX1_isGuarded_61 : decode cX1_isGuarded 61 = .ok (.iconst 0, 1) := dk_3 (dk_at dksX1_isGuarded_2 19 rfl rfl)
theorem dX1_isGuarded_62 : decode cX1_isGuarded 62 = .ok (.iand, 1) := dk_126 (dk_at dksX1_isGuarded_2 20 rfl rfl)
theorem dX1_isGuarded_63 : decode cX1_isGuarded 63 = .ok (.istore_n 2, 1) := dk_61 (dk_at dksX1_isGuarded_2 21 rfl rfl)
theorem dX1_isGuarded_64 : decode cX1_isGuarded 64 = .ok (.goto (-54), 3) := dk_167 255 202 (dk_at dksX1_isGuarded_3 0 rfl rfl)
theorem dX1_isGuarded_67 : decode cX1_isGuarded 67 = .ok (.iload_n 2, 1) := dk_28 (dk_at dksX1_isGuarded_3 3 rfl rfl)
theorem dX1_isGuarded_68 : decode cX1_isGuarded 68 = .ok (.ireturn, 1) := dk_172 (dk_at dksX1_isGuarded_3 4 rfl rfl)
abbrev cX1_isClean : ByteArray := prog_4_method_9_code
def yX1_isClean : MethodName := ⟨RX1, "isClean", "(LMapSheets$Edge;)Z"⟩
def dkwX1_isClean_0 : List UInt8 := [42, 43, 182, 0, 115, 182, 0, 119, 172]
abbrev dktX1_isClean_0 : List UInt8 := dkwX1_isClean_0 ++ []
theorem dksX1_isClean_0 : cX1_isClean.data.toList.drop 0 = dktX1_isClean_0 := by decide +kernel
theorem dX1_isClean_0 : decode cX1_isClean 0 = .ok (.aload_n 0, 1) := dk_42 (dk_at dksX1_isClean_0 0 rfl rfl)
theorem dX1_isClean_1 : decode cX1_isClean 1 = .ok (.aload_n 1, 1) := dk_43 (dk_at dksX1_isClean_0 1 rfl rfl)
theorem dX1_isClean_2 : decode cX1_isClean 2 = .ok (.invokevirtual 115, 3) := dk_182 0 115 (dk_at dksX1_isClean_0 2 rfl rfl)
theorem dX1_isClean_5 : decode cX1_isClean 5 = .ok (.invokevirtual 119, 3) := dk_182 0 119 (dk_at dksX1_isClean_0 5 rfl rfl)
theorem dX1_isClean_8 : decode cX1_isClean 8 = .ok (.ireturn, 1) := dk_172 (dk_at dksX1_isClean_0 8 rfl rfl)
abbrev cX1_quarrels : ByteArray := prog_4_method_8_code
def yX1_quarrels : MethodName := ⟨RX1, "quarrels", "(LMapSheets$Edge;)Ljava/util/ArrayList;"⟩
def dkwX1_quarrels_3 : List UInt8 := [183, 0, 112, 182, 0, 53, 87, 132, 3, 1, 167, 255, 186, 44, 176]
abbrev dktX1_quarrels_3 : List UInt8 := dkwX1_quarrels_3 ++ []
def dkwX1_quarrels_2 : List UInt8 := [44, 187, 0, 110, 89, 29, 21, 4, 2, 159, 0, 9, 21, 5, 2, 160, 0, 7, 4, 167, 0, 4, 5]
abbrev dktX1_quarrels_2 : List UInt8 := dkwX1_quarrels_2 ++ dktX1_quarrels_3
def dkwX1_quarrels_1 : List UInt8 := [182, 0, 104, 54, 4, 42, 43, 43, 180, 0, 107, 29, 182, 0, 104, 54, 5, 21, 4, 21, 5, 159, 0, 33]
abbrev dktX1_quarrels_1 : List UInt8 := dkwX1_quarrels_1 ++ dktX1_quarrels_2
def dkwX1_quarrels_0 : List UInt8 := [187, 0, 9, 89, 183, 0, 11, 77, 3, 62, 29, 16, 10, 162, 0, 70, 42, 43, 43, 180, 0, 101, 29]
abbrev dktX1_quarrels_0 : List UInt8 := dkwX1_quarrels_0 ++ dktX1_quarrels_1
theorem dksX1_quarrels_0 : cX1_quarrels.data.toList.drop 0 = dktX1_quarrels_0 := by decide +kernel
theorem dksX1_quarrels_1 : cX1_quarrels.data.toList.drop 23 = dktX1_quarrels_1 := dk_seg dksX1_quarrels_0 23 rfl rfl
theorem dksX1_quarrels_2 : cX1_quarrels.data.toList.drop 47 = dktX1_quarrels_2 := dk_seg dksX1_quarrels_1 24 rfl rfl
theorem dksX1_quarrels_3 : cX1_quarrels.data.toList.drop 70 = dktX1_quarrels_3 := dk_seg dksX1_quarrels_2 23 rfl rfl
theorem dX1_quarrels_0 : decode cX1_quarrels 0 = .ok (.new 9, 3) := dk_187 0 9 (dk_at dksX1_quarrels_0 0 rfl rfl)
theorem dX1_quarrels_3 : decode cX1_quarrels 3 = .ok (.dup, 1) := dk_89 (dk_at dksX1_quarrels_0 3 rfl rfl)
theorem dX1_quarrels_4 : decode cX1_quarrels 4 = .ok (.invokespecial 11, 3) := dk_183 0 11 (dk_at dksX1_quarrels_0 4 rfl rfl)
theorem dX1_quarrels_7 : decode cX1_quarrels 7 = .ok (.astore_n 2, 1) := dk_77 (dk_at dksX1_quarrels_0 7 rfl rfl)
theorem dX1_quarrels_8 : decode cX1_quarrels 8 = .ok (.iconst 0, 1) := dk_3 (dk_at dksX1_quarrels_0 8 rfl rfl)
theorem dX1_quarrels_9 : decode cX1_quarrels 9 = .ok (.istore_n 3, 1) := dk_62 (dk_at dksX1_quarrels_0 9 rfl rfl)
theorem dX1_quarrels_10 : decode cX1_quarrels 10 = .ok (.iload_n 3, 1) := dk_29 (dk_at dksX1_quarrels_0 10 rfl rfl)
theorem dX1_quarrels_11 : decode cX1_quarrels 11 = .ok (.bipush 10, 2) := dk_16 10 (dk_at dksX1_quarrels_0 11 rfl rfl)
theorem dX1_quarrels_13 : decode cX1_quarrels 13 = .ok (.if_icmp .ge 70, 3) := dk_162 0 70 (dk_at dksX1_quarrels_0 13 rfl rfl)
theorem dX1_quarrels_16 : decode cX1_quarrels 16 = .ok (.aload_n 0, 1) := dk_42 (dk_at dksX1_quarrels_0 16 rfl rfl)
theorem dX1_quarrels_17 : decode cX1_quarrels 17 = .ok (.aload_n 1, 1) := dk_43 (dk_at dksX1_quarrels_0 17 rfl rfl)
theorem dX1_quarrels_18 : decode cX1_quarrels 18 = .ok (.aload_n 1, 1) := dk_43 (dk_at dksX1_quarrels_0 18 rfl rfl)
theorem dX1_quarrels_19 : decode cX1_quarrels 19 = .ok (.getfield 101, 3) := dk_180 0 101 (dk_at dksX1_quarrels_0 19 rfl rfl)
theorem dX1_quarrels_22 : decode cX1_quarrels 22 = .ok (.iload_n 3, 1) := dk_29 (dk_at dksX1_quarrels_0 22 rfl rfl)
theorem dX1_quarrels_23 : decode cX1_quarrels 23 = .ok (.invokevirtual 104, 3) := dk_182 0 104 (dk_at dksX1_quarrels_1 0 rfl rfl)
theorem dX1_quarrels_26 : decode cX1_quarrels 26 = .ok (.istore 4, 2) := dk_54 4 (dk_at dksX1_quarrels_1 3 rfl rfl)
theorem dX1_quarrels_28 : decode cX1_quarrels 28 = .ok (.aload_n 0, 1) := dk_42 (dk_at dksX1_quarrels_1 5 rfl rfl)
theorem dX1_quarrels_29 : decode cX1_quarrels 29 = .ok (.aload_n 1, 1) := dk_43 (dk_at dksX1_quarrels_1 6 rfl rfl)
theorem dX1_quarrels_30 : decode cX1_quarrels 30 = .ok (.aload_n 1, 1) := dk_43 (dk_at dksX1_quarrels_1 7 rfl rfl)
theorem dX1_quarrels_31 : decode cX1_quarrels 31 = .ok (.getfield 107, 3) := dk_180 0 107 (dk_at dksX1_quarrels_1 8 rfl rfl)
theorem dX1_quarrels_34 : decode cX1_quarrels 34 = .ok (.iload_n 3, 1) := dk_29 (dk_at dksX1_quarrels_1 11 rfl rfl)
theorem dX1_quarrels_35 : decode cX1_quarrels 35 = .ok (.invokevirtual 104, 3) := dk_182 0 104 (dk_at dksX1_quarrels_1 12 rfl rfl)
theorem dX1_quarrels_38 : decode cX1_quarrels 38 = .ok (.istore 5, 2) := dk_54 5 (dk_at dksX1_quarrels_1 15 rfl rfl)
theorem dX1_quarrels_40 : decode cX1_quarrels 40 = .ok (.iload 4, 2) := dk_21 4 (dk_at dksX1_quarrels_1 17 rfl rfl)
theorem dX1_quarrels_42 : decode cX1_quarrels 42 = .ok (.iload 5, 2) := dk_21 5 (dk_at dksX1_quarrels_1 19 rfl rfl)
theorem dX1_quarrels_44 : decode cX1_quarrels 44 = .ok (.if_icmp .eq 33, 3) := dk_159 0 33 (dk_at dksX1_quarrels_1 21 rfl rfl)
theorem dX1_quarrels_47 : decode cX1_quarrels 47 = .ok (.aload_n 2, 1) := dk_44 (dk_at dksX1_quarrels_2 0 rfl rfl)
theorem dX1_quarrels_48 : decode cX1_quarrels 48 = .ok (.new 110, 3) := dk_187 0 110 (dk_at dksX1_quarrels_2 1 rfl rfl)
theorem dX1_quarrels_51 : decode cX1_quarrels 51 = .ok (.dup, 1) := dk_89 (dk_at dksX1_quarrels_2 4 rfl rfl)
theorem dX1_quarrels_52 : decode cX1_quarrels 52 = .ok (.iload_n 3, 1) := dk_29 (dk_at dksX1_quarrels_2 5 rfl rfl)
theorem dX1_quarrels_53 : decode cX1_quarrels 53 = .ok (.iload 4, 2) := dk_21 4 (dk_at dksX1_quarrels_2 6 rfl rfl)
theorem dX1_quarrels_55 : decode cX1_quarrels 55 = .ok (.iconst (-1), 1) := dk_2 (dk_at dksX1_quarrels_2 8 rfl rfl)
theorem dX1_quarrels_56 : decode cX1_quarrels 56 = .ok (.if_icmp .eq 9, 3) := dk_159 0 9 (dk_at dksX1_quarrels_2 9 rfl rfl)
theorem dX1_quarrels_59 : decode cX1_quarrels 59 = .ok (.iload 5, 2) := dk_21 5 (dk_at dksX1_quarrels_2 12 rfl rfl)
theorem dX1_quarrels_61 : decode cX1_quarrels 61 = .ok (.iconst (-1), 1) := dk_2 (dk_at dksX1_quarrels_2 14 rfl rfl)
theorem dX1_quarrels_62 : decode cX1_quarrels 62 = .ok (.if_icmp .ne 7, 3) := dk_160 0 7 (dk_at dksX1_quarrels_2 15 rfl rfl)
theorem dX1_quarrels_65 : decode cX1_quarrels 65 = .ok (.iconst 1, 1) := dk_4 (dk_at dksX1_quarrels_2 18 rfl rfl)
theorem dX1_quarrels_66 : decode cX1_quarrels 66 = .ok (.goto 4, 3) := dk_167 0 4 (dk_at dksX1_quarrels_2 19 rfl rfl)
theorem dX1_quarrels_69 : decode cX1_quarrels 69 = .ok (.iconst 2, 1) := dk_5 (dk_at dksX1_quarrels_2 22 rfl rfl)
theorem dX1_quarrels_70 : decode cX1_quarrels 70 = .ok (.invokespecial 112, 3) := dk_183 0 112 (dk_at dksX1_quarrels_3 0 rfl rfl)
theorem dX1_quarrels_73 : decode cX1_quarrels 73 = .ok (.invokevirtual 53, 3) := dk_182 0 53 (dk_at dksX1_quarrels_3 3 rfl rfl)
theorem dX1_quarrels_76 : decode cX1_quarrels 76 = .ok (.pop, 1) := dk_87 (dk_at dksX1_quarrels_3 6 rfl rfl)
theorem dX1_quarrels_77 : decode cX1_quarrels 77 = .ok (.iinc 3 1, 3) := dk_132 3 1 (dk_at dksX1_quarrels_3 7 rfl rfl)
theorem dX1_quarrels_80 : decode cX1_quarrels 80 = .ok (.goto (-70), 3) := dk_167 255 186 (dk_at dksX1_quarrels_3 10 rfl rfl)
theorem dX1_quarrels_83 : decode cX1_quarrels 83 = .ok (.aload_n 2, 1) := dk_44 (dk_at dksX1_quarrels_3 13 rfl rfl)
theorem dX1_quarrels_84 : decode cX1_quarrels 84 = .ok (.areturn, 1) := dk_176 (dk_at dksX1_quarrels_3 14 rfl rfl)
abbrev cX1_meant : ByteArray := prog_4_method_7_code
def yX1_meant : MethodName := ⟨RX1, "meant", "(LMapSheets$Edge;II)I"⟩
def dkwX1_meant_0 : List UInt8 := [42, 28, 182, 0, 93, 43, 28, 182, 0, 89, 29, 182, 0, 97, 172]
abbrev dktX1_meant_0 : List UInt8 := dkwX1_meant_0 ++ []
theorem dksX1_meant_0 : cX1_meant.data.toList.drop 0 = dktX1_meant_0 := by decide +kernel
theorem dX1_meant_0 : decode cX1_meant 0 = .ok (.aload_n 0, 1) := dk_42 (dk_at dksX1_meant_0 0 rfl rfl)
theorem dX1_meant_1 : decode cX1_meant 1 = .ok (.iload_n 2, 1) := dk_28 (dk_at dksX1_meant_0 1 rfl rfl)
theorem dX1_meant_2 : decode cX1_meant 2 = .ok (.invokevirtual 93, 3) := dk_182 0 93 (dk_at dksX1_meant_0 2 rfl rfl)
theorem dX1_meant_5 : decode cX1_meant 5 = .ok (.aload_n 1, 1) := dk_43 (dk_at dksX1_meant_0 5 rfl rfl)
theorem dX1_meant_6 : decode cX1_meant 6 = .ok (.iload_n 2, 1) := dk_28 (dk_at dksX1_meant_0 6 rfl rfl)
theorem dX1_meant_7 : decode cX1_meant 7 = .ok (.invokevirtual 89, 3) := dk_182 0 89 (dk_at dksX1_meant_0 7 rfl rfl)
theorem dX1_meant_10 : decode cX1_meant 10 = .ok (.iload_n 3, 1) := dk_29 (dk_at dksX1_meant_0 10 rfl rfl)
theorem dX1_meant_11 : decode cX1_meant 11 = .ok (.invokevirtual 97, 3) := dk_182 0 97 (dk_at dksX1_meant_0 11 rfl rfl)
theorem dX1_meant_14 : decode cX1_meant 14 = .ok (.ireturn, 1) := dk_172 (dk_at dksX1_meant_0 14 rfl rfl)
abbrev cX1_letGo : ByteArray := prog_4_method_11_code
def yX1_letGo : MethodName := ⟨RX1, "letGo", "(I)V"⟩
def dkwX1_letGo_2 : List UInt8 := [153, 0, 7, 4, 167, 0, 4, 3, 126, 181, 0, 70, 167, 255, 207, 177]
abbrev dktX1_letGo_2 : List UInt8 := dkwX1_letGo_2 ++ []
def dkwX1_letGo_1 : List UInt8 := [192, 0, 68, 78, 45, 89, 180, 0, 70, 45, 27, 182, 0, 85, 153, 0, 11, 42, 45, 182, 0, 122]
abbrev dktX1_letGo_1 : List UInt8 := dkwX1_letGo_1 ++ dktX1_letGo_2
def dkwX1_letGo_0 : List UInt8 := [42, 180, 0, 18, 182, 0, 33, 77, 44, 185, 0, 37, 1, 0, 153, 0, 46, 44, 185, 0, 43, 1, 0]
abbrev dktX1_letGo_0 : List UInt8 := dkwX1_letGo_0 ++ dktX1_letGo_1
theorem dksX1_letGo_0 : cX1_letGo.data.toList.drop 0 = dktX1_letGo_0 := by decide +kernel
theorem dksX1_letGo_1 : cX1_letGo.data.toList.drop 23 = dktX1_letGo_1 := dk_seg dksX1_letGo_0 23 rfl rfl
theorem dksX1_letGo_2 : cX1_letGo.data.toList.drop 45 = dktX1_letGo_2 := dk_seg dksX1_letGo_1 22 rfl rfl
theorem dX1_letGo_0 : decode cX1_letGo 0 = .ok (.aload_n 0, 1) := dk_42 (dk_at dksX1_letGo_0 0 rfl rfl)
theorem dX1_letGo_1 : decode cX1_letGo 1 = .ok (.getfield 18, 3) := dk_180 0 18 (dk_at dksX1_letGo_0 1 rfl rfl)
theorem dX1_letGo_4 : decode cX1_letGo 4 = .ok (.invokevirtual 33, 3) := dk_182 0 33 (dk_at dksX1_letGo_0 4 rfl rfl)
theorem dX1_letGo_7 : decode cX1_letGo 7 = .ok (.astore_n 2, 1) := dk_77 (dk_at dksX1_letGo_0 7 rfl rfl)
theorem dX1_letGo_8 : decode cX1_letGo 8 = .ok (.aload_n 2, 1) := dk_44 (dk_at dksX1_letGo_0 8 rfl rfl)
theorem dX1_letGo_9 : decode cX1_letGo 9 = .ok (.invokeinterface 37 1, 5) := by decide +kernel
theorem dX1_letGo_14 : decode cX1_letGo 14 = .ok (.ifCond .eq 46, 3) := dk_153 0 46 (dk_at dksX1_letGo_0 14 rfl rfl)
theorem dX1_letGo_17 : decode cX1_letGo 17 = .ok (.aload_n 2, 1) := dk_44 (dk_at dksX1_letGo_0 17 rfl rfl)
theorem dX1_letGo_18 : decode cX1_letGo 18 = .ok (.invokeinterface 43 1, 5) := by decide +kernel
theorem dX1_letGo_23 : decode cX1_letGo 23 = .ok (.checkcast 68, 3) := dk_192 0 68 (dk_at dksX1_letGo_1 0 rfl rfl)
theorem dX1_letGo_26 : decode cX1_letGo 26 = .ok (.astore_n 3, 1) := dk_78 (dk_at dksX1_letGo_1 3 rfl rfl)
theorem dX1_letGo_27 : decode cX1_letGo 27 = .ok (.aload_n 3, 1) := dk_45 (dk_at dksX1_letGo_1 4 rfl rfl)
theorem dX1_letGo_28 : decode cX1_letGo 28 = .ok (.dup, 1) := dk_89 (dk_at dksX1_letGo_1 5 rfl rfl)
theorem dX1_letGo_29 : decode cX1_letGo 29 = .ok (.getfield 70, 3) := dk_180 0 70 (dk_at dksX1_letGo_1 6 rfl rfl)
theorem dX1_letGo_32 : decode cX1_letGo 32 = .ok (.aload_n 3, 1) := dk_45 (dk_at dksX1_letGo_1 9 rfl rfl)
theorem dX1_letGo_33 : decode cX1_letGo 33 = .ok (.iload_n 1, 1) := dk_27 (dk_at dksX1_letGo_1 10 rfl rfl)
theorem dX1_letGo_34 : decode cX1_letGo 34 = .ok (.invokevirtual 85, 3) := dk_182 0 85 (dk_at dksX1_letGo_1 11 rfl rfl)
theorem dX1_letGo_37 : decode cX1_letGo 37 = .ok (.ifCond .eq 11, 3) := dk_153 0 11 (dk_at dksX1_letGo_1 14 rfl rfl)
theorem dX1_letGo_40 : decode cX1_letGo 40 = .ok (.aload_n 0, 1) := dk_42 (dk_at dksX1_letGo_1 17 rfl rfl)
theorem dX1_letGo_41 : decode cX1_letGo 41 = .ok (.aload_n 3, 1) := dk_45 (dk_at dksX1_letGo_1 18 rfl rfl)
theorem dX1_letGo_42 : decode cX1_letGo 42 = .ok (.invokevirtual 122, 3) := dk_182 0 122 (dk_at dksX1_letGo_1 19 rfl rfl)
theorem dX1_letGo_45 : decode cX1_letGo 45 = .ok (.ifCond .eq 7, 3) := dk_153 0 7 (dk_at dksX1_letGo_2 0 rfl rfl)
theorem dX1_letGo_48 : decode cX1_letGo 48 = .ok (.iconst 1, 1) := dk_4 (dk_at dksX1_letGo_2 3 rfl rfl)
theorem dX1_letGo_49 : decode cX1_letGo 49 = .ok (.goto 4, 3) := dk_167 0 4 (dk_at dksX1_letGo_2 4 rfl rfl)
theorem dX1_letGo_52 : decode cX1_letGo 52 = .ok (.iconst 0, 1) := dk_3 (dk_at dksX1_letGo_2 7 rfl rfl)
theorem dX1_letGo_53 : decode cX1_letGo 53 = .ok (.iand, 1) := dk_126 (dk_at dksX1_letGo_2 8 rfl rfl)
theorem dX1_letGo_54 : decode cX1_letGo 54 = .ok (.putfield 70, 3) := dk_181 0 70 (dk_at dksX1_letGo_2 9 rfl rfl)
theorem dX1_letGo_57 : decode cX1_letGo 57 = .ok (.goto (-49), 3) := dk_167 255 207 (dk_at dksX1_letGo_2 12 rfl rfl)
theorem dX1_letGo_60 : decode cX1_letGo 60 = .ok (.return_, 1) := dk_177 (dk_at dksX1_letGo_2 15 rfl rfl)
abbrev cX1_edgesOf : ByteArray := prog_4_method_12_code
def yX1_edgesOf : MethodName := ⟨RX1, "edgesOf", "(IZ)I"⟩
def dkwX1_edgesOf_2 : List UInt8 := [25, 5, 180, 0, 70, 153, 0, 7, 4, 167, 0, 4, 3, 96, 62, 167, 255, 205, 29, 172]
abbrev dktX1_edgesOf_2 : List UInt8 := dkwX1_edgesOf_2 ++ []
def dkwX1_edgesOf_1 : List UInt8 := [185, 0, 43, 1, 0, 192, 0, 68, 58, 5, 29, 25, 5, 27, 182, 0, 85, 153, 0, 19, 28, 153, 0, 11]
abbrev dktX1_edgesOf_1 : List UInt8 := dkwX1_edgesOf_1 ++ dktX1_edgesOf_2
def dkwX1_edgesOf_0 : List UInt8 := [3, 62, 42, 180, 0, 18, 182, 0, 33, 58, 4, 25, 4, 185, 0, 37, 1, 0, 153, 0, 47, 25, 4]
abbrev dktX1_edgesOf_0 : List UInt8 := dkwX1_edgesOf_0 ++ dktX1_edgesOf_1
theorem dksX1_edgesOf_0 : cX1_edgesOf.data.toList.drop 0 = dktX1_edgesOf_0 := by decide +kernel
theorem dksX1_edgesOf_1 : cX1_edgesOf.data.toList.drop 23 = dktX1_edgesOf_1 := dk_seg dksX1_edgesOf_0 23 rfl rfl
theorem dksX1_edgesOf_2 : cX1_edgesOf.data.toList.drop 47 = dktX1_edgesOf_2 := dk_seg dksX1_edgesOf_1 24 rfl rfl
theorem dX1_edgesOf_0 : decode cX1_edgesOf 0 = .ok (.iconst 0, 1) := dk_3 (dk_at dksX1_edgesOf_0 0 rfl rfl)
theorem dX1_edgesOf_1 : decode cX1_edgesOf 1 = .ok (.istore_n 3, 1) := dk_62 (dk_at dksX1_edgesOf_0 1 rfl rfl)
theorem dX1_edgesOf_2 : decode cX1_edgesOf 2 = .ok (.aload_n 0, 1) := dk_42 (dk_at dksX1_edgesOf_0 2 rfl rfl)
theorem dX1_edgesOf_3 : decode cX1_edgesOf 3 = .ok (.getfield 18, 3) := dk_180 0 18 (dk_at dksX1_edgesOf_0 3 rfl rfl)
theorem dX1_edgesOf_6 : decode cX1_edgesOf 6 = .ok (.invokevirtual 33, 3) := dk_182 0 33 (dk_at dksX1_edgesOf_0 6 rfl rfl)
theorem dX1_edgesOf_9 : decode cX1_edgesOf 9 = .ok (.astore 4, 2) := dk_58 4 (dk_at dksX1_edgesOf_0 9 rfl rfl)
theorem dX1_edgesOf_11 : decode cX1_edgesOf 11 = .ok (.aload 4, 2) := dk_25 4 (dk_at dksX1_edgesOf_0 11 rfl rfl)
theorem dX1_edgesOf_13 : decode cX1_edgesOf 13 = .ok (.invokeinterface 37 1, 5) := by decide +kernel
theorem dX1_edgesOf_18 : decode cX1_edgesOf 18 = .ok (.ifCond .eq 47, 3) := dk_153 0 47 (dk_at dksX1_edgesOf_0 18 rfl rfl)
theorem dX1_edgesOf_21 : decode cX1_edgesOf 21 = .ok (.aload 4, 2) := dk_25 4 (dk_at dksX1_edgesOf_0 21 rfl rfl)
theorem dX1_edgesOf_23 : decode cX1_edgesOf 23 = .ok (.invokeinterface 43 1, 5) := by decide +kernel
theorem dX1_edgesOf_28 : decode cX1_edgesOf 28 = .ok (.checkcast 68, 3) := dk_192 0 68 (dk_at dksX1_edgesOf_1 5 rfl rfl)
theorem dX1_edgesOf_31 : decode cX1_edgesOf 31 = .ok (.astore 5, 2) := dk_58 5 (dk_at dksX1_edgesOf_1 8 rfl rfl)
theorem dX1_edgesOf_33 : decode cX1_edgesOf 33 = .ok (.iload_n 3, 1) := dk_29 (dk_at dksX1_edgesOf_1 10 rfl rfl)
theorem dX1_edgesOf_34 : decode cX1_edgesOf 34 = .ok (.aload 5, 2) := dk_25 5 (dk_at dksX1_edgesOf_1 11 rfl rfl)
theorem dX1_edgesOf_36 : decode cX1_edgesOf 36 = .ok (.iload_n 1, 1) := dk_27 (dk_at dksX1_edgesOf_1 13 rfl rfl)
theorem dX1_edgesOf_37 : decode cX1_edgesOf 37 = .ok (.invokevirtual 85, 3) := dk_182 0 85 (dk_at dksX1_edgesOf_1 14 rfl rfl)
theorem dX1_edgesOf_40 : decode cX1_edgesOf 40 = .ok (.ifCond .eq 19, 3) := dk_153 0 19 (dk_at dksX1_edgesOf_1 17 rfl rfl)
theorem dX1_edgesOf_43 : decode cX1_edgesOf 43 = .ok (.iload_n 2, 1) := dk_28 (dk_at dksX1_edgesOf_1 20 rfl rfl)
theorem dX1_edgesOf_44 : decode cX1_edgesOf 44 = .ok (.ifCond .eq 11, 3) := dk_153 0 11 (dk_at dksX1_edgesOf_1 21 rfl rfl)
theorem dX1_edgesOf_47 : decode cX1_edgesOf 47 = .ok (.aload 5, 2) := dk_25 5 (dk_at dksX1_edgesOf_2 0 rfl rfl)
theorem dX1_edgesOf_49 : decode cX1_edgesOf 49 = .ok (.getfield 70, 3) := dk_180 0 70 (dk_at dksX1_edgesOf_2 2 rfl rfl)
theorem dX1_edgesOf_52 : decode cX1_edgesOf 52 = .ok (.ifCond .eq 7, 3) := dk_153 0 7 (dk_at dksX1_edgesOf_2 5 rfl rfl)
theorem dX1_edgesOf_55 : decode cX1_edgesOf 55 = .ok (.iconst 1, 1) := dk_4 (dk_at dksX1_edgesOf_2 8 rfl rfl)
theorem dX1_edgesOf_56 : decode cX1_edgesOf 56 = .ok (.goto 4, 3) := dk_167 0 4 (dk_at dksX1_edgesOf_2 9 rfl rfl)
theorem dX1_edgesOf_59 : decode cX1_edgesOf 59 = .ok (.iconst 0, 1) := dk_3 (dk_at dksX1_edgesOf_2 12 rfl rfl)
theorem dX1_edgesOf_60 : decode cX1_edgesOf 60 = .ok (.iadd, 1) := dk_96 (dk_at dksX1_edgesOf_2 13 rfl rfl)
theorem dX1_edgesOf_61 : decode cX1_edgesOf 61 = .ok (.istore_n 3, 1) := dk_62 (dk_at dksX1_edgesOf_2 14 rfl rfl)
theorem dX1_edgesOf_62 : decode cX1_edgesOf 62 = .ok (.goto (-51), 3) := dk_167 255 205 (dk_at dksX1_edgesOf_2 15 rfl rfl)
theorem dX1_edgesOf_65 : decode cX1_edgesOf 65 = .ok (.iload_n 3, 1) := dk_29 (dk_at dksX1_edgesOf_2 18 rfl rfl)
theorem dX1_edgesOf_66 : decode cX1_edgesOf 66 = .ok (.ireturn, 1) := dk_172 (dk_at dksX1_edgesOf_2 19 rfl rfl)
abbrev cX1_blocks : ByteArray := prog_4_method_13_code
def yX1_blocks : MethodName := ⟨RX1, "blocks", "()[I"⟩
def dkwX1_blocks_7 : List UInt8 := [167, 0, 10, 43, 25, 4, 180, 0, 107, 46, 79, 167, 255, 130, 167, 255, 113, 43, 176]
abbrev dktX1_blocks_7 : List UInt8 := dkwX1_blocks_7 ++ []
def dkwX1_blocks_6 : List UInt8 := [25, 4, 180, 0, 101, 46, 79, 43, 25, 4, 180, 0, 107, 25, 4, 180, 0, 70, 153, 0, 8, 21, 5]
abbrev dktX1_blocks_6 : List UInt8 := dkwX1_blocks_6 ++ dktX1_blocks_7
def dkwX1_blocks_5 : List UInt8 := [3, 128, 61, 43, 25, 4, 180, 0, 101, 25, 4, 180, 0, 70, 153, 0, 8, 21, 5, 167, 0, 10, 43]
abbrev dktX1_blocks_5 : List UInt8 := dkwX1_blocks_5 ++ dktX1_blocks_6
def dkwX1_blocks_4 : List UInt8 := [153, 0, 24, 43, 25, 4, 180, 0, 101, 46, 43, 25, 4, 180, 0, 107, 46, 159, 0, 7, 4, 167, 0, 4]
abbrev dktX1_blocks_4 : List UInt8 := dkwX1_blocks_4 ++ dktX1_blocks_5
def dkwX1_blocks_3 : List UInt8 := [180, 0, 101, 46, 43, 25, 4, 180, 0, 107, 46, 184, 0, 126, 54, 5, 28, 25, 4, 180, 0, 70]
abbrev dktX1_blocks_3 : List UInt8 := dkwX1_blocks_3 ++ dktX1_blocks_4
def dkwX1_blocks_2 : List UInt8 := [185, 0, 37, 1, 0, 153, 0, 123, 45, 185, 0, 43, 1, 0, 192, 0, 68, 58, 4, 43, 25, 4]
abbrev dktX1_blocks_2 : List UInt8 := dkwX1_blocks_2 ++ dktX1_blocks_3
def dkwX1_blocks_1 : List UInt8 := [132, 2, 1, 167, 255, 243, 4, 61, 28, 153, 0, 145, 3, 61, 42, 180, 0, 18, 182, 0, 33, 78, 45]
abbrev dktX1_blocks_1 : List UInt8 := dkwX1_blocks_1 ++ dktX1_blocks_2
def dkwX1_blocks_0 : List UInt8 := [42, 180, 0, 12, 182, 0, 60, 188, 10, 76, 3, 61, 28, 43, 190, 162, 0, 13, 43, 28, 28, 79]
abbrev dktX1_blocks_0 : List UInt8 := dkwX1_blocks_0 ++ dktX1_blocks_1
theorem dksX1_blocks_0 : cX1_blocks.data.toList.drop 0 = dktX1_blocks_0 := by decide +kernel
theorem dksX1_blocks_1 : cX1_blocks.data.toList.drop 22 = dktX1_blocks_1 := dk_seg dksX1_blocks_0 22 rfl rfl
theorem dksX1_blocks_2 : cX1_blocks.data.toList.drop 45 = dktX1_blocks_2 := dk_seg dksX1_blocks_1 23 rfl rfl
theorem dksX1_blocks_3 : cX1_blocks.data.toList.drop 67 = dktX1_blocks_3 := dk_seg dksX1_blocks_2 22 rfl rfl
theorem dksX1_blocks_4 : cX1_blocks.data.toList.drop 89 = dktX1_blocks_4 := dk_seg dksX1_blocks_3 22 rfl rfl
theorem dksX1_blocks_5 : cX1_blocks.data.toList.drop 113 = dktX1_blocks_5 := dk_seg dksX1_blocks_4 24 rfl rfl
theorem dksX1_blocks_6 : cX1_blocks.data.toList.drop 136 = dktX1_blocks_6 := dk_seg dksX1_blocks_5 23 rfl rfl
theorem dksX1_blocks_7 : cX1_blocks.data.toList.drop 159 = dktX1_blocks_7 := dk_seg dksX1_blocks_6 23 rfl rfl
theorem dX1_blocks_0 : decode cX1_blocks 0 = .ok (.aload_n 0, 1) := dk_42 (dk_at dksX1_blocks_0 0 rfl rfl)
theorem dX1_blocks_1 : decode cX1_blocks 1 = .ok (.getfield 12, 3) := dk_180 0 12 (dk_at dksX1_blocks_0 1 rfl rfl)
theorem dX1_blocks_4 : decode cX1_blocks 4 = .ok (.invokevirtual 60, 3) := dk_182 0 60 (dk_at dksX1_blocks_0 4 rfl rfl)
theorem dX1_blocks_7 : decode cX1_blocks 7 = .ok (.newarray .int, 2) := dk_188_10 (dk_at dksX1_blocks_0 7 rfl rfl)
theorem dX1_blocks_9 : decode cX1_blocks 9 = .ok (.astore_n 1, 1) := dk_76 (dk_at dksX1_blocks_0 9 rfl rfl)
theorem dX1_blocks_10 : decode cX1_blocks 10 = .ok (.iconst 0, 1) := dk_3 (dk_at dksX1_blocks_0 10 rfl rfl)
theorem dX1_blocks_11 : decode cX1_blocks 11 = .ok (.istore_n 2, 1) := dk_61 (dk_at dksX1_blocks_0 11 rfl rfl)
theorem dX1_blocks_12 : decode cX1_blocks 12 = .ok (.iload_n 2, 1) := dk_28 (dk_at dksX1_blocks_0 12 rfl rfl)
theorem dX1_blocks_13 : decode cX1_blocks 13 = .ok (.aload_n 1, 1) := dk_43 (dk_at dksX1_blocks_0 13 rfl rfl)
theorem dX1_blocks_14 : decode cX1_blocks 14 = .ok (.arraylength, 1) := dk_190 (dk_at dksX1_blocks_0 14 rfl rfl)
theorem dX1_blocks_15 : decode cX1_blocks 15 = .ok (.if_icmp .ge 13, 3) := dk_162 0 13 (dk_at dksX1_blocks_0 15 rfl rfl)
theorem dX1_blocks_18 : decode cX1_blocks 18 = .ok (.aload_n 1, 1) := dk_43 (dk_at dksX1_blocks_0 18 rfl rfl)
theorem dX1_blocks_19 : decode cX1_blocks 19 = .ok (.iload_n 2, 1) := dk_28 (dk_at dksX1_blocks_0 19 rfl rfl)
theorem dX1_blocks_20 : decode cX1_blocks 20 = .ok (.iload_n 2, 1) := dk_28 (dk_at dksX1_blocks_0 20 rfl rfl)
theorem dX1_blocks_21 : decode cX1_blocks 21 = .ok (.iastore, 1) := dk_79 (dk_at dksX1_blocks_0 21 rfl rfl)
theorem dX1_blocks_22 : decode cX1_blocks 22 = .ok (.iinc 2 1, 3) := dk_132 2 1 (dk_at dksX1_blocks_1 0 rfl rfl)
theorem dX1_blocks_25 : decode cX1_blocks 25 = .ok (.goto (-13), 3) := dk_167 255 243 (dk_at dksX1_blocks_1 3 rfl rfl)
theorem dX1_blocks_28 : decode cX1_blocks 28 = .ok (.iconst 1, 1) := dk_4 (dk_at dksX1_blocks_1 6 rfl rfl)
theorem dX1_blocks_29 : decode cX1_blocks 29 = .ok (.istore_n 2, 1) := dk_61 (dk_at dksX1_blocks_1 7 rfl rfl)
theorem dX1_blocks_30 : decode cX1_blocks 30 = .ok (.iload_n 2, 1) := dk_28 (dk_at dksX1_blocks_1 8 rfl rfl)
theorem dX1_blocks_31 : decode cX1_blocks 31 = .ok (.ifCond .eq 145, 3) := dk_153 0 145 (dk_at dksX1_blocks_1 9 rfl rfl)
theorem dX1_blocks_34 : decode cX1_blocks 34 = .ok (.iconst 0, 1) := dk_3 (dk_at dksX1_blocks_1 12 rfl rfl)
theorem dX1_blocks_35 : decode cX1_blocks 35 = .ok (.istore_n 2, 1) := dk_61 (dk_at dksX1_blocks_1 13 rfl rfl)
theorem dX1_blocks_36 : decode cX1_blocks 36 = .ok (.aload_n 0, 1) := dk_42 (dk_at dksX1_blocks_1 14 rfl rfl)
theorem dX1_blocks_37 : decode cX1_blocks 37 = .ok (.getfield 18, 3) := dk_180 0 18 (dk_at dksX1_blocks_1 15 rfl rfl)
theorem dX1_blocks_40 : decode cX1_blocks 40 = .ok (.invokevirtual 33, 3) := dk_182 0 33 (dk_at dksX1_blocks_1 18 rfl rfl)
theorem dX1_blocks_43 : decode cX1_blocks 43 = .ok (.astore_n 3, 1) := dk_78 (dk_at dksX1_blocks_1 21 rfl rfl)
theorem dX1_blocks_44 : decode cX1_blocks 44 = .ok (.aload_n 3, 1) := dk_45 (dk_at dksX1_blocks_1 22 rfl rfl)
theorem dX1_blocks_45 : decode cX1_blocks 45 = .ok (.invokeinterface 37 1, 5) := by decide +kernel
theorem dX1_blocks_50 : decode cX1_blocks 50 = .ok (.ifCond .eq 123, 3) := dk_153 0 123 (dk_at dksX1_blocks_2 5 rfl rfl)
theorem dX1_blocks_53 : decode cX1_blocks 53 = .ok (.aload_n 3, 1) := dk_45 (dk_at dksX1_blocks_2 8 rfl rfl)
theorem dX1_blocks_54 : decode cX1_blocks 54 = .ok (.invokeinterface 43 1, 5) := by decide +kernel
theorem dX1_blocks_59 : decode cX1_blocks 59 = .ok (.checkcast 68, 3) := dk_192 0 68 (dk_at dksX1_blocks_2 14 rfl rfl)
theorem dX1_blocks_62 : decode cX1_blocks 62 = .ok (.astore 4, 2) := dk_58 4 (dk_at dksX1_blocks_2 17 rfl rfl)
theorem dX1_blocks_64 : decode cX1_blocks 64 = .ok (.aload_n 1, 1) := dk_43 (dk_at dksX1_blocks_2 19 rfl rfl)
theorem dX1_blocks_65 : decode cX1_blocks 65 = .ok (.aload 4, 2) := dk_25 4 (dk_at dksX1_blocks_2 20 rfl rfl)
theorem dX1_blocks_67 : decode cX1_blocks 67 = .ok (.getfield 101, 3) := dk_180 0 101 (dk_at dksX1_blocks_3 0 rfl rfl)
theorem dX1_blocks_70 : decode cX1_blocks 70 = .ok (.iaload, 1) := dk_46 (dk_at dksX1_blocks_3 3 rfl rfl)
theorem dX1_blocks_71 : decode cX1_blocks 71 = .ok (.aload_n 1, 1) := dk_43 (dk_at dksX1_blocks_3 4 rfl rfl)
theorem dX1_blocks_72 : decode cX1_blocks 72 = .ok (.aload 4, 2) := dk_25 4 (dk_at dksX1_blocks_3 5 rfl rfl)
theorem dX1_blocks_74 : decode cX1_blocks 74 = .ok (.getfield 107, 3) := dk_180 0 107 (dk_at dksX1_blocks_3 7 rfl rfl)
theorem dX1_blocks_77 : decode cX1_blocks 77 = .ok (.iaload, 1) := dk_46 (dk_at dksX1_blocks_3 10 rfl rfl)
theorem dX1_blocks_78 : decode cX1_blocks 78 = .ok (.invokestatic 126, 3) := dk_184 0 126 (dk_at dksX1_blocks_3 11 rfl rfl)
theorem dX1_blocks_81 : decode cX1_blocks 81 = .ok (.istore 5, 2) := dk_54 5 (dk_at dksX1_blocks_3 14 rfl rfl)
theorem dX1_blocks_83 : decode cX1_blocks 83 = .ok (.iload_n 2, 1) := dk_28 (dk_at dksX1_blocks_3 16 rfl rfl)
theorem dX1_blocks_84 : decode cX1_blocks 84 = .ok (.aload 4, 2) := dk_25 4 (dk_at dksX1_blocks_3 17 rfl rfl)
theorem dX1_blocks_86 : decode cX1_blocks 86 = .ok (.getfield 70, 3) := dk_180 0 70 (dk_at dksX1_blocks_3 19 rfl rfl)
theorem dX1_blocks_89 : decode cX1_blocks 89 = .ok (.ifCond .eq 24, 3) := dk_153 0 24 (dk_at dksX1_blocks_4 0 rfl rfl)
theorem dX1_blocks_92 : decode cX1_blocks 92 = .ok (.aload_n 1, 1) := dk_43 (dk_at dksX1_blocks_4 3 rfl rfl)
theorem dX1_blocks_93 : decode cX1_blocks 93 = .ok (.aload 4, 2) := dk_25 4 (dk_at dksX1_blocks_4 4 rfl rfl)
theorem dX1_blocks_95 : decode cX1_blocks 95 = .ok (.getfield 101, 3) := dk_180 0 101 (dk_at dksX1_blocks_4 6 rfl rfl)
theorem dX1_blocks_98 : decode cX1_blocks 98 = .ok (.iaload, 1) := dk_46 (dk_at dksX1_blocks_4 9 rfl rfl)
theorem dX1_blocks_99 : decode cX1_blocks 99 = .ok (.aload_n 1, 1) := dk_43 (dk_at dksX1_blocks_4 10 rfl rfl)
theorem dX1_blocks_100 : decode cX1_blocks 100 = .ok (.aload 4, 2) := dk_25 4 (dk_at dksX1_blocks_4 11 rfl rfl)
theorem dX1_blocks_102 : decode cX1_blocks 102 = .ok (.getfield 107, 3) := dk_180 0 107 (dk_at dksX1_blocks_4 13 rfl rfl)
theorem dX1_blocks_105 : decode cX1_blocks 105 = .ok (.iaload, 1) := dk_46 (dk_at dksX1_blocks_4 16 rfl rfl)
theorem dX1_blocks_106 : decode cX1_blocks 106 = .ok (.if_icmp .eq 7, 3) := dk_159 0 7 (dk_at dksX1_blocks_4 17 rfl rfl)
theorem dX1_blocks_109 : decode cX1_blocks 109 = .ok (.iconst 1, 1) := dk_4 (dk_at dksX1_blocks_4 20 rfl rfl)
theorem dX1_blocks_110 : decode cX1_blocks 110 = .ok (.goto 4, 3) := dk_167 0 4 (dk_at dksX1_blocks_4 21 rfl rfl)
theorem dX1_blocks_113 : decode cX1_blocks 113 = .ok (.iconst 0, 1) := dk_3 (dk_at dksX1_blocks_5 0 rfl rfl)
theorem dX1_blocks_114 : decode cX1_blocks 114 = .ok (.ior, 1) := dk_128 (dk_at dksX1_blocks_5 1 rfl rfl)
theorem dX1_blocks_115 : decode cX1_blocks 115 = .ok (.istore_n 2, 1) := dk_61 (dk_at dksX1_blocks_5 2 rfl rfl)
theorem dX1_blocks_116 : decode cX1_blocks 116 = .ok (.aload_n 1, 1) := dk_43 (dk_at dksX1_blocks_5 3 rfl rfl)
theorem dX1_blocks_117 : decode cX1_blocks 117 = .ok (.aload 4, 2) := dk_25 4 (dk_at dksX1_blocks_5 4 rfl rfl)
theorem dX1_blocks_119 : decode cX1_blocks 119 = .ok (.getfield 101, 3) := dk_180 0 101 (dk_at dksX1_blocks_5 6 rfl rfl)
theorem dX1_blocks_122 : decode cX1_blocks 122 = .ok (.aload 4, 2) := dk_25 4 (dk_at dksX1_blocks_5 9 rfl rfl)
theorem dX1_blocks_124 : decode cX1_blocks 124 = .ok (.getfield 70, 3) := dk_180 0 70 (dk_at dksX1_blocks_5 11 rfl rfl)
theorem dX1_blocks_127 : decode cX1_blocks 127 = .ok (.ifCond .eq 8, 3) := dk_153 0 8 (dk_at dksX1_blocks_5 14 rfl rfl)
theorem dX1_blocks_130 : decode cX1_blocks 130 = .ok (.iload 5, 2) := dk_21 5 (dk_at dksX1_blocks_5 17 rfl rfl)
theorem dX1_blocks_132 : decode cX1_blocks 132 = .ok (.goto 10, 3) := dk_167 0 10 (dk_at dksX1_blocks_5 19 rfl rfl)
theorem dX1_blocks_135 : decode cX1_blocks 135 = .ok (.aload_n 1, 1) := dk_43 (dk_at dksX1_blocks_5 22 rfl rfl)
theorem dX1_blocks_136 : decode cX1_blocks 136 = .ok (.aload 4, 2) := dk_25 4 (dk_at dksX1_blocks_6 0 rfl rfl)
theorem dX1_blocks_138 : decode cX1_blocks 138 = .ok (.getfield 101, 3) := dk_180 0 101 (dk_at dksX1_blocks_6 2 rfl rfl)
theorem dX1_blocks_141 : decode cX1_blocks 141 = .ok (.iaload, 1) := dk_46 (dk_at dksX1_blocks_6 5 rfl rfl)
theorem dX1_blocks_142 : decode cX1_blocks 142 = .ok (.iastore, 1) := dk_79 (dk_at dksX1_blocks_6 6 rfl rfl)
theorem dX1_blocks_143 : decode cX1_blocks 143 = .ok (.aload_n 1, 1) := dk_43 (dk_at dksX1_blocks_6 7 rfl rfl)
theorem dX1_blocks_144 : decode cX1_blocks 144 = .ok (.aload 4, 2) := dk_25 4 (dk_at dksX1_blocks_6 8 rfl rfl)
theorem dX1_blocks_146 : decode cX1_blocks 146 = .ok (.getfield 107, 3) := dk_180 0 107 (dk_at dksX1_blocks_6 10 rfl rfl)
theorem dX1_blocks_149 : decode cX1_blocks 149 = .ok (.aload 4, 2) := dk_25 4 (dk_at dksX1_blocks_6 13 rfl rfl)
theorem dX1_blocks_151 : decode cX1_blocks 151 = .ok (.getfield 70, 3) := dk_180 0 70 (dk_at dksX1_blocks_6 15 rfl rfl)
theorem dX1_blocks_154 : decode cX1_blocks 154 = .ok (.ifCond .eq 8, 3) := dk_153 0 8 (dk_at dksX1_blocks_6 18 rfl rfl)
theorem dX1_blocks_157 : decode cX1_blocks 157 = .ok (.iload 5, 2) := dk_21 5 (dk_at dksX1_blocks_6 21 rfl rfl)
theorem dX1_blocks_159 : decode cX1_blocks 159 = .ok (.goto 10, 3) := dk_167 0 10 (dk_at dksX1_blocks_7 0 rfl rfl)
theorem dX1_blocks_162 : decode cX1_blocks 162 = .ok (.aload_n 1, 1) := dk_43 (dk_at dksX1_blocks_7 3 rfl rfl)
theorem dX1_blocks_163 : decode cX1_blocks 163 = .ok (.aload 4, 2) := dk_25 4 (dk_at dksX1_blocks_7 4 rfl rfl)
theorem dX1_blocks_165 : decode cX1_blocks 165 = .ok (.getfield 107, 3) := dk_180 0 107 (dk_at dksX1_blocks_7 6 rfl rfl)
theorem dX1_blocks_168 : decode cX1_blocks 168 = .ok (.iaload, 1) := dk_46 (dk_at dksX1_blocks_7 9 rfl rfl)
theorem dX1_blocks_169 : decode cX1_blocks 169 = .ok (.iastore, 1) := dk_79 (dk_at dksX1_blocks_7 10 rfl rfl)
theorem dX1_blocks_170 : decode cX1_blocks 170 = .ok (.goto (-126), 3) := dk_167 255 130 (dk_at dksX1_blocks_7 11 rfl rfl)
theorem dX1_blocks_173 : decode cX1_blocks 173 = .ok (.goto (-143), 3) := dk_167 255 113 (dk_at dksX1_blocks_7 14 rfl rfl)
theorem dX1_blocks_176 : decode cX1_blocks 176 = .ok (.aload_n 1, 1) := dk_43 (dk_at dksX1_blocks_7 17 rfl rfl)
theorem dX1_blocks_177 : decode cX1_blocks 177 = .ok (.areturn, 1) := dk_176 (dk_at dksX1_blocks_7 18 rfl rfl)
abbrev cX1_fits : ByteArray := prog_4_method_16_code
def yX1_fits : MethodName := ⟨RX1, "fits", "(LMapSheets$Edge;)Z"⟩
def dkwX1_fits_1 : List UInt8 := [180, 0, 21, 4, 46, 135, 20, 0, 143, 111, 152, 157, 0, 7, 4, 167, 0, 4, 3, 172]
abbrev dktX1_fits_1 : List UInt8 := dkwX1_fits_1 ++ []
def dkwX1_fits_0 : List UInt8 := [42, 43, 182, 0, 139, 141, 15, 103, 73, 40, 14, 152, 156, 0, 8, 40, 119, 167, 0, 4, 40, 42]
abbrev dktX1_fits_0 : List UInt8 := dkwX1_fits_0 ++ dktX1_fits_1
theorem dksX1_fits_0 : cX1_fits.data.toList.drop 0 = dktX1_fits_0 := by decide +kernel
theorem dksX1_fits_1 : cX1_fits.data.toList.drop 22 = dktX1_fits_1 := dk_seg dksX1_fits_0 22 rfl rfl
theorem dX1_fits_0 : decode cX1_fits 0 = .ok (.aload_n 0, 1) := dk_42 (dk_at dksX1_fits_0 0 rfl rfl)
theorem dX1_fits_1 : decode cX1_fits 1 = .ok (.aload_n 1, 1) := dk_43 (dk_at dksX1_fits_0 1 rfl rfl)
theorem dX1_fits_2 : decode cX1_fits 2 = .ok (.invokevirtual 139, 3) := dk_182 0 139 (dk_at dksX1_fits_0 2 rfl rfl)
theorem dX1_fits_5 : decode cX1_fits 5 = .ok (.f2d, 1) := dk_141 (dk_at dksX1_fits_0 5 rfl rfl)
theorem dX1_fits_6 : decode cX1_fits 6 = .ok (.dconst 1, 1) := dk_15 (dk_at dksX1_fits_0 6 rfl rfl)
theorem dX1_fits_7 : decode cX1_fits 7 = .ok (.dsub, 1) := dk_103 (dk_at dksX1_fits_0 7 rfl rfl)
theorem dX1_fits_8 : decode cX1_fits 8 = .ok (.dstore_n 2, 1) := dk_73 (dk_at dksX1_fits_0 8 rfl rfl)
theorem dX1_fits_9 : decode cX1_fits 9 = .ok (.dload_n 2, 1) := dk_40 (dk_at dksX1_fits_0 9 rfl rfl)
theorem dX1_fits_10 : decode cX1_fits 10 = .ok (.dconst 0, 1) := dk_14 (dk_at dksX1_fits_0 10 rfl rfl)
theorem dX1_fits_11 : decode cX1_fits 11 = .ok (.dcmp .g, 1) := dk_152 (dk_at dksX1_fits_0 11 rfl rfl)
theorem dX1_fits_12 : decode cX1_fits 12 = .ok (.ifCond .ge 8, 3) := dk_156 0 8 (dk_at dksX1_fits_0 12 rfl rfl)
theorem dX1_fits_15 : decode cX1_fits 15 = .ok (.dload_n 2, 1) := dk_40 (dk_at dksX1_fits_0 15 rfl rfl)
theorem dX1_fits_16 : decode cX1_fits 16 = .ok (.dneg, 1) := dk_119 (dk_at dksX1_fits_0 16 rfl rfl)
theorem dX1_fits_17 : decode cX1_fits 17 = .ok (.goto 4, 3) := dk_167 0 4 (dk_at dksX1_fits_0 17 rfl rfl)
theorem dX1_fits_20 : decode cX1_fits 20 = .ok (.dload_n 2, 1) := dk_40 (dk_at dksX1_fits_0 20 rfl rfl)
theorem dX1_fits_21 : decode cX1_fits 21 = .ok (.aload_n 0, 1) := dk_42 (dk_at dksX1_fits_0 21 rfl rfl)
theorem dX1_fits_22 : decode cX1_fits 22 = .ok (.getfield 21, 3) := dk_180 0 21 (dk_at dksX1_fits_1 0 rfl rfl)
theorem dX1_fits_25 : decode cX1_fits 25 = .ok (.iconst 1, 1) := dk_4 (dk_at dksX1_fits_1 3 rfl rfl)
theorem dX1_fits_26 : decode cX1_fits 26 = .ok (.iaload, 1) := dk_46 (dk_at dksX1_fits_1 4 rfl rfl)
theorem dX1_fits_27 : decode cX1_fits 27 = .ok (.i2d, 1) := dk_135 (dk_at dksX1_fits_1 5 rfl rfl)
theorem dX1_fits_28 : decode cX1_fits 28 = .ok (.ldc2_w 143, 3) := dk_20 0 143 (dk_at dksX1_fits_1 6 rfl rfl)
theorem dX1_fits_31 : decode cX1_fits 31 = .ok (.ddiv, 1) := dk_111 (dk_at dksX1_fits_1 9 rfl rfl)
theorem dX1_fits_32 : decode cX1_fits 32 = .ok (.dcmp .g, 1) := dk_152 (dk_at dksX1_fits_1 10 rfl rfl)
theorem dX1_fits_33 : decode cX1_fits 33 = .ok (.ifCond .gt 7, 3) := dk_157 0 7 (dk_at dksX1_fits_1 11 rfl rfl)
theorem dX1_fits_36 : decode cX1_fits 36 = .ok (.iconst 1, 1) := dk_4 (dk_at dksX1_fits_1 14 rfl rfl)
theorem dX1_fits_37 : decode cX1_fits 37 = .ok (.goto 4, 3) := dk_167 0 4 (dk_at dksX1_fits_1 15 rfl rfl)
theorem dX1_fits_40 : decode cX1_fits 40 = .ok (.iconst 0, 1) := dk_3 (dk_at dksX1_fits_1 18 rfl rfl)
theorem dX1_fits_41 : decode cX1_fits 41 = .ok (.ireturn, 1) := dk_172 (dk_at dksX1_fits_1 19 rfl rfl)
abbrev cX1_ratio : ByteArray := prog_4_method_15_code
def yX1_ratio : MethodName := ⟨RX1, "ratio", "(LMapSheets$Edge;)F"⟩
def dkwX1_ratio_0 : List UInt8 := [42, 43, 180, 0, 101, 182, 0, 93, 180, 0, 135, 42, 43, 180, 0, 107, 182, 0, 93, 180, 0, 135, 110, 174]
abbrev dktX1_ratio_0 : List UInt8 := dkwX1_ratio_0 ++ []
theorem dksX1_ratio_0 : cX1_ratio.data.toList.drop 0 = dktX1_ratio_0 := by decide +kernel
theorem dX1_ratio_0 : decode cX1_ratio 0 = .ok (.aload_n 0, 1) := dk_42 (dk_at dksX1_ratio_0 0 rfl rfl)
theorem dX1_ratio_1 : decode cX1_ratio 1 = .ok (.aload_n 1, 1) := dk_43 (dk_at dksX1_ratio_0 1 rfl rfl)
theorem dX1_ratio_2 : decode cX1_ratio 2 = .ok (.getfield 101, 3) := dk_180 0 101 (dk_at dksX1_ratio_0 2 rfl rfl)
theorem dX1_ratio_5 : decode cX1_ratio 5 = .ok (.invokevirtual 93, 3) := dk_182 0 93 (dk_at dksX1_ratio_0 5 rfl rfl)
theorem dX1_ratio_8 : decode cX1_ratio 8 = .ok (.getfield 135, 3) := dk_180 0 135 (dk_at dksX1_ratio_0 8 rfl rfl)
theorem dX1_ratio_11 : decode cX1_ratio 11 = .ok (.aload_n 0, 1) := dk_42 (dk_at dksX1_ratio_0 11 rfl rfl)
theorem dX1_ratio_12 : decode cX1_ratio 12 = .ok (.aload_n 1, 1) := dk_43 (dk_at dksX1_ratio_0 12 rfl rfl)
theorem dX1_ratio_13 : decode cX1_ratio 13 = .ok (.getfield 107, 3) := dk_180 0 107 (dk_at dksX1_ratio_0 13 rfl rfl)
theorem dX1_ratio_16 : decode cX1_ratio 16 = .ok (.invokevirtual 93, 3) := dk_182 0 93 (dk_at dksX1_ratio_0 16 rfl rfl)
theorem dX1_ratio_19 : decode cX1_ratio 19 = .ok (.getfield 135, 3) := dk_180 0 135 (dk_at dksX1_ratio_0 19 rfl rfl)
theorem dX1_ratio_22 : decode cX1_ratio 22 = .ok (.fdiv, 1) := dk_110 (dk_at dksX1_ratio_0 22 rfl rfl)
theorem dX1_ratio_23 : decode cX1_ratio 23 = .ok (.freturn, 1) := dk_174 (dk_at dksX1_ratio_0 23 rfl rfl)
abbrev cX1_blockMany : ByteArray := prog_4_method_14_code
def yX1_blockMany : MethodName := ⟨RX1, "blockMany", "()I"⟩
def dkwX1_blockMany_1 : List UInt8 := [167, 0, 4, 3, 96, 61, 132, 3, 1, 167, 255, 232, 28, 172]
abbrev dktX1_blockMany_1 : List UInt8 := dkwX1_blockMany_1 ++ []
def dkwX1_blockMany_0 : List UInt8 := [42, 182, 0, 131, 76, 3, 61, 3, 62, 29, 43, 190, 162, 0, 24, 28, 43, 29, 46, 29, 160, 0, 7, 4]
abbrev dktX1_blockMany_0 : List UInt8 := dkwX1_blockMany_0 ++ dktX1_blockMany_1
theorem dksX1_blockMany_0 : cX1_blockMany.data.toList.drop 0 = dktX1_blockMany_0 := by decide +kernel
theorem dksX1_blockMany_1 : cX1_blockMany.data.toList.drop 24 = dktX1_blockMany_1 := dk_seg dksX1_blockMany_0 24 rfl rfl
theorem dX1_blockMany_0 : decode cX1_blockMany 0 = .ok (.aload_n 0, 1) := dk_42 (dk_at dksX1_blockMany_0 0 rfl rfl)
theorem dX1_blockMany_1 : decode cX1_blockMany 1 = .ok (.invokevirtual 131, 3) := dk_182 0 131 (dk_at dksX1_blockMany_0 1 rfl rfl)
theorem dX1_blockMany_4 : decode cX1_blockMany 4 = .ok (.astore_n 1, 1) := dk_76 (dk_at dksX1_blockMany_0 4 rfl rfl)
theorem dX1_blockMany_5 : decode cX1_blockMany 5 = .ok (.iconst 0, 1) := dk_3 (dk_at dksX1_blockMany_0 5 rfl rfl)
theorem dX1_blockMany_6 : decode cX1_blockMany 6 = .ok (.istore_n 2, 1) := dk_61 (dk_at dksX1_blockMany_0 6 rfl rfl)
theorem dX1_blockMany_7 : decode cX1_blockMany 7 = .ok (.iconst 0, 1) := dk_3 (dk_at dksX1_blockMany_0 7 rfl rfl)
theorem dX1_blockMany_8 : decode cX1_blockMany 8 = .ok (.istore_n 3, 1) := dk_62 (dk_at dksX1_blockMany_0 8 rfl rfl)
theorem dX1_blockMany_9 : decode cX1_blockMany 9 = .ok (.iload_n 3, 1) := dk_29 (dk_at dksX1_blockMany_0 9 rfl rfl)
theorem dX1_blockMany_10 : decode cX1_blockMany 10 = .ok (.aload_n 1, 1) := dk_43 (dk_at dksX1_blockMany_0 10 rfl rfl)
theorem dX1_blockMany_11 : decode cX1_blockMany 11 = .ok (.arraylength, 1) := dk_190 (dk_at dksX1_blockMany_0 11 rfl rfl)
theorem dX1_blockMany_12 : decode cX1_blockMany 12 = .ok (.if_icmp .ge 24, 3) := dk_162 0 24 (dk_at dksX1_blockMany_0 12 rfl rfl)
theorem dX1_blockMany_15 : decode cX1_blockMany 15 = .ok (.iload_n 2, 1) := dk_28 (dk_at dksX1_blockMany_0 15 rfl rfl)
theorem dX1_blockMany_16 : decode cX1_blockMany 16 = .ok (.aload_n 1, 1) := dk_43 (dk_at dksX1_blockMany_0 16 rfl rfl)
theorem dX1_blockMany_17 : decode cX1_blockMany 17 = .ok (.iload_n 3, 1) := dk_29 (dk_at dksX1_blockMany_0 17 rfl rfl)
theorem dX1_blockMany_18 : decode cX1_blockMany 18 = .ok (.iaload, 1) := dk_46 (dk_at dksX1_blockMany_0 18 rfl rfl)
theorem dX1_blockMany_19 : decode cX1_blockMany 19 = .ok (.iload_n 3, 1) := dk_29 (dk_at dksX1_blockMany_0 19 rfl rfl)
theorem dX1_blockMany_20 : decode cX1_blockMany 20 = .ok (.if_icmp .ne 7, 3) := dk_160 0 7 (dk_at dksX1_blockMany_0 20 rfl rfl)
theorem dX1_blockMany_23 : decode cX1_blockMany 23 = .ok (.iconst 1, 1) := dk_4 (dk_at dksX1_blockMany_0 23 rfl rfl)
theorem dX1_blockMany_24 : decode cX1_blockMany 24 = .ok (.goto 4, 3) := dk_167 0 4 (dk_at dksX1_blockMany_1 0 rfl rfl)
theorem dX1_blockMany_27 : decode cX1_blockMany 27 = .ok (.iconst 0, 1) := dk_3 (dk_at dksX1_blockMany_1 3 rfl rfl)
theorem dX1_blockMany_28 : decode cX1_blockMany 28 = .ok (.iadd, 1) := dk_96 (dk_at dksX1_blockMany_1 4 rfl rfl)
theorem dX1_blockMany_29 : decode cX1_blockMany 29 = .ok (.istore_n 2, 1) := dk_61 (dk_at dksX1_blockMany_1 5 rfl rfl)
theorem dX1_blockMany_30 : decode cX1_blockMany 30 = .ok (.iinc 3 1, 3) := dk_132 3 1 (dk_at dksX1_blockMany_1 6 rfl rfl)
theorem dX1_blockMany_33 : decode cX1_blockMany 33 = .ok (.goto (-24), 3) := dk_167 255 232 (dk_at dksX1_blockMany_1 9 rfl rfl)
theorem dX1_blockMany_36 : decode cX1_blockMany 36 = .ok (.iload_n 2, 1) := dk_28 (dk_at dksX1_blockMany_1 12 rfl rfl)
theorem dX1_blockMany_37 : decode cX1_blockMany 37 = .ok (.ireturn, 1) := dk_172 (dk_at dksX1_blockMany_1 13 rfl rfl)
abbrev cX1_edgeAt : ByteArray := prog_4_method_6_code
def yX1_edgeAt : MethodName := ⟨RX1, "edgeAt", "(II)LMapSheets$Edge;"⟩
def dkwX1_edgeAt_2 : List UInt8 := [25, 4, 176, 167, 255, 214, 1, 176]
abbrev dktX1_edgeAt_2 : List UInt8 := dkwX1_edgeAt_2 ++ []
def dkwX1_edgeAt_1 : List UInt8 := [192, 0, 68, 58, 4, 25, 4, 27, 182, 0, 85, 153, 0, 16, 25, 4, 27, 182, 0, 89, 28, 160, 0, 6]
abbrev dktX1_edgeAt_1 : List UInt8 := dkwX1_edgeAt_1 ++ dktX1_edgeAt_2
def dkwX1_edgeAt_0 : List UInt8 := [42, 180, 0, 18, 182, 0, 33, 78, 45, 185, 0, 37, 1, 0, 153, 0, 39, 45, 185, 0, 43, 1, 0]
abbrev dktX1_edgeAt_0 : List UInt8 := dkwX1_edgeAt_0 ++ dktX1_edgeAt_1
theorem dksX1_edgeAt_0 : cX1_edgeAt.data.toList.drop 0 = dktX1_edgeAt_0 := by decide +kernel
theorem dksX1_edgeAt_1 : cX1_edgeAt.data.toList.drop 23 = dktX1_edgeAt_1 := dk_seg dksX1_edgeAt_0 23 rfl rfl
theorem dksX1_edgeAt_2 : cX1_edgeAt.data.toList.drop 47 = dktX1_edgeAt_2 := dk_seg dksX1_edgeAt_1 24 rfl rfl
theorem dX1_edgeAt_0 : decode cX1_edgeAt 0 = .ok (.aload_n 0, 1) := dk_42 (dk_at dksX1_edgeAt_0 0 rfl rfl)
theorem dX1_edgeAt_1 : decode cX1_edgeAt 1 = .ok (.getfield 18, 3) := dk_180 0 18 (dk_at dksX1_edgeAt_0 1 rfl rfl)
theorem dX1_edgeAt_4 : decode cX1_edgeAt 4 = .ok (.invokevirtual 33, 3) := dk_182 0 33 (dk_at dksX1_edgeAt_0 4 rfl rfl)
theorem dX1_edgeAt_7 : decode cX1_edgeAt 7 = .ok (.astore_n 3, 1) := dk_78 (dk_at dksX1_edgeAt_0 7 rfl rfl)
theorem dX1_edgeAt_8 : decode cX1_edgeAt 8 = .ok (.aload_n 3, 1) := dk_45 (dk_at dksX1_edgeAt_0 8 rfl rfl)
theorem dX1_edgeAt_9 : decode cX1_edgeAt 9 = .ok (.invokeinterface 37 1, 5) := by decide +kernel
theorem dX1_edgeAt_14 : decode cX1_edgeAt 14 = .ok (.ifCond .eq 39, 3) := dk_153 0 39 (dk_at dksX1_edgeAt_0 14 rfl rfl)
theorem dX1_edgeAt_17 : decode cX1_edgeAt 17 = .ok (.aload_n 3, 1) := dk_45 (dk_at dksX1_edgeAt_0 17 rfl rfl)
theorem dX1_edgeAt_18 : decode cX1_edgeAt 18 = .ok (.invokeinterface 43 1, 5) := by decide +kernel
theorem dX1_edgeAt_23 : decode cX1_edgeAt 23 = .ok (.checkcast 68, 3) := dk_192 0 68 (dk_at dksX1_edgeAt_1 0 rfl rfl)
theorem dX1_edgeAt_26 : decode cX1_edgeAt 26 = .ok (.astore 4, 2) := dk_58 4 (dk_at dksX1_edgeAt_1 3 rfl rfl)
theorem dX1_edgeAt_28 : decode cX1_edgeAt 28 = .ok (.aload 4, 2) := dk_25 4 (dk_at dksX1_edgeAt_1 5 rfl rfl)
theorem dX1_edgeAt_30 : decode cX1_edgeAt 30 = .ok (.iload_n 1, 1) := dk_27 (dk_at dksX1_edgeAt_1 7 rfl rfl)
theorem dX1_edgeAt_31 : decode cX1_edgeAt 31 = .ok (.invokevirtual 85, 3) := dk_182 0 85 (dk_at dksX1_edgeAt_1 8 rfl rfl)
theorem dX1_edgeAt_34 : decode cX1_edgeAt 34 = .ok (.ifCond .eq 16, 3) := dk_153 0 16 (dk_at dksX1_edgeAt_1 11 rfl rfl)
theorem dX1_edgeAt_37 : decode cX1_edgeAt 37 = .ok (.aload 4, 2) := dk_25 4 (dk_at dksX1_edgeAt_1 14 rfl rfl)
theorem dX1_edgeAt_39 : decode cX1_edgeAt 39 = .ok (.iload_n 1, 1) := dk_27 (dk_at dksX1_edgeAt_1 16 rfl rfl)
theorem dX1_edgeAt_40 : decode cX1_edgeAt 40 = .ok (.invokevirtual 89, 3) := dk_182 0 89 (dk_at dksX1_edgeAt_1 17 rfl rfl)
theorem dX1_edgeAt_43 : decode cX1_edgeAt 43 = .ok (.iload_n 2, 1) := dk_28 (dk_at dksX1_edgeAt_1 20 rfl rfl)
theorem dX1_edgeAt_44 : decode cX1_edgeAt 44 = .ok (.if_icmp .ne 6, 3) := dk_160 0 6 (dk_at dksX1_edgeAt_1 21 rfl rfl)
theorem dX1_edgeAt_47 : decode cX1_edgeAt 47 = .ok (.aload 4, 2) := dk_25 4 (dk_at dksX1_edgeAt_2 0 rfl rfl)
theorem dX1_edgeAt_49 : decode cX1_edgeAt 49 = .ok (.areturn, 1) := dk_176 (dk_at dksX1_edgeAt_2 2 rfl rfl)
theorem dX1_edgeAt_50 : decode cX1_edgeAt 50 = .ok (.goto (-42), 3) := dk_167 255 214 (dk_at dksX1_edgeAt_2 3 rfl rfl)
theorem dX1_edgeAt_53 : decode cX1_edgeAt 53 = .ok (.aconst_null, 1) := dk_1 (dk_at dksX1_edgeAt_2 6 rfl rfl)
theorem dX1_edgeAt_54 : decode cX1_edgeAt 54 = .ok (.areturn, 1) := dk_176 (dk_at dksX1_edgeAt_2 7 rfl rfl)
abbrev cX1_settle : ByteArray := prog_4_method_17_code
def yX1_settle : MethodName := ⟨RX1, "settle", "(LMapSheets$Edge;I)I"⟩
def dkwX1_settle_5 : List UInt8 := [45, 89, 180, 0, 156, 21, 6, 158, 0, 7, 4, 167, 0, 4, 3, 96, 181, 0, 156, 21, 6, 172]
abbrev dktX1_settle_5 : List UInt8 := dkwX1_settle_5 ++ []
def dkwX1_settle_4 : List UInt8 := [54, 6, 25, 5, 21, 7, 21, 8, 79, 132, 7, 1, 167, 255, 193, 45, 180, 0, 148, 21, 4, 25, 5, 83]
abbrev dktX1_settle_4 : List UInt8 := dkwX1_settle_4 ++ dktX1_settle_5
def dkwX1_settle_3 : List UInt8 := [162, 0, 5, 2, 172, 21, 6, 21, 8, 25, 5, 21, 7, 46, 160, 0, 7, 3, 167, 0, 4, 4, 96]
abbrev dktX1_settle_3 : List UInt8 := dkwX1_settle_3 ++ dktX1_settle_4
def dkwX1_settle_2 : List UInt8 := [162, 0, 62, 45, 21, 4, 21, 7, 42, 43, 28, 21, 7, 182, 0, 104, 182, 0, 152, 54, 8, 21, 8, 2]
abbrev dktX1_settle_2 : List UInt8 := dkwX1_settle_2 ++ dktX1_settle_3
def dkwX1_settle_1 : List UInt8 := [180, 0, 148, 21, 4, 50, 182, 0, 74, 192, 0, 75, 58, 5, 3, 54, 6, 3, 54, 7, 21, 7, 16, 10]
abbrev dktX1_settle_1 : List UInt8 := dkwX1_settle_1 ++ dktX1_settle_2
def dkwX1_settle_0 : List UInt8 := [42, 43, 28, 182, 0, 145, 182, 0, 93, 78, 43, 43, 28, 182, 0, 145, 182, 0, 89, 54, 4, 45]
abbrev dktX1_settle_0 : List UInt8 := dkwX1_settle_0 ++ dktX1_settle_1
theorem dksX1_settle_0 : cX1_settle.data.toList.drop 0 = dktX1_settle_0 := by decide +kernel
theorem dksX1_settle_1 : cX1_settle.data.toList.drop 22 = dktX1_settle_1 := dk_seg dksX1_settle_0 22 rfl rfl
theorem dksX1_settle_2 : cX1_settle.data.toList.drop 46 = dktX1_settle_2 := dk_seg dksX1_settle_1 24 rfl rfl
theorem dksX1_settle_3 : cX1_settle.data.toList.drop 70 = dktX1_settle_3 := dk_seg dksX1_settle_2 24 rfl rfl
theorem dksX1_settle_4 : cX1_settle.data.toList.drop 93 = dktX1_settle_4 := dk_seg dksX1_settle_3 23 rfl rfl
theorem dksX1_settle_5 : cX1_settle.data.toList.drop 117 = dktX1_settle_5 := dk_seg dksX1_settle_4 24 rfl rfl
theorem dX1_settle_0 : decode cX1_settle 0 = .ok (.aload_n 0, 1) := dk_42 (dk_at dksX1_settle_0 0 rfl rfl)
theorem dX1_settle_1 : decode cX1_settle 1 = .ok (.aload_n 1, 1) := dk_43 (dk_at dksX1_settle_0 1 rfl rfl)
theorem dX1_settle_2 : decode cX1_settle 2 = .ok (.iload_n 2, 1) := dk_28 (dk_at dksX1_settle_0 2 rfl rfl)
theorem dX1_settle_3 : decode cX1_settle 3 = .ok (.invokevirtual 145, 3) := dk_182 0 145 (dk_at dksX1_settle_0 3 rfl rfl)
theorem dX1_settle_6 : decode cX1_settle 6 = .ok (.invokevirtual 93, 3) := dk_182 0 93 (dk_at dksX1_settle_0 6 rfl rfl)
theorem dX1_settle_9 : decode cX1_settle 9 = .ok (.astore_n 3, 1) := dk_78 (dk_at dksX1_settle_0 9 rfl rfl)
theorem dX1_settle_10 : decode cX1_settle 10 = .ok (.aload_n 1, 1) := dk_43 (dk_at dksX1_settle_0 10 rfl rfl)
theorem dX1_settle_11 : decode cX1_settle 11 = .ok (.aload_n 1, 1) := dk_43 (dk_at dksX1_settle_0 11 rfl rfl)
theorem dX1_settle_12 : decode cX1_settle 12 = .ok (.iload_n 2, 1) := dk_28 (dk_at dksX1_settle_0 12 rfl rfl)
theorem dX1_settle_13 : decode cX1_settle 13 = .ok (.invokevirtual 145, 3) := dk_182 0 145 (dk_at dksX1_settle_0 13 rfl rfl)
theorem dX1_settle_16 : decode cX1_settle 16 = .ok (.invokevirtual 89, 3) := dk_182 0 89 (dk_at dksX1_settle_0 16 rfl rfl)
theorem dX1_settle_19 : decode cX1_settle 19 = .ok (.istore 4, 2) := dk_54 4 (dk_at dksX1_settle_0 19 rfl rfl)
theorem dX1_settle_21 : decode cX1_settle 21 = .ok (.aload_n 3, 1) := dk_45 (dk_at dksX1_settle_0 21 rfl rfl)
theorem dX1_settle_22 : decode cX1_settle 22 = .ok (.getfield 148, 3) := dk_180 0 148 (dk_at dksX1_settle_1 0 rfl rfl)
theorem dX1_settle_25 : decode cX1_settle 25 = .ok (.iload 4, 2) := dk_21 4 (dk_at dksX1_settle_1 3 rfl rfl)
theorem dX1_settle_27 : decode cX1_settle 27 = .ok (.aaload, 1) := dk_50 (dk_at dksX1_settle_1 5 rfl rfl)
theorem dX1_settle_28 : decode cX1_settle 28 = .ok (.invokevirtual 74, 3) := dk_182 0 74 (dk_at dksX1_settle_1 6 rfl rfl)
theorem dX1_settle_31 : decode cX1_settle 31 = .ok (.checkcast 75, 3) := dk_192 0 75 (dk_at dksX1_settle_1 9 rfl rfl)
theorem dX1_settle_34 : decode cX1_settle 34 = .ok (.astore 5, 2) := dk_58 5 (dk_at dksX1_settle_1 12 rfl rfl)
theorem dX1_settle_36 : decode cX1_settle 36 = .ok (.iconst 0, 1) := dk_3 (dk_at dksX1_settle_1 14 rfl rfl)
theorem dX1_settle_37 : decode cX1_settle 37 = .ok (.istore 6, 2) := dk_54 6 (dk_at dksX1_settle_1 15 rfl rfl)
theorem dX1_settle_39 : decode cX1_settle 39 = .ok (.iconst 0, 1) := dk_3 (dk_at dksX1_settle_1 17 rfl rfl)
theorem dX1_settle_40 : decode cX1_settle 40 = .ok (.istore 7, 2) := dk_54 7 (dk_at dksX1_settle_1 18 rfl rfl)
theorem dX1_settle_42 : decode cX1_settle 42 = .ok (.iload 7, 2) := dk_21 7 (dk_at dksX1_settle_1 20 rfl rfl)
theorem dX1_settle_44 : decode cX1_settle 44 = .ok (.bipush 10, 2) := dk_16 10 (dk_at dksX1_settle_1 22 rfl rfl)
theorem dX1_settle_46 : decode cX1_settle 46 = .ok (.if_icmp .ge 62, 3) := dk_162 0 62 (dk_at dksX1_settle_2 0 rfl rfl)
theorem dX1_settle_49 : decode cX1_settle 49 = .ok (.aload_n 3, 1) := dk_45 (dk_at dksX1_settle_2 3 rfl rfl)
theorem dX1_settle_50 : decode cX1_settle 50 = .ok (.iload 4, 2) := dk_21 4 (dk_at dksX1_settle_2 4 rfl rfl)
theorem dX1_settle_52 : decode cX1_settle 52 = .ok (.iload 7, 2) := dk_21 7 (dk_at dksX1_settle_2 6 rfl rfl)
theorem dX1_settle_54 : decode cX1_settle 54 = .ok (.aload_n 0, 1) := dk_42 (dk_at dksX1_settle_2 8 rfl rfl)
theorem dX1_settle_55 : decode cX1_settle 55 = .ok (.aload_n 1, 1) := dk_43 (dk_at dksX1_settle_2 9 rfl rfl)
theorem dX1_settle_56 : decode cX1_settle 56 = .ok (.iload_n 2, 1) := dk_28 (dk_at dksX1_settle_2 10 rfl rfl)
theorem dX1_settle_57 : decode cX1_settle 57 = .ok (.iload 7, 2) := dk_21 7 (dk_at dksX1_settle_2 11 rfl rfl)
theorem dX1_settle_59 : decode cX1_settle 59 = .ok (.invokevirtual 104, 3) := dk_182 0 104 (dk_at dksX1_settle_2 13 rfl rfl)
theorem dX1_settle_62 : decode cX1_settle 62 = .ok (.invokevirtual 152, 3) := dk_182 0 152 (dk_at dksX1_settle_2 16 rfl rfl)
theorem dX1_settle_65 : decode cX1_settle 65 = .ok (.istore 8, 2) := dk_54 8 (dk_at dksX1_settle_2 19 rfl rfl)
theorem dX1_settle_67 : decode cX1_settle 67 = .ok (.iload 8, 2) := dk_21 8 (dk_at dksX1_settle_2 21 rfl rfl)
theorem dX1_settle_69 : decode cX1_settle 69 = .ok (.iconst (-1), 1) := dk_2 (dk_at dksX1_settle_2 23 rfl rfl)
theorem dX1_settle_70 : decode cX1_settle 70 = .ok (.if_icmp .ge 5, 3) := dk_162 0 5 (dk_at dksX1_settle_3 0 rfl rfl)
theorem dX1_settle_73 : decode cX1_settle 73 = .ok (.iconst (-1), 1) := dk_2 (dk_at dksX1_settle_3 3 rfl rfl)
theorem dX1_settle_74 : decode cX1_settle 74 = .ok (.ireturn, 1) := dk_172 (dk_at dksX1_settle_3 4 rfl rfl)
theorem dX1_settle_75 : decode cX1_settle 75 = .ok (.iload 6, 2) := dk_21 6 (dk_at dksX1_settle_3 5 rfl rfl)
theorem dX1_settle_77 : decode cX1_settle 77 = .ok (.iload 8, 2) := dk_21 8 (dk_at dksX1_settle_3 7 rfl rfl)
theorem dX1_settle_79 : decode cX1_settle 79 = .ok (.aload 5, 2) := dk_25 5 (dk_at dksX1_settle_3 9 rfl rfl)
theorem dX1_settle_81 : decode cX1_settle 81 = .ok (.iload 7, 2) := dk_21 7 (dk_at dksX1_settle_3 11 rfl rfl)
theorem dX1_settle_83 : decode cX1_settle 83 = .ok (.iaload, 1) := dk_46 (dk_at dksX1_settle_3 13 rfl rfl)
theorem dX1_settle_84 : decode cX1_settle 84 = .ok (.if_icmp .ne 7, 3) := dk_160 0 7 (dk_at dksX1_settle_3 14 rfl rfl)
theorem dX1_settle_87 : decode cX1_settle 87 = .ok (.iconst 0, 1) := dk_3 (dk_at dksX1_settle_3 17 rfl rfl)
theorem dX1_settle_88 : decode cX1_settle 88 = .ok (.goto 4, 3) := dk_167 0 4 (dk_at dksX1_settle_3 18 rfl rfl)
theorem dX1_settle_91 : decode cX1_settle 91 = .ok (.iconst 1, 1) := dk_4 (dk_at dksX1_settle_3 21 rfl rfl)
theorem dX1_settle_92 : decode cX1_settle 92 = .ok (.iadd, 1) := dk_96 (dk_at dksX1_settle_3 22 rfl rfl)
theorem dX1_settle_93 : decode cX1_settle 93 = .ok (.istore 6, 2) := dk_54 6 (dk_at dksX1_settle_4 0 rfl rfl)
theorem dX1_settle_95 : decode cX1_settle 95 = .ok (.aload 5, 2) := dk_25 5 (dk_at dksX1_settle_4 2 rfl rfl)
theorem dX1_settle_97 : decode cX1_settle 97 = .ok (.iload 7, 2) := dk_21 7 (dk_at dksX1_settle_4 4 rfl rfl)
theorem dX1_settle_99 : decode cX1_settle 99 = .ok (.iload 8, 2) := dk_21 8 (dk_at dksX1_settle_4 6 rfl rfl)
theorem dX1_settle_101 : decode cX1_settle 101 = .ok (.iastore, 1) := dk_79 (dk_at dksX1_settle_4 8 rfl rfl)
theorem dX1_settle_102 : decode cX1_settle 102 = .ok (.iinc 7 1, 3) := dk_132 7 1 (dk_at dksX1_settle_4 9 rfl rfl)
theorem dX1_settle_105 : decode cX1_settle 105 = .ok (.goto (-63), 3) := dk_167 255 193 (dk_at dksX1_settle_4 12 rfl rfl)
theorem dX1_settle_108 : decode cX1_settle 108 = .ok (.aload_n 3, 1) := dk_45 (dk_at dksX1_settle_4 15 rfl rfl)
theorem dX1_settle_109 : decode cX1_settle 109 = .ok (.getfield 148, 3) := dk_180 0 148 (dk_at dksX1_settle_4 16 rfl rfl)
theorem dX1_settle_112 : decode cX1_settle 112 = .ok (.iload 4, 2) := dk_21 4 (dk_at dksX1_settle_4 19 rfl rfl)
theorem dX1_settle_114 : decode cX1_settle 114 = .ok (.aload 5, 2) := dk_25 5 (dk_at dksX1_settle_4 21 rfl rfl)
theorem dX1_settle_116 : decode cX1_settle 116 = .ok (.aastore, 1) := dk_83 (dk_at dksX1_settle_4 23 rfl rfl)
theorem dX1_settle_117 : decode cX1_settle 117 = .ok (.aload_n 3, 1) := dk_45 (dk_at dksX1_settle_5 0 rfl rfl)
theorem dX1_settle_118 : decode cX1_settle 118 = .ok (.dup, 1) := dk_89 (dk_at dksX1_settle_5 1 rfl rfl)
theorem dX1_settle_119 : decode cX1_settle 119 = .ok (.getfield 156, 3) := dk_180 0 156 (dk_at dksX1_settle_5 2 rfl rfl)
theorem dX1_settle_122 : decode cX1_settle 122 = .ok (.iload 6, 2) := dk_21 6 (dk_at dksX1_settle_5 5 rfl rfl)
theorem dX1_settle_124 : decode cX1_settle 124 = .ok (.ifCond .le 7, 3) := dk_158 0 7 (dk_at dksX1_settle_5 7 rfl rfl)
theorem dX1_settle_127 : decode cX1_settle 127 = .ok (.iconst 1, 1) := dk_4 (dk_at dksX1_settle_5 10 rfl rfl)
theorem dX1_settle_128 : decode cX1_settle 128 = .ok (.goto 4, 3) := dk_167 0 4 (dk_at dksX1_settle_5 11 rfl rfl)
theorem dX1_settle_131 : decode cX1_settle 131 = .ok (.iconst 0, 1) := dk_3 (dk_at dksX1_settle_5 14 rfl rfl)
theorem dX1_settle_132 : decode cX1_settle 132 = .ok (.iadd, 1) := dk_96 (dk_at dksX1_settle_5 15 rfl rfl)
theorem dX1_settle_133 : decode cX1_settle 133 = .ok (.putfield 156, 3) := dk_181 0 156 (dk_at dksX1_settle_5 16 rfl rfl)
theorem dX1_settle_136 : decode cX1_settle 136 = .ok (.iload 6, 2) := dk_21 6 (dk_at dksX1_settle_5 19 rfl rfl)
theorem dX1_settle_138 : decode cX1_settle 138 = .ok (.ireturn, 1) := dk_172 (dk_at dksX1_settle_5 21 rfl rfl)
theorem q64 : (Jvm.Cond.initialized "MapSheets$Library") ∈ lw_all := lw_g (lw_at lw_m1 2 rfl) rfl
theorem q105 : (Jvm.Cond.instantiable "MapSheets$Library" (5 : Nat)) ∈ lw_all := lw_g (lw_at lw_m1 43 rfl) rfl
theorem q107 : (Jvm.Cond.instanceMethod ({ cls := "MapSheets$Library", name := "<init>", desc := "()V" } : Jvm.MethodName)) ∈ lw_all := lw_g (lw_at lw_m1 45 rfl) rfl
theorem q108 : (Jvm.Cond.code ({ cls := "MapSheets$Library", name := "<init>", desc := "()V" } : Jvm.MethodName) prog_4_method_1_code (1 : Nat) (Option.none : Option Jvm.ClassFile.FieldType)) ∈ lw_all := lw_g (lw_at lw_m1 46 rfl) rfl
theorem q109 : (Jvm.Cond.methodLink "MapSheets$Library" (3 : Nat) ({ cls := "java/lang/Object", name := "<init>", desc := "()V" } : Jvm.MethodName)) ∈ lw_all := lw_g (lw_at lw_m1 47 rfl) rfl
theorem q110 : (Jvm.Cond.classLink "MapSheets$Library" (9 : Nat) "java/util/ArrayList") ∈ lw_all := lw_g (lw_at lw_m1 48 rfl) rfl
theorem q112 : (Jvm.Cond.methodLink "MapSheets$Library" (11 : Nat) ({ cls := "java/util/ArrayList", name := "<init>", desc := "()V" } : Jvm.MethodName)) ∈ lw_all := lw_g (lw_at lw_m1 50 rfl) rfl
theorem q139 : (Jvm.Cond.fieldLink "MapSheets$Library" (26 : Nat) "MapSheets$Library" "columns" "I") ∈ lw_all := lw_g (lw_at lw_m1 77 rfl) rfl
theorem q141 : (Jvm.Cond.fieldLink "MapSheets$Library" (30 : Nat) "MapSheets$Library" "rows" "I") ∈ lw_all := lw_g (lw_at lw_m1 79 rfl) rfl
theorem q143 : (Jvm.Cond.fieldLink "MapSheets$Library" (12 : Nat) "MapSheets$Library" "sheets" "Ljava/util/ArrayList;") ∈ lw_all := lw_g (lw_at lw_m1 81 rfl) rfl
theorem q145 : (Jvm.Cond.fieldLink "MapSheets$Library" (18 : Nat) "MapSheets$Library" "edges" "Ljava/util/ArrayList;") ∈ lw_all := lw_g (lw_at lw_m1 83 rfl) rfl
theorem q147 : (Jvm.Cond.fieldLink "MapSheets$Library" (21 : Nat) "MapSheets$Library" "settings" "[I") ∈ lw_all := lw_g (lw_at lw_m1 85 rfl) rfl
theorem q149 : (Jvm.Cond.lays "MapSheets$Library" "MapSheets$Library" "columns" "I") ∈ lw_all := lw_g (lw_at lw_m1 87 rfl) rfl
theorem q150 : (Jvm.Cond.soleField "MapSheets$Library" "columns") ∈ lw_all := lw_g (lw_at lw_m1 88 rfl) rfl
theorem q151 : (Jvm.Cond.lays "MapSheets$Library" "MapSheets$Library" "rows" "I") ∈ lw_all := lw_g (lw_at lw_m1 89 rfl) rfl
theorem q152 : (Jvm.Cond.soleField "MapSheets$Library" "rows") ∈ lw_all := lw_g (lw_at lw_m1 90 rfl) rfl
theorem q153 : (Jvm.Cond.laysFinal "MapSheets$Library" "MapSheets$Library" "sheets" "Ljava/util/ArrayList;") ∈ lw_all := lw_g (lw_at lw_m1 91 rfl) rfl
theorem q154 : (Jvm.Cond.soleField "MapSheets$Library" "sheets") ∈ lw_all := lw_g (lw_at lw_m1 92 rfl) rfl
theorem q155 : (Jvm.Cond.laysFinal "MapSheets$Library" "MapSheets$Library" "edges" "Ljava/util/ArrayList;") ∈ lw_all := lw_g (lw_at lw_m1 93 rfl) rfl
theorem q156 : (Jvm.Cond.soleField "MapSheets$Library" "edges") ∈ lw_all := lw_g (lw_at lw_m1 94 rfl) rfl
theorem q157 : (Jvm.Cond.lays "MapSheets$Library" "MapSheets$Library" "settings" "[I") ∈ lw_all := lw_g (lw_at lw_m1 95 rfl) rfl
theorem q158 : (Jvm.Cond.soleField "MapSheets$Library" "settings") ∈ lw_all := lw_g (lw_at lw_m1 96 rfl) rfl
theorem q159 : (Jvm.Cond.superclass "MapSheets$Library" "java/lang/Object") ∈ lw_all := lw_g (lw_at lw_m1 97 rfl) rfl
theorem q212 : (Jvm.Cond.instanceMethod ({ cls := "MapSheets$Library", name := "begin", desc := "(II)V" } : Jvm.MethodName)) ∈ lw_all := lw_g (lw_at lw_m1 150 rfl) rfl
theorem q213 : (Jvm.Cond.selects "MapSheets$Library" ({ cls := "MapSheets$Library", name := "begin", desc := "(II)V" } : Jvm.MethodName) ({ cls := "MapSheets$Library", name := "begin", desc := "(II)V" } : Jvm.MethodName)) ∈ lw_all := lw_g (lw_at lw_m1 151 rfl) rfl
theorem q214 : (Jvm.Cond.code ({ cls := "MapSheets$Library", name := "begin", desc := "(II)V" } : Jvm.MethodName) prog_4_method_3_code (4 : Nat) (Option.none : Option Jvm.ClassFile.FieldType)) ∈ lw_all := lw_g (lw_at lw_m1 152 rfl) rfl
theorem q215 : (Jvm.Cond.methodLink "MapSheets$Library" (78 : Nat) ({ cls := "java/util/ArrayList", name := "clear", desc := "()V" } : Jvm.MethodName)) ∈ lw_all := lw_g (lw_at lw_m1 153 rfl) rfl
theorem q219 : (Jvm.Cond.classLink "MapSheets$Library" (47 : Nat) "MapSheets$Sheet") ∈ lw_all := lw_g (lw_at lw_m1 157 rfl) rfl
theorem q221 : (Jvm.Cond.methodLink "MapSheets$Library" (81 : Nat) ({ cls := "MapSheets$Sheet", name := "<init>", desc := "()V" } : Jvm.MethodName)) ∈ lw_all := lw_g (lw_at lw_m1 159 rfl) rfl
theorem q230 : (Jvm.Cond.fieldLinkNest "MapSheets$Library" (148 : Nat) "MapSheets$Sheet" "sides" "[[I" "MapSheets") ∈ lw_tbl := lw_at lw_m1 168 rfl
theorem q235 : (Jvm.Cond.fieldLinkNest "MapSheets$Library" (156 : Nat) "MapSheets$Sheet" "revision" "I" "MapSheets") ∈ lw_tbl := lw_at lw_m1 173 rfl
theorem q239 : (Jvm.Cond.fieldLinkNest "MapSheets$Library" (135 : Nat) "MapSheets$Sheet" "scale" "F" "MapSheets") ∈ lw_tbl := lw_at lw_m1 177 rfl
theorem q256 : (Jvm.Cond.methodLink "MapSheets$Library" (53 : Nat) ({ cls := "java/util/ArrayList", name := "add", desc := "(Ljava/lang/Object;)Z" } : Jvm.MethodName)) ∈ lw_all := lw_g (lw_at lw_m1 194 rfl) rfl
theorem q291 : (Jvm.Cond.selects "MapSheets$Library" ({ cls := "java/lang/Object", name := "getClass", desc := "()Ljava/lang/Class;" } : Jvm.MethodName) ({ cls := "java/lang/Object", name := "getClass", desc := "()Ljava/lang/Class;" } : Jvm.MethodName)) ∈ lw_all := lw_g (lw_at lw_m1 229 rfl) rfl
theorem q316 : (Jvm.Cond.methodLink "MapSheets$Library" (57 : Nat) ({ cls := "MapSheets$Library", name := "addEdges", desc := "()V" } : Jvm.MethodName)) ∈ lw_all := lw_g (lw_at lw_m2 14 rfl) rfl
theorem q317 : (Jvm.Cond.privateMethod ({ cls := "MapSheets$Library", name := "addEdges", desc := "()V" } : Jvm.MethodName)) ∈ lw_tbl := lw_at lw_m2 15 rfl
theorem q318 : (Jvm.Cond.instanceMethod ({ cls := "MapSheets$Library", name := "addEdges", desc := "()V" } : Jvm.MethodName)) ∈ lw_all := lw_g (lw_at lw_m2 16 rfl) rfl
theorem q319 : (Jvm.Cond.code ({ cls := "MapSheets$Library", name := "addEdges", desc := "()V" } : Jvm.MethodName) prog_4_method_4_code (2 : Nat) (Option.none : Option Jvm.ClassFile.FieldType)) ∈ lw_all := lw_g (lw_at lw_m2 17 rfl) rfl
theorem q320 : (Jvm.Cond.classLink "MapSheets$Library" (68 : Nat) "MapSheets$Edge") ∈ lw_all := lw_g (lw_at lw_m2 18 rfl) rfl
theorem q322 : (Jvm.Cond.methodLink "MapSheets$Library" (82 : Nat) ({ cls := "MapSheets$Edge", name := "<init>", desc := "(III)V" } : Jvm.MethodName)) ∈ lw_all := lw_g (lw_at lw_m2 20 rfl) rfl
theorem q327 : (Jvm.Cond.fieldLinkNest "MapSheets$Library" (101 : Nat) "MapSheets$Edge" "first" "I" "MapSheets") ∈ lw_tbl := lw_at lw_m2 25 rfl
theorem q330 : (Jvm.Cond.fieldLinkNest "MapSheets$Library" (107 : Nat) "MapSheets$Edge" "second" "I" "MapSheets") ∈ lw_tbl := lw_at lw_m2 28 rfl
theorem q334 : (Jvm.Cond.fieldLinkNest "MapSheets$Library" (70 : Nat) "MapSheets$Edge" "isAgreed" "Z" "MapSheets") ∈ lw_tbl := lw_at lw_m2 32 rfl
theorem q422 : (Jvm.Cond.instanceMethod ({ cls := "MapSheets$Library", name := "copy", desc := "()LMapSheets$Library;" } : Jvm.MethodName)) ∈ lw_all := lw_g (lw_at lw_m2 120 rfl) rfl
theorem q423 : (Jvm.Cond.selects "MapSheets$Library" ({ cls := "MapSheets$Library", name := "copy", desc := "()LMapSheets$Library;" } : Jvm.MethodName) ({ cls := "MapSheets$Library", name := "copy", desc := "()LMapSheets$Library;" } : Jvm.MethodName)) ∈ lw_all := lw_g (lw_at lw_m2 121 rfl) rfl
theorem q424 : (Jvm.Cond.code ({ cls := "MapSheets$Library", name := "copy", desc := "()LMapSheets$Library;" } : Jvm.MethodName) prog_4_method_2_code (4 : Nat) (Option.some (Jvm.ClassFile.FieldType.object "MapSheets$Library"))) ∈ lw_all := lw_g (lw_at lw_m2 122 rfl) rfl
theorem q425 : (Jvm.Cond.classLink "MapSheets$Library" (13 : Nat) "MapSheets$Library") ∈ lw_all := lw_g (lw_at lw_m2 123 rfl) rfl
theorem q426 : (Jvm.Cond.methodLink "MapSheets$Library" (25 : Nat) ({ cls := "MapSheets$Library", name := "<init>", desc := "()V" } : Jvm.MethodName)) ∈ lw_all := lw_g (lw_at lw_m2 124 rfl) rfl
theorem q427 : (Jvm.Cond.methodLink "MapSheets$Library" (33 : Nat) ({ cls := "java/util/ArrayList", name := "iterator", desc := "()Ljava/util/Iterator;" } : Jvm.MethodName)) ∈ lw_all := lw_g (lw_at lw_m2 125 rfl) rfl
theorem q450 : (Jvm.Cond.interfaceEntry "MapSheets$Library" (37 : Nat)) ∈ lw_tbl := lw_at lw_m2 148 rfl
theorem q451 : (Jvm.Cond.methodLink "MapSheets$Library" (37 : Nat) ({ cls := "java/util/Iterator", name := "hasNext", desc := "()Z" } : Jvm.MethodName)) ∈ lw_all := lw_g (lw_at lw_m2 149 rfl) rfl
theorem q460 : (Jvm.Cond.interfaceEntry "MapSheets$Library" (43 : Nat)) ∈ lw_tbl := lw_at lw_m2 158 rfl
theorem q461 : (Jvm.Cond.methodLink "MapSheets$Library" (43 : Nat) ({ cls := "java/util/Iterator", name := "next", desc := "()Ljava/lang/Object;" } : Jvm.MethodName)) ∈ lw_all := lw_g (lw_at lw_m2 159 rfl) rfl
theorem q473 : (Jvm.Cond.methodLink "MapSheets$Library" (49 : Nat) ({ cls := "MapSheets$Sheet", name := "copy", desc := "()LMapSheets$Sheet;" } : Jvm.MethodName)) ∈ lw_all := lw_g (lw_at lw_m2 171 rfl) rfl
theorem q485 : (Jvm.Cond.methodLink "MapSheets$Library" (60 : Nat) ({ cls := "java/util/ArrayList", name := "size", desc := "()I" } : Jvm.MethodName)) ∈ lw_all := lw_g (lw_at lw_m2 183 rfl) rfl
theorem q486 : (Jvm.Cond.methodLink "MapSheets$Library" (64 : Nat) ({ cls := "java/util/ArrayList", name := "get", desc := "(I)Ljava/lang/Object;" } : Jvm.MethodName)) ∈ lw_all := lw_g (lw_at lw_m2 184 rfl) rfl
theorem q500 : (Jvm.Cond.methodLink "MapSheets$Library" (74 : Nat) ({ cls := "[I", name := "clone", desc := "()Ljava/lang/Object;" } : Jvm.MethodName)) ∈ lw_all := lw_g (lw_at lw_m2 198 rfl) rfl
theorem q501 : (Jvm.Cond.classLink "MapSheets$Library" (75 : Nat) "[I") ∈ lw_all := lw_g (lw_at lw_m2 199 rfl) rfl
theorem q522 : (Jvm.Cond.instanceMethod ({ cls := "MapSheets$Library", name := "sheet", desc := "(I)LMapSheets$Sheet;" } : Jvm.MethodName)) ∈ lw_all := lw_g (lw_at lw_m2 220 rfl) rfl
theorem q523 : (Jvm.Cond.selects "MapSheets$Library" ({ cls := "MapSheets$Library", name := "sheet", desc := "(I)LMapSheets$Sheet;" } : Jvm.MethodName) ({ cls := "MapSheets$Library", name := "sheet", desc := "(I)LMapSheets$Sheet;" } : Jvm.MethodName)) ∈ lw_all := lw_g (lw_at lw_m2 221 rfl) rfl
theorem q524 : (Jvm.Cond.code ({ cls := "MapSheets$Library", name := "sheet", desc := "(I)LMapSheets$Sheet;" } : Jvm.MethodName) prog_4_method_5_code (2 : Nat) (Option.some (Jvm.ClassFile.FieldType.object "MapSheets$Sheet"))) ∈ lw_all := lw_g (lw_at lw_m2 222 rfl) rfl
theorem q530 : (Jvm.Cond.instanceMethod ({ cls := "MapSheets$Library", name := "isGuarded", desc := "(I)Z" } : Jvm.MethodName)) ∈ lw_all := lw_g (lw_at lw_m2 228 rfl) rfl
theorem q531 : (Jvm.Cond.selects "MapSheets$Library" ({ cls := "MapSheets$Library", name := "isGuarded", desc := "(I)Z" } : Jvm.MethodName) ({ cls := "MapSheets$Library", name := "isGuarded", desc := "(I)Z" } : Jvm.MethodName)) ∈ lw_all := lw_g (lw_at lw_m2 229 rfl) rfl
theorem q532 : (Jvm.Cond.code ({ cls := "MapSheets$Library", name := "isGuarded", desc := "(I)Z" } : Jvm.MethodName) prog_4_method_10_code (5 : Nat) (Option.some Jvm.ClassFile.FieldType.boolean)) ∈ lw_all := lw_g (lw_at lw_m2 230 rfl) rfl
theorem q533 : (Jvm.Cond.methodLink "MapSheets$Library" (85 : Nat) ({ cls := "MapSheets$Edge", name := "has", desc := "(I)Z" } : Jvm.MethodName)) ∈ lw_all := lw_g (lw_at lw_m2 231 rfl) rfl
theorem q537 : (Jvm.Cond.methodLink "MapSheets$Library" (122 : Nat) ({ cls := "MapSheets$Library", name := "isClean", desc := "(LMapSheets$Edge;)Z" } : Jvm.MethodName)) ∈ lw_all := lw_g (lw_at lw_m2 235 rfl) rfl
theorem q538 : (Jvm.Cond.instanceMethod ({ cls := "MapSheets$Library", name := "isClean", desc := "(LMapSheets$Edge;)Z" } : Jvm.MethodName)) ∈ lw_all := lw_g (lw_at lw_m2 236 rfl) rfl
theorem q539 : (Jvm.Cond.selects "MapSheets$Library" ({ cls := "MapSheets$Library", name := "isClean", desc := "(LMapSheets$Edge;)Z" } : Jvm.MethodName) ({ cls := "MapSheets$Library", name := "isClean", desc := "(LMapSheets$Edge;)Z" } : Jvm.MethodName)) ∈ lw_all := lw_g (lw_at lw_m2 237 rfl) rfl
theorem q540 : (Jvm.Cond.code ({ cls := "MapSheets$Library", name := "isClean", desc := "(LMapSheets$Edge;)Z" } : Jvm.MethodName) prog_4_method_9_code (2 : Nat) (Option.some Jvm.ClassFile.FieldType.boolean)) ∈ lw_all := lw_g (lw_at lw_m2 238 rfl) rfl
theorem q541 : (Jvm.Cond.methodLink "MapSheets$Library" (115 : Nat) ({ cls := "MapSheets$Library", name := "quarrels", desc := "(LMapSheets$Edge;)Ljava/util/ArrayList;" } : Jvm.MethodName)) ∈ lw_all := lw_g (lw_at lw_m2 239 rfl) rfl
theorem q542 : (Jvm.Cond.instanceMethod ({ cls := "MapSheets$Library", name := "quarrels", desc := "(LMapSheets$Edge;)Ljava/util/ArrayList;" } : Jvm.MethodName)) ∈ lw_all := lw_g (lw_at lw_m3 0 rfl) rfl
theorem q543 : (Jvm.Cond.selects "MapSheets$Library" ({ cls := "MapSheets$Library", name := "quarrels", desc := "(LMapSheets$Edge;)Ljava/util/ArrayList;" } : Jvm.MethodName) ({ cls := "MapSheets$Library", name := "quarrels", desc := "(LMapSheets$Edge;)Ljava/util/ArrayList;" } : Jvm.MethodName)) ∈ lw_all := lw_g (lw_at lw_m3 1 rfl) rfl
theorem q544 : (Jvm.Cond.code ({ cls := "MapSheets$Library", name := "quarrels", desc := "(LMapSheets$Edge;)Ljava/util/ArrayList;" } : Jvm.MethodName) prog_4_method_8_code (6 : Nat) (Option.some (Jvm.ClassFile.FieldType.object "java/util/ArrayList"))) ∈ lw_all := lw_g (lw_at lw_m3 2 rfl) rfl
theorem q545 : (Jvm.Cond.methodLink "MapSheets$Library" (104 : Nat) ({ cls := "MapSheets$Library", name := "meant", desc := "(LMapSheets$Edge;II)I" } : Jvm.MethodName)) ∈ lw_all := lw_g (lw_at lw_m3 3 rfl) rfl
theorem q546 : (Jvm.Cond.instanceMethod ({ cls := "MapSheets$Library", name := "meant", desc := "(LMapSheets$Edge;II)I" } : Jvm.MethodName)) ∈ lw_all := lw_g (lw_at lw_m3 4 rfl) rfl
theorem q547 : (Jvm.Cond.selects "MapSheets$Library" ({ cls := "MapSheets$Library", name := "meant", desc := "(LMapSheets$Edge;II)I" } : Jvm.MethodName) ({ cls := "MapSheets$Library", name := "meant", desc := "(LMapSheets$Edge;II)I" } : Jvm.MethodName)) ∈ lw_all := lw_g (lw_at lw_m3 5 rfl) rfl
theorem q548 : (Jvm.Cond.code ({ cls := "MapSheets$Library", name := "meant", desc := "(LMapSheets$Edge;II)I" } : Jvm.MethodName) prog_4_method_7_code (4 : Nat) (Option.some Jvm.ClassFile.FieldType.int)) ∈ lw_all := lw_g (lw_at lw_m3 6 rfl) rfl
theorem q549 : (Jvm.Cond.methodLink "MapSheets$Library" (93 : Nat) ({ cls := "MapSheets$Library", name := "sheet", desc := "(I)LMapSheets$Sheet;" } : Jvm.MethodName)) ∈ lw_all := lw_g (lw_at lw_m3 7 rfl) rfl
theorem q550 : (Jvm.Cond.methodLink "MapSheets$Library" (89 : Nat) ({ cls := "MapSheets$Edge", name := "sideOf", desc := "(I)I" } : Jvm.MethodName)) ∈ lw_all := lw_g (lw_at lw_m3 8 rfl) rfl
theorem q554 : (Jvm.Cond.methodLink "MapSheets$Library" (97 : Nat) ({ cls := "MapSheets$Sheet", name := "meant", desc := "(II)I" } : Jvm.MethodName)) ∈ lw_all := lw_g (lw_at lw_m3 12 rfl) rfl
theorem q558 : (Jvm.Cond.classLink "MapSheets$Library" (110 : Nat) "MapSheets$Quarrel") ∈ lw_all := lw_g (lw_at lw_m3 16 rfl) rfl
theorem q560 : (Jvm.Cond.methodLink "MapSheets$Library" (112 : Nat) ({ cls := "MapSheets$Quarrel", name := "<init>", desc := "(II)V" } : Jvm.MethodName)) ∈ lw_all := lw_g (lw_at lw_m3 18 rfl) rfl
theorem q573 : (Jvm.Cond.methodLink "MapSheets$Library" (119 : Nat) ({ cls := "java/util/ArrayList", name := "isEmpty", desc := "()Z" } : Jvm.MethodName)) ∈ lw_all := lw_g (lw_at lw_m3 31 rfl) rfl
theorem q578 : (Jvm.Cond.instanceMethod ({ cls := "MapSheets$Library", name := "letGo", desc := "(I)V" } : Jvm.MethodName)) ∈ lw_all := lw_g (lw_at lw_m3 36 rfl) rfl
theorem q579 : (Jvm.Cond.selects "MapSheets$Library" ({ cls := "MapSheets$Library", name := "letGo", desc := "(I)V" } : Jvm.MethodName) ({ cls := "MapSheets$Library", name := "letGo", desc := "(I)V" } : Jvm.MethodName)) ∈ lw_all := lw_g (lw_at lw_m3 37 rfl) rfl
theorem q580 : (Jvm.Cond.code ({ cls := "MapSheets$Library", name := "letGo", desc := "(I)V" } : Jvm.MethodName) prog_4_method_11_code (4 : Nat) (Option.none : Option Jvm.ClassFile.FieldType)) ∈ lw_all := lw_g (lw_at lw_m3 38 rfl) rfl
theorem q605 : (Jvm.Cond.instanceMethod ({ cls := "MapSheets$Library", name := "edgesOf", desc := "(IZ)I" } : Jvm.MethodName)) ∈ lw_all := lw_g (lw_at lw_m3 63 rfl) rfl
theorem q606 : (Jvm.Cond.selects "MapSheets$Library" ({ cls := "MapSheets$Library", name := "edgesOf", desc := "(IZ)I" } : Jvm.MethodName) ({ cls := "MapSheets$Library", name := "edgesOf", desc := "(IZ)I" } : Jvm.MethodName)) ∈ lw_all := lw_g (lw_at lw_m3 64 rfl) rfl
theorem q607 : (Jvm.Cond.code ({ cls := "MapSheets$Library", name := "edgesOf", desc := "(IZ)I" } : Jvm.MethodName) prog_4_method_12_code (6 : Nat) (Option.some Jvm.ClassFile.FieldType.int)) ∈ lw_all := lw_g (lw_at lw_m3 65 rfl) rfl
theorem q616 : (Jvm.Cond.instanceMethod ({ cls := "MapSheets$Library", name := "blocks", desc := "()[I" } : Jvm.MethodName)) ∈ lw_all := lw_g (lw_at lw_m3 74 rfl) rfl
theorem q617 : (Jvm.Cond.selects "MapSheets$Library" ({ cls := "MapSheets$Library", name := "blocks", desc := "()[I" } : Jvm.MethodName) ({ cls := "MapSheets$Library", name := "blocks", desc := "()[I" } : Jvm.MethodName)) ∈ lw_all := lw_g (lw_at lw_m3 75 rfl) rfl
theorem q618 : (Jvm.Cond.code ({ cls := "MapSheets$Library", name := "blocks", desc := "()[I" } : Jvm.MethodName) prog_4_method_13_code (6 : Nat) (Option.some (Jvm.ClassFile.FieldType.array Jvm.ClassFile.FieldType.int))) ∈ lw_all := lw_g (lw_at lw_m3 76 rfl) rfl
theorem q619 : (Jvm.Cond.methodLink "MapSheets$Library" (126 : Nat) ({ cls := "java/lang/Math", name := "min", desc := "(II)I" } : Jvm.MethodName)) ∈ lw_all := lw_g (lw_at lw_m3 77 rfl) rfl
theorem q637 : (Jvm.Cond.instanceMethod ({ cls := "MapSheets$Library", name := "fits", desc := "(LMapSheets$Edge;)Z" } : Jvm.MethodName)) ∈ lw_all := lw_g (lw_at lw_m3 95 rfl) rfl
theorem q638 : (Jvm.Cond.selects "MapSheets$Library" ({ cls := "MapSheets$Library", name := "fits", desc := "(LMapSheets$Edge;)Z" } : Jvm.MethodName) ({ cls := "MapSheets$Library", name := "fits", desc := "(LMapSheets$Edge;)Z" } : Jvm.MethodName)) ∈ lw_all := lw_g (lw_at lw_m3 96 rfl) rfl
theorem q639 : (Jvm.Cond.code ({ cls := "MapSheets$Library", name := "fits", desc := "(LMapSheets$Edge;)Z" } : Jvm.MethodName) prog_4_method_16_code (4 : Nat) (Option.some Jvm.ClassFile.FieldType.boolean)) ∈ lw_all := lw_g (lw_at lw_m3 97 rfl) rfl
theorem q640 : (Jvm.Cond.methodLink "MapSheets$Library" (139 : Nat) ({ cls := "MapSheets$Library", name := "ratio", desc := "(LMapSheets$Edge;)F" } : Jvm.MethodName)) ∈ lw_all := lw_g (lw_at lw_m3 98 rfl) rfl
theorem q641 : (Jvm.Cond.instanceMethod ({ cls := "MapSheets$Library", name := "ratio", desc := "(LMapSheets$Edge;)F" } : Jvm.MethodName)) ∈ lw_all := lw_g (lw_at lw_m3 99 rfl) rfl
theorem q642 : (Jvm.Cond.selects "MapSheets$Library" ({ cls := "MapSheets$Library", name := "ratio", desc := "(LMapSheets$Edge;)F" } : Jvm.MethodName) ({ cls := "MapSheets$Library", name := "ratio", desc := "(LMapSheets$Edge;)F" } : Jvm.MethodName)) ∈ lw_all := lw_g (lw_at lw_m3 100 rfl) rfl
theorem q643 : (Jvm.Cond.code ({ cls := "MapSheets$Library", name := "ratio", desc := "(LMapSheets$Edge;)F" } : Jvm.MethodName) prog_4_method_15_code (2 : Nat) (Option.some Jvm.ClassFile.FieldType.float)) ∈ lw_all := lw_g (lw_at lw_m3 101 rfl) rfl
theorem q644 : (Jvm.Cond.constantDouble "MapSheets$Library" (143 : Nat) (4652007308841189376 : UInt64)) ∈ lw_all := lw_g (lw_at lw_m3 102 rfl) rfl
theorem q646 : (Jvm.Cond.instanceMethod ({ cls := "MapSheets$Library", name := "blockMany", desc := "()I" } : Jvm.MethodName)) ∈ lw_all := lw_g (lw_at lw_m3 104 rfl) rfl
theorem q647 : (Jvm.Cond.selects "MapSheets$Library" ({ cls := "MapSheets$Library", name := "blockMany", desc := "()I" } : Jvm.MethodName) ({ cls := "MapSheets$Library", name := "blockMany", desc := "()I" } : Jvm.MethodName)) ∈ lw_all := lw_g (lw_at lw_m3 105 rfl) rfl
theorem q648 : (Jvm.Cond.code ({ cls := "MapSheets$Library", name := "blockMany", desc := "()I" } : Jvm.MethodName) prog_4_method_14_code (4 : Nat) (Option.some Jvm.ClassFile.FieldType.int)) ∈ lw_all := lw_g (lw_at lw_m3 106 rfl) rfl
theorem q649 : (Jvm.Cond.methodLink "MapSheets$Library" (131 : Nat) ({ cls := "MapSheets$Library", name := "blocks", desc := "()[I" } : Jvm.MethodName)) ∈ lw_all := lw_g (lw_at lw_m3 107 rfl) rfl
theorem q700 : (Jvm.Cond.instanceMethod ({ cls := "MapSheets$Library", name := "edgeAt", desc := "(II)LMapSheets$Edge;" } : Jvm.MethodName)) ∈ lw_all := lw_g (lw_at lw_m3 158 rfl) rfl
theorem q701 : (Jvm.Cond.selects "MapSheets$Library" ({ cls := "MapSheets$Library", name := "edgeAt", desc := "(II)LMapSheets$Edge;" } : Jvm.MethodName) ({ cls := "MapSheets$Library", name := "edgeAt", desc := "(II)LMapSheets$Edge;" } : Jvm.MethodName)) ∈ lw_all := lw_g (lw_at lw_m3 159 rfl) rfl
theorem q702 : (Jvm.Cond.code ({ cls := "MapSheets$Library", name := "edgeAt", desc := "(II)LMapSheets$Edge;" } : Jvm.MethodName) prog_4_method_6_code (5 : Nat) (Option.some (Jvm.ClassFile.FieldType.object "MapSheets$Edge"))) ∈ lw_all := lw_g (lw_at lw_m3 160 rfl) rfl
theorem q718 : (Jvm.Cond.selects "MapSheets$Library" ({ cls := "java/lang/Object", name := "equals", desc := "(Ljava/lang/Object;)Z" } : Jvm.MethodName) ({ cls := "java/lang/Object", name := "equals", desc := "(Ljava/lang/Object;)Z" } : Jvm.MethodName)) ∈ lw_all := lw_g (lw_at lw_m3 176 rfl) rfl
theorem q754 : (Jvm.Cond.instanceMethod ({ cls := "MapSheets$Library", name := "settle", desc := "(LMapSheets$Edge;I)I" } : Jvm.MethodName)) ∈ lw_all := lw_g (lw_at lw_m3 212 rfl) rfl
theorem q755 : (Jvm.Cond.selects "MapSheets$Library" ({ cls := "MapSheets$Library", name := "settle", desc := "(LMapSheets$Edge;I)I" } : Jvm.MethodName) ({ cls := "MapSheets$Library", name := "settle", desc := "(LMapSheets$Edge;I)I" } : Jvm.MethodName)) ∈ lw_all := lw_g (lw_at lw_m3 213 rfl) rfl
theorem q756 : (Jvm.Cond.code ({ cls := "MapSheets$Library", name := "settle", desc := "(LMapSheets$Edge;I)I" } : Jvm.MethodName) prog_4_method_17_code (9 : Nat) (Option.some Jvm.ClassFile.FieldType.int)) ∈ lw_all := lw_g (lw_at lw_m3 214 rfl) rfl
theorem q757 : (Jvm.Cond.methodLink "MapSheets$Library" (145 : Nat) ({ cls := "MapSheets$Edge", name := "other", desc := "(I)I" } : Jvm.MethodName)) ∈ lw_all := lw_g (lw_at lw_m3 215 rfl) rfl
theorem q761 : (Jvm.Cond.methodLink "MapSheets$Library" (152 : Nat) ({ cls := "MapSheets$Sheet", name := "settled", desc := "(III)I" } : Jvm.MethodName)) ∈ lw_all := lw_g (lw_at lw_m3 219 rfl) rfl
theorem q1474 : (Jvm.Cond.castable "MapSheets$Library" "java/lang/Object") ∈ lw_tbl := lw_at lw_m6 212 rfl
theorem in_X1 : ∀ w ∈ wsX10, w ∈ lw_all := lw_in wsX10 [149, 151, 153, 155, 157] (by decide +kernel) (by decide +kernel)

/-! MapSheets$Sheet -/
set_option maxRecDepth 100000
def RX2 : String := "MapSheets$Sheet"
def TX2 : u_T := fun k => match k with
  | 0 => ("MapSheets$Sheet", "sides", "[[I", true)
  | 1 => ("MapSheets$Sheet", "legend", "[I", false)
  | 2 => ("MapSheets$Sheet", "revision", "I", false)
  | 3 => ("MapSheets$Sheet", "published", "I", false)
  | 4 => ("MapSheets$Sheet", "scale", "F", false)
  | _ => ("MapSheets$Sheet", "thousandths", "I", false)
def tyX2 : Nat → FieldType := fun k => match k with
  | 0 => .array (.array .int)
  | 1 => .array .int
  | 2 => .int
  | 3 => .int
  | 4 => .float
  | _ => .int
abbrev wsX20 : List Cond := u_ws RX2 TX2 6
theorem nmX2 : ∀ a, a < 6 → ∀ b, b < 6 → a ≠ b → (TX2 a).2.1 ≠ (TX2 b).2.1 := by decide +kernel
theorem tyX2_ok : ∀ k, k < 6 → parseFieldDescriptor (TX2 k).2.2.1 = some (tyX2 k) := by decide +kernel
abbrev cX2_init : ByteArray := prog_7_method_1_code
def yX2_init : MethodName := ⟨RX2, "<init>", "()V"⟩
def dkwX2_init_4 : List UInt8 := [180, 0, 17, 27, 27, 79, 132, 1, 1, 167, 255, 240, 177]
abbrev dktX2_init_4 : List UInt8 := dkwX2_init_4 ++ []
def dkwX2_init_3 : List UInt8 := [2, 79, 132, 2, 1, 167, 255, 238, 132, 1, 1, 167, 255, 215, 3, 60, 27, 16, 10, 162, 0, 16, 42]
abbrev dktX2_init_3 : List UInt8 := dkwX2_init_3 ++ dktX2_init_4
def dkwX2_init_2 : List UInt8 := [180, 0, 11, 27, 16, 10, 188, 10, 83, 3, 61, 28, 16, 10, 162, 0, 18, 42, 180, 0, 11, 27, 50, 28]
abbrev dktX2_init_2 : List UInt8 := dkwX2_init_2 ++ dktX2_init_3
def dkwX2_init_1 : List UInt8 := [181, 0, 20, 42, 12, 181, 0, 24, 42, 17, 3, 232, 181, 0, 28, 3, 60, 27, 7, 162, 0, 42, 42]
abbrev dktX2_init_1 : List UInt8 := dkwX2_init_1 ++ dktX2_init_2
def dkwX2_init_0 : List UInt8 := [42, 183, 0, 3, 42, 7, 189, 0, 9, 181, 0, 11, 42, 16, 10, 188, 10, 181, 0, 17, 42, 2]
abbrev dktX2_init_0 : List UInt8 := dkwX2_init_0 ++ dktX2_init_1
theorem dksX2_init_0 : cX2_init.data.toList.drop 0 = dktX2_init_0 := by decide +kernel
theorem dksX2_init_1 : cX2_init.data.toList.drop 22 = dktX2_init_1 := dk_seg dksX2_init_0 22 rfl rfl
theorem dksX2_init_2 : cX2_init.data.toList.drop 45 = dktX2_init_2 := dk_seg dksX2_init_1 23 rfl rfl
theorem dksX2_init_3 : cX2_init.data.toList.drop 69 = dktX2_init_3 := dk_seg dksX2_init_2 24 rfl rfl
theorem dksX2_init_4 : cX2_init.data.toList.drop 92 = dktX2_init_4 := dk_seg dksX2_init_3 23 rfl rfl
theorem dX2_init_0 : decode cX2_init 0 = .ok (.aload_n 0, 1) := dk_42 (dk_at dksX2_init_0 0 rfl rfl)
theorem dX2_init_1 : decode cX2_init 1 = .ok (.invokespecial 3, 3) := dk_183 0 3 (dk_at dksX2_init_0 1 rfl rfl)
theorem dX2_init_4 : decode cX2_init 4 = .ok (.aload_n 0, 1) := dk_42 (dk_at dksX2_init_0 4 rfl rfl)
theorem dX2_init_5 : decode cX2_init 5 = .ok (.iconst 4, 1) := dk_7 (dk_at dksX2_init_0 5 rfl rfl)
theorem dX2_init_6 : decode cX2_init 6 = .ok (.anewarray 9, 3) := dk_189 0 9 (dk_at dksX2_init_0 6 rfl rfl)
theorem dX2_init_9 : decode cX2_init 9 = .ok (.putfield 11, 3) := dk_181 0 11 (dk_at dksX2_init_0 9 rfl rfl)
theorem dX2_init_12 : decode cX2_init 12 = .ok (.aload_n 0, 1) := dk_42 (dk_at dksX2_init_0 12 rfl rfl)
theorem dX2_init_13 : decode cX2_init 13 = .ok (.bipush 10, 2) := dk_16 10 (dk_at dksX2_init_0 13 rfl rfl)
theorem dX2_init_15 : decode cX2_init 15 = .ok (.newarray .int, 2) := dk_188_10 (dk_at dksX2_init_0 15 rfl rfl)
theorem dX2_init_17 : decode cX2_init 17 = .ok (.putfield 17, 3) := dk_181 0 17 (dk_at dksX2_init_0 17 rfl rfl)
theorem dX2_init_20 : decode cX2_init 20 = .ok (.aload_n 0, 1) := dk_42 (dk_at dksX2_init_0 20 rfl rfl)
theorem dX2_init_21 : decode cX2_init 21 = .ok (.iconst (-1), 1) := dk_2 (dk_at dksX2_init_0 21 rfl rfl)
theorem dX2_init_22 : decode cX2_init 22 = .ok (.putfield 20, 3) := dk_181 0 20 (dk_at dksX2_init_1 0 rfl rfl)
theorem dX2_init_25 : decode cX2_init 25 = .ok (.aload_n 0, 1) := dk_42 (dk_at dksX2_init_1 3 rfl rfl)
theorem dX2_init_26 : decode cX2_init 26 = .ok (.fconst 1, 1) := dk_12 (dk_at dksX2_init_1 4 rfl rfl)
theorem dX2_init_27 : decode cX2_init 27 = .ok (.putfield 24, 3) := dk_181 0 24 (dk_at dksX2_init_1 5 rfl rfl)
theorem dX2_init_30 : decode cX2_init 30 = .ok (.aload_n 0, 1) := dk_42 (dk_at dksX2_init_1 8 rfl rfl)
theorem dX2_init_31 : decode cX2_init 31 = .ok (.sipush 1000, 3) := dk_17 3 232 (dk_at dksX2_init_1 9 rfl rfl)
theorem dX2_init_34 : decode cX2_init 34 = .ok (.putfield 28, 3) := dk_181 0 28 (dk_at dksX2_init_1 12 rfl rfl)
theorem dX2_init_37 : decode cX2_init 37 = .ok (.iconst 0, 1) := dk_3 (dk_at dksX2_init_1 15 rfl rfl)
theorem dX2_init_38 : decode cX2_init 38 = .ok (.istore_n 1, 1) := dk_60 (dk_at dksX2_init_1 16 rfl rfl)
theorem dX2_init_39 : decode cX2_init 39 = .ok (.iload_n 1, 1) := dk_27 (dk_at dksX2_init_1 17 rfl rfl)
theorem dX2_init_40 : decode cX2_init 40 = .ok (.iconst 4, 1) := dk_7 (dk_at dksX2_init_1 18 rfl rfl)
theorem dX2_init_41 : decode cX2_init 41 = .ok (.if_icmp .ge 42, 3) := dk_162 0 42 (dk_at dksX2_init_1 19 rfl rfl)
theorem dX2_init_44 : decode cX2_init 44 = .ok (.aload_n 0, 1) := dk_42 (dk_at dksX2_init_1 22 rfl rfl)
theorem dX2_init_45 : decode cX2_init 45 = .ok (.getfield 11, 3) := dk_180 0 11 (dk_at dksX2_init_2 0 rfl rfl)
theorem dX2_init_48 : decode cX2_init 48 = .ok (.iload_n 1, 1) := dk_27 (dk_at dksX2_init_2 3 rfl rfl)
theorem dX2_init_49 : decode cX2_init 49 = .ok (.bipush 10, 2) := dk_16 10 (dk_at dksX2_init_2 4 rfl rfl)
theorem dX2_init_51 : decode cX2_init 51 = .ok (.newarray .int, 2) := dk_188_10 (dk_at dksX2_init_2 6 rfl rfl)
theorem dX2_init_53 : decode cX2_init 53 = .ok (.aastore, 1) := dk_83 (dk_at dksX2_init_2 8 rfl rfl)
theorem dX2_init_54 : decode cX2_init 54 = .ok (.iconst 0, 1) := dk_3 (dk_at dksX2_init_2 9 rfl rfl)
theorem dX2_init_55 : decode cX2_init 55 = .ok (.istore_n 2, 1) := dk_61 (dk_at dksX2_init_2 10 rfl rfl)
theorem dX2_init_56 : decode cX2_init 56 = .ok (.iload_n 2, 1) := dk_28 (dk_at dksX2_init_2 11 rfl rfl)
theorem dX2_init_57 : decode cX2_init 57 = .ok (.bipush 10, 2) := dk_16 10 (dk_at dksX2_init_2 12 rfl rfl)
theorem dX2_init_59 : decode cX2_init 59 = .ok (.if_icmp .ge 18, 3) := dk_162 0 18 (dk_at dksX2_init_2 14 rfl rfl)
theorem dX2_init_62 : decode cX2_init 62 = .ok (.aload_n 0, 1) := dk_42 (dk_at dksX2_init_2 17 rfl rfl)
theorem dX2_init_63 : decode cX2_init 63 = .ok (.getfield 11, 3) := dk_180 0 11 (dk_at dksX2_init_2 18 rfl rfl)
theorem dX2_init_66 : decode cX2_init 66 = .ok (.iload_n 1, 1) := dk_27 (dk_at dksX2_init_2 21 rfl rfl)
theorem dX2_init_67 : decode cX2_init 67 = .ok (.aaload, 1) := dk_50 (dk_at dksX2_init_2 22 rfl rfl)
theorem dX2_init_68 : decode cX2_init 68 = .ok (.iload_n 2, 1) := dk_28 (dk_at dksX2_init_2 23 rfl rfl)
theorem dX2_init_69 : decode cX2_init 69 = .ok (.iconst (-1), 1) := dk_2 (dk_at dksX2_init_3 0 rfl rfl)
theorem dX2_init_70 : decode cX2_init 70 = .ok (.iastore, 1) := dk_79 (dk_at dksX2_init_3 1 rfl rfl)
theorem dX2_init_71 : decode cX2_init 71 = .ok (.iinc 2 1, 3) := dk_132 2 1 (dk_at dksX2_init_3 2 rfl rfl)
theorem dX2_init_74 : decode cX2_init 74 = .ok (.goto (-18), 3) := dk_167 255 238 (dk_at dksX2_init_3 5 rfl rfl)
theorem dX2_init_77 : decode cX2_init 77 = .ok (.iinc 1 1, 3) := dk_132 1 1 (dk_at dksX2_init_3 8 rfl rfl)
theorem dX2_init_80 : decode cX2_init 80 = .ok (.goto (-41), 3) := dk_167 255 215 (dk_at dksX2_init_3 11 rfl rfl)
theorem dX2_init_83 : decode cX2_init 83 = .ok (.iconst 0, 1) := dk_3 (dk_at dksX2_init_3 14 rfl rfl)
theorem dX2_init_84 : decode cX2_init 84 = .ok (.istore_n 1, 1) := dk_60 (dk_at dksX2_init_3 15 rfl rfl)
theorem dX2_init_85 : decode cX2_init 85 = .ok (.iload_n 1, 1) := dk_27 (dk_at dksX2_init_3 16 rfl rfl)
theorem dX2_init_86 : decode cX2_init 86 = .ok (.bipush 10, 2) := dk_16 10 (dk_at dksX2_init_3 17 rfl rfl)
theorem dX2_init_88 : decode cX2_init 88 = .ok (.if_icmp .ge 16, 3) := dk_162 0 16 (dk_at dksX2_init_3 19 rfl rfl)
theorem dX2_init_91 : decode cX2_init 91 = .ok (.aload_n 0, 1) := dk_42 (dk_at dksX2_init_3 22 rfl rfl)
theorem dX2_init_92 : decode cX2_init 92 = .ok (.getfield 17, 3) := dk_180 0 17 (dk_at dksX2_init_4 0 rfl rfl)
theorem dX2_init_95 : decode cX2_init 95 = .ok (.iload_n 1, 1) := dk_27 (dk_at dksX2_init_4 3 rfl rfl)
theorem dX2_init_96 : decode cX2_init 96 = .ok (.iload_n 1, 1) := dk_27 (dk_at dksX2_init_4 4 rfl rfl)
theorem dX2_init_97 : decode cX2_init 97 = .ok (.iastore, 1) := dk_79 (dk_at dksX2_init_4 5 rfl rfl)
theorem dX2_init_98 : decode cX2_init 98 = .ok (.iinc 1 1, 3) := dk_132 1 1 (dk_at dksX2_init_4 6 rfl rfl)
theorem dX2_init_101 : decode cX2_init 101 = .ok (.goto (-16), 3) := dk_167 255 240 (dk_at dksX2_init_4 9 rfl rfl)
theorem dX2_init_104 : decode cX2_init 104 = .ok (.return_, 1) := dk_177 (dk_at dksX2_init_4 12 rfl rfl)
abbrev cX2_copy : ByteArray := prog_7_method_2_code
def yX2_copy : MethodName := ⟨RX2, "copy", "()LMapSheets$Sheet;"⟩
def dkwX2_copy_3 : List UInt8 := [180, 0, 28, 182, 0, 39, 43, 176]
abbrev dktX2_copy_3 : List UInt8 := dkwX2_copy_3 ++ []
def dkwX2_copy_2 : List UInt8 := [192, 0, 9, 181, 0, 17, 43, 42, 180, 0, 36, 181, 0, 36, 43, 42, 180, 0, 20, 181, 0, 20, 43, 42]
abbrev dktX2_copy_2 : List UInt8 := dkwX2_copy_2 ++ dktX2_copy_3
def dkwX2_copy_1 : List UInt8 := [28, 50, 182, 0, 32, 192, 0, 9, 83, 132, 2, 1, 167, 255, 230, 43, 42, 180, 0, 17, 182, 0, 32]
abbrev dktX2_copy_1 : List UInt8 := dkwX2_copy_1 ++ dktX2_copy_2
def dkwX2_copy_0 : List UInt8 := [187, 0, 12, 89, 183, 0, 31, 76, 3, 61, 28, 7, 162, 0, 27, 43, 180, 0, 11, 28, 42, 180, 0, 11]
abbrev dktX2_copy_0 : List UInt8 := dkwX2_copy_0 ++ dktX2_copy_1
theorem dksX2_copy_0 : cX2_copy.data.toList.drop 0 = dktX2_copy_0 := by decide +kernel
theorem dksX2_copy_1 : cX2_copy.data.toList.drop 24 = dktX2_copy_1 := dk_seg dksX2_copy_0 24 rfl rfl
theorem dksX2_copy_2 : cX2_copy.data.toList.drop 47 = dktX2_copy_2 := dk_seg dksX2_copy_1 23 rfl rfl
theorem dksX2_copy_3 : cX2_copy.data.toList.drop 71 = dktX2_copy_3 := dk_seg dksX2_copy_2 24 rfl rfl
theorem dX2_copy_0 : decode cX2_copy 0 = .ok (.new 12, 3) := dk_187 0 12 (dk_at dksX2_copy_0 0 rfl rfl)
theorem dX2_copy_3 : decode cX2_copy 3 = .ok (.dup, 1) := dk_89 (dk_at dksX2_copy_0 3 rfl rfl)
theorem dX2_copy_4 : decode cX2_copy 4 = .ok (.invokespecial 31, 3) := dk_183 0 31 (dk_at dksX2_copy_0 4 rfl rfl)
theorem dX2_copy_7 : decode cX2_copy 7 = .ok (.astore_n 1, 1) := dk_76 (dk_at dksX2_copy_0 7 rfl rfl)
theorem dX2_copy_8 : decode cX2_copy 8 = .ok (.iconst 0, 1) := dk_3 (dk_at dksX2_copy_0 8 rfl rfl)
theorem dX2_copy_9 : decode cX2_copy 9 = .ok (.istore_n 2, 1) := dk_61 (dk_at dksX2_copy_0 9 rfl rfl)
theorem dX2_copy_10 : decode cX2_copy 10 = .ok (.iload_n 2, 1) := dk_28 (dk_at dksX2_copy_0 10 rfl rfl)
theorem dX2_copy_11 : decode cX2_copy 11 = .ok (.iconst 4, 1) := dk_7 (dk_at dksX2_copy_0 11 rfl rfl)
theorem dX2_copy_12 : decode cX2_copy 12 = .ok (.if_icmp .ge 27, 3) := dk_162 0 27 (dk_at dksX2_copy_0 12 rfl rfl)
theorem dX2_copy_15 : decode cX2_copy 15 = .ok (.aload_n 1, 1) := dk_43 (dk_at dksX2_copy_0 15 rfl rfl)
theorem dX2_copy_16 : decode cX2_copy 16 = .ok (.getfield 11, 3) := dk_180 0 11 (dk_at dksX2_copy_0 16 rfl rfl)
theorem dX2_copy_19 : decode cX2_copy 19 = .ok (.iload_n 2, 1) := dk_28 (dk_at dksX2_copy_0 19 rfl rfl)
theorem dX2_copy_20 : decode cX2_copy 20 = .ok (.aload_n 0, 1) := dk_42 (dk_at dksX2_copy_0 20 rfl rfl)
theorem dX2_copy_21 : decode cX2_copy 21 = .ok (.getfield 11, 3) := dk_180 0 11 (dk_at dksX2_copy_0 21 rfl rfl)
theorem dX2_copy_24 : decode cX2_copy 24 = .ok (.iload_n 2, 1) := dk_28 (dk_at dksX2_copy_1 0 rfl rfl)
theorem dX2_copy_25 : decode cX2_copy 25 = .ok (.aaload, 1) := dk_50 (dk_at dksX2_copy_1 1 rfl rfl)
theorem dX2_copy_26 : decode cX2_copy 26 = .ok (.invokevirtual 32, 3) := dk_182 0 32 (dk_at dksX2_copy_1 2 rfl rfl)
theorem dX2_copy_29 : decode cX2_copy 29 = .ok (.checkcast 9, 3) := dk_192 0 9 (dk_at dksX2_copy_1 5 rfl rfl)
theorem dX2_copy_32 : decode cX2_copy 32 = .ok (.aastore, 1) := dk_83 (dk_at dksX2_copy_1 8 rfl rfl)
theorem dX2_copy_33 : decode cX2_copy 33 = .ok (.iinc 2 1, 3) := dk_132 2 1 (dk_at dksX2_copy_1 9 rfl rfl)
theorem dX2_copy_36 : decode cX2_copy 36 = .ok (.goto (-26), 3) := dk_167 255 230 (dk_at dksX2_copy_1 12 rfl rfl)
theorem dX2_copy_39 : decode cX2_copy 39 = .ok (.aload_n 1, 1) := dk_43 (dk_at dksX2_copy_1 15 rfl rfl)
theorem dX2_copy_40 : decode cX2_copy 40 = .ok (.aload_n 0, 1) := dk_42 (dk_at dksX2_copy_1 16 rfl rfl)
theorem dX2_copy_41 : decode cX2_copy 41 = .ok (.getfield 17, 3) := dk_180 0 17 (dk_at dksX2_copy_1 17 rfl rfl)
theorem dX2_copy_44 : decode cX2_copy 44 = .ok (.invokevirtual 32, 3) := dk_182 0 32 (dk_at dksX2_copy_1 20 rfl rfl)
theorem dX2_copy_47 : decode cX2_copy 47 = .ok (.checkcast 9, 3) := dk_192 0 9 (dk_at dksX2_copy_2 0 rfl rfl)
theorem dX2_copy_50 : decode cX2_copy 50 = .ok (.putfield 17, 3) := dk_181 0 17 (dk_at dksX2_copy_2 3 rfl rfl)
theorem dX2_copy_53 : decode cX2_copy 53 = .ok (.aload_n 1, 1) := dk_43 (dk_at dksX2_copy_2 6 rfl rfl)
theorem dX2_copy_54 : decode cX2_copy 54 = .ok (.aload_n 0, 1) := dk_42 (dk_at dksX2_copy_2 7 rfl rfl)
theorem dX2_copy_55 : decode cX2_copy 55 = .ok (.getfield 36, 3) := dk_180 0 36 (dk_at dksX2_copy_2 8 rfl rfl)
theorem dX2_copy_58 : decode cX2_copy 58 = .ok (.putfield 36, 3) := dk_181 0 36 (dk_at dksX2_copy_2 11 rfl rfl)
theorem dX2_copy_61 : decode cX2_copy 61 = .ok (.aload_n 1, 1) := dk_43 (dk_at dksX2_copy_2 14 rfl rfl)
theorem dX2_copy_62 : decode cX2_copy 62 = .ok (.aload_n 0, 1) := dk_42 (dk_at dksX2_copy_2 15 rfl rfl)
theorem dX2_copy_63 : decode cX2_copy 63 = .ok (.getfield 20, 3) := dk_180 0 20 (dk_at dksX2_copy_2 16 rfl rfl)
theorem dX2_copy_66 : decode cX2_copy 66 = .ok (.putfield 20, 3) := dk_181 0 20 (dk_at dksX2_copy_2 19 rfl rfl)
theorem dX2_copy_69 : decode cX2_copy 69 = .ok (.aload_n 1, 1) := dk_43 (dk_at dksX2_copy_2 22 rfl rfl)
theorem dX2_copy_70 : decode cX2_copy 70 = .ok (.aload_n 0, 1) := dk_42 (dk_at dksX2_copy_2 23 rfl rfl)
theorem dX2_copy_71 : decode cX2_copy 71 = .ok (.getfield 28, 3) := dk_180 0 28 (dk_at dksX2_copy_3 0 rfl rfl)
theorem dX2_copy_74 : decode cX2_copy 74 = .ok (.invokevirtual 39, 3) := dk_182 0 39 (dk_at dksX2_copy_3 3 rfl rfl)
theorem dX2_copy_77 : decode cX2_copy 77 = .ok (.aload_n 1, 1) := dk_43 (dk_at dksX2_copy_3 6 rfl rfl)
theorem dX2_copy_78 : decode cX2_copy 78 = .ok (.areturn, 1) := dk_176 (dk_at dksX2_copy_3 7 rfl rfl)
abbrev cX2_setScale : ByteArray := prog_7_method_3_code
def yX2_setScale : MethodName := ⟨RX2, "setScale", "(I)V"⟩
def dkwX2_setScale_0 : List UInt8 := [42, 27, 181, 0, 28, 42, 27, 134, 18, 43, 110, 181, 0, 24, 177]
abbrev dktX2_setScale_0 : List UInt8 := dkwX2_setScale_0 ++ []
theorem dksX2_setScale_0 : cX2_setScale.data.toList.drop 0 = dktX2_setScale_0 := by decide +kernel
theorem dX2_setScale_0 : decode cX2_setScale 0 = .ok (.aload_n 0, 1) := dk_42 (dk_at dksX2_setScale_0 0 rfl rfl)
theorem dX2_setScale_1 : decode cX2_setScale 1 = .ok (.iload_n 1, 1) := dk_27 (dk_at dksX2_setScale_0 1 rfl rfl)
theorem dX2_setScale_2 : decode cX2_setScale 2 = .ok (.putfield 28, 3) := dk_181 0 28 (dk_at dksX2_setScale_0 2 rfl rfl)
theorem dX2_setScale_5 : decode cX2_setScale 5 = .ok (.aload_n 0, 1) := dk_42 (dk_at dksX2_setScale_0 5 rfl rfl)
theorem dX2_setScale_6 : decode cX2_setScale 6 = .ok (.iload_n 1, 1) := dk_27 (dk_at dksX2_setScale_0 6 rfl rfl)
theorem dX2_setScale_7 : decode cX2_setScale 7 = .ok (.i2f, 1) := dk_134 (dk_at dksX2_setScale_0 7 rfl rfl)
theorem dX2_setScale_8 : decode cX2_setScale 8 = .ok (.ldc 43, 2) := dk_18 43 (dk_at dksX2_setScale_0 8 rfl rfl)
theorem dX2_setScale_10 : decode cX2_setScale 10 = .ok (.fdiv, 1) := dk_110 (dk_at dksX2_setScale_0 10 rfl rfl)
theorem dX2_setScale_11 : decode cX2_setScale 11 = .ok (.putfield 24, 3) := dk_181 0 24 (dk_at dksX2_setScale_0 11 rfl rfl)
theorem dX2_setScale_14 : decode cX2_setScale 14 = .ok (.return_, 1) := dk_177 (dk_at dksX2_setScale_0 14 rfl rfl)
abbrev cX2_meant : ByteArray := prog_7_method_4_code
def yX2_meant : MethodName := ⟨RX2, "meant", "(II)I"⟩
def dkwX2_meant_1 : List UInt8 := [172]
abbrev dktX2_meant_1 : List UInt8 := dkwX2_meant_1 ++ []
def dkwX2_meant_0 : List UInt8 := [42, 180, 0, 11, 27, 50, 28, 46, 62, 29, 2, 160, 0, 7, 2, 167, 0, 9, 42, 180, 0, 17, 29, 46]
abbrev dktX2_meant_0 : List UInt8 := dkwX2_meant_0 ++ dktX2_meant_1
theorem dksX2_meant_0 : cX2_meant.data.toList.drop 0 = dktX2_meant_0 := by decide +kernel
theorem dksX2_meant_1 : cX2_meant.data.toList.drop 24 = dktX2_meant_1 := dk_seg dksX2_meant_0 24 rfl rfl
theorem dX2_meant_0 : decode cX2_meant 0 = .ok (.aload_n 0, 1) := dk_42 (dk_at dksX2_meant_0 0 rfl rfl)
theorem dX2_meant_1 : decode cX2_meant 1 = .ok (.getfield 11, 3) := dk_180 0 11 (dk_at dksX2_meant_0 1 rfl rfl)
theorem dX2_meant_4 : decode cX2_meant 4 = .ok (.iload_n 1, 1) := dk_27 (dk_at dksX2_meant_0 4 rfl rfl)
theorem dX2_meant_5 : decode cX2_meant 5 = .ok (.aaload, 1) := dk_50 (dk_at dksX2_meant_0 5 rfl rfl)
theorem dX2_meant_6 : decode cX2_meant 6 = .ok (.iload_n 2, 1) := dk_28 (dk_at dksX2_meant_0 6 rfl rfl)
theorem dX2_meant_7 : decode cX2_meant 7 = .ok (.iaload, 1) := dk_46 (dk_at dksX2_meant_0 7 rfl rfl)
theorem dX2_meant_8 : decode cX2_meant 8 = .ok (.istore_n 3, 1) := dk_62 (dk_at dksX2_meant_0 8 rfl rfl)
theorem dX2_meant_9 : decode cX2_meant 9 = .ok (.iload_n 3, 1) := dk_29 (dk_at dksX2_meant_0 9 rfl rfl)
theorem dX2_meant_10 : decode cX2_meant 10 = .ok (.iconst (-1), 1) := dk_2 (dk_at dksX2_meant_0 10 rfl rfl)
theorem dX2_meant_11 : decode cX2_meant 11 = .ok (.if_icmp .ne 7, 3) := dk_160 0 7 (dk_at dksX2_meant_0 11 rfl rfl)
theorem dX2_meant_14 : decode cX2_meant 14 = .ok (.iconst (-1), 1) := dk_2 (dk_at dksX2_meant_0 14 rfl rfl)
theorem dX2_meant_15 : decode cX2_meant 15 = .ok (.goto 9, 3) := dk_167 0 9 (dk_at dksX2_meant_0 15 rfl rfl)
theorem dX2_meant_18 : decode cX2_meant 18 = .ok (.aload_n 0, 1) := dk_42 (dk_at dksX2_meant_0 18 rfl rfl)
theorem dX2_meant_19 : decode cX2_meant 19 = .ok (.getfield 17, 3) := dk_180 0 17 (dk_at dksX2_meant_0 19 rfl rfl)
theorem dX2_meant_22 : decode cX2_meant 22 = .ok (.iload_n 3, 1) := dk_29 (dk_at dksX2_meant_0 22 rfl rfl)
theorem dX2_meant_23 : decode cX2_meant 23 = .ok (.iaload, 1) := dk_46 (dk_at dksX2_meant_0 23 rfl rfl)
theorem dX2_meant_24 : decode cX2_meant 24 = .ok (.ireturn, 1) := dk_172 (dk_at dksX2_meant_1 0 rfl rfl)
abbrev cX2_signs : ByteArray := prog_7_method_5_code
def yX2_signs : MethodName := ⟨RX2, "signs", "()I"⟩
def dkwX2_signs_3 : List UInt8 := [167, 255, 225, 132, 4, 1, 167, 255, 195, 27, 172]
abbrev dktX2_signs_3 : List UInt8 := dkwX2_signs_3 ++ []
def dkwX2_signs_2 : List UInt8 := [21, 8, 46, 54, 9, 27, 21, 9, 2, 160, 0, 7, 3, 167, 0, 4, 4, 96, 60, 132, 8, 1]
abbrev dktX2_signs_2 : List UInt8 := dkwX2_signs_2 ++ dktX2_signs_3
def dkwX2_signs_1 : List UInt8 := [58, 5, 25, 5, 58, 6, 25, 6, 190, 54, 7, 3, 54, 8, 21, 8, 21, 7, 162, 0, 30, 25, 6]
abbrev dktX2_signs_1 : List UInt8 := dkwX2_signs_1 ++ dktX2_signs_2
def dkwX2_signs_0 : List UInt8 := [3, 60, 42, 180, 0, 11, 77, 44, 190, 62, 3, 54, 4, 21, 4, 29, 162, 0, 61, 44, 21, 4, 50]
abbrev dktX2_signs_0 : List UInt8 := dkwX2_signs_0 ++ dktX2_signs_1
theorem dksX2_signs_0 : cX2_signs.data.toList.drop 0 = dktX2_signs_0 := by decide +kernel
theorem dksX2_signs_1 : cX2_signs.data.toList.drop 23 = dktX2_signs_1 := dk_seg dksX2_signs_0 23 rfl rfl
theorem dksX2_signs_2 : cX2_signs.data.toList.drop 46 = dktX2_signs_2 := dk_seg dksX2_signs_1 23 rfl rfl
theorem dksX2_signs_3 : cX2_signs.data.toList.drop 68 = dktX2_signs_3 := dk_seg dksX2_signs_2 22 rfl rfl
theorem dX2_signs_0 : decode cX2_signs 0 = .ok (.iconst 0, 1) := dk_3 (dk_at dksX2_signs_0 0 rfl rfl)
theorem dX2_signs_1 : decode cX2_signs 1 = .ok (.istore_n 1, 1) := dk_60 (dk_at dksX2_signs_0 1 rfl rfl)
theorem dX2_signs_2 : decode cX2_signs 2 = .ok (.aload_n 0, 1) := dk_42 (dk_at dksX2_signs_0 2 rfl rfl)
theorem dX2_signs_3 : decode cX2_signs 3 = .ok (.getfield 11, 3) := dk_180 0 11 (dk_at dksX2_signs_0 3 rfl rfl)
theorem dX2_signs_6 : decode cX2_signs 6 = .ok (.astore_n 2, 1) := dk_77 (dk_at dksX2_signs_0 6 rfl rfl)
theorem dX2_signs_7 : decode cX2_signs 7 = .ok (.aload_n 2, 1) := dk_44 (dk_at dksX2_signs_0 7 rfl rfl)
theorem dX2_signs_8 : decode cX2_signs 8 = .ok (.arraylength, 1) := dk_190 (dk_at dksX2_signs_0 8 rfl rfl)
theorem dX2_signs_9 : decode cX2_signs 9 = .ok (.istore_n 3, 1) := dk_62 (dk_at dksX2_signs_0 9 rfl rfl)
theorem dX2_signs_10 : decode cX2_signs 10 = .ok (.iconst 0, 1) := dk_3 (dk_at dksX2_signs_0 10 rfl rfl)
theorem dX2_signs_11 : decode cX2_signs 11 = .ok (.istore 4, 2) := dk_54 4 (dk_at dksX2_signs_0 11 rfl rfl)
theorem dX2_signs_13 : decode cX2_signs 13 = .ok (.iload 4, 2) := dk_21 4 (dk_at dksX2_signs_0 13 rfl rfl)
theorem dX2_signs_15 : decode cX2_signs 15 = .ok (.iload_n 3, 1) := dk_29 (dk_at dksX2_signs_0 15 rfl rfl)
theorem dX2_signs_16 : decode cX2_signs 16 = .ok (.if_icmp .ge 61, 3) := dk_162 0 61 (dk_at dksX2_signs_0 16 rfl rfl)
theorem dX2_signs_19 : decode cX2_signs 19 = .ok (.aload_n 2, 1) := dk_44 (dk_at dksX2_signs_0 19 rfl rfl)
theorem dX2_signs_20 : decode cX2_signs 20 = .ok (.iload 4, 2) := dk_21 4 (dk_at dksX2_signs_0 20 rfl rfl)
theorem dX2_signs_22 : decode cX2_signs 22 = .ok (.aaload, 1) := dk_50 (dk_at dksX2_signs_0 22 rfl rfl)
theorem dX2_signs_23 : decode cX2_signs 23 = .ok (.astore 5, 2) := dk_58 5 (dk_at dksX2_signs_1 0 rfl rfl)
theorem dX2_signs_25 : decode cX2_signs 25 = .ok (.aload 5, 2) := dk_25 5 (dk_at dksX2_signs_1 2 rfl rfl)
theorem dX2_signs_27 : decode cX2_signs 27 = .ok (.astore 6, 2) := dk_58 6 (dk_at dksX2_signs_1 4 rfl rfl)
theorem dX2_signs_29 : decode cX2_signs 29 = .ok (.aload 6, 2) := dk_25 6 (dk_at dksX2_signs_1 6 rfl rfl)
theorem dX2_signs_31 : decode cX2_signs 31 = .ok (.arraylength, 1) := dk_190 (dk_at dksX2_signs_1 8 rfl rfl)
theorem dX2_signs_32 : decode cX2_signs 32 = .ok (.istore 7, 2) := dk_54 7 (dk_at dksX2_signs_1 9 rfl rfl)
theorem dX2_signs_34 : decode cX2_signs 34 = .ok (.iconst 0, 1) := dk_3 (dk_at dksX2_signs_1 11 rfl rfl)
theorem dX2_signs_35 : decode cX2_signs 35 = .ok (.istore 8, 2) := dk_54 8 (dk_at dksX2_signs_1 12 rfl rfl)
theorem dX2_signs_37 : decode cX2_signs 37 = .ok (.iload 8, 2) := dk_21 8 (dk_at dksX2_signs_1 14 rfl rfl)
theorem dX2_signs_39 : decode cX2_signs 39 = .ok (.iload 7, 2) := dk_21 7 (dk_at dksX2_signs_1 16 rfl rfl)
theorem dX2_signs_41 : decode cX2_signs 41 = .ok (.if_icmp .ge 30, 3) := dk_162 0 30 (dk_at dksX2_signs_1 18 rfl rfl)
theorem dX2_signs_44 : decode cX2_signs 44 = .ok (.aload 6, 2) := dk_25 6 (dk_at dksX2_signs_1 21 rfl rfl)
theorem dX2_signs_46 : decode cX2_signs 46 = .ok (.iload 8, 2) := dk_21 8 (dk_at dksX2_signs_2 0 rfl rfl)
theorem dX2_signs_48 : decode cX2_signs 48 = .ok (.iaload, 1) := dk_46 (dk_at dksX2_signs_2 2 rfl rfl)
theorem dX2_signs_49 : decode cX2_signs 49 = .ok (.istore 9, 2) := dk_54 9 (dk_at dksX2_signs_2 3 rfl rfl)
theorem dX2_signs_51 : decode cX2_signs 51 = .ok (.iload_n 1, 1) := dk_27 (dk_at dksX2_signs_2 5 rfl rfl)
theorem dX2_signs_52 : decode cX2_signs 52 = .ok (.iload 9, 2) := dk_21 9 (dk_at dksX2_signs_2 6 rfl rfl)
theorem dX2_signs_54 : decode cX2_signs 54 = .ok (.iconst (-1), 1) := dk_2 (dk_at dksX2_signs_2 8 rfl rfl)
theorem dX2_signs_55 : decode cX2_signs 55 = .ok (.if_icmp .ne 7, 3) := dk_160 0 7 (dk_at dksX2_signs_2 9 rfl rfl)
theorem dX2_signs_58 : decode cX2_signs 58 = .ok (.iconst 0, 1) := dk_3 (dk_at dksX2_signs_2 12 rfl rfl)
theorem dX2_signs_59 : decode cX2_signs 59 = .ok (.goto 4, 3) := dk_167 0 4 (dk_at dksX2_signs_2 13 rfl rfl)
theorem dX2_signs_62 : decode cX2_signs 62 = .ok (.iconst 1, 1) := dk_4 (dk_at dksX2_signs_2 16 rfl rfl)
theorem dX2_signs_63 : decode cX2_signs 63 = .ok (.iadd, 1) := dk_96 (dk_at dksX2_signs_2 17 rfl rfl)
theorem dX2_signs_64 : decode cX2_signs 64 = .ok (.istore_n 1, 1) := dk_60 (dk_at dksX2_signs_2 18 rfl rfl)
theorem dX2_signs_65 : decode cX2_signs 65 = .ok (.iinc 8 1, 3) := dk_132 8 1 (dk_at dksX2_signs_2 19 rfl rfl)
theorem dX2_signs_68 : decode cX2_signs 68 = .ok (.goto (-31), 3) := dk_167 255 225 (dk_at dksX2_signs_3 0 rfl rfl)
theorem dX2_signs_71 : decode cX2_signs 71 = .ok (.iinc 4 1, 3) := dk_132 4 1 (dk_at dksX2_signs_3 3 rfl rfl)
theorem dX2_signs_74 : decode cX2_signs 74 = .ok (.goto (-61), 3) := dk_167 255 195 (dk_at dksX2_signs_3 6 rfl rfl)
theorem dX2_signs_77 : decode cX2_signs 77 = .ok (.iload_n 1, 1) := dk_27 (dk_at dksX2_signs_3 9 rfl rfl)
theorem dX2_signs_78 : decode cX2_signs 78 = .ok (.ireturn, 1) := dk_172 (dk_at dksX2_signs_3 10 rfl rfl)
abbrev cX2_settled : ByteArray := prog_7_method_7_code
def yX2_settled : MethodName := ⟨RX2, "settled", "(III)I"⟩
def dkwX2_settled_2 : List UInt8 := [167, 0, 5, 21, 4, 172]
abbrev dktX2_settled_2 : List UInt8 := dkwX2_settled_2 ++ []
def dkwX2_settled_1 : List UInt8 := [42, 180, 0, 11, 27, 50, 28, 46, 172, 42, 29, 182, 0, 48, 54, 4, 21, 4, 2, 160, 0, 8, 16, 254]
abbrev dktX2_settled_1 : List UInt8 := dkwX2_settled_1 ++ dktX2_settled_2
def dkwX2_settled_0 : List UInt8 := [29, 2, 159, 0, 13, 42, 27, 28, 182, 0, 44, 29, 160, 0, 21, 29, 2, 160, 0, 7, 2, 167, 0, 11]
abbrev dktX2_settled_0 : List UInt8 := dkwX2_settled_0 ++ dktX2_settled_1
theorem dksX2_settled_0 : cX2_settled.data.toList.drop 0 = dktX2_settled_0 := by decide +kernel
theorem dksX2_settled_1 : cX2_settled.data.toList.drop 24 = dktX2_settled_1 := dk_seg dksX2_settled_0 24 rfl rfl
theorem dksX2_settled_2 : cX2_settled.data.toList.drop 48 = dktX2_settled_2 := dk_seg dksX2_settled_1 24 rfl rfl
theorem dX2_settled_0 : decode cX2_settled 0 = .ok (.iload_n 3, 1) := dk_29 (dk_at dksX2_settled_0 0 rfl rfl)
theorem dX2_settled_1 : decode cX2_settled 1 = .ok (.iconst (-1), 1) := dk_2 (dk_at dksX2_settled_0 1 rfl rfl)
theorem dX2_settled_2 : decode cX2_settled 2 = .ok (.if_icmp .eq 13, 3) := dk_159 0 13 (dk_at dksX2_settled_0 2 rfl rfl)
theorem dX2_settled_5 : decode cX2_settled 5 = .ok (.aload_n 0, 1) := dk_42 (dk_at dksX2_settled_0 5 rfl rfl)
theorem dX2_settled_6 : decode cX2_settled 6 = .ok (.iload_n 1, 1) := dk_27 (dk_at dksX2_settled_0 6 rfl rfl)
theorem dX2_settled_7 : decode cX2_settled 7 = .ok (.iload_n 2, 1) := dk_28 (dk_at dksX2_settled_0 7 rfl rfl)
theorem dX2_settled_8 : decode cX2_settled 8 = .ok (.invokevirtual 44, 3) := dk_182 0 44 (dk_at dksX2_settled_0 8 rfl rfl)
theorem dX2_settled_11 : decode cX2_settled 11 = .ok (.iload_n 3, 1) := dk_29 (dk_at dksX2_settled_0 11 rfl rfl)
theorem dX2_settled_12 : decode cX2_settled 12 = .ok (.if_icmp .ne 21, 3) := dk_160 0 21 (dk_at dksX2_settled_0 12 rfl rfl)
theorem dX2_settled_15 : decode cX2_settled 15 = .ok (.iload_n 3, 1) := dk_29 (dk_at dksX2_settled_0 15 rfl rfl)
theorem dX2_settled_16 : decode cX2_settled 16 = .ok (.iconst (-1), 1) := dk_2 (dk_at dksX2_settled_0 16 rfl rfl)
theorem dX2_settled_17 : decode cX2_settled 17 = .ok (.if_icmp .ne 7, 3) := dk_160 0 7 (dk_at dksX2_settled_0 17 rfl rfl)
theorem dX2_settled_20 : decode cX2_settled 20 = .ok (.iconst (-1), 1) := dk_2 (dk_at dksX2_settled_0 20 rfl rfl)
theorem dX2_settled_21 : decode cX2_settled 21 = .ok (.goto 11, 3) := dk_167 0 11 (dk_at dksX2_settled_0 21 rfl rfl)
theorem dX2_settled_24 : decode cX2_settled 24 = .ok (.aload_n 0, 1) := dk_42 (dk_at dksX2_settled_1 0 rfl rfl)
theorem dX2_settled_25 : decode cX2_settled 25 = .ok (.getfield 11, 3) := dk_180 0 11 (dk_at dksX2_settled_1 1 rfl rfl)
theorem dX2_settled_28 : decode cX2_settled 28 = .ok (.iload_n 1, 1) := dk_27 (dk_at dksX2_settled_1 4 rfl rfl)
theorem dX2_settled_29 : decode cX2_settled 29 = .ok (.aaload, 1) := dk_50 (dk_at dksX2_settled_1 5 rfl rfl)
theorem dX2_settled_30 : decode cX2_settled 30 = .ok (.iload_n 2, 1) := dk_28 (dk_at dksX2_settled_1 6 rfl rfl)
theorem dX2_settled_31 : decode cX2_settled 31 = .ok (.iaload, 1) := dk_46 (dk_at dksX2_settled_1 7 rfl rfl)
theorem dX2_settled_32 : decode cX2_settled 32 = .ok (.ireturn, 1) := dk_172 (dk_at dksX2_settled_1 8 rfl rfl)
theorem dX2_settled_33 : decode cX2_settled 33 = .ok (.aload_n 0, 1) := dk_42 (dk_at dksX2_settled_1 9 rfl rfl)
theorem dX2_settled_34 : decode cX2_settled 34 = .ok (.iload_n 3, 1) := dk_29 (dk_at dksX2_settled_1 10 rfl rfl)
theorem dX2_settled_35 : decode cX2_settled 35 = .ok (.invokevirtual 48, 3) := dk_182 0 48 (dk_at dksX2_settled_1 11 rfl rfl)
theorem dX2_settled_38 : decode cX2_settled 38 = .ok (.istore 4, 2) := dk_54 4 (dk_at dksX2_settled_1 14 rfl rfl)
theorem dX2_settled_40 : decode cX2_settled 40 = .ok (.iload 4, 2) := dk_21 4 (dk_at dksX2_settled_1 16 rfl rfl)
theorem dX2_settled_42 : decode cX2_settled 42 = .ok (.iconst (-1), 1) := dk_2 (dk_at dksX2_settled_1 18 rfl rfl)
theorem dX2_settled_43 : decode cX2_settled 43 = .ok (.if_icmp .ne 8, 3) := dk_160 0 8 (dk_at dksX2_settled_1 19 rfl rfl)
theorem dX2_settled_46 : decode cX2_settled 46 = .ok (.bipush (-2), 2) := dk_16 254 (dk_at dksX2_settled_1 22 rfl rfl)
theorem dX2_settled_48 : decode cX2_settled 48 = .ok (.goto 5, 3) := dk_167 0 5 (dk_at dksX2_settled_2 0 rfl rfl)
theorem dX2_settled_51 : decode cX2_settled 51 = .ok (.iload 4, 2) := dk_21 4 (dk_at dksX2_settled_2 3 rfl rfl)
theorem dX2_settled_53 : decode cX2_settled 53 = .ok (.ireturn, 1) := dk_172 (dk_at dksX2_settled_2 5 rfl rfl)
abbrev cX2_signFor : ByteArray := prog_7_method_6_code
def yX2_signFor : MethodName := ⟨RX2, "signFor", "(I)I"⟩
def dkwX2_signFor_1 : List UInt8 := [167, 255, 235, 2, 172]
abbrev dktX2_signFor_1 : List UInt8 := dkwX2_signFor_1 ++ []
def dkwX2_signFor_0 : List UInt8 := [3, 61, 28, 16, 10, 162, 0, 21, 42, 180, 0, 17, 28, 46, 27, 160, 0, 5, 28, 172, 132, 2, 1]
abbrev dktX2_signFor_0 : List UInt8 := dkwX2_signFor_0 ++ dktX2_signFor_1
theorem dksX2_signFor_0 : cX2_signFor.data.toList.drop 0 = dktX2_signFor_0 := by decide +kernel
theorem dksX2_signFor_1 : cX2_signFor.data.toList.drop 23 = dktX2_signFor_1 := dk_seg dksX2_signFor_0 23 rfl rfl
theorem dX2_signFor_0 : decode cX2_signFor 0 = .ok (.iconst 0, 1) := dk_3 (dk_at dksX2_signFor_0 0 rfl rfl)
theorem dX2_signFor_1 : decode cX2_signFor 1 = .ok (.istore_n 2, 1) := dk_61 (dk_at dksX2_signFor_0 1 rfl rfl)
theorem dX2_signFor_2 : decode cX2_signFor 2 = .ok (.iload_n 2, 1) := dk_28 (dk_at dksX2_signFor_0 2 rfl rfl)
theorem dX2_signFor_3 : decode cX2_signFor 3 = .ok (.bipush 10, 2) := dk_16 10 (dk_at dksX2_signFor_0 3 rfl rfl)
theorem dX2_signFor_5 : decode cX2_signFor 5 = .ok (.if_icmp .ge 21, 3) := dk_162 0 21 (dk_at dksX2_signFor_0 5 rfl rfl)
theorem dX2_signFor_8 : decode cX2_signFor 8 = .ok (.aload_n 0, 1) := dk_42 (dk_at dksX2_signFor_0 8 rfl rfl)
theorem dX2_signFor_9 : decode cX2_signFor 9 = .ok (.getfield 17, 3) := dk_180 0 17 (dk_at dksX2_signFor_0 9 rfl rfl)
theorem dX2_signFor_12 : decode cX2_signFor 12 = .ok (.iload_n 2, 1) := dk_28 (dk_at dksX2_signFor_0 12 rfl rfl)
theorem dX2_signFor_13 : decode cX2_signFor 13 = .ok (.iaload, 1) := dk_46 (dk_at dksX2_signFor_0 13 rfl rfl)
theorem dX2_signFor_14 : decode cX2_signFor 14 = .ok (.iload_n 1, 1) := dk_27 (dk_at dksX2_signFor_0 14 rfl rfl)
theorem dX2_signFor_15 : decode cX2_signFor 15 = .ok (.if_icmp .ne 5, 3) := dk_160 0 5 (dk_at dksX2_signFor_0 15 rfl rfl)
theorem dX2_signFor_18 : decode cX2_signFor 18 = .ok (.iload_n 2, 1) := dk_28 (dk_at dksX2_signFor_0 18 rfl rfl)
theorem dX2_signFor_19 : decode cX2_signFor 19 = .ok (.ireturn, 1) := dk_172 (dk_at dksX2_signFor_0 19 rfl rfl)
theorem dX2_signFor_20 : decode cX2_signFor 20 = .ok (.iinc 2 1, 3) := dk_132 2 1 (dk_at dksX2_signFor_0 20 rfl rfl)
theorem dX2_signFor_23 : decode cX2_signFor 23 = .ok (.goto (-21), 3) := dk_167 255 235 (dk_at dksX2_signFor_1 0 rfl rfl)
theorem dX2_signFor_26 : decode cX2_signFor 26 = .ok (.iconst (-1), 1) := dk_2 (dk_at dksX2_signFor_1 3 rfl rfl)
theorem dX2_signFor_27 : decode cX2_signFor 27 = .ok (.ireturn, 1) := dk_172 (dk_at dksX2_signFor_1 4 rfl rfl)
theorem q73 : (Jvm.Cond.initialized "MapSheets$Sheet") ∈ lw_all := lw_g (lw_at lw_m1 11 rfl) rfl
theorem q220 : (Jvm.Cond.instantiable "MapSheets$Sheet" (6 : Nat)) ∈ lw_all := lw_g (lw_at lw_m1 158 rfl) rfl
theorem q222 : (Jvm.Cond.instanceMethod ({ cls := "MapSheets$Sheet", name := "<init>", desc := "()V" } : Jvm.MethodName)) ∈ lw_all := lw_g (lw_at lw_m1 160 rfl) rfl
theorem q223 : (Jvm.Cond.code ({ cls := "MapSheets$Sheet", name := "<init>", desc := "()V" } : Jvm.MethodName) prog_7_method_1_code (3 : Nat) (Option.none : Option Jvm.ClassFile.FieldType)) ∈ lw_all := lw_g (lw_at lw_m1 161 rfl) rfl
theorem q224 : (Jvm.Cond.methodLink "MapSheets$Sheet" (3 : Nat) ({ cls := "java/lang/Object", name := "<init>", desc := "()V" } : Jvm.MethodName)) ∈ lw_all := lw_g (lw_at lw_m1 162 rfl) rfl
theorem q225 : (Jvm.Cond.classLink "MapSheets$Sheet" (9 : Nat) "[I") ∈ lw_all := lw_g (lw_at lw_m1 163 rfl) rfl
theorem q227 : (Jvm.Cond.fieldLink "MapSheets$Sheet" (11 : Nat) "MapSheets$Sheet" "sides" "[[I") ∈ lw_all := lw_g (lw_at lw_m1 165 rfl) rfl
theorem q231 : (Jvm.Cond.fieldLink "MapSheets$Sheet" (17 : Nat) "MapSheets$Sheet" "legend" "[I") ∈ lw_all := lw_g (lw_at lw_m1 169 rfl) rfl
theorem q233 : (Jvm.Cond.fieldLink "MapSheets$Sheet" (36 : Nat) "MapSheets$Sheet" "revision" "I") ∈ lw_all := lw_g (lw_at lw_m1 171 rfl) rfl
theorem q236 : (Jvm.Cond.fieldLink "MapSheets$Sheet" (20 : Nat) "MapSheets$Sheet" "published" "I") ∈ lw_all := lw_g (lw_at lw_m1 174 rfl) rfl
theorem q238 : (Jvm.Cond.fieldLink "MapSheets$Sheet" (24 : Nat) "MapSheets$Sheet" "scale" "F") ∈ lw_all := lw_g (lw_at lw_m1 176 rfl) rfl
theorem q241 : (Jvm.Cond.fieldLink "MapSheets$Sheet" (28 : Nat) "MapSheets$Sheet" "thousandths" "I") ∈ lw_all := lw_g (lw_at lw_m1 179 rfl) rfl
theorem q243 : (Jvm.Cond.laysFinal "MapSheets$Sheet" "MapSheets$Sheet" "sides" "[[I") ∈ lw_all := lw_g (lw_at lw_m1 181 rfl) rfl
theorem q244 : (Jvm.Cond.soleField "MapSheets$Sheet" "sides") ∈ lw_all := lw_g (lw_at lw_m1 182 rfl) rfl
theorem q245 : (Jvm.Cond.lays "MapSheets$Sheet" "MapSheets$Sheet" "legend" "[I") ∈ lw_all := lw_g (lw_at lw_m1 183 rfl) rfl
theorem q246 : (Jvm.Cond.soleField "MapSheets$Sheet" "legend") ∈ lw_all := lw_g (lw_at lw_m1 184 rfl) rfl
theorem q247 : (Jvm.Cond.lays "MapSheets$Sheet" "MapSheets$Sheet" "revision" "I") ∈ lw_all := lw_g (lw_at lw_m1 185 rfl) rfl
theorem q248 : (Jvm.Cond.soleField "MapSheets$Sheet" "revision") ∈ lw_all := lw_g (lw_at lw_m1 186 rfl) rfl
theorem q249 : (Jvm.Cond.lays "MapSheets$Sheet" "MapSheets$Sheet" "published" "I") ∈ lw_all := lw_g (lw_at lw_m1 187 rfl) rfl
theorem q250 : (Jvm.Cond.soleField "MapSheets$Sheet" "published") ∈ lw_all := lw_g (lw_at lw_m1 188 rfl) rfl
theorem q251 : (Jvm.Cond.lays "MapSheets$Sheet" "MapSheets$Sheet" "scale" "F") ∈ lw_all := lw_g (lw_at lw_m1 189 rfl) rfl
theorem q252 : (Jvm.Cond.soleField "MapSheets$Sheet" "scale") ∈ lw_all := lw_g (lw_at lw_m1 190 rfl) rfl
theorem q253 : (Jvm.Cond.lays "MapSheets$Sheet" "MapSheets$Sheet" "thousandths" "I") ∈ lw_all := lw_g (lw_at lw_m1 191 rfl) rfl
theorem q254 : (Jvm.Cond.soleField "MapSheets$Sheet" "thousandths") ∈ lw_all := lw_g (lw_at lw_m1 192 rfl) rfl
theorem q255 : (Jvm.Cond.superclass "MapSheets$Sheet" "java/lang/Object") ∈ lw_all := lw_g (lw_at lw_m1 193 rfl) rfl
theorem q294 : (Jvm.Cond.selects "MapSheets$Sheet" ({ cls := "java/lang/Object", name := "getClass", desc := "()Ljava/lang/Class;" } : Jvm.MethodName) ({ cls := "java/lang/Object", name := "getClass", desc := "()Ljava/lang/Class;" } : Jvm.MethodName)) ∈ lw_all := lw_g (lw_at lw_m1 232 rfl) rfl
theorem q474 : (Jvm.Cond.instanceMethod ({ cls := "MapSheets$Sheet", name := "copy", desc := "()LMapSheets$Sheet;" } : Jvm.MethodName)) ∈ lw_all := lw_g (lw_at lw_m2 172 rfl) rfl
theorem q475 : (Jvm.Cond.selects "MapSheets$Sheet" ({ cls := "MapSheets$Sheet", name := "copy", desc := "()LMapSheets$Sheet;" } : Jvm.MethodName) ({ cls := "MapSheets$Sheet", name := "copy", desc := "()LMapSheets$Sheet;" } : Jvm.MethodName)) ∈ lw_all := lw_g (lw_at lw_m2 173 rfl) rfl
theorem q476 : (Jvm.Cond.code ({ cls := "MapSheets$Sheet", name := "copy", desc := "()LMapSheets$Sheet;" } : Jvm.MethodName) prog_7_method_2_code (3 : Nat) (Option.some (Jvm.ClassFile.FieldType.object "MapSheets$Sheet"))) ∈ lw_all := lw_g (lw_at lw_m2 174 rfl) rfl
theorem q477 : (Jvm.Cond.classLink "MapSheets$Sheet" (12 : Nat) "MapSheets$Sheet") ∈ lw_all := lw_g (lw_at lw_m2 175 rfl) rfl
theorem q478 : (Jvm.Cond.methodLink "MapSheets$Sheet" (31 : Nat) ({ cls := "MapSheets$Sheet", name := "<init>", desc := "()V" } : Jvm.MethodName)) ∈ lw_all := lw_g (lw_at lw_m2 176 rfl) rfl
theorem q479 : (Jvm.Cond.methodLink "MapSheets$Sheet" (32 : Nat) ({ cls := "[I", name := "clone", desc := "()Ljava/lang/Object;" } : Jvm.MethodName)) ∈ lw_all := lw_g (lw_at lw_m2 177 rfl) rfl
theorem q480 : (Jvm.Cond.methodLink "MapSheets$Sheet" (39 : Nat) ({ cls := "MapSheets$Sheet", name := "setScale", desc := "(I)V" } : Jvm.MethodName)) ∈ lw_all := lw_g (lw_at lw_m2 178 rfl) rfl
theorem q481 : (Jvm.Cond.instanceMethod ({ cls := "MapSheets$Sheet", name := "setScale", desc := "(I)V" } : Jvm.MethodName)) ∈ lw_all := lw_g (lw_at lw_m2 179 rfl) rfl
theorem q482 : (Jvm.Cond.selects "MapSheets$Sheet" ({ cls := "MapSheets$Sheet", name := "setScale", desc := "(I)V" } : Jvm.MethodName) ({ cls := "MapSheets$Sheet", name := "setScale", desc := "(I)V" } : Jvm.MethodName)) ∈ lw_all := lw_g (lw_at lw_m2 180 rfl) rfl
theorem q483 : (Jvm.Cond.code ({ cls := "MapSheets$Sheet", name := "setScale", desc := "(I)V" } : Jvm.MethodName) prog_7_method_3_code (2 : Nat) (Option.none : Option Jvm.ClassFile.FieldType)) ∈ lw_all := lw_g (lw_at lw_m2 181 rfl) rfl
theorem q484 : (Jvm.Cond.constantFloat "MapSheets$Sheet" (43 : Nat) (1148846080 : UInt32)) ∈ lw_all := lw_g (lw_at lw_m2 182 rfl) rfl
theorem q555 : (Jvm.Cond.instanceMethod ({ cls := "MapSheets$Sheet", name := "meant", desc := "(II)I" } : Jvm.MethodName)) ∈ lw_all := lw_g (lw_at lw_m3 13 rfl) rfl
theorem q556 : (Jvm.Cond.selects "MapSheets$Sheet" ({ cls := "MapSheets$Sheet", name := "meant", desc := "(II)I" } : Jvm.MethodName) ({ cls := "MapSheets$Sheet", name := "meant", desc := "(II)I" } : Jvm.MethodName)) ∈ lw_all := lw_g (lw_at lw_m3 14 rfl) rfl
theorem q557 : (Jvm.Cond.code ({ cls := "MapSheets$Sheet", name := "meant", desc := "(II)I" } : Jvm.MethodName) prog_7_method_4_code (4 : Nat) (Option.some Jvm.ClassFile.FieldType.int)) ∈ lw_all := lw_g (lw_at lw_m3 15 rfl) rfl
theorem q612 : (Jvm.Cond.instanceMethod ({ cls := "MapSheets$Sheet", name := "signs", desc := "()I" } : Jvm.MethodName)) ∈ lw_all := lw_g (lw_at lw_m3 70 rfl) rfl
theorem q613 : (Jvm.Cond.selects "MapSheets$Sheet" ({ cls := "MapSheets$Sheet", name := "signs", desc := "()I" } : Jvm.MethodName) ({ cls := "MapSheets$Sheet", name := "signs", desc := "()I" } : Jvm.MethodName)) ∈ lw_all := lw_g (lw_at lw_m3 71 rfl) rfl
theorem q614 : (Jvm.Cond.code ({ cls := "MapSheets$Sheet", name := "signs", desc := "()I" } : Jvm.MethodName) prog_7_method_5_code (10 : Nat) (Option.some Jvm.ClassFile.FieldType.int)) ∈ lw_all := lw_g (lw_at lw_m3 72 rfl) rfl
theorem q721 : (Jvm.Cond.selects "MapSheets$Sheet" ({ cls := "java/lang/Object", name := "equals", desc := "(Ljava/lang/Object;)Z" } : Jvm.MethodName) ({ cls := "java/lang/Object", name := "equals", desc := "(Ljava/lang/Object;)Z" } : Jvm.MethodName)) ∈ lw_all := lw_g (lw_at lw_m3 179 rfl) rfl
theorem q762 : (Jvm.Cond.instanceMethod ({ cls := "MapSheets$Sheet", name := "settled", desc := "(III)I" } : Jvm.MethodName)) ∈ lw_all := lw_g (lw_at lw_m3 220 rfl) rfl
theorem q763 : (Jvm.Cond.selects "MapSheets$Sheet" ({ cls := "MapSheets$Sheet", name := "settled", desc := "(III)I" } : Jvm.MethodName) ({ cls := "MapSheets$Sheet", name := "settled", desc := "(III)I" } : Jvm.MethodName)) ∈ lw_all := lw_g (lw_at lw_m3 221 rfl) rfl
theorem q764 : (Jvm.Cond.code ({ cls := "MapSheets$Sheet", name := "settled", desc := "(III)I" } : Jvm.MethodName) prog_7_method_7_code (5 : Nat) (Option.some Jvm.ClassFile.FieldType.int)) ∈ lw_all := lw_g (lw_at lw_m3 222 rfl) rfl
theorem q765 : (Jvm.Cond.methodLink "MapSheets$Sheet" (44 : Nat) ({ cls := "MapSheets$Sheet", name := "meant", desc := "(II)I" } : Jvm.MethodName)) ∈ lw_all := lw_g (lw_at lw_m3 223 rfl) rfl
theorem q766 : (Jvm.Cond.methodLink "MapSheets$Sheet" (48 : Nat) ({ cls := "MapSheets$Sheet", name := "signFor", desc := "(I)I" } : Jvm.MethodName)) ∈ lw_all := lw_g (lw_at lw_m3 224 rfl) rfl
theorem q767 : (Jvm.Cond.instanceMethod ({ cls := "MapSheets$Sheet", name := "signFor", desc := "(I)I" } : Jvm.MethodName)) ∈ lw_all := lw_g (lw_at lw_m3 225 rfl) rfl
theorem q768 : (Jvm.Cond.selects "MapSheets$Sheet" ({ cls := "MapSheets$Sheet", name := "signFor", desc := "(I)I" } : Jvm.MethodName) ({ cls := "MapSheets$Sheet", name := "signFor", desc := "(I)I" } : Jvm.MethodName)) ∈ lw_all := lw_g (lw_at lw_m3 226 rfl) rfl
theorem q769 : (Jvm.Cond.code ({ cls := "MapSheets$Sheet", name := "signFor", desc := "(I)I" } : Jvm.MethodName) prog_7_method_6_code (3 : Nat) (Option.some Jvm.ClassFile.FieldType.int)) ∈ lw_all := lw_g (lw_at lw_m3 227 rfl) rfl
theorem q1478 : (Jvm.Cond.castable "MapSheets$Sheet" "java/lang/Object") ∈ lw_tbl := lw_at lw_m6 216 rfl
theorem in_X2 : ∀ w ∈ wsX20, w ∈ lw_all := lw_in wsX20 [243, 245, 247, 249, 251, 253] (by decide +kernel) (by decide +kernel)

/-! MapSheets$Edge -/
set_option maxRecDepth 100000
def RX3 : String := "MapSheets$Edge"
def TX3 : u_T := fun k => match k with
  | 0 => ("MapSheets$Edge", "first", "I", true)
  | 1 => ("MapSheets$Edge", "second", "I", true)
  | 2 => ("MapSheets$Edge", "side", "I", true)
  | _ => ("MapSheets$Edge", "isAgreed", "Z", false)
def tyX3 : Nat → FieldType := fun k => match k with
  | 0 => .int
  | 1 => .int
  | 2 => .int
  | _ => .boolean
abbrev wsX30 : List Cond := u_ws RX3 TX3 4
theorem nmX3 : ∀ a, a < 4 → ∀ b, b < 4 → a ≠ b → (TX3 a).2.1 ≠ (TX3 b).2.1 := by decide +kernel
theorem tyX3_ok : ∀ k, k < 4 → parseFieldDescriptor (TX3 k).2.2.1 = some (tyX3 k) := by decide +kernel
abbrev cX3_init : ByteArray := prog_3_method_1_code
def yX3_init : MethodName := ⟨RX3, "<init>", "(III)V"⟩
def dkwX3_init_0 : List UInt8 := [42, 183, 0, 3, 42, 27, 181, 0, 9, 42, 28, 181, 0, 15, 42, 29, 181, 0, 18, 177]
abbrev dktX3_init_0 : List UInt8 := dkwX3_init_0 ++ []
theorem dksX3_init_0 : cX3_init.data.toList.drop 0 = dktX3_init_0 := by decide +kernel
theorem dX3_init_0 : decode cX3_init 0 = .ok (.aload_n 0, 1) := dk_42 (dk_at dksX3_init_0 0 rfl rfl)
theorem dX3_init_1 : decode cX3_init 1 = .ok (.invokespecial 3, 3) := dk_183 0 3 (dk_at dksX3_init_0 1 rfl rfl)
theorem dX3_init_4 : decode cX3_init 4 = .ok (.aload_n 0, 1) := dk_42 (dk_at dksX3_init_0 4 rfl rfl)
theorem dX3_init_5 : decode cX3_init 5 = .ok (.iload_n 1, 1) := dk_27 (dk_at dksX3_init_0 5 rfl rfl)
theorem dX3_init_6 : decode cX3_init 6 = .ok (.putfield 9, 3) := dk_181 0 9 (dk_at dksX3_init_0 6 rfl rfl)
theorem dX3_init_9 : decode cX3_init 9 = .ok (.aload_n 0, 1) := dk_42 (dk_at dksX3_init_0 9 rfl rfl)
theorem dX3_init_10 : decode cX3_init 10 = .ok (.iload_n 2, 1) := dk_28 (dk_at dksX3_init_0 10 rfl rfl)
theorem dX3_init_11 : decode cX3_init 11 = .ok (.putfield 15, 3) := dk_181 0 15 (dk_at dksX3_init_0 11 rfl rfl)
theorem dX3_init_14 : decode cX3_init 14 = .ok (.aload_n 0, 1) := dk_42 (dk_at dksX3_init_0 14 rfl rfl)
theorem dX3_init_15 : decode cX3_init 15 = .ok (.iload_n 3, 1) := dk_29 (dk_at dksX3_init_0 15 rfl rfl)
theorem dX3_init_16 : decode cX3_init 16 = .ok (.putfield 18, 3) := dk_181 0 18 (dk_at dksX3_init_0 16 rfl rfl)
theorem dX3_init_19 : decode cX3_init 19 = .ok (.return_, 1) := dk_177 (dk_at dksX3_init_0 19 rfl rfl)
abbrev cX3_has : ByteArray := prog_3_method_3_code
def yX3_has : MethodName := ⟨RX3, "has", "(I)Z"⟩
def dkwX3_has_0 : List UInt8 := [27, 42, 180, 0, 9, 159, 0, 11, 27, 42, 180, 0, 15, 160, 0, 7, 4, 167, 0, 4, 3, 172]
abbrev dktX3_has_0 : List UInt8 := dkwX3_has_0 ++ []
theorem dksX3_has_0 : cX3_has.data.toList.drop 0 = dktX3_has_0 := by decide +kernel
theorem dX3_has_0 : decode cX3_has 0 = .ok (.iload_n 1, 1) := dk_27 (dk_at dksX3_has_0 0 rfl rfl)
theorem dX3_has_1 : decode cX3_has 1 = .ok (.aload_n 0, 1) := dk_42 (dk_at dksX3_has_0 1 rfl rfl)
theorem dX3_has_2 : decode cX3_has 2 = .ok (.getfield 9, 3) := dk_180 0 9 (dk_at dksX3_has_0 2 rfl rfl)
theorem dX3_has_5 : decode cX3_has 5 = .ok (.if_icmp .eq 11, 3) := dk_159 0 11 (dk_at dksX3_has_0 5 rfl rfl)
theorem dX3_has_8 : decode cX3_has 8 = .ok (.iload_n 1, 1) := dk_27 (dk_at dksX3_has_0 8 rfl rfl)
theorem dX3_has_9 : decode cX3_has 9 = .ok (.aload_n 0, 1) := dk_42 (dk_at dksX3_has_0 9 rfl rfl)
theorem dX3_has_10 : decode cX3_has 10 = .ok (.getfield 15, 3) := dk_180 0 15 (dk_at dksX3_has_0 10 rfl rfl)
theorem dX3_has_13 : decode cX3_has 13 = .ok (.if_icmp .ne 7, 3) := dk_160 0 7 (dk_at dksX3_has_0 13 rfl rfl)
theorem dX3_has_16 : decode cX3_has 16 = .ok (.iconst 1, 1) := dk_4 (dk_at dksX3_has_0 16 rfl rfl)
theorem dX3_has_17 : decode cX3_has 17 = .ok (.goto 4, 3) := dk_167 0 4 (dk_at dksX3_has_0 17 rfl rfl)
theorem dX3_has_20 : decode cX3_has 20 = .ok (.iconst 0, 1) := dk_3 (dk_at dksX3_has_0 20 rfl rfl)
theorem dX3_has_21 : decode cX3_has 21 = .ok (.ireturn, 1) := dk_172 (dk_at dksX3_has_0 21 rfl rfl)
abbrev cX3_sideOf : ByteArray := prog_3_method_2_code
def yX3_sideOf : MethodName := ⟨RX3, "sideOf", "(I)I"⟩
def dkwX3_sideOf_0 : List UInt8 := [27, 42, 180, 0, 9, 160, 0, 10, 42, 180, 0, 18, 167, 0, 11, 42, 180, 0, 18, 5, 96, 7, 112, 172]
abbrev dktX3_sideOf_0 : List UInt8 := dkwX3_sideOf_0 ++ []
theorem dksX3_sideOf_0 : cX3_sideOf.data.toList.drop 0 = dktX3_sideOf_0 := by decide +kernel
theorem dX3_sideOf_0 : decode cX3_sideOf 0 = .ok (.iload_n 1, 1) := dk_27 (dk_at dksX3_sideOf_0 0 rfl rfl)
theorem dX3_sideOf_1 : decode cX3_sideOf 1 = .ok (.aload_n 0, 1) := dk_42 (dk_at dksX3_sideOf_0 1 rfl rfl)
theorem dX3_sideOf_2 : decode cX3_sideOf 2 = .ok (.getfield 9, 3) := dk_180 0 9 (dk_at dksX3_sideOf_0 2 rfl rfl)
theorem dX3_sideOf_5 : decode cX3_sideOf 5 = .ok (.if_icmp .ne 10, 3) := dk_160 0 10 (dk_at dksX3_sideOf_0 5 rfl rfl)
theorem dX3_sideOf_8 : decode cX3_sideOf 8 = .ok (.aload_n 0, 1) := dk_42 (dk_at dksX3_sideOf_0 8 rfl rfl)
theorem dX3_sideOf_9 : decode cX3_sideOf 9 = .ok (.getfield 18, 3) := dk_180 0 18 (dk_at dksX3_sideOf_0 9 rfl rfl)
theorem dX3_sideOf_12 : decode cX3_sideOf 12 = .ok (.goto 11, 3) := dk_167 0 11 (dk_at dksX3_sideOf_0 12 rfl rfl)
theorem dX3_sideOf_15 : decode cX3_sideOf 15 = .ok (.aload_n 0, 1) := dk_42 (dk_at dksX3_sideOf_0 15 rfl rfl)
theorem dX3_sideOf_16 : decode cX3_sideOf 16 = .ok (.getfield 18, 3) := dk_180 0 18 (dk_at dksX3_sideOf_0 16 rfl rfl)
theorem dX3_sideOf_19 : decode cX3_sideOf 19 = .ok (.iconst 2, 1) := dk_5 (dk_at dksX3_sideOf_0 19 rfl rfl)
theorem dX3_sideOf_20 : decode cX3_sideOf 20 = .ok (.iadd, 1) := dk_96 (dk_at dksX3_sideOf_0 20 rfl rfl)
theorem dX3_sideOf_21 : decode cX3_sideOf 21 = .ok (.iconst 4, 1) := dk_7 (dk_at dksX3_sideOf_0 21 rfl rfl)
theorem dX3_sideOf_22 : decode cX3_sideOf 22 = .ok (.irem, 1) := dk_112 (dk_at dksX3_sideOf_0 22 rfl rfl)
theorem dX3_sideOf_23 : decode cX3_sideOf 23 = .ok (.ireturn, 1) := dk_172 (dk_at dksX3_sideOf_0 23 rfl rfl)
abbrev cX3_other : ByteArray := prog_3_method_4_code
def yX3_other : MethodName := ⟨RX3, "other", "(I)I"⟩
def dkwX3_other_0 : List UInt8 := [27, 42, 180, 0, 9, 160, 0, 10, 42, 180, 0, 15, 167, 0, 7, 42, 180, 0, 9, 172]
abbrev dktX3_other_0 : List UInt8 := dkwX3_other_0 ++ []
theorem dksX3_other_0 : cX3_other.data.toList.drop 0 = dktX3_other_0 := by decide +kernel
theorem dX3_other_0 : decode cX3_other 0 = .ok (.iload_n 1, 1) := dk_27 (dk_at dksX3_other_0 0 rfl rfl)
theorem dX3_other_1 : decode cX3_other 1 = .ok (.aload_n 0, 1) := dk_42 (dk_at dksX3_other_0 1 rfl rfl)
theorem dX3_other_2 : decode cX3_other 2 = .ok (.getfield 9, 3) := dk_180 0 9 (dk_at dksX3_other_0 2 rfl rfl)
theorem dX3_other_5 : decode cX3_other 5 = .ok (.if_icmp .ne 10, 3) := dk_160 0 10 (dk_at dksX3_other_0 5 rfl rfl)
theorem dX3_other_8 : decode cX3_other 8 = .ok (.aload_n 0, 1) := dk_42 (dk_at dksX3_other_0 8 rfl rfl)
theorem dX3_other_9 : decode cX3_other 9 = .ok (.getfield 15, 3) := dk_180 0 15 (dk_at dksX3_other_0 9 rfl rfl)
theorem dX3_other_12 : decode cX3_other 12 = .ok (.goto 7, 3) := dk_167 0 7 (dk_at dksX3_other_0 12 rfl rfl)
theorem dX3_other_15 : decode cX3_other 15 = .ok (.aload_n 0, 1) := dk_42 (dk_at dksX3_other_0 15 rfl rfl)
theorem dX3_other_16 : decode cX3_other 16 = .ok (.getfield 9, 3) := dk_180 0 9 (dk_at dksX3_other_0 16 rfl rfl)
theorem dX3_other_19 : decode cX3_other 19 = .ok (.ireturn, 1) := dk_172 (dk_at dksX3_other_0 19 rfl rfl)
theorem q78 : (Jvm.Cond.initialized "MapSheets$Edge") ∈ lw_all := lw_g (lw_at lw_m1 16 rfl) rfl
theorem q290 : (Jvm.Cond.selects "MapSheets$Edge" ({ cls := "java/lang/Object", name := "getClass", desc := "()Ljava/lang/Class;" } : Jvm.MethodName) ({ cls := "java/lang/Object", name := "getClass", desc := "()Ljava/lang/Class;" } : Jvm.MethodName)) ∈ lw_all := lw_g (lw_at lw_m1 228 rfl) rfl
theorem q321 : (Jvm.Cond.instantiable "MapSheets$Edge" (4 : Nat)) ∈ lw_all := lw_g (lw_at lw_m2 19 rfl) rfl
theorem q323 : (Jvm.Cond.instanceMethod ({ cls := "MapSheets$Edge", name := "<init>", desc := "(III)V" } : Jvm.MethodName)) ∈ lw_all := lw_g (lw_at lw_m2 21 rfl) rfl
theorem q324 : (Jvm.Cond.code ({ cls := "MapSheets$Edge", name := "<init>", desc := "(III)V" } : Jvm.MethodName) prog_3_method_1_code (4 : Nat) (Option.none : Option Jvm.ClassFile.FieldType)) ∈ lw_all := lw_g (lw_at lw_m2 22 rfl) rfl
theorem q325 : (Jvm.Cond.methodLink "MapSheets$Edge" (3 : Nat) ({ cls := "java/lang/Object", name := "<init>", desc := "()V" } : Jvm.MethodName)) ∈ lw_all := lw_g (lw_at lw_m2 23 rfl) rfl
theorem q326 : (Jvm.Cond.fieldLink "MapSheets$Edge" (9 : Nat) "MapSheets$Edge" "first" "I") ∈ lw_all := lw_g (lw_at lw_m2 24 rfl) rfl
theorem q329 : (Jvm.Cond.fieldLink "MapSheets$Edge" (15 : Nat) "MapSheets$Edge" "second" "I") ∈ lw_all := lw_g (lw_at lw_m2 27 rfl) rfl
theorem q332 : (Jvm.Cond.fieldLink "MapSheets$Edge" (18 : Nat) "MapSheets$Edge" "side" "I") ∈ lw_all := lw_g (lw_at lw_m2 30 rfl) rfl
theorem q336 : (Jvm.Cond.laysFinal "MapSheets$Edge" "MapSheets$Edge" "first" "I") ∈ lw_all := lw_g (lw_at lw_m2 34 rfl) rfl
theorem q337 : (Jvm.Cond.soleField "MapSheets$Edge" "first") ∈ lw_all := lw_g (lw_at lw_m2 35 rfl) rfl
theorem q338 : (Jvm.Cond.laysFinal "MapSheets$Edge" "MapSheets$Edge" "second" "I") ∈ lw_all := lw_g (lw_at lw_m2 36 rfl) rfl
theorem q339 : (Jvm.Cond.soleField "MapSheets$Edge" "second") ∈ lw_all := lw_g (lw_at lw_m2 37 rfl) rfl
theorem q340 : (Jvm.Cond.laysFinal "MapSheets$Edge" "MapSheets$Edge" "side" "I") ∈ lw_all := lw_g (lw_at lw_m2 38 rfl) rfl
theorem q341 : (Jvm.Cond.soleField "MapSheets$Edge" "side") ∈ lw_all := lw_g (lw_at lw_m2 39 rfl) rfl
theorem q342 : (Jvm.Cond.lays "MapSheets$Edge" "MapSheets$Edge" "isAgreed" "Z") ∈ lw_all := lw_g (lw_at lw_m2 40 rfl) rfl
theorem q343 : (Jvm.Cond.soleField "MapSheets$Edge" "isAgreed") ∈ lw_all := lw_g (lw_at lw_m2 41 rfl) rfl
theorem q344 : (Jvm.Cond.superclass "MapSheets$Edge" "java/lang/Object") ∈ lw_all := lw_g (lw_at lw_m2 42 rfl) rfl
theorem q534 : (Jvm.Cond.instanceMethod ({ cls := "MapSheets$Edge", name := "has", desc := "(I)Z" } : Jvm.MethodName)) ∈ lw_all := lw_g (lw_at lw_m2 232 rfl) rfl
theorem q535 : (Jvm.Cond.selects "MapSheets$Edge" ({ cls := "MapSheets$Edge", name := "has", desc := "(I)Z" } : Jvm.MethodName) ({ cls := "MapSheets$Edge", name := "has", desc := "(I)Z" } : Jvm.MethodName)) ∈ lw_all := lw_g (lw_at lw_m2 233 rfl) rfl
theorem q536 : (Jvm.Cond.code ({ cls := "MapSheets$Edge", name := "has", desc := "(I)Z" } : Jvm.MethodName) prog_3_method_3_code (2 : Nat) (Option.some Jvm.ClassFile.FieldType.boolean)) ∈ lw_all := lw_g (lw_at lw_m2 234 rfl) rfl
theorem q551 : (Jvm.Cond.instanceMethod ({ cls := "MapSheets$Edge", name := "sideOf", desc := "(I)I" } : Jvm.MethodName)) ∈ lw_all := lw_g (lw_at lw_m3 9 rfl) rfl
theorem q552 : (Jvm.Cond.selects "MapSheets$Edge" ({ cls := "MapSheets$Edge", name := "sideOf", desc := "(I)I" } : Jvm.MethodName) ({ cls := "MapSheets$Edge", name := "sideOf", desc := "(I)I" } : Jvm.MethodName)) ∈ lw_all := lw_g (lw_at lw_m3 10 rfl) rfl
theorem q553 : (Jvm.Cond.code ({ cls := "MapSheets$Edge", name := "sideOf", desc := "(I)I" } : Jvm.MethodName) prog_3_method_2_code (2 : Nat) (Option.some Jvm.ClassFile.FieldType.int)) ∈ lw_all := lw_g (lw_at lw_m3 11 rfl) rfl
theorem q717 : (Jvm.Cond.selects "MapSheets$Edge" ({ cls := "java/lang/Object", name := "equals", desc := "(Ljava/lang/Object;)Z" } : Jvm.MethodName) ({ cls := "java/lang/Object", name := "equals", desc := "(Ljava/lang/Object;)Z" } : Jvm.MethodName)) ∈ lw_all := lw_g (lw_at lw_m3 175 rfl) rfl
theorem q758 : (Jvm.Cond.instanceMethod ({ cls := "MapSheets$Edge", name := "other", desc := "(I)I" } : Jvm.MethodName)) ∈ lw_all := lw_g (lw_at lw_m3 216 rfl) rfl
theorem q759 : (Jvm.Cond.selects "MapSheets$Edge" ({ cls := "MapSheets$Edge", name := "other", desc := "(I)I" } : Jvm.MethodName) ({ cls := "MapSheets$Edge", name := "other", desc := "(I)I" } : Jvm.MethodName)) ∈ lw_all := lw_g (lw_at lw_m3 217 rfl) rfl
theorem q760 : (Jvm.Cond.code ({ cls := "MapSheets$Edge", name := "other", desc := "(I)I" } : Jvm.MethodName) prog_3_method_4_code (2 : Nat) (Option.some Jvm.ClassFile.FieldType.int)) ∈ lw_all := lw_g (lw_at lw_m3 218 rfl) rfl
theorem q1479 : (Jvm.Cond.castable "MapSheets$Edge" "java/lang/Object") ∈ lw_tbl := lw_at lw_m6 217 rfl
theorem in_X3 : ∀ w ∈ wsX30, w ∈ lw_all := lw_in wsX30 [336, 338, 340, 342] (by decide +kernel) (by decide +kernel)

/-! MapSheets$Quarrel -/
set_option maxRecDepth 100000
def RX5 : String := "MapSheets$Quarrel"
def TX5 : u_T := fun k => match k with
  | 0 => ("MapSheets$Quarrel", "position", "I", true)
  | _ => ("MapSheets$Quarrel", "reason", "I", true)
def tyX5 : Nat → FieldType := fun k => match k with
  | 0 => .int
  | _ => .int
abbrev wsX50 : List Cond := u_ws RX5 TX5 2
theorem nmX5 : ∀ a, a < 2 → ∀ b, b < 2 → a ≠ b → (TX5 a).2.1 ≠ (TX5 b).2.1 := by decide +kernel
theorem tyX5_ok : ∀ k, k < 2 → parseFieldDescriptor (TX5 k).2.2.1 = some (tyX5 k) := by decide +kernel
abbrev cX5_init : ByteArray := prog_5_method_1_code
def yX5_init : MethodName := ⟨RX5, "<init>", "(II)V"⟩
def dkwX5_init_0 : List UInt8 := [42, 183, 0, 1, 42, 27, 181, 0, 7, 42, 28, 181, 0, 13, 177]
abbrev dktX5_init_0 : List UInt8 := dkwX5_init_0 ++ []
theorem dksX5_init_0 : cX5_init.data.toList.drop 0 = dktX5_init_0 := by decide +kernel
theorem dX5_init_0 : decode cX5_init 0 = .ok (.aload_n 0, 1) := dk_42 (dk_at dksX5_init_0 0 rfl rfl)
theorem dX5_init_1 : decode cX5_init 1 = .ok (.invokespecial 1, 3) := dk_183 0 1 (dk_at dksX5_init_0 1 rfl rfl)
theorem dX5_init_4 : decode cX5_init 4 = .ok (.aload_n 0, 1) := dk_42 (dk_at dksX5_init_0 4 rfl rfl)
theorem dX5_init_5 : decode cX5_init 5 = .ok (.iload_n 1, 1) := dk_27 (dk_at dksX5_init_0 5 rfl rfl)
theorem dX5_init_6 : decode cX5_init 6 = .ok (.putfield 7, 3) := dk_181 0 7 (dk_at dksX5_init_0 6 rfl rfl)
theorem dX5_init_9 : decode cX5_init 9 = .ok (.aload_n 0, 1) := dk_42 (dk_at dksX5_init_0 9 rfl rfl)
theorem dX5_init_10 : decode cX5_init 10 = .ok (.iload_n 2, 1) := dk_28 (dk_at dksX5_init_0 10 rfl rfl)
theorem dX5_init_11 : decode cX5_init 11 = .ok (.putfield 13, 3) := dk_181 0 13 (dk_at dksX5_init_0 11 rfl rfl)
theorem dX5_init_14 : decode cX5_init 14 = .ok (.return_, 1) := dk_177 (dk_at dksX5_init_0 14 rfl rfl)
theorem q83 : (Jvm.Cond.initialized "MapSheets$Quarrel") ∈ lw_all := lw_g (lw_at lw_m1 21 rfl) rfl
theorem q292 : (Jvm.Cond.selects "MapSheets$Quarrel" ({ cls := "java/lang/Object", name := "getClass", desc := "()Ljava/lang/Class;" } : Jvm.MethodName) ({ cls := "java/lang/Object", name := "getClass", desc := "()Ljava/lang/Class;" } : Jvm.MethodName)) ∈ lw_all := lw_g (lw_at lw_m1 230 rfl) rfl
theorem q559 : (Jvm.Cond.instantiable "MapSheets$Quarrel" (2 : Nat)) ∈ lw_all := lw_g (lw_at lw_m3 17 rfl) rfl
theorem q561 : (Jvm.Cond.instanceMethod ({ cls := "MapSheets$Quarrel", name := "<init>", desc := "(II)V" } : Jvm.MethodName)) ∈ lw_all := lw_g (lw_at lw_m3 19 rfl) rfl
theorem q562 : (Jvm.Cond.code ({ cls := "MapSheets$Quarrel", name := "<init>", desc := "(II)V" } : Jvm.MethodName) prog_5_method_1_code (3 : Nat) (Option.none : Option Jvm.ClassFile.FieldType)) ∈ lw_all := lw_g (lw_at lw_m3 20 rfl) rfl
theorem q563 : (Jvm.Cond.methodLink "MapSheets$Quarrel" (1 : Nat) ({ cls := "java/lang/Object", name := "<init>", desc := "()V" } : Jvm.MethodName)) ∈ lw_all := lw_g (lw_at lw_m3 21 rfl) rfl
theorem q564 : (Jvm.Cond.fieldLink "MapSheets$Quarrel" (7 : Nat) "MapSheets$Quarrel" "position" "I") ∈ lw_all := lw_g (lw_at lw_m3 22 rfl) rfl
theorem q566 : (Jvm.Cond.fieldLink "MapSheets$Quarrel" (13 : Nat) "MapSheets$Quarrel" "reason" "I") ∈ lw_all := lw_g (lw_at lw_m3 24 rfl) rfl
theorem q568 : (Jvm.Cond.laysFinal "MapSheets$Quarrel" "MapSheets$Quarrel" "position" "I") ∈ lw_all := lw_g (lw_at lw_m3 26 rfl) rfl
theorem q569 : (Jvm.Cond.soleField "MapSheets$Quarrel" "position") ∈ lw_all := lw_g (lw_at lw_m3 27 rfl) rfl
theorem q570 : (Jvm.Cond.laysFinal "MapSheets$Quarrel" "MapSheets$Quarrel" "reason" "I") ∈ lw_all := lw_g (lw_at lw_m3 28 rfl) rfl
theorem q571 : (Jvm.Cond.soleField "MapSheets$Quarrel" "reason") ∈ lw_all := lw_g (lw_at lw_m3 29 rfl) rfl
theorem q572 : (Jvm.Cond.superclass "MapSheets$Quarrel" "java/lang/Object") ∈ lw_all := lw_g (lw_at lw_m3 30 rfl) rfl
theorem q719 : (Jvm.Cond.selects "MapSheets$Quarrel" ({ cls := "java/lang/Object", name := "equals", desc := "(Ljava/lang/Object;)Z" } : Jvm.MethodName) ({ cls := "java/lang/Object", name := "equals", desc := "(Ljava/lang/Object;)Z" } : Jvm.MethodName)) ∈ lw_all := lw_g (lw_at lw_m3 177 rfl) rfl
theorem q1482 : (Jvm.Cond.castable "MapSheets$Quarrel" "java/lang/Object") ∈ lw_tbl := lw_at lw_m6 220 rfl
theorem in_X5 : ∀ w ∈ wsX50, w ∈ lw_all := lw_in wsX50 [568, 570] (by decide +kernel) (by decide +kernel)

/-! MapSheets$Reader -/
set_option maxRecDepth 100000
def RX6 : String := "MapSheets$Reader"
def TX6 : u_T := fun k => match k with
  | 0 => ("MapSheets$Reader", "read", "Ljava/util/ArrayList;", true)
  | 1 => ("MapSheets$Reader", "at", "I", false)
  | _ => ("MapSheets$Reader", "this$0", "LMapSheets;", true)
def tyX6 : Nat → FieldType := fun k => match k with
  | 0 => .object "java/util/ArrayList"
  | 1 => .int
  | _ => .object "MapSheets"
abbrev wsX60 : List Cond := u_ws RX6 TX6 3
theorem nmX6 : ∀ a, a < 3 → ∀ b, b < 3 → a ≠ b → (TX6 a).2.1 ≠ (TX6 b).2.1 := by decide +kernel
theorem tyX6_ok : ∀ k, k < 3 → parseFieldDescriptor (TX6 k).2.2.1 = some (tyX6 k) := by decide +kernel
abbrev cX6_init : ByteArray := prog_6_method_1_code
def yX6_init : MethodName := ⟨RX6, "<init>", "(LMapSheets;)V"⟩
def dkwX6_init_0 : List UInt8 := [42, 43, 181, 0, 3, 42, 183, 0, 9, 42, 187, 0, 15, 89, 183, 0, 17, 181, 0, 18, 177]
abbrev dktX6_init_0 : List UInt8 := dkwX6_init_0 ++ []
theorem dksX6_init_0 : cX6_init.data.toList.drop 0 = dktX6_init_0 := by decide +kernel
theorem dX6_init_0 : decode cX6_init 0 = .ok (.aload_n 0, 1) := dk_42 (dk_at dksX6_init_0 0 rfl rfl)
theorem dX6_init_1 : decode cX6_init 1 = .ok (.aload_n 1, 1) := dk_43 (dk_at dksX6_init_0 1 rfl rfl)
theorem dX6_init_2 : decode cX6_init 2 = .ok (.putfield 3, 3) := dk_181 0 3 (dk_at dksX6_init_0 2 rfl rfl)
theorem dX6_init_5 : decode cX6_init 5 = .ok (.aload_n 0, 1) := dk_42 (dk_at dksX6_init_0 5 rfl rfl)
theorem dX6_init_6 : decode cX6_init 6 = .ok (.invokespecial 9, 3) := dk_183 0 9 (dk_at dksX6_init_0 6 rfl rfl)
theorem dX6_init_9 : decode cX6_init 9 = .ok (.aload_n 0, 1) := dk_42 (dk_at dksX6_init_0 9 rfl rfl)
theorem dX6_init_10 : decode cX6_init 10 = .ok (.new 15, 3) := dk_187 0 15 (dk_at dksX6_init_0 10 rfl rfl)
theorem dX6_init_13 : decode cX6_init 13 = .ok (.dup, 1) := dk_89 (dk_at dksX6_init_0 13 rfl rfl)
theorem dX6_init_14 : decode cX6_init 14 = .ok (.invokespecial 17, 3) := dk_183 0 17 (dk_at dksX6_init_0 14 rfl rfl)
theorem dX6_init_17 : decode cX6_init 17 = .ok (.putfield 18, 3) := dk_181 0 18 (dk_at dksX6_init_0 17 rfl rfl)
theorem dX6_init_20 : decode cX6_init 20 = .ok (.return_, 1) := dk_177 (dk_at dksX6_init_0 20 rfl rfl)
abbrev cX6_reads : ByteArray := prog_6_method_5_code
def yX6_reads : MethodName := ⟨RX6, "reads", "()Z"⟩
def dkwX6_reads_1 : List UInt8 := [182, 0, 76, 60, 167, 255, 230, 27, 172]
abbrev dktX6_reads_1 : List UInt8 := dkwX6_reads_1 ++ []
def dkwX6_reads_0 : List UInt8 := [4, 60, 27, 153, 0, 28, 42, 180, 0, 22, 42, 180, 0, 3, 180, 0, 26, 182, 0, 30, 162, 0, 11, 42]
abbrev dktX6_reads_0 : List UInt8 := dkwX6_reads_0 ++ dktX6_reads_1
theorem dksX6_reads_0 : cX6_reads.data.toList.drop 0 = dktX6_reads_0 := by decide +kernel
theorem dksX6_reads_1 : cX6_reads.data.toList.drop 24 = dktX6_reads_1 := dk_seg dksX6_reads_0 24 rfl rfl
theorem dX6_reads_0 : decode cX6_reads 0 = .ok (.iconst 1, 1) := dk_4 (dk_at dksX6_reads_0 0 rfl rfl)
theorem dX6_reads_1 : decode cX6_reads 1 = .ok (.istore_n 1, 1) := dk_60 (dk_at dksX6_reads_0 1 rfl rfl)
theorem dX6_reads_2 : decode cX6_reads 2 = .ok (.iload_n 1, 1) := dk_27 (dk_at dksX6_reads_0 2 rfl rfl)
theorem dX6_reads_3 : decode cX6_reads 3 = .ok (.ifCond .eq 28, 3) := dk_153 0 28 (dk_at dksX6_reads_0 3 rfl rfl)
theorem dX6_reads_6 : decode cX6_reads 6 = .ok (.aload_n 0, 1) := dk_42 (dk_at dksX6_reads_0 6 rfl rfl)
theorem dX6_reads_7 : decode cX6_reads 7 = .ok (.getfield 22, 3) := dk_180 0 22 (dk_at dksX6_reads_0 7 rfl rfl)
theorem dX6_reads_10 : decode cX6_reads 10 = .ok (.aload_n 0, 1) := dk_42 (dk_at dksX6_reads_0 10 rfl rfl)
theorem dX6_reads_11 : decode cX6_reads 11 = .ok (.getfield 3, 3) := dk_180 0 3 (dk_at dksX6_reads_0 11 rfl rfl)
theorem dX6_reads_14 : decode cX6_reads 14 = .ok (.getfield 26, 3) := dk_180 0 26 (dk_at dksX6_reads_0 14 rfl rfl)
theorem dX6_reads_17 : decode cX6_reads 17 = .ok (.invokevirtual 30, 3) := dk_182 0 30 (dk_at dksX6_reads_0 17 rfl rfl)
theorem dX6_reads_20 : decode cX6_reads 20 = .ok (.if_icmp .ge 11, 3) := dk_162 0 11 (dk_at dksX6_reads_0 20 rfl rfl)
theorem dX6_reads_23 : decode cX6_reads 23 = .ok (.aload_n 0, 1) := dk_42 (dk_at dksX6_reads_0 23 rfl rfl)
theorem dX6_reads_24 : decode cX6_reads 24 = .ok (.invokevirtual 76, 3) := dk_182 0 76 (dk_at dksX6_reads_1 0 rfl rfl)
theorem dX6_reads_27 : decode cX6_reads 27 = .ok (.istore_n 1, 1) := dk_60 (dk_at dksX6_reads_1 3 rfl rfl)
theorem dX6_reads_28 : decode cX6_reads 28 = .ok (.goto (-26), 3) := dk_167 255 230 (dk_at dksX6_reads_1 4 rfl rfl)
theorem dX6_reads_31 : decode cX6_reads 31 = .ok (.iload_n 1, 1) := dk_27 (dk_at dksX6_reads_1 7 rfl rfl)
theorem dX6_reads_32 : decode cX6_reads 32 = .ok (.ireturn, 1) := dk_172 (dk_at dksX6_reads_1 8 rfl rfl)
abbrev cX6_told : ByteArray := prog_6_method_4_code
def yX6_told : MethodName := ⟨RX6, "told", "()Z"⟩
def dkwX6_told_4 : List UInt8 := [183, 0, 64, 167, 0, 12, 187, 0, 67, 89, 27, 28, 183, 0, 69, 182, 0, 72, 87, 4, 172]
abbrev dktX6_told_4 : List UInt8 := dkwX6_told_4 ++ []
def dkwX6_told_3 : List UInt8 := [182, 0, 52, 156, 0, 5, 3, 172, 42, 180, 0, 18, 29, 154, 0, 17, 187, 0, 62, 89, 27, 28, 21, 4]
abbrev dktX6_told_3 : List UInt8 := dkwX6_told_3 ++ dktX6_told_4
def dkwX6_told_2 : List UInt8 := [167, 0, 4, 2, 54, 4, 29, 155, 0, 21, 29, 154, 0, 8, 21, 4, 155, 0, 12, 42, 18, 60]
abbrev dktX6_told_2 : List UInt8 := dkwX6_told_2 ++ dktX6_told_3
def dkwX6_told_1 : List UInt8 := [156, 0, 5, 3, 172, 42, 18, 58, 182, 0, 52, 62, 29, 154, 0, 12, 42, 18, 56, 182, 0, 52]
abbrev dktX6_told_1 : List UInt8 := dkwX6_told_1 ++ dktX6_told_2
def dkwX6_told_0 : List UInt8 := [42, 18, 50, 182, 0, 52, 60, 27, 156, 0, 7, 2, 167, 0, 9, 42, 18, 56, 182, 0, 52, 61, 28]
abbrev dktX6_told_0 : List UInt8 := dkwX6_told_0 ++ dktX6_told_1
theorem dksX6_told_0 : cX6_told.data.toList.drop 0 = dktX6_told_0 := by decide +kernel
theorem dksX6_told_1 : cX6_told.data.toList.drop 23 = dktX6_told_1 := dk_seg dksX6_told_0 23 rfl rfl
theorem dksX6_told_2 : cX6_told.data.toList.drop 45 = dktX6_told_2 := dk_seg dksX6_told_1 22 rfl rfl
theorem dksX6_told_3 : cX6_told.data.toList.drop 67 = dktX6_told_3 := dk_seg dksX6_told_2 22 rfl rfl
theorem dksX6_told_4 : cX6_told.data.toList.drop 91 = dktX6_told_4 := dk_seg dksX6_told_3 24 rfl rfl
theorem dX6_told_0 : decode cX6_told 0 = .ok (.aload_n 0, 1) := dk_42 (dk_at dksX6_told_0 0 rfl rfl)
theorem dX6_told_1 : decode cX6_told 1 = .ok (.ldc 50, 2) := dk_18 50 (dk_at dksX6_told_0 1 rfl rfl)
theorem dX6_told_3 : decode cX6_told 3 = .ok (.invokevirtual 52, 3) := dk_182 0 52 (dk_at dksX6_told_0 3 rfl rfl)
theorem dX6_told_6 : decode cX6_told 6 = .ok (.istore_n 1, 1) := dk_60 (dk_at dksX6_told_0 6 rfl rfl)
theorem dX6_told_7 : decode cX6_told 7 = .ok (.iload_n 1, 1) := dk_27 (dk_at dksX6_told_0 7 rfl rfl)
theorem dX6_told_8 : decode cX6_told 8 = .ok (.ifCond .ge 7, 3) := dk_156 0 7 (dk_at dksX6_told_0 8 rfl rfl)
theorem dX6_told_11 : decode cX6_told 11 = .ok (.iconst (-1), 1) := dk_2 (dk_at dksX6_told_0 11 rfl rfl)
theorem dX6_told_12 : decode cX6_told 12 = .ok (.goto 9, 3) := dk_167 0 9 (dk_at dksX6_told_0 12 rfl rfl)
theorem dX6_told_15 : decode cX6_told 15 = .ok (.aload_n 0, 1) := dk_42 (dk_at dksX6_told_0 15 rfl rfl)
theorem dX6_told_16 : decode cX6_told 16 = .ok (.ldc 56, 2) := dk_18 56 (dk_at dksX6_told_0 16 rfl rfl)
theorem dX6_told_18 : decode cX6_told 18 = .ok (.invokevirtual 52, 3) := dk_182 0 52 (dk_at dksX6_told_0 18 rfl rfl)
theorem dX6_told_21 : decode cX6_told 21 = .ok (.istore_n 2, 1) := dk_61 (dk_at dksX6_told_0 21 rfl rfl)
theorem dX6_told_22 : decode cX6_told 22 = .ok (.iload_n 2, 1) := dk_28 (dk_at dksX6_told_0 22 rfl rfl)
theorem dX6_told_23 : decode cX6_told 23 = .ok (.ifCond .ge 5, 3) := dk_156 0 5 (dk_at dksX6_told_1 0 rfl rfl)
theorem dX6_told_26 : decode cX6_told 26 = .ok (.iconst 0, 1) := dk_3 (dk_at dksX6_told_1 3 rfl rfl)
theorem dX6_told_27 : decode cX6_told 27 = .ok (.ireturn, 1) := dk_172 (dk_at dksX6_told_1 4 rfl rfl)
theorem dX6_told_28 : decode cX6_told 28 = .ok (.aload_n 0, 1) := dk_42 (dk_at dksX6_told_1 5 rfl rfl)
theorem dX6_told_29 : decode cX6_told 29 = .ok (.ldc 58, 2) := dk_18 58 (dk_at dksX6_told_1 6 rfl rfl)
theorem dX6_told_31 : decode cX6_told 31 = .ok (.invokevirtual 52, 3) := dk_182 0 52 (dk_at dksX6_told_1 8 rfl rfl)
theorem dX6_told_34 : decode cX6_told 34 = .ok (.istore_n 3, 1) := dk_62 (dk_at dksX6_told_1 11 rfl rfl)
theorem dX6_told_35 : decode cX6_told 35 = .ok (.iload_n 3, 1) := dk_29 (dk_at dksX6_told_1 12 rfl rfl)
theorem dX6_told_36 : decode cX6_told 36 = .ok (.ifCond .ne 12, 3) := dk_154 0 12 (dk_at dksX6_told_1 13 rfl rfl)
theorem dX6_told_39 : decode cX6_told 39 = .ok (.aload_n 0, 1) := dk_42 (dk_at dksX6_told_1 16 rfl rfl)
theorem dX6_told_40 : decode cX6_told 40 = .ok (.ldc 56, 2) := dk_18 56 (dk_at dksX6_told_1 17 rfl rfl)
theorem dX6_told_42 : decode cX6_told 42 = .ok (.invokevirtual 52, 3) := dk_182 0 52 (dk_at dksX6_told_1 19 rfl rfl)
theorem dX6_told_45 : decode cX6_told 45 = .ok (.goto 4, 3) := dk_167 0 4 (dk_at dksX6_told_2 0 rfl rfl)
theorem dX6_told_48 : decode cX6_told 48 = .ok (.iconst (-1), 1) := dk_2 (dk_at dksX6_told_2 3 rfl rfl)
theorem dX6_told_49 : decode cX6_told 49 = .ok (.istore 4, 2) := dk_54 4 (dk_at dksX6_told_2 4 rfl rfl)
theorem dX6_told_51 : decode cX6_told 51 = .ok (.iload_n 3, 1) := dk_29 (dk_at dksX6_told_2 6 rfl rfl)
theorem dX6_told_52 : decode cX6_told 52 = .ok (.ifCond .lt 21, 3) := dk_155 0 21 (dk_at dksX6_told_2 7 rfl rfl)
theorem dX6_told_55 : decode cX6_told 55 = .ok (.iload_n 3, 1) := dk_29 (dk_at dksX6_told_2 10 rfl rfl)
theorem dX6_told_56 : decode cX6_told 56 = .ok (.ifCond .ne 8, 3) := dk_154 0 8 (dk_at dksX6_told_2 11 rfl rfl)
theorem dX6_told_59 : decode cX6_told 59 = .ok (.iload 4, 2) := dk_21 4 (dk_at dksX6_told_2 14 rfl rfl)
theorem dX6_told_61 : decode cX6_told 61 = .ok (.ifCond .lt 12, 3) := dk_155 0 12 (dk_at dksX6_told_2 16 rfl rfl)
theorem dX6_told_64 : decode cX6_told 64 = .ok (.aload_n 0, 1) := dk_42 (dk_at dksX6_told_2 19 rfl rfl)
theorem dX6_told_65 : decode cX6_told 65 = .ok (.ldc 60, 2) := dk_18 60 (dk_at dksX6_told_2 20 rfl rfl)
theorem dX6_told_67 : decode cX6_told 67 = .ok (.invokevirtual 52, 3) := dk_182 0 52 (dk_at dksX6_told_3 0 rfl rfl)
theorem dX6_told_70 : decode cX6_told 70 = .ok (.ifCond .ge 5, 3) := dk_156 0 5 (dk_at dksX6_told_3 3 rfl rfl)
theorem dX6_told_73 : decode cX6_told 73 = .ok (.iconst 0, 1) := dk_3 (dk_at dksX6_told_3 6 rfl rfl)
theorem dX6_told_74 : decode cX6_told 74 = .ok (.ireturn, 1) := dk_172 (dk_at dksX6_told_3 7 rfl rfl)
theorem dX6_told_75 : decode cX6_told 75 = .ok (.aload_n 0, 1) := dk_42 (dk_at dksX6_told_3 8 rfl rfl)
theorem dX6_told_76 : decode cX6_told 76 = .ok (.getfield 18, 3) := dk_180 0 18 (dk_at dksX6_told_3 9 rfl rfl)
theorem dX6_told_79 : decode cX6_told 79 = .ok (.iload_n 3, 1) := dk_29 (dk_at dksX6_told_3 12 rfl rfl)
theorem dX6_told_80 : decode cX6_told 80 = .ok (.ifCond .ne 17, 3) := dk_154 0 17 (dk_at dksX6_told_3 13 rfl rfl)
theorem dX6_told_83 : decode cX6_told 83 = .ok (.new 62, 3) := dk_187 0 62 (dk_at dksX6_told_3 16 rfl rfl)
theorem dX6_told_86 : decode cX6_told 86 = .ok (.dup, 1) := dk_89 (dk_at dksX6_told_3 19 rfl rfl)
theorem dX6_told_87 : decode cX6_told 87 = .ok (.iload_n 1, 1) := dk_27 (dk_at dksX6_told_3 20 rfl rfl)
theorem dX6_told_88 : decode cX6_told 88 = .ok (.iload_n 2, 1) := dk_28 (dk_at dksX6_told_3 21 rfl rfl)
theorem dX6_told_89 : decode cX6_told 89 = .ok (.iload 4, 2) := dk_21 4 (dk_at dksX6_told_3 22 rfl rfl)
theorem dX6_told_91 : decode cX6_told 91 = .ok (.invokespecial 64, 3) := dk_183 0 64 (dk_at dksX6_told_4 0 rfl rfl)
theorem dX6_told_94 : decode cX6_told 94 = .ok (.goto 12, 3) := dk_167 0 12 (dk_at dksX6_told_4 3 rfl rfl)
theorem dX6_told_97 : decode cX6_told 97 = .ok (.new 67, 3) := dk_187 0 67 (dk_at dksX6_told_4 6 rfl rfl)
theorem dX6_told_100 : decode cX6_told 100 = .ok (.dup, 1) := dk_89 (dk_at dksX6_told_4 9 rfl rfl)
theorem dX6_told_101 : decode cX6_told 101 = .ok (.iload_n 1, 1) := dk_27 (dk_at dksX6_told_4 10 rfl rfl)
theorem dX6_told_102 : decode cX6_told 102 = .ok (.iload_n 2, 1) := dk_28 (dk_at dksX6_told_4 11 rfl rfl)
theorem dX6_told_103 : decode cX6_told 103 = .ok (.invokespecial 69, 3) := dk_183 0 69 (dk_at dksX6_told_4 12 rfl rfl)
theorem dX6_told_106 : decode cX6_told 106 = .ok (.invokevirtual 72, 3) := dk_182 0 72 (dk_at dksX6_told_4 15 rfl rfl)
theorem dX6_told_109 : decode cX6_told 109 = .ok (.pop, 1) := dk_87 (dk_at dksX6_told_4 18 rfl rfl)
theorem dX6_told_110 : decode cX6_told 110 = .ok (.iconst 1, 1) := dk_4 (dk_at dksX6_told_4 19 rfl rfl)
theorem dX6_told_111 : decode cX6_told 111 = .ok (.ireturn, 1) := dk_172 (dk_at dksX6_told_4 20 rfl rfl)
abbrev cX6_one : ByteArray := prog_6_method_3_code
def yX6_one : MethodName := ⟨RX6, "one", "(Ljava/lang/String;)I"⟩
def dkwX6_one_2 : List UInt8 := [181, 0, 22, 28, 172]
abbrev dktX6_one_2 : List UInt8 := dkwX6_one_2 ++ []
def dkwX6_one_1 : List UInt8 := [182, 0, 44, 167, 0, 4, 2, 61, 42, 89, 180, 0, 22, 28, 156, 0, 7, 3, 167, 0, 4, 4, 96]
abbrev dktX6_one_1 : List UInt8 := dkwX6_one_1 ++ dktX6_one_2
def dkwX6_one_0 : List UInt8 := [42, 180, 0, 22, 42, 180, 0, 3, 180, 0, 26, 182, 0, 30, 162, 0, 14, 43, 42, 182, 0, 40]
abbrev dktX6_one_0 : List UInt8 := dkwX6_one_0 ++ dktX6_one_1
theorem dksX6_one_0 : cX6_one.data.toList.drop 0 = dktX6_one_0 := by decide +kernel
theorem dksX6_one_1 : cX6_one.data.toList.drop 22 = dktX6_one_1 := dk_seg dksX6_one_0 22 rfl rfl
theorem dksX6_one_2 : cX6_one.data.toList.drop 45 = dktX6_one_2 := dk_seg dksX6_one_1 23 rfl rfl
theorem dX6_one_0 : decode cX6_one 0 = .ok (.aload_n 0, 1) := dk_42 (dk_at dksX6_one_0 0 rfl rfl)
theorem dX6_one_1 : decode cX6_one 1 = .ok (.getfield 22, 3) := dk_180 0 22 (dk_at dksX6_one_0 1 rfl rfl)
theorem dX6_one_4 : decode cX6_one 4 = .ok (.aload_n 0, 1) := dk_42 (dk_at dksX6_one_0 4 rfl rfl)
theorem dX6_one_5 : decode cX6_one 5 = .ok (.getfield 3, 3) := dk_180 0 3 (dk_at dksX6_one_0 5 rfl rfl)
theorem dX6_one_8 : decode cX6_one 8 = .ok (.getfield 26, 3) := dk_180 0 26 (dk_at dksX6_one_0 8 rfl rfl)
theorem dX6_one_11 : decode cX6_one 11 = .ok (.invokevirtual 30, 3) := dk_182 0 30 (dk_at dksX6_one_0 11 rfl rfl)
theorem dX6_one_14 : decode cX6_one 14 = .ok (.if_icmp .ge 14, 3) := dk_162 0 14 (dk_at dksX6_one_0 14 rfl rfl)
theorem dX6_one_17 : decode cX6_one 17 = .ok (.aload_n 1, 1) := dk_43 (dk_at dksX6_one_0 17 rfl rfl)
theorem dX6_one_18 : decode cX6_one 18 = .ok (.aload_n 0, 1) := dk_42 (dk_at dksX6_one_0 18 rfl rfl)
theorem dX6_one_19 : decode cX6_one 19 = .ok (.invokevirtual 40, 3) := dk_182 0 40 (dk_at dksX6_one_0 19 rfl rfl)
theorem dX6_one_22 : decode cX6_one 22 = .ok (.invokevirtual 44, 3) := dk_182 0 44 (dk_at dksX6_one_1 0 rfl rfl)
theorem dX6_one_25 : decode cX6_one 25 = .ok (.goto 4, 3) := dk_167 0 4 (dk_at dksX6_one_1 3 rfl rfl)
theorem dX6_one_28 : decode cX6_one 28 = .ok (.iconst (-1), 1) := dk_2 (dk_at dksX6_one_1 6 rfl rfl)
theorem dX6_one_29 : decode cX6_one 29 = .ok (.istore_n 2, 1) := dk_61 (dk_at dksX6_one_1 7 rfl rfl)
theorem dX6_one_30 : decode cX6_one 30 = .ok (.aload_n 0, 1) := dk_42 (dk_at dksX6_one_1 8 rfl rfl)
theorem dX6_one_31 : decode cX6_one 31 = .ok (.dup, 1) := dk_89 (dk_at dksX6_one_1 9 rfl rfl)
theorem dX6_one_32 : decode cX6_one 32 = .ok (.getfield 22, 3) := dk_180 0 22 (dk_at dksX6_one_1 10 rfl rfl)
theorem dX6_one_35 : decode cX6_one 35 = .ok (.iload_n 2, 1) := dk_28 (dk_at dksX6_one_1 13 rfl rfl)
theorem dX6_one_36 : decode cX6_one 36 = .ok (.ifCond .ge 7, 3) := dk_156 0 7 (dk_at dksX6_one_1 14 rfl rfl)
theorem dX6_one_39 : decode cX6_one 39 = .ok (.iconst 0, 1) := dk_3 (dk_at dksX6_one_1 17 rfl rfl)
theorem dX6_one_40 : decode cX6_one 40 = .ok (.goto 4, 3) := dk_167 0 4 (dk_at dksX6_one_1 18 rfl rfl)
theorem dX6_one_43 : decode cX6_one 43 = .ok (.iconst 1, 1) := dk_4 (dk_at dksX6_one_1 21 rfl rfl)
theorem dX6_one_44 : decode cX6_one 44 = .ok (.iadd, 1) := dk_96 (dk_at dksX6_one_1 22 rfl rfl)
theorem dX6_one_45 : decode cX6_one 45 = .ok (.putfield 22, 3) := dk_181 0 22 (dk_at dksX6_one_2 0 rfl rfl)
theorem dX6_one_48 : decode cX6_one 48 = .ok (.iload_n 2, 1) := dk_28 (dk_at dksX6_one_2 3 rfl rfl)
theorem dX6_one_49 : decode cX6_one 49 = .ok (.ireturn, 1) := dk_172 (dk_at dksX6_one_2 4 rfl rfl)
abbrev cX6_peek : ByteArray := prog_6_method_2_code
def yX6_peek : MethodName := ⟨RX6, "peek", "()C"⟩
def dkwX6_peek_1 : List UInt8 := [42, 180, 0, 22, 182, 0, 36, 167, 0, 4, 3, 172]
abbrev dktX6_peek_1 : List UInt8 := dkwX6_peek_1 ++ []
def dkwX6_peek_0 : List UInt8 := [42, 180, 0, 22, 42, 180, 0, 3, 180, 0, 26, 182, 0, 30, 162, 0, 20, 42, 180, 0, 3, 180, 0, 26]
abbrev dktX6_peek_0 : List UInt8 := dkwX6_peek_0 ++ dktX6_peek_1
theorem dksX6_peek_0 : cX6_peek.data.toList.drop 0 = dktX6_peek_0 := by decide +kernel
theorem dksX6_peek_1 : cX6_peek.data.toList.drop 24 = dktX6_peek_1 := dk_seg dksX6_peek_0 24 rfl rfl
theorem dX6_peek_0 : decode cX6_peek 0 = .ok (.aload_n 0, 1) := dk_42 (dk_at dksX6_peek_0 0 rfl rfl)
theorem dX6_peek_1 : decode cX6_peek 1 = .ok (.getfield 22, 3) := dk_180 0 22 (dk_at dksX6_peek_0 1 rfl rfl)
theorem dX6_peek_4 : decode cX6_peek 4 = .ok (.aload_n 0, 1) := dk_42 (dk_at dksX6_peek_0 4 rfl rfl)
theorem dX6_peek_5 : decode cX6_peek 5 = .ok (.getfield 3, 3) := dk_180 0 3 (dk_at dksX6_peek_0 5 rfl rfl)
theorem dX6_peek_8 : decode cX6_peek 8 = .ok (.getfield 26, 3) := dk_180 0 26 (dk_at dksX6_peek_0 8 rfl rfl)
theorem dX6_peek_11 : decode cX6_peek 11 = .ok (.invokevirtual 30, 3) := dk_182 0 30 (dk_at dksX6_peek_0 11 rfl rfl)
theorem dX6_peek_14 : decode cX6_peek 14 = .ok (.if_icmp .ge 20, 3) := dk_162 0 20 (dk_at dksX6_peek_0 14 rfl rfl)
theorem dX6_peek_17 : decode cX6_peek 17 = .ok (.aload_n 0, 1) := dk_42 (dk_at dksX6_peek_0 17 rfl rfl)
theorem dX6_peek_18 : decode cX6_peek 18 = .ok (.getfield 3, 3) := dk_180 0 3 (dk_at dksX6_peek_0 18 rfl rfl)
theorem dX6_peek_21 : decode cX6_peek 21 = .ok (.getfield 26, 3) := dk_180 0 26 (dk_at dksX6_peek_0 21 rfl rfl)
theorem dX6_peek_24 : decode cX6_peek 24 = .ok (.aload_n 0, 1) := dk_42 (dk_at dksX6_peek_1 0 rfl rfl)
theorem dX6_peek_25 : decode cX6_peek 25 = .ok (.getfield 22, 3) := dk_180 0 22 (dk_at dksX6_peek_1 1 rfl rfl)
theorem dX6_peek_28 : decode cX6_peek 28 = .ok (.invokevirtual 36, 3) := dk_182 0 36 (dk_at dksX6_peek_1 4 rfl rfl)
theorem dX6_peek_31 : decode cX6_peek 31 = .ok (.goto 4, 3) := dk_167 0 4 (dk_at dksX6_peek_1 7 rfl rfl)
theorem dX6_peek_34 : decode cX6_peek 34 = .ok (.iconst 0, 1) := dk_3 (dk_at dksX6_peek_1 10 rfl rfl)
theorem dX6_peek_35 : decode cX6_peek 35 = .ok (.ireturn, 1) := dk_172 (dk_at dksX6_peek_1 11 rfl rfl)
abbrev cX6_takeInto : ByteArray := prog_6_method_7_code
def yX6_takeInto : MethodName := ⟨RX6, "takeInto", "(LMapSheets$Sheet;)V"⟩
def dkwX6_takeInto_2 : List UInt8 := [167, 255, 218, 177]
abbrev dktX6_takeInto_2 : List UInt8 := dkwX6_takeInto_2 ++ []
def dkwX6_takeInto_1 : List UInt8 := [192, 0, 98, 78, 43, 180, 0, 100, 45, 180, 0, 106, 50, 45, 180, 0, 109, 42, 45, 182, 0, 112, 79]
abbrev dktX6_takeInto_1 : List UInt8 := dkwX6_takeInto_1 ++ dktX6_takeInto_2
def dkwX6_takeInto_0 : List UInt8 := [42, 180, 0, 18, 182, 0, 85, 77, 44, 185, 0, 89, 1, 0, 153, 0, 35, 44, 185, 0, 94, 1, 0]
abbrev dktX6_takeInto_0 : List UInt8 := dkwX6_takeInto_0 ++ dktX6_takeInto_1
theorem dksX6_takeInto_0 : cX6_takeInto.data.toList.drop 0 = dktX6_takeInto_0 := by decide +kernel
theorem dksX6_takeInto_1 : cX6_takeInto.data.toList.drop 23 = dktX6_takeInto_1 := dk_seg dksX6_takeInto_0 23 rfl rfl
theorem dksX6_takeInto_2 : cX6_takeInto.data.toList.drop 46 = dktX6_takeInto_2 := dk_seg dksX6_takeInto_1 23 rfl rfl
theorem dX6_takeInto_0 : decode cX6_takeInto 0 = .ok (.aload_n 0, 1) := dk_42 (dk_at dksX6_takeInto_0 0 rfl rfl)
theorem dX6_takeInto_1 : decode cX6_takeInto 1 = .ok (.getfield 18, 3) := dk_180 0 18 (dk_at dksX6_takeInto_0 1 rfl rfl)
theorem dX6_takeInto_4 : decode cX6_takeInto 4 = .ok (.invokevirtual 85, 3) := dk_182 0 85 (dk_at dksX6_takeInto_0 4 rfl rfl)
theorem dX6_takeInto_7 : decode cX6_takeInto 7 = .ok (.astore_n 2, 1) := dk_77 (dk_at dksX6_takeInto_0 7 rfl rfl)
theorem dX6_takeInto_8 : decode cX6_takeInto 8 = .ok (.aload_n 2, 1) := dk_44 (dk_at dksX6_takeInto_0 8 rfl rfl)
theorem dX6_takeInto_9 : decode cX6_takeInto 9 = .ok (.invokeinterface 89 1, 5) := by decide +kernel
theorem dX6_takeInto_14 : decode cX6_takeInto 14 = .ok (.ifCond .eq 35, 3) := dk_153 0 35 (dk_at dksX6_takeInto_0 14 rfl rfl)
theorem dX6_takeInto_17 : decode cX6_takeInto 17 = .ok (.aload_n 2, 1) := dk_44 (dk_at dksX6_takeInto_0 17 rfl rfl)
theorem dX6_takeInto_18 : decode cX6_takeInto 18 = .ok (.invokeinterface 94 1, 5) := by decide +kernel
theorem dX6_takeInto_23 : decode cX6_takeInto 23 = .ok (.checkcast 98, 3) := dk_192 0 98 (dk_at dksX6_takeInto_1 0 rfl rfl)
theorem dX6_takeInto_26 : decode cX6_takeInto 26 = .ok (.astore_n 3, 1) := dk_78 (dk_at dksX6_takeInto_1 3 rfl rfl)
theorem dX6_takeInto_27 : decode cX6_takeInto 27 = .ok (.aload_n 1, 1) := dk_43 (dk_at dksX6_takeInto_1 4 rfl rfl)
theorem dX6_takeInto_28 : decode cX6_takeInto 28 = .ok (.getfield 100, 3) := dk_180 0 100 (dk_at dksX6_takeInto_1 5 rfl rfl)
theorem dX6_takeInto_31 : decode cX6_takeInto 31 = .ok (.aload_n 3, 1) := dk_45 (dk_at dksX6_takeInto_1 8 rfl rfl)
theorem dX6_takeInto_32 : decode cX6_takeInto 32 = .ok (.getfield 106, 3) := dk_180 0 106 (dk_at dksX6_takeInto_1 9 rfl rfl)
theorem dX6_takeInto_35 : decode cX6_takeInto 35 = .ok (.aaload, 1) := dk_50 (dk_at dksX6_takeInto_1 12 rfl rfl)
theorem dX6_takeInto_36 : decode cX6_takeInto 36 = .ok (.aload_n 3, 1) := dk_45 (dk_at dksX6_takeInto_1 13 rfl rfl)
theorem dX6_takeInto_37 : decode cX6_takeInto 37 = .ok (.getfield 109, 3) := dk_180 0 109 (dk_at dksX6_takeInto_1 14 rfl rfl)
theorem dX6_takeInto_40 : decode cX6_takeInto 40 = .ok (.aload_n 0, 1) := dk_42 (dk_at dksX6_takeInto_1 17 rfl rfl)
theorem dX6_takeInto_41 : decode cX6_takeInto 41 = .ok (.aload_n 3, 1) := dk_45 (dk_at dksX6_takeInto_1 18 rfl rfl)
theorem dX6_takeInto_42 : decode cX6_takeInto 42 = .ok (.invokevirtual 112, 3) := dk_182 0 112 (dk_at dksX6_takeInto_1 19 rfl rfl)
theorem dX6_takeInto_45 : decode cX6_takeInto 45 = .ok (.iastore, 1) := dk_79 (dk_at dksX6_takeInto_1 22 rfl rfl)
theorem dX6_takeInto_46 : decode cX6_takeInto 46 = .ok (.goto (-38), 3) := dk_167 255 218 (dk_at dksX6_takeInto_2 0 rfl rfl)
theorem dX6_takeInto_49 : decode cX6_takeInto 49 = .ok (.return_, 1) := dk_177 (dk_at dksX6_takeInto_2 3 rfl rfl)
abbrev cX6_signOf : ByteArray := prog_6_method_6_code
def yX6_signOf : MethodName := ⟨RX6, "signOf", "(LMapSheets$Told;)I"⟩
def dkwX6_signOf_0 : List UInt8 := [4, 189, 0, 62, 77, 44, 3, 43, 83, 44, 3, 50, 192, 0, 62, 180, 0, 80, 172, 78, 2, 172]
abbrev dktX6_signOf_0 : List UInt8 := dkwX6_signOf_0 ++ []
theorem dksX6_signOf_0 : cX6_signOf.data.toList.drop 0 = dktX6_signOf_0 := by decide +kernel
theorem dX6_signOf_0 : decode cX6_signOf 0 = .ok (.iconst 1, 1) := dk_4 (dk_at dksX6_signOf_0 0 rfl rfl)
theorem dX6_signOf_1 : decode cX6_signOf 1 = .ok (.anewarray 62, 3) := dk_189 0 62 (dk_at dksX6_signOf_0 1 rfl rfl)
theorem dX6_signOf_4 : decode cX6_signOf 4 = .ok (.astore_n 2, 1) := dk_77 (dk_at dksX6_signOf_0 4 rfl rfl)
theorem dX6_signOf_5 : decode cX6_signOf 5 = .ok (.aload_n 2, 1) := dk_44 (dk_at dksX6_signOf_0 5 rfl rfl)
theorem dX6_signOf_6 : decode cX6_signOf 6 = .ok (.iconst 0, 1) := dk_3 (dk_at dksX6_signOf_0 6 rfl rfl)
theorem dX6_signOf_7 : decode cX6_signOf 7 = .ok (.aload_n 1, 1) := dk_43 (dk_at dksX6_signOf_0 7 rfl rfl)
theorem dX6_signOf_8 : decode cX6_signOf 8 = .ok (.aastore, 1) := dk_83 (dk_at dksX6_signOf_0 8 rfl rfl)
theorem dX6_signOf_9 : decode cX6_signOf 9 = .ok (.aload_n 2, 1) := dk_44 (dk_at dksX6_signOf_0 9 rfl rfl)
theorem dX6_signOf_10 : decode cX6_signOf 10 = .ok (.iconst 0, 1) := dk_3 (dk_at dksX6_signOf_0 10 rfl rfl)
theorem dX6_signOf_11 : decode cX6_signOf 11 = .ok (.aaload, 1) := dk_50 (dk_at dksX6_signOf_0 11 rfl rfl)
theorem dX6_signOf_12 : decode cX6_signOf 12 = .ok (.checkcast 62, 3) := dk_192 0 62 (dk_at dksX6_signOf_0 12 rfl rfl)
theorem dX6_signOf_15 : decode cX6_signOf 15 = .ok (.getfield 80, 3) := dk_180 0 80 (dk_at dksX6_signOf_0 15 rfl rfl)
theorem dX6_signOf_18 : decode cX6_signOf 18 = .ok (.ireturn, 1) := dk_172 (dk_at dksX6_signOf_0 18 rfl rfl)
theorem dX6_signOf_19 : decode cX6_signOf 19 = .ok (.astore_n 3, 1) := dk_78 (dk_at dksX6_signOf_0 19 rfl rfl)
theorem dX6_signOf_20 : decode cX6_signOf 20 = .ok (.iconst (-1), 1) := dk_2 (dk_at dksX6_signOf_0 20 rfl rfl)
theorem dX6_signOf_21 : decode cX6_signOf 21 = .ok (.ireturn, 1) := dk_172 (dk_at dksX6_signOf_0 21 rfl rfl)
theorem q87 : (Jvm.Cond.initialized "MapSheets$Reader") ∈ lw_all := lw_g (lw_at lw_m1 25 rfl) rfl
theorem q228 : (Jvm.Cond.fieldLinkNest "MapSheets$Reader" (100 : Nat) "MapSheets$Sheet" "sides" "[[I" "MapSheets") ∈ lw_tbl := lw_at lw_m1 166 rfl
theorem q293 : (Jvm.Cond.selects "MapSheets$Reader" ({ cls := "java/lang/Object", name := "getClass", desc := "()Ljava/lang/Class;" } : Jvm.MethodName) ({ cls := "java/lang/Object", name := "getClass", desc := "()Ljava/lang/Class;" } : Jvm.MethodName)) ∈ lw_all := lw_g (lw_at lw_m1 231 rfl) rfl
theorem q347 : (Jvm.Cond.fieldLinkNest "MapSheets$Reader" (26 : Nat) "MapSheets" "text" "Ljava/lang/StringBuilder;" "MapSheets") ∈ lw_tbl := lw_at lw_m2 45 rfl
theorem q720 : (Jvm.Cond.selects "MapSheets$Reader" ({ cls := "java/lang/Object", name := "equals", desc := "(Ljava/lang/Object;)Z" } : Jvm.MethodName) ({ cls := "java/lang/Object", name := "equals", desc := "(Ljava/lang/Object;)Z" } : Jvm.MethodName)) ∈ lw_all := lw_g (lw_at lw_m3 178 rfl) rfl
theorem q911 : (Jvm.Cond.instantiable "MapSheets$Reader" (3 : Nat)) ∈ lw_all := lw_g (lw_at lw_m4 129 rfl) rfl
theorem q913 : (Jvm.Cond.instanceMethod ({ cls := "MapSheets$Reader", name := "<init>", desc := "(LMapSheets;)V" } : Jvm.MethodName)) ∈ lw_all := lw_g (lw_at lw_m4 131 rfl) rfl
theorem q914 : (Jvm.Cond.code ({ cls := "MapSheets$Reader", name := "<init>", desc := "(LMapSheets;)V" } : Jvm.MethodName) prog_6_method_1_code (2 : Nat) (Option.none : Option Jvm.ClassFile.FieldType)) ∈ lw_all := lw_g (lw_at lw_m4 132 rfl) rfl
theorem q915 : (Jvm.Cond.methodLink "MapSheets$Reader" (9 : Nat) ({ cls := "java/lang/Object", name := "<init>", desc := "()V" } : Jvm.MethodName)) ∈ lw_all := lw_g (lw_at lw_m4 133 rfl) rfl
theorem q916 : (Jvm.Cond.classLink "MapSheets$Reader" (15 : Nat) "java/util/ArrayList") ∈ lw_all := lw_g (lw_at lw_m4 134 rfl) rfl
theorem q917 : (Jvm.Cond.methodLink "MapSheets$Reader" (17 : Nat) ({ cls := "java/util/ArrayList", name := "<init>", desc := "()V" } : Jvm.MethodName)) ∈ lw_all := lw_g (lw_at lw_m4 135 rfl) rfl
theorem q918 : (Jvm.Cond.fieldLink "MapSheets$Reader" (18 : Nat) "MapSheets$Reader" "read" "Ljava/util/ArrayList;") ∈ lw_all := lw_g (lw_at lw_m4 136 rfl) rfl
theorem q920 : (Jvm.Cond.fieldLink "MapSheets$Reader" (22 : Nat) "MapSheets$Reader" "at" "I") ∈ lw_all := lw_g (lw_at lw_m4 138 rfl) rfl
theorem q922 : (Jvm.Cond.fieldLink "MapSheets$Reader" (3 : Nat) "MapSheets$Reader" "this$0" "LMapSheets;") ∈ lw_all := lw_g (lw_at lw_m4 140 rfl) rfl
theorem q923 : (Jvm.Cond.laysFinal "MapSheets$Reader" "MapSheets$Reader" "read" "Ljava/util/ArrayList;") ∈ lw_all := lw_g (lw_at lw_m4 141 rfl) rfl
theorem q924 : (Jvm.Cond.soleField "MapSheets$Reader" "read") ∈ lw_all := lw_g (lw_at lw_m4 142 rfl) rfl
theorem q925 : (Jvm.Cond.lays "MapSheets$Reader" "MapSheets$Reader" "at" "I") ∈ lw_all := lw_g (lw_at lw_m4 143 rfl) rfl
theorem q926 : (Jvm.Cond.soleField "MapSheets$Reader" "at") ∈ lw_all := lw_g (lw_at lw_m4 144 rfl) rfl
theorem q927 : (Jvm.Cond.laysFinal "MapSheets$Reader" "MapSheets$Reader" "this$0" "LMapSheets;") ∈ lw_all := lw_g (lw_at lw_m4 145 rfl) rfl
theorem q928 : (Jvm.Cond.soleField "MapSheets$Reader" "this$0") ∈ lw_all := lw_g (lw_at lw_m4 146 rfl) rfl
theorem q929 : (Jvm.Cond.superclass "MapSheets$Reader" "java/lang/Object") ∈ lw_all := lw_g (lw_at lw_m4 147 rfl) rfl
theorem q931 : (Jvm.Cond.instanceMethod ({ cls := "MapSheets$Reader", name := "reads", desc := "()Z" } : Jvm.MethodName)) ∈ lw_all := lw_g (lw_at lw_m4 149 rfl) rfl
theorem q932 : (Jvm.Cond.selects "MapSheets$Reader" ({ cls := "MapSheets$Reader", name := "reads", desc := "()Z" } : Jvm.MethodName) ({ cls := "MapSheets$Reader", name := "reads", desc := "()Z" } : Jvm.MethodName)) ∈ lw_all := lw_g (lw_at lw_m4 150 rfl) rfl
theorem q933 : (Jvm.Cond.code ({ cls := "MapSheets$Reader", name := "reads", desc := "()Z" } : Jvm.MethodName) prog_6_method_5_code (2 : Nat) (Option.some Jvm.ClassFile.FieldType.boolean)) ∈ lw_all := lw_g (lw_at lw_m4 151 rfl) rfl
theorem q934 : (Jvm.Cond.methodLink "MapSheets$Reader" (30 : Nat) ({ cls := "java/lang/StringBuilder", name := "length", desc := "()I" } : Jvm.MethodName)) ∈ lw_all := lw_g (lw_at lw_m4 152 rfl) rfl
theorem q935 : (Jvm.Cond.methodLink "MapSheets$Reader" (76 : Nat) ({ cls := "MapSheets$Reader", name := "told", desc := "()Z" } : Jvm.MethodName)) ∈ lw_all := lw_g (lw_at lw_m4 153 rfl) rfl
theorem q936 : (Jvm.Cond.privateMethod ({ cls := "MapSheets$Reader", name := "told", desc := "()Z" } : Jvm.MethodName)) ∈ lw_tbl := lw_at lw_m4 154 rfl
theorem q937 : (Jvm.Cond.instanceMethod ({ cls := "MapSheets$Reader", name := "told", desc := "()Z" } : Jvm.MethodName)) ∈ lw_all := lw_g (lw_at lw_m4 155 rfl) rfl
theorem q938 : (Jvm.Cond.code ({ cls := "MapSheets$Reader", name := "told", desc := "()Z" } : Jvm.MethodName) prog_6_method_4_code (5 : Nat) (Option.some Jvm.ClassFile.FieldType.boolean)) ∈ lw_all := lw_g (lw_at lw_m4 156 rfl) rfl
theorem q939 : (Jvm.Cond.stringRef "MapSheets$Reader" (50 : Nat) "nesw") ∈ lw_tbl := lw_at lw_m4 157 rfl
theorem q940 : (Jvm.Cond.methodLink "MapSheets$Reader" (52 : Nat) ({ cls := "MapSheets$Reader", name := "one", desc := "(Ljava/lang/String;)I" } : Jvm.MethodName)) ∈ lw_all := lw_g (lw_at lw_m4 158 rfl) rfl
theorem q941 : (Jvm.Cond.privateMethod ({ cls := "MapSheets$Reader", name := "one", desc := "(Ljava/lang/String;)I" } : Jvm.MethodName)) ∈ lw_tbl := lw_at lw_m4 159 rfl
theorem q942 : (Jvm.Cond.instanceMethod ({ cls := "MapSheets$Reader", name := "one", desc := "(Ljava/lang/String;)I" } : Jvm.MethodName)) ∈ lw_all := lw_g (lw_at lw_m4 160 rfl) rfl
theorem q943 : (Jvm.Cond.code ({ cls := "MapSheets$Reader", name := "one", desc := "(Ljava/lang/String;)I" } : Jvm.MethodName) prog_6_method_3_code (3 : Nat) (Option.some Jvm.ClassFile.FieldType.int)) ∈ lw_all := lw_g (lw_at lw_m4 161 rfl) rfl
theorem q944 : (Jvm.Cond.methodLink "MapSheets$Reader" (40 : Nat) ({ cls := "MapSheets$Reader", name := "peek", desc := "()C" } : Jvm.MethodName)) ∈ lw_all := lw_g (lw_at lw_m4 162 rfl) rfl
theorem q945 : (Jvm.Cond.privateMethod ({ cls := "MapSheets$Reader", name := "peek", desc := "()C" } : Jvm.MethodName)) ∈ lw_tbl := lw_at lw_m4 163 rfl
theorem q946 : (Jvm.Cond.instanceMethod ({ cls := "MapSheets$Reader", name := "peek", desc := "()C" } : Jvm.MethodName)) ∈ lw_all := lw_g (lw_at lw_m4 164 rfl) rfl
theorem q947 : (Jvm.Cond.code ({ cls := "MapSheets$Reader", name := "peek", desc := "()C" } : Jvm.MethodName) prog_6_method_2_code (1 : Nat) (Option.some Jvm.ClassFile.FieldType.char)) ∈ lw_all := lw_g (lw_at lw_m4 165 rfl) rfl
theorem q948 : (Jvm.Cond.methodLink "MapSheets$Reader" (36 : Nat) ({ cls := "java/lang/StringBuilder", name := "charAt", desc := "(I)C" } : Jvm.MethodName)) ∈ lw_all := lw_g (lw_at lw_m4 166 rfl) rfl
theorem q960 : (Jvm.Cond.methodLink "MapSheets$Reader" (44 : Nat) ({ cls := "java/lang/String", name := "indexOf", desc := "(I)I" } : Jvm.MethodName)) ∈ lw_all := lw_g (lw_at lw_m4 178 rfl) rfl
theorem q1027 : (Jvm.Cond.stringRef "MapSheets$Reader" (56 : Nat) "0123456789") ∈ lw_tbl := lw_at lw_m5 5 rfl
theorem q1028 : (Jvm.Cond.stringRef "MapSheets$Reader" (58 : Nat) "=-") ∈ lw_tbl := lw_at lw_m5 6 rfl
theorem q1029 : (Jvm.Cond.stringRef "MapSheets$Reader" (60 : Nat) ";") ∈ lw_tbl := lw_at lw_m5 7 rfl
theorem q1030 : (Jvm.Cond.classLink "MapSheets$Reader" (62 : Nat) "MapSheets$Sign") ∈ lw_all := lw_g (lw_at lw_m5 8 rfl) rfl
theorem q1032 : (Jvm.Cond.methodLink "MapSheets$Reader" (64 : Nat) ({ cls := "MapSheets$Sign", name := "<init>", desc := "(III)V" } : Jvm.MethodName)) ∈ lw_all := lw_g (lw_at lw_m5 10 rfl) rfl
theorem q1040 : (Jvm.Cond.fieldLinkNest "MapSheets$Reader" (80 : Nat) "MapSheets$Sign" "sign" "I" "MapSheets") ∈ lw_tbl := lw_at lw_m5 18 rfl
theorem q1042 : (Jvm.Cond.fieldLinkNest "MapSheets$Reader" (106 : Nat) "MapSheets$Told" "side" "I" "MapSheets") ∈ lw_tbl := lw_at lw_m5 20 rfl
theorem q1044 : (Jvm.Cond.fieldLinkNest "MapSheets$Reader" (109 : Nat) "MapSheets$Told" "position" "I" "MapSheets") ∈ lw_tbl := lw_at lw_m5 22 rfl
theorem q1052 : (Jvm.Cond.classLink "MapSheets$Reader" (67 : Nat) "MapSheets$Blank") ∈ lw_all := lw_g (lw_at lw_m5 30 rfl) rfl
theorem q1054 : (Jvm.Cond.methodLink "MapSheets$Reader" (69 : Nat) ({ cls := "MapSheets$Blank", name := "<init>", desc := "(II)V" } : Jvm.MethodName)) ∈ lw_all := lw_g (lw_at lw_m5 32 rfl) rfl
theorem q1061 : (Jvm.Cond.methodLink "MapSheets$Reader" (72 : Nat) ({ cls := "java/util/ArrayList", name := "add", desc := "(Ljava/lang/Object;)Z" } : Jvm.MethodName)) ∈ lw_all := lw_g (lw_at lw_m5 39 rfl) rfl
theorem q1068 : (Jvm.Cond.instanceMethod ({ cls := "MapSheets$Reader", name := "takeInto", desc := "(LMapSheets$Sheet;)V" } : Jvm.MethodName)) ∈ lw_all := lw_g (lw_at lw_m5 46 rfl) rfl
theorem q1069 : (Jvm.Cond.selects "MapSheets$Reader" ({ cls := "MapSheets$Reader", name := "takeInto", desc := "(LMapSheets$Sheet;)V" } : Jvm.MethodName) ({ cls := "MapSheets$Reader", name := "takeInto", desc := "(LMapSheets$Sheet;)V" } : Jvm.MethodName)) ∈ lw_all := lw_g (lw_at lw_m5 47 rfl) rfl
theorem q1070 : (Jvm.Cond.code ({ cls := "MapSheets$Reader", name := "takeInto", desc := "(LMapSheets$Sheet;)V" } : Jvm.MethodName) prog_6_method_7_code (4 : Nat) (Option.none : Option Jvm.ClassFile.FieldType)) ∈ lw_all := lw_g (lw_at lw_m5 48 rfl) rfl
theorem q1071 : (Jvm.Cond.methodLink "MapSheets$Reader" (85 : Nat) ({ cls := "java/util/ArrayList", name := "iterator", desc := "()Ljava/util/Iterator;" } : Jvm.MethodName)) ∈ lw_all := lw_g (lw_at lw_m5 49 rfl) rfl
theorem q1072 : (Jvm.Cond.interfaceEntry "MapSheets$Reader" (89 : Nat)) ∈ lw_tbl := lw_at lw_m5 50 rfl
theorem q1073 : (Jvm.Cond.methodLink "MapSheets$Reader" (89 : Nat) ({ cls := "java/util/Iterator", name := "hasNext", desc := "()Z" } : Jvm.MethodName)) ∈ lw_all := lw_g (lw_at lw_m5 51 rfl) rfl
theorem q1074 : (Jvm.Cond.interfaceEntry "MapSheets$Reader" (94 : Nat)) ∈ lw_tbl := lw_at lw_m5 52 rfl
theorem q1075 : (Jvm.Cond.methodLink "MapSheets$Reader" (94 : Nat) ({ cls := "java/util/Iterator", name := "next", desc := "()Ljava/lang/Object;" } : Jvm.MethodName)) ∈ lw_all := lw_g (lw_at lw_m5 53 rfl) rfl
theorem q1076 : (Jvm.Cond.classLink "MapSheets$Reader" (98 : Nat) "MapSheets$Told") ∈ lw_all := lw_g (lw_at lw_m5 54 rfl) rfl
theorem q1077 : (Jvm.Cond.methodLink "MapSheets$Reader" (112 : Nat) ({ cls := "MapSheets$Reader", name := "signOf", desc := "(LMapSheets$Told;)I" } : Jvm.MethodName)) ∈ lw_all := lw_g (lw_at lw_m5 55 rfl) rfl
theorem q1078 : (Jvm.Cond.privateMethod ({ cls := "MapSheets$Reader", name := "signOf", desc := "(LMapSheets$Told;)I" } : Jvm.MethodName)) ∈ lw_tbl := lw_at lw_m5 56 rfl
theorem q1079 : (Jvm.Cond.instanceMethod ({ cls := "MapSheets$Reader", name := "signOf", desc := "(LMapSheets$Told;)I" } : Jvm.MethodName)) ∈ lw_all := lw_g (lw_at lw_m5 57 rfl) rfl
theorem q1080 : (Jvm.Cond.codeWith ({ cls := "MapSheets$Reader", name := "signOf", desc := "(LMapSheets$Told;)I" } : Jvm.MethodName) prog_6_method_6_code (4 : Nat) (Option.some Jvm.ClassFile.FieldType.int) [((5 : Nat), (18 : Nat), (19 : Nat), (83 : Nat))]) ∈ lw_all := lw_g (lw_at lw_m5 58 rfl) rfl
theorem q1081 : (Jvm.Cond.classLink "MapSheets$Reader" (83 : Nat) "java/lang/ArrayStoreException") ∈ lw_all := lw_g (lw_at lw_m5 59 rfl) rfl
theorem q1483 : (Jvm.Cond.castable "MapSheets$Reader" "java/lang/Object") ∈ lw_tbl := lw_at lw_m6 221 rfl
theorem in_X6 : ∀ w ∈ wsX60, w ∈ lw_all := lw_in wsX60 [923, 925, 927] (by decide +kernel) (by decide +kernel)

/-! MapSheets$Told -/
set_option maxRecDepth 100000
def RX7 : String := "MapSheets$Told"
abbrev cX7_init : ByteArray := prog_9_method_1_code
def yX7_init : MethodName := ⟨RX7, "<init>", "(II)V"⟩
def dkwX7_init_0 : List UInt8 := [42, 183, 0, 1, 42, 27, 181, 0, 7, 42, 28, 181, 0, 13, 177]
abbrev dktX7_init_0 : List UInt8 := dkwX7_init_0 ++ []
theorem dksX7_init_0 : cX7_init.data.toList.drop 0 = dktX7_init_0 := by decide +kernel
theorem dX7_init_0 : decode cX7_init 0 = .ok (.aload_n 0, 1) := dk_42 (dk_at dksX7_init_0 0 rfl rfl)
theorem dX7_init_1 : decode cX7_init 1 = .ok (.invokespecial 1, 3) := dk_183 0 1 (dk_at dksX7_init_0 1 rfl rfl)
theorem dX7_init_4 : decode cX7_init 4 = .ok (.aload_n 0, 1) := dk_42 (dk_at dksX7_init_0 4 rfl rfl)
theorem dX7_init_5 : decode cX7_init 5 = .ok (.iload_n 1, 1) := dk_27 (dk_at dksX7_init_0 5 rfl rfl)
theorem dX7_init_6 : decode cX7_init 6 = .ok (.putfield 7, 3) := dk_181 0 7 (dk_at dksX7_init_0 6 rfl rfl)
theorem dX7_init_9 : decode cX7_init 9 = .ok (.aload_n 0, 1) := dk_42 (dk_at dksX7_init_0 9 rfl rfl)
theorem dX7_init_10 : decode cX7_init 10 = .ok (.iload_n 2, 1) := dk_28 (dk_at dksX7_init_0 10 rfl rfl)
theorem dX7_init_11 : decode cX7_init 11 = .ok (.putfield 13, 3) := dk_181 0 13 (dk_at dksX7_init_0 11 rfl rfl)
theorem dX7_init_14 : decode cX7_init 14 = .ok (.return_, 1) := dk_177 (dk_at dksX7_init_0 14 rfl rfl)
theorem q89 : (Jvm.Cond.initialized "MapSheets$Told") ∈ lw_all := lw_g (lw_at lw_m1 27 rfl) rfl
theorem q1036 : (Jvm.Cond.instanceMethod ({ cls := "MapSheets$Told", name := "<init>", desc := "(II)V" } : Jvm.MethodName)) ∈ lw_all := lw_g (lw_at lw_m5 14 rfl) rfl
theorem q1037 : (Jvm.Cond.code ({ cls := "MapSheets$Told", name := "<init>", desc := "(II)V" } : Jvm.MethodName) prog_9_method_1_code (3 : Nat) (Option.none : Option Jvm.ClassFile.FieldType)) ∈ lw_all := lw_g (lw_at lw_m5 15 rfl) rfl
theorem q1038 : (Jvm.Cond.methodLink "MapSheets$Told" (1 : Nat) ({ cls := "java/lang/Object", name := "<init>", desc := "()V" } : Jvm.MethodName)) ∈ lw_all := lw_g (lw_at lw_m5 16 rfl) rfl
theorem q1041 : (Jvm.Cond.fieldLink "MapSheets$Told" (7 : Nat) "MapSheets$Told" "side" "I") ∈ lw_all := lw_g (lw_at lw_m5 19 rfl) rfl
theorem q1043 : (Jvm.Cond.fieldLink "MapSheets$Told" (13 : Nat) "MapSheets$Told" "position" "I") ∈ lw_all := lw_g (lw_at lw_m5 21 rfl) rfl
theorem q1048 : (Jvm.Cond.soleField "MapSheets$Told" "side") ∈ lw_all := lw_g (lw_at lw_m5 26 rfl) rfl
theorem q1050 : (Jvm.Cond.soleField "MapSheets$Told" "position") ∈ lw_all := lw_g (lw_at lw_m5 28 rfl) rfl

/-! MapSheets$Sign -/
set_option maxRecDepth 100000
def RX8 : String := "MapSheets$Sign"
def TX8 : u_T := fun k => match k with
  | 0 => ("MapSheets$Told", "side", "I", true)
  | 1 => ("MapSheets$Told", "position", "I", true)
  | _ => ("MapSheets$Sign", "sign", "I", true)
def tyX8 : Nat → FieldType := fun k => match k with
  | 0 => .int
  | 1 => .int
  | _ => .int
abbrev wsX80 : List Cond := u_ws RX8 TX8 3
theorem nmX8 : ∀ a, a < 3 → ∀ b, b < 3 → a ≠ b → (TX8 a).2.1 ≠ (TX8 b).2.1 := by decide +kernel
theorem tyX8_ok : ∀ k, k < 3 → parseFieldDescriptor (TX8 k).2.2.1 = some (tyX8 k) := by decide +kernel
abbrev cX8_init : ByteArray := prog_8_method_1_code
def yX8_init : MethodName := ⟨RX8, "<init>", "(III)V"⟩
def dkwX8_init_0 : List UInt8 := [42, 27, 28, 183, 0, 1, 42, 29, 181, 0, 7, 177]
abbrev dktX8_init_0 : List UInt8 := dkwX8_init_0 ++ []
theorem dksX8_init_0 : cX8_init.data.toList.drop 0 = dktX8_init_0 := by decide +kernel
theorem dX8_init_0 : decode cX8_init 0 = .ok (.aload_n 0, 1) := dk_42 (dk_at dksX8_init_0 0 rfl rfl)
theorem dX8_init_1 : decode cX8_init 1 = .ok (.iload_n 1, 1) := dk_27 (dk_at dksX8_init_0 1 rfl rfl)
theorem dX8_init_2 : decode cX8_init 2 = .ok (.iload_n 2, 1) := dk_28 (dk_at dksX8_init_0 2 rfl rfl)
theorem dX8_init_3 : decode cX8_init 3 = .ok (.invokespecial 1, 3) := dk_183 0 1 (dk_at dksX8_init_0 3 rfl rfl)
theorem dX8_init_6 : decode cX8_init 6 = .ok (.aload_n 0, 1) := dk_42 (dk_at dksX8_init_0 6 rfl rfl)
theorem dX8_init_7 : decode cX8_init 7 = .ok (.iload_n 3, 1) := dk_29 (dk_at dksX8_init_0 7 rfl rfl)
theorem dX8_init_8 : decode cX8_init 8 = .ok (.putfield 7, 3) := dk_181 0 7 (dk_at dksX8_init_0 8 rfl rfl)
theorem dX8_init_11 : decode cX8_init 11 = .ok (.return_, 1) := dk_177 (dk_at dksX8_init_0 11 rfl rfl)
theorem q90 : (Jvm.Cond.initialized "MapSheets$Sign") ∈ lw_all := lw_g (lw_at lw_m1 28 rfl) rfl
theorem q295 : (Jvm.Cond.selects "MapSheets$Sign" ({ cls := "java/lang/Object", name := "getClass", desc := "()Ljava/lang/Class;" } : Jvm.MethodName) ({ cls := "java/lang/Object", name := "getClass", desc := "()Ljava/lang/Class;" } : Jvm.MethodName)) ∈ lw_all := lw_g (lw_at lw_m1 233 rfl) rfl
theorem q722 : (Jvm.Cond.selects "MapSheets$Sign" ({ cls := "java/lang/Object", name := "equals", desc := "(Ljava/lang/Object;)Z" } : Jvm.MethodName) ({ cls := "java/lang/Object", name := "equals", desc := "(Ljava/lang/Object;)Z" } : Jvm.MethodName)) ∈ lw_all := lw_g (lw_at lw_m3 180 rfl) rfl
theorem q1031 : (Jvm.Cond.instantiable "MapSheets$Sign" (3 : Nat)) ∈ lw_all := lw_g (lw_at lw_m5 9 rfl) rfl
theorem q1033 : (Jvm.Cond.instanceMethod ({ cls := "MapSheets$Sign", name := "<init>", desc := "(III)V" } : Jvm.MethodName)) ∈ lw_all := lw_g (lw_at lw_m5 11 rfl) rfl
theorem q1034 : (Jvm.Cond.code ({ cls := "MapSheets$Sign", name := "<init>", desc := "(III)V" } : Jvm.MethodName) prog_8_method_1_code (4 : Nat) (Option.none : Option Jvm.ClassFile.FieldType)) ∈ lw_all := lw_g (lw_at lw_m5 12 rfl) rfl
theorem q1035 : (Jvm.Cond.methodLink "MapSheets$Sign" (1 : Nat) ({ cls := "MapSheets$Told", name := "<init>", desc := "(II)V" } : Jvm.MethodName)) ∈ lw_all := lw_g (lw_at lw_m5 13 rfl) rfl
theorem q1039 : (Jvm.Cond.fieldLink "MapSheets$Sign" (7 : Nat) "MapSheets$Sign" "sign" "I") ∈ lw_all := lw_g (lw_at lw_m5 17 rfl) rfl
theorem q1045 : (Jvm.Cond.laysFinal "MapSheets$Sign" "MapSheets$Sign" "sign" "I") ∈ lw_all := lw_g (lw_at lw_m5 23 rfl) rfl
theorem q1046 : (Jvm.Cond.soleField "MapSheets$Sign" "sign") ∈ lw_all := lw_g (lw_at lw_m5 24 rfl) rfl
theorem q1047 : (Jvm.Cond.laysFinal "MapSheets$Sign" "MapSheets$Told" "side" "I") ∈ lw_all := lw_g (lw_at lw_m5 25 rfl) rfl
theorem q1049 : (Jvm.Cond.laysFinal "MapSheets$Sign" "MapSheets$Told" "position" "I") ∈ lw_all := lw_g (lw_at lw_m5 27 rfl) rfl
theorem q1051 : (Jvm.Cond.superclass "MapSheets$Sign" "MapSheets$Told") ∈ lw_all := lw_g (lw_at lw_m5 29 rfl) rfl
theorem q1471 : (Jvm.Cond.castable "MapSheets$Sign" "MapSheets$Told") ∈ lw_tbl := lw_at lw_m6 209 rfl
theorem q1472 : (Jvm.Cond.castable "MapSheets$Sign" "java/lang/Object") ∈ lw_tbl := lw_at lw_m6 210 rfl
theorem in_X8 : ∀ w ∈ wsX80, w ∈ lw_all := lw_in wsX80 [1047, 1049, 1045] (by decide +kernel) (by decide +kernel)

/-! MapSheets$Blank -/
set_option maxRecDepth 100000
def RX9 : String := "MapSheets$Blank"
def TX9 : u_T := fun k => match k with
  | 0 => ("MapSheets$Told", "side", "I", true)
  | _ => ("MapSheets$Told", "position", "I", true)
def tyX9 : Nat → FieldType := fun k => match k with
  | 0 => .int
  | _ => .int
abbrev wsX90 : List Cond := u_ws RX9 TX9 2
theorem nmX9 : ∀ a, a < 2 → ∀ b, b < 2 → a ≠ b → (TX9 a).2.1 ≠ (TX9 b).2.1 := by decide +kernel
theorem tyX9_ok : ∀ k, k < 2 → parseFieldDescriptor (TX9 k).2.2.1 = some (tyX9 k) := by decide +kernel
abbrev cX9_init : ByteArray := prog_2_method_1_code
def yX9_init : MethodName := ⟨RX9, "<init>", "(II)V"⟩
def dkwX9_init_0 : List UInt8 := [42, 27, 28, 183, 0, 1, 177]
abbrev dktX9_init_0 : List UInt8 := dkwX9_init_0 ++ []
theorem dksX9_init_0 : cX9_init.data.toList.drop 0 = dktX9_init_0 := by decide +kernel
theorem dX9_init_0 : decode cX9_init 0 = .ok (.aload_n 0, 1) := dk_42 (dk_at dksX9_init_0 0 rfl rfl)
theorem dX9_init_1 : decode cX9_init 1 = .ok (.iload_n 1, 1) := dk_27 (dk_at dksX9_init_0 1 rfl rfl)
theorem dX9_init_2 : decode cX9_init 2 = .ok (.iload_n 2, 1) := dk_28 (dk_at dksX9_init_0 2 rfl rfl)
theorem dX9_init_3 : decode cX9_init 3 = .ok (.invokespecial 1, 3) := dk_183 0 1 (dk_at dksX9_init_0 3 rfl rfl)
theorem dX9_init_6 : decode cX9_init 6 = .ok (.return_, 1) := dk_177 (dk_at dksX9_init_0 6 rfl rfl)
theorem q91 : (Jvm.Cond.initialized "MapSheets$Blank") ∈ lw_all := lw_g (lw_at lw_m1 29 rfl) rfl
theorem q289 : (Jvm.Cond.selects "MapSheets$Blank" ({ cls := "java/lang/Object", name := "getClass", desc := "()Ljava/lang/Class;" } : Jvm.MethodName) ({ cls := "java/lang/Object", name := "getClass", desc := "()Ljava/lang/Class;" } : Jvm.MethodName)) ∈ lw_all := lw_g (lw_at lw_m1 227 rfl) rfl
theorem q716 : (Jvm.Cond.selects "MapSheets$Blank" ({ cls := "java/lang/Object", name := "equals", desc := "(Ljava/lang/Object;)Z" } : Jvm.MethodName) ({ cls := "java/lang/Object", name := "equals", desc := "(Ljava/lang/Object;)Z" } : Jvm.MethodName)) ∈ lw_all := lw_g (lw_at lw_m3 174 rfl) rfl
theorem q1053 : (Jvm.Cond.instantiable "MapSheets$Blank" (2 : Nat)) ∈ lw_all := lw_g (lw_at lw_m5 31 rfl) rfl
theorem q1055 : (Jvm.Cond.instanceMethod ({ cls := "MapSheets$Blank", name := "<init>", desc := "(II)V" } : Jvm.MethodName)) ∈ lw_all := lw_g (lw_at lw_m5 33 rfl) rfl
theorem q1056 : (Jvm.Cond.code ({ cls := "MapSheets$Blank", name := "<init>", desc := "(II)V" } : Jvm.MethodName) prog_2_method_1_code (3 : Nat) (Option.none : Option Jvm.ClassFile.FieldType)) ∈ lw_all := lw_g (lw_at lw_m5 34 rfl) rfl
theorem q1057 : (Jvm.Cond.methodLink "MapSheets$Blank" (1 : Nat) ({ cls := "MapSheets$Told", name := "<init>", desc := "(II)V" } : Jvm.MethodName)) ∈ lw_all := lw_g (lw_at lw_m5 35 rfl) rfl
theorem q1058 : (Jvm.Cond.laysFinal "MapSheets$Blank" "MapSheets$Told" "side" "I") ∈ lw_all := lw_g (lw_at lw_m5 36 rfl) rfl
theorem q1059 : (Jvm.Cond.laysFinal "MapSheets$Blank" "MapSheets$Told" "position" "I") ∈ lw_all := lw_g (lw_at lw_m5 37 rfl) rfl
theorem q1060 : (Jvm.Cond.superclass "MapSheets$Blank" "MapSheets$Told") ∈ lw_all := lw_g (lw_at lw_m5 38 rfl) rfl
theorem q1470 : (Jvm.Cond.castable "MapSheets$Blank" "MapSheets$Told") ∈ lw_tbl := lw_at lw_m6 208 rfl
theorem q1484 : (Jvm.Cond.castable "MapSheets$Blank" "java/lang/Object") ∈ lw_tbl := lw_at lw_m6 222 rfl
theorem in_X9 : ∀ w ∈ wsX90, w ∈ lw_all := lw_in wsX90 [1058, 1059] (by decide +kernel) (by decide +kernel)

