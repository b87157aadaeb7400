/-! MapSheets -/
set_option maxRecDepth 100000
def RX0 : String := "MapSheets"
def TX0 : u_T := fun k => match k with
  | 0 => ("MapSheets", "library", "LMapSheets$Library;", false)
  | 1 => ("MapSheets", "history", "Ljava/util/ArrayDeque;", true)
  | _ => ("MapSheets", "text", "Ljava/lang/StringBuilder;", true)
def tyX0 : Nat → FieldType := fun k => match k with
  | 0 => .object "MapSheets$Library"
  | 1 => .object "java/util/ArrayDeque"
  | _ => .object "java/lang/StringBuilder"
abbrev wsX00 : List Cond := u_ws RX0 TX0 3
theorem nmX0 : ∀ a, a < 3 → ∀ b, b < 3 → a ≠ b → (TX0 a).2.1 ≠ (TX0 b).2.1 := by decide +kernel
theorem tyX0_ok : ∀ k, k < 3 → parseFieldDescriptor (TX0 k).2.2.1 = some (tyX0 k) := by decide +kernel
abbrev cX0_init : ByteArray := prog_1_method_2_code
def yX0_init : MethodName := ⟨RX0, "<init>", "()V"⟩
def dkwX0_init_1 : List UInt8 := [181, 0, 19, 42, 187, 0, 23, 89, 183, 0, 25, 181, 0, 26, 42, 180, 0, 10, 6, 5, 182, 0, 30, 177]
abbrev dktX0_init_1 : List UInt8 := dkwX0_init_1 ++ []
def dkwX0_init_0 : List UInt8 := [42, 183, 0, 1, 42, 187, 0, 7, 89, 183, 0, 9, 181, 0, 10, 42, 187, 0, 16, 89, 183, 0, 18]
abbrev dktX0_init_0 : List UInt8 := dkwX0_init_0 ++ dktX0_init_1
theorem dksX0_init_0 : cX0_init.data.toList.drop 0 = dktX0_init_0 := by decide +kernel
theorem dksX0_init_1 : cX0_init.data.toList.drop 23 = dktX0_init_1 := dk_seg dksX0_init_0 23 rfl rfl
theorem dX0_init_0 : decode cX0_init 0 = .ok (.aload_n 0, 1) := dk_42 (dk_at dksX0_init_0 0 rfl rfl)
theorem dX0_init_1 : decode cX0_init 1 = .ok (.invokespecial 1, 3) := dk_183 0 1 (dk_at dksX0_init_0 1 rfl rfl)
theorem dX0_init_4 : decode cX0_init 4 = .ok (.aload_n 0, 1) := dk_42 (dk_at dksX0_init_0 4 rfl rfl)
theorem dX0_init_5 : decode cX0_init 5 = .ok (.new 7, 3) := dk_187 0 7 (dk_at dksX0_init_0 5 rfl rfl)
theorem dX0_init_8 : decode cX0_init 8 = .ok (.dup, 1) := dk_89 (dk_at dksX0_init_0 8 rfl rfl)
theorem dX0_init_9 : decode cX0_init 9 = .ok (.invokespecial 9, 3) := dk_183 0 9 (dk_at dksX0_init_0 9 rfl rfl)
theorem dX0_init_12 : decode cX0_init 12 = .ok (.putfield 10, 3) := dk_181 0 10 (dk_at dksX0_init_0 12 rfl rfl)
theorem dX0_init_15 : decode cX0_init 15 = .ok (.aload_n 0, 1) := dk_42 (dk_at dksX0_init_0 15 rfl rfl)
theorem dX0_init_16 : decode cX0_init 16 = .ok (.new 16, 3) := dk_187 0 16 (dk_at dksX0_init_0 16 rfl rfl)
theorem dX0_init_19 : decode cX0_init 19 = .ok (.dup, 1) := dk_89 (dk_at dksX0_init_0 19 rfl rfl)
theorem dX0_init_20 : decode cX0_init 20 = .ok (.invokespecial 18, 3) := dk_183 0 18 (dk_at dksX0_init_0 20 rfl rfl)
theorem dX0_init_23 : decode cX0_init 23 = .ok (.putfield 19, 3) := dk_181 0 19 (dk_at dksX0_init_1 0 rfl rfl)
theorem dX0_init_26 : decode cX0_init 26 = .ok (.aload_n 0, 1) := dk_42 (dk_at dksX0_init_1 3 rfl rfl)
theorem dX0_init_27 : decode cX0_init 27 = .ok (.new 23, 3) := dk_187 0 23 (dk_at dksX0_init_1 4 rfl rfl)
theorem dX0_init_30 : decode cX0_init 30 = .ok (.dup, 1) := dk_89 (dk_at dksX0_init_1 7 rfl rfl)
theorem dX0_init_31 : decode cX0_init 31 = .ok (.invokespecial 25, 3) := dk_183 0 25 (dk_at dksX0_init_1 8 rfl rfl)
theorem dX0_init_34 : decode cX0_init 34 = .ok (.putfield 26, 3) := dk_181 0 26 (dk_at dksX0_init_1 11 rfl rfl)
theorem dX0_init_37 : decode cX0_init 37 = .ok (.aload_n 0, 1) := dk_42 (dk_at dksX0_init_1 14 rfl rfl)
theorem dX0_init_38 : decode cX0_init 38 = .ok (.getfield 10, 3) := dk_180 0 10 (dk_at dksX0_init_1 15 rfl rfl)
theorem dX0_init_41 : decode cX0_init 41 = .ok (.iconst 3, 1) := dk_6 (dk_at dksX0_init_1 18 rfl rfl)
theorem dX0_init_42 : decode cX0_init 42 = .ok (.iconst 2, 1) := dk_5 (dk_at dksX0_init_1 19 rfl rfl)
theorem dX0_init_43 : decode cX0_init 43 = .ok (.invokevirtual 30, 3) := dk_182 0 30 (dk_at dksX0_init_1 20 rfl rfl)
theorem dX0_init_46 : decode cX0_init 46 = .ok (.return_, 1) := dk_177 (dk_at dksX0_init_1 23 rfl rfl)
abbrev cX0_grid : ByteArray := prog_1_method_9_code
def yX0_grid : MethodName := ⟨RX0, "grid", "(II)I"⟩
def dkwX0_grid_2 : List UInt8 := [181, 0, 64, 45, 27, 28, 182, 0, 30, 42, 45, 182, 0, 86, 45, 180, 0, 57, 182, 0, 50, 172]
abbrev dktX0_grid_2 : List UInt8 := dkwX0_grid_2 ++ []
def dkwX0_grid_1 : List UInt8 := [2, 172, 187, 0, 7, 89, 183, 0, 9, 78, 45, 42, 180, 0, 10, 180, 0, 64, 182, 0, 92, 192, 0, 93]
abbrev dktX0_grid_1 : List UInt8 := dkwX0_grid_1 ++ dktX0_grid_2
def dkwX0_grid_0 : List UInt8 := [27, 133, 10, 20, 0, 90, 184, 0, 53, 153, 0, 15, 28, 133, 10, 20, 0, 90, 184, 0, 53, 154, 0, 5]
abbrev dktX0_grid_0 : List UInt8 := dkwX0_grid_0 ++ dktX0_grid_1
theorem dksX0_grid_0 : cX0_grid.data.toList.drop 0 = dktX0_grid_0 := by decide +kernel
theorem dksX0_grid_1 : cX0_grid.data.toList.drop 24 = dktX0_grid_1 := dk_seg dksX0_grid_0 24 rfl rfl
theorem dksX0_grid_2 : cX0_grid.data.toList.drop 48 = dktX0_grid_2 := dk_seg dksX0_grid_1 24 rfl rfl
theorem dX0_grid_0 : decode cX0_grid 0 = .ok (.iload_n 1, 1) := dk_27 (dk_at dksX0_grid_0 0 rfl rfl)
theorem dX0_grid_1 : decode cX0_grid 1 = .ok (.i2l, 1) := dk_133 (dk_at dksX0_grid_0 1 rfl rfl)
theorem dX0_grid_2 : decode cX0_grid 2 = .ok (.lconst 1, 1) := dk_10 (dk_at dksX0_grid_0 2 rfl rfl)
theorem dX0_grid_3 : decode cX0_grid 3 = .ok (.ldc2_w 90, 3) := dk_20 0 90 (dk_at dksX0_grid_0 3 rfl rfl)
theorem dX0_grid_6 : decode cX0_grid 6 = .ok (.invokestatic 53, 3) := dk_184 0 53 (dk_at dksX0_grid_0 6 rfl rfl)
theorem dX0_grid_9 : decode cX0_grid 9 = .ok (.ifCond .eq 15, 3) := dk_153 0 15 (dk_at dksX0_grid_0 9 rfl rfl)
theorem dX0_grid_12 : decode cX0_grid 12 = .ok (.iload_n 2, 1) := dk_28 (dk_at dksX0_grid_0 12 rfl rfl)
theorem dX0_grid_13 : decode cX0_grid 13 = .ok (.i2l, 1) := dk_133 (dk_at dksX0_grid_0 13 rfl rfl)
theorem dX0_grid_14 : decode cX0_grid 14 = .ok (.lconst 1, 1) := dk_10 (dk_at dksX0_grid_0 14 rfl rfl)
theorem dX0_grid_15 : decode cX0_grid 15 = .ok (.ldc2_w 90, 3) := dk_20 0 90 (dk_at dksX0_grid_0 15 rfl rfl)
theorem dX0_grid_18 : decode cX0_grid 18 = .ok (.invokestatic 53, 3) := dk_184 0 53 (dk_at dksX0_grid_0 18 rfl rfl)
theorem dX0_grid_21 : decode cX0_grid 21 = .ok (.ifCond .ne 5, 3) := dk_154 0 5 (dk_at dksX0_grid_0 21 rfl rfl)
theorem dX0_grid_24 : decode cX0_grid 24 = .ok (.iconst (-1), 1) := dk_2 (dk_at dksX0_grid_1 0 rfl rfl)
theorem dX0_grid_25 : decode cX0_grid 25 = .ok (.ireturn, 1) := dk_172 (dk_at dksX0_grid_1 1 rfl rfl)
theorem dX0_grid_26 : decode cX0_grid 26 = .ok (.new 7, 3) := dk_187 0 7 (dk_at dksX0_grid_1 2 rfl rfl)
theorem dX0_grid_29 : decode cX0_grid 29 = .ok (.dup, 1) := dk_89 (dk_at dksX0_grid_1 5 rfl rfl)
theorem dX0_grid_30 : decode cX0_grid 30 = .ok (.invokespecial 9, 3) := dk_183 0 9 (dk_at dksX0_grid_1 6 rfl rfl)
theorem dX0_grid_33 : decode cX0_grid 33 = .ok (.astore_n 3, 1) := dk_78 (dk_at dksX0_grid_1 9 rfl rfl)
theorem dX0_grid_34 : decode cX0_grid 34 = .ok (.aload_n 3, 1) := dk_45 (dk_at dksX0_grid_1 10 rfl rfl)
theorem dX0_grid_35 : decode cX0_grid 35 = .ok (.aload_n 0, 1) := dk_42 (dk_at dksX0_grid_1 11 rfl rfl)
theorem dX0_grid_36 : decode cX0_grid 36 = .ok (.getfield 10, 3) := dk_180 0 10 (dk_at dksX0_grid_1 12 rfl rfl)
theorem dX0_grid_39 : decode cX0_grid 39 = .ok (.getfield 64, 3) := dk_180 0 64 (dk_at dksX0_grid_1 15 rfl rfl)
theorem dX0_grid_42 : decode cX0_grid 42 = .ok (.invokevirtual 92, 3) := dk_182 0 92 (dk_at dksX0_grid_1 18 rfl rfl)
theorem dX0_grid_45 : decode cX0_grid 45 = .ok (.checkcast 93, 3) := dk_192 0 93 (dk_at dksX0_grid_1 21 rfl rfl)
theorem dX0_grid_48 : decode cX0_grid 48 = .ok (.putfield 64, 3) := dk_181 0 64 (dk_at dksX0_grid_2 0 rfl rfl)
theorem dX0_grid_51 : decode cX0_grid 51 = .ok (.aload_n 3, 1) := dk_45 (dk_at dksX0_grid_2 3 rfl rfl)
theorem dX0_grid_52 : decode cX0_grid 52 = .ok (.iload_n 1, 1) := dk_27 (dk_at dksX0_grid_2 4 rfl rfl)
theorem dX0_grid_53 : decode cX0_grid 53 = .ok (.iload_n 2, 1) := dk_28 (dk_at dksX0_grid_2 5 rfl rfl)
theorem dX0_grid_54 : decode cX0_grid 54 = .ok (.invokevirtual 30, 3) := dk_182 0 30 (dk_at dksX0_grid_2 6 rfl rfl)
theorem dX0_grid_57 : decode cX0_grid 57 = .ok (.aload_n 0, 1) := dk_42 (dk_at dksX0_grid_2 9 rfl rfl)
theorem dX0_grid_58 : decode cX0_grid 58 = .ok (.aload_n 3, 1) := dk_45 (dk_at dksX0_grid_2 10 rfl rfl)
theorem dX0_grid_59 : decode cX0_grid 59 = .ok (.invokevirtual 86, 3) := dk_182 0 86 (dk_at dksX0_grid_2 11 rfl rfl)
theorem dX0_grid_62 : decode cX0_grid 62 = .ok (.aload_n 3, 1) := dk_45 (dk_at dksX0_grid_2 14 rfl rfl)
theorem dX0_grid_63 : decode cX0_grid 63 = .ok (.getfield 57, 3) := dk_180 0 57 (dk_at dksX0_grid_2 15 rfl rfl)
theorem dX0_grid_66 : decode cX0_grid 66 = .ok (.invokevirtual 50, 3) := dk_182 0 50 (dk_at dksX0_grid_2 18 rfl rfl)
theorem dX0_grid_69 : decode cX0_grid 69 = .ok (.ireturn, 1) := dk_172 (dk_at dksX0_grid_2 21 rfl rfl)
abbrev cX0_isBetween : ByteArray := prog_1_method_1_code
def yX0_isBetween : MethodName := ⟨RX0, "isBetween", "(JJJ)Z"⟩
def dkwX0_isBetween_0 : List UInt8 := [30, 32, 148, 155, 0, 14, 30, 22, 4, 148, 157, 0, 7, 4, 167, 0, 4, 3, 172]
abbrev dktX0_isBetween_0 : List UInt8 := dkwX0_isBetween_0 ++ []
theorem dksX0_isBetween_0 : cX0_isBetween.data.toList.drop 0 = dktX0_isBetween_0 := by decide +kernel
theorem dX0_isBetween_0 : decode cX0_isBetween 0 = .ok (.lload_n 0, 1) := dk_30 (dk_at dksX0_isBetween_0 0 rfl rfl)
theorem dX0_isBetween_1 : decode cX0_isBetween 1 = .ok (.lload_n 2, 1) := dk_32 (dk_at dksX0_isBetween_0 1 rfl rfl)
theorem dX0_isBetween_2 : decode cX0_isBetween 2 = .ok (.lcmp, 1) := dk_148 (dk_at dksX0_isBetween_0 2 rfl rfl)
theorem dX0_isBetween_3 : decode cX0_isBetween 3 = .ok (.ifCond .lt 14, 3) := dk_155 0 14 (dk_at dksX0_isBetween_0 3 rfl rfl)
theorem dX0_isBetween_6 : decode cX0_isBetween 6 = .ok (.lload_n 0, 1) := dk_30 (dk_at dksX0_isBetween_0 6 rfl rfl)
theorem dX0_isBetween_7 : decode cX0_isBetween 7 = .ok (.lload 4, 2) := dk_22 4 (dk_at dksX0_isBetween_0 7 rfl rfl)
theorem dX0_isBetween_9 : decode cX0_isBetween 9 = .ok (.lcmp, 1) := dk_148 (dk_at dksX0_isBetween_0 9 rfl rfl)
theorem dX0_isBetween_10 : decode cX0_isBetween 10 = .ok (.ifCond .gt 7, 3) := dk_157 0 7 (dk_at dksX0_isBetween_0 10 rfl rfl)
theorem dX0_isBetween_13 : decode cX0_isBetween 13 = .ok (.iconst 1, 1) := dk_4 (dk_at dksX0_isBetween_0 13 rfl rfl)
theorem dX0_isBetween_14 : decode cX0_isBetween 14 = .ok (.goto 4, 3) := dk_167 0 4 (dk_at dksX0_isBetween_0 14 rfl rfl)
theorem dX0_isBetween_17 : decode cX0_isBetween 17 = .ok (.iconst 0, 1) := dk_3 (dk_at dksX0_isBetween_0 17 rfl rfl)
theorem dX0_isBetween_18 : decode cX0_isBetween 18 = .ok (.ireturn, 1) := dk_172 (dk_at dksX0_isBetween_0 18 rfl rfl)
abbrev cX0_change : ByteArray := prog_1_method_3_code
def yX0_change : MethodName := ⟨RX0, "change", "(LMapSheets$Library;)V"⟩
def dkwX0_change_1 : List UInt8 := [180, 0, 19, 182, 0, 42, 87, 42, 43, 181, 0, 10, 177]
abbrev dktX0_change_1 : List UInt8 := dkwX0_change_1 ++ []
def dkwX0_change_0 : List UInt8 := [42, 180, 0, 19, 42, 180, 0, 10, 182, 0, 34, 42, 180, 0, 19, 182, 0, 38, 7, 164, 0, 11, 42]
abbrev dktX0_change_0 : List UInt8 := dkwX0_change_0 ++ dktX0_change_1
theorem dksX0_change_0 : cX0_change.data.toList.drop 0 = dktX0_change_0 := by decide +kernel
theorem dksX0_change_1 : cX0_change.data.toList.drop 23 = dktX0_change_1 := dk_seg dksX0_change_0 23 rfl rfl
theorem dX0_change_0 : decode cX0_change 0 = .ok (.aload_n 0, 1) := dk_42 (dk_at dksX0_change_0 0 rfl rfl)
theorem dX0_change_1 : decode cX0_change 1 = .ok (.getfield 19, 3) := dk_180 0 19 (dk_at dksX0_change_0 1 rfl rfl)
theorem dX0_change_4 : decode cX0_change 4 = .ok (.aload_n 0, 1) := dk_42 (dk_at dksX0_change_0 4 rfl rfl)
theorem dX0_change_5 : decode cX0_change 5 = .ok (.getfield 10, 3) := dk_180 0 10 (dk_at dksX0_change_0 5 rfl rfl)
theorem dX0_change_8 : decode cX0_change 8 = .ok (.invokevirtual 34, 3) := dk_182 0 34 (dk_at dksX0_change_0 8 rfl rfl)
theorem dX0_change_11 : decode cX0_change 11 = .ok (.aload_n 0, 1) := dk_42 (dk_at dksX0_change_0 11 rfl rfl)
theorem dX0_change_12 : decode cX0_change 12 = .ok (.getfield 19, 3) := dk_180 0 19 (dk_at dksX0_change_0 12 rfl rfl)
theorem dX0_change_15 : decode cX0_change 15 = .ok (.invokevirtual 38, 3) := dk_182 0 38 (dk_at dksX0_change_0 15 rfl rfl)
theorem dX0_change_18 : decode cX0_change 18 = .ok (.iconst 4, 1) := dk_7 (dk_at dksX0_change_0 18 rfl rfl)
theorem dX0_change_19 : decode cX0_change 19 = .ok (.if_icmp .le 11, 3) := dk_164 0 11 (dk_at dksX0_change_0 19 rfl rfl)
theorem dX0_change_22 : decode cX0_change 22 = .ok (.aload_n 0, 1) := dk_42 (dk_at dksX0_change_0 22 rfl rfl)
theorem dX0_change_23 : decode cX0_change 23 = .ok (.getfield 19, 3) := dk_180 0 19 (dk_at dksX0_change_1 0 rfl rfl)
theorem dX0_change_26 : decode cX0_change 26 = .ok (.invokevirtual 42, 3) := dk_182 0 42 (dk_at dksX0_change_1 3 rfl rfl)
theorem dX0_change_29 : decode cX0_change 29 = .ok (.pop, 1) := dk_87 (dk_at dksX0_change_1 6 rfl rfl)
theorem dX0_change_30 : decode cX0_change 30 = .ok (.aload_n 0, 1) := dk_42 (dk_at dksX0_change_1 7 rfl rfl)
theorem dX0_change_31 : decode cX0_change 31 = .ok (.aload_n 1, 1) := dk_43 (dk_at dksX0_change_1 8 rfl rfl)
theorem dX0_change_32 : decode cX0_change 32 = .ok (.putfield 10, 3) := dk_181 0 10 (dk_at dksX0_change_1 9 rfl rfl)
theorem dX0_change_35 : decode cX0_change 35 = .ok (.return_, 1) := dk_177 (dk_at dksX0_change_1 12 rfl rfl)
abbrev cX0_set : ByteArray := prog_1_method_10_code
def yX0_set : MethodName := ⟨RX0, "set", "(II)I"⟩
def dkwX0_set_3 : List UInt8 := [27, 28, 79, 42, 25, 5, 182, 0, 86, 21, 4, 172]
abbrev dktX0_set_3 : List UInt8 := dkwX0_set_3 ++ []
def dkwX0_set_2 : List UInt8 := [180, 0, 10, 180, 0, 64, 27, 46, 54, 4, 42, 180, 0, 10, 182, 0, 98, 58, 5, 25, 5, 180, 0, 64]
abbrev dktX0_set_2 : List UInt8 := dkwX0_set_2 ++ dktX0_set_3
def dkwX0_set_1 : List UInt8 := [20, 0, 96, 184, 0, 53, 153, 0, 7, 4, 167, 0, 4, 3, 62, 29, 154, 0, 5, 2, 172, 42]
abbrev dktX0_set_1 : List UInt8 := dkwX0_set_1 ++ dktX0_set_2
def dkwX0_set_0 : List UInt8 := [27, 154, 0, 13, 28, 133, 9, 10, 184, 0, 53, 167, 0, 25, 27, 4, 160, 0, 19, 28, 133, 9]
abbrev dktX0_set_0 : List UInt8 := dkwX0_set_0 ++ dktX0_set_1
theorem dksX0_set_0 : cX0_set.data.toList.drop 0 = dktX0_set_0 := by decide +kernel
theorem dksX0_set_1 : cX0_set.data.toList.drop 22 = dktX0_set_1 := dk_seg dksX0_set_0 22 rfl rfl
theorem dksX0_set_2 : cX0_set.data.toList.drop 44 = dktX0_set_2 := dk_seg dksX0_set_1 22 rfl rfl
theorem dksX0_set_3 : cX0_set.data.toList.drop 68 = dktX0_set_3 := dk_seg dksX0_set_2 24 rfl rfl
theorem dX0_set_0 : decode cX0_set 0 = .ok (.iload_n 1, 1) := dk_27 (dk_at dksX0_set_0 0 rfl rfl)
theorem dX0_set_1 : decode cX0_set 1 = .ok (.ifCond .ne 13, 3) := dk_154 0 13 (dk_at dksX0_set_0 1 rfl rfl)
theorem dX0_set_4 : decode cX0_set 4 = .ok (.iload_n 2, 1) := dk_28 (dk_at dksX0_set_0 4 rfl rfl)
theorem dX0_set_5 : decode cX0_set 5 = .ok (.i2l, 1) := dk_133 (dk_at dksX0_set_0 5 rfl rfl)
theorem dX0_set_6 : decode cX0_set 6 = .ok (.lconst 0, 1) := dk_9 (dk_at dksX0_set_0 6 rfl rfl)
theorem dX0_set_7 : decode cX0_set 7 = .ok (.lconst 1, 1) := dk_10 (dk_at dksX0_set_0 7 rfl rfl)
theorem dX0_set_8 : decode cX0_set 8 = .ok (.invokestatic 53, 3) := dk_184 0 53 (dk_at dksX0_set_0 8 rfl rfl)
theorem dX0_set_11 : decode cX0_set 11 = .ok (.goto 25, 3) := dk_167 0 25 (dk_at dksX0_set_0 11 rfl rfl)
theorem dX0_set_14 : decode cX0_set 14 = .ok (.iload_n 1, 1) := dk_27 (dk_at dksX0_set_0 14 rfl rfl)
theorem dX0_set_15 : decode cX0_set 15 = .ok (.iconst 1, 1) := dk_4 (dk_at dksX0_set_0 15 rfl rfl)
theorem dX0_set_16 : decode cX0_set 16 = .ok (.if_icmp .ne 19, 3) := dk_160 0 19 (dk_at dksX0_set_0 16 rfl rfl)
theorem dX0_set_19 : decode cX0_set 19 = .ok (.iload_n 2, 1) := dk_28 (dk_at dksX0_set_0 19 rfl rfl)
theorem dX0_set_20 : decode cX0_set 20 = .ok (.i2l, 1) := dk_133 (dk_at dksX0_set_0 20 rfl rfl)
theorem dX0_set_21 : decode cX0_set 21 = .ok (.lconst 0, 1) := dk_9 (dk_at dksX0_set_0 21 rfl rfl)
theorem dX0_set_22 : decode cX0_set 22 = .ok (.ldc2_w 96, 3) := dk_20 0 96 (dk_at dksX0_set_1 0 rfl rfl)
theorem dX0_set_25 : decode cX0_set 25 = .ok (.invokestatic 53, 3) := dk_184 0 53 (dk_at dksX0_set_1 3 rfl rfl)
theorem dX0_set_28 : decode cX0_set 28 = .ok (.ifCond .eq 7, 3) := dk_153 0 7 (dk_at dksX0_set_1 6 rfl rfl)
theorem dX0_set_31 : decode cX0_set 31 = .ok (.iconst 1, 1) := dk_4 (dk_at dksX0_set_1 9 rfl rfl)
theorem dX0_set_32 : decode cX0_set 32 = .ok (.goto 4, 3) := dk_167 0 4 (dk_at dksX0_set_1 10 rfl rfl)
theorem dX0_set_35 : decode cX0_set 35 = .ok (.iconst 0, 1) := dk_3 (dk_at dksX0_set_1 13 rfl rfl)
theorem dX0_set_36 : decode cX0_set 36 = .ok (.istore_n 3, 1) := dk_62 (dk_at dksX0_set_1 14 rfl rfl)
theorem dX0_set_37 : decode cX0_set 37 = .ok (.iload_n 3, 1) := dk_29 (dk_at dksX0_set_1 15 rfl rfl)
theorem dX0_set_38 : decode cX0_set 38 = .ok (.ifCond .ne 5, 3) := dk_154 0 5 (dk_at dksX0_set_1 16 rfl rfl)
theorem dX0_set_41 : decode cX0_set 41 = .ok (.iconst (-1), 1) := dk_2 (dk_at dksX0_set_1 19 rfl rfl)
theorem dX0_set_42 : decode cX0_set 42 = .ok (.ireturn, 1) := dk_172 (dk_at dksX0_set_1 20 rfl rfl)
theorem dX0_set_43 : decode cX0_set 43 = .ok (.aload_n 0, 1) := dk_42 (dk_at dksX0_set_1 21 rfl rfl)
theorem dX0_set_44 : decode cX0_set 44 = .ok (.getfield 10, 3) := dk_180 0 10 (dk_at dksX0_set_2 0 rfl rfl)
theorem dX0_set_47 : decode cX0_set 47 = .ok (.getfield 64, 3) := dk_180 0 64 (dk_at dksX0_set_2 3 rfl rfl)
theorem dX0_set_50 : decode cX0_set 50 = .ok (.iload_n 1, 1) := dk_27 (dk_at dksX0_set_2 6 rfl rfl)
theorem dX0_set_51 : decode cX0_set 51 = .ok (.iaload, 1) := dk_46 (dk_at dksX0_set_2 7 rfl rfl)
theorem dX0_set_52 : decode cX0_set 52 = .ok (.istore 4, 2) := dk_54 4 (dk_at dksX0_set_2 8 rfl rfl)
theorem dX0_set_54 : decode cX0_set 54 = .ok (.aload_n 0, 1) := dk_42 (dk_at dksX0_set_2 10 rfl rfl)
theorem dX0_set_55 : decode cX0_set 55 = .ok (.getfield 10, 3) := dk_180 0 10 (dk_at dksX0_set_2 11 rfl rfl)
theorem dX0_set_58 : decode cX0_set 58 = .ok (.invokevirtual 98, 3) := dk_182 0 98 (dk_at dksX0_set_2 14 rfl rfl)
theorem dX0_set_61 : decode cX0_set 61 = .ok (.astore 5, 2) := dk_58 5 (dk_at dksX0_set_2 17 rfl rfl)
theorem dX0_set_63 : decode cX0_set 63 = .ok (.aload 5, 2) := dk_25 5 (dk_at dksX0_set_2 19 rfl rfl)
theorem dX0_set_65 : decode cX0_set 65 = .ok (.getfield 64, 3) := dk_180 0 64 (dk_at dksX0_set_2 21 rfl rfl)
theorem dX0_set_68 : decode cX0_set 68 = .ok (.iload_n 1, 1) := dk_27 (dk_at dksX0_set_3 0 rfl rfl)
theorem dX0_set_69 : decode cX0_set 69 = .ok (.iload_n 2, 1) := dk_28 (dk_at dksX0_set_3 1 rfl rfl)
theorem dX0_set_70 : decode cX0_set 70 = .ok (.iastore, 1) := dk_79 (dk_at dksX0_set_3 2 rfl rfl)
theorem dX0_set_71 : decode cX0_set 71 = .ok (.aload_n 0, 1) := dk_42 (dk_at dksX0_set_3 3 rfl rfl)
theorem dX0_set_72 : decode cX0_set 72 = .ok (.aload 5, 2) := dk_25 5 (dk_at dksX0_set_3 4 rfl rfl)
theorem dX0_set_74 : decode cX0_set 74 = .ok (.invokevirtual 86, 3) := dk_182 0 86 (dk_at dksX0_set_3 6 rfl rfl)
theorem dX0_set_77 : decode cX0_set 77 = .ok (.iload 4, 2) := dk_21 4 (dk_at dksX0_set_3 9 rfl rfl)
theorem dX0_set_79 : decode cX0_set 79 = .ok (.ireturn, 1) := dk_172 (dk_at dksX0_set_3 11 rfl rfl)
abbrev cX0_show : ByteArray := prog_1_method_12_code
def yX0_show : MethodName := ⟨RX0, "show", "(IIII)I"⟩
def dkwX0_show_4 : List UInt8 := [172]
abbrev dktX0_show_4 : List UInt8 := dkwX0_show_4 ++ []
def dkwX0_show_3 : List UInt8 := [182, 0, 119, 154, 0, 8, 16, 254, 167, 0, 16, 21, 5, 2, 160, 0, 8, 16, 10, 167, 0, 5, 21, 5]
abbrev dktX0_show_3 : List UInt8 := dkwX0_show_3 ++ dktX0_show_4
def dkwX0_show_2 : List UInt8 := [182, 0, 98, 58, 6, 25, 6, 27, 182, 0, 76, 180, 0, 115, 28, 50, 29, 21, 4, 79, 42, 25, 6, 27]
abbrev dktX0_show_2 : List UInt8 := dkwX0_show_2 ++ dktX0_show_3
def dkwX0_show_1 : List UInt8 := [2, 172, 42, 180, 0, 10, 27, 182, 0, 76, 180, 0, 115, 28, 50, 29, 46, 54, 5, 42, 180, 0, 10]
abbrev dktX0_show_1 : List UInt8 := dkwX0_show_1 ++ dktX0_show_2
def dkwX0_show_0 : List UInt8 := [42, 27, 182, 0, 108, 153, 0, 19, 28, 29, 184, 0, 111, 153, 0, 11, 21, 4, 184, 0, 105, 154, 0, 5]
abbrev dktX0_show_0 : List UInt8 := dkwX0_show_0 ++ dktX0_show_1
theorem dksX0_show_0 : cX0_show.data.toList.drop 0 = dktX0_show_0 := by decide +kernel
theorem dksX0_show_1 : cX0_show.data.toList.drop 24 = dktX0_show_1 := dk_seg dksX0_show_0 24 rfl rfl
theorem dksX0_show_2 : cX0_show.data.toList.drop 47 = dktX0_show_2 := dk_seg dksX0_show_1 23 rfl rfl
theorem dksX0_show_3 : cX0_show.data.toList.drop 71 = dktX0_show_3 := dk_seg dksX0_show_2 24 rfl rfl
theorem dksX0_show_4 : cX0_show.data.toList.drop 95 = dktX0_show_4 := dk_seg dksX0_show_3 24 rfl rfl
theorem dX0_show_0 : decode cX0_show 0 = .ok (.aload_n 0, 1) := dk_42 (dk_at dksX0_show_0 0 rfl rfl)
theorem dX0_show_1 : decode cX0_show 1 = .ok (.iload_n 1, 1) := dk_27 (dk_at dksX0_show_0 1 rfl rfl)
theorem dX0_show_2 : decode cX0_show 2 = .ok (.invokevirtual 108, 3) := dk_182 0 108 (dk_at dksX0_show_0 2 rfl rfl)
theorem dX0_show_5 : decode cX0_show 5 = .ok (.ifCond .eq 19, 3) := dk_153 0 19 (dk_at dksX0_show_0 5 rfl rfl)
theorem dX0_show_8 : decode cX0_show 8 = .ok (.iload_n 2, 1) := dk_28 (dk_at dksX0_show_0 8 rfl rfl)
theorem dX0_show_9 : decode cX0_show 9 = .ok (.iload_n 3, 1) := dk_29 (dk_at dksX0_show_0 9 rfl rfl)
theorem dX0_show_10 : decode cX0_show 10 = .ok (.invokestatic 111, 3) := dk_184 0 111 (dk_at dksX0_show_0 10 rfl rfl)
theorem dX0_show_13 : decode cX0_show 13 = .ok (.ifCond .eq 11, 3) := dk_153 0 11 (dk_at dksX0_show_0 13 rfl rfl)
theorem dX0_show_16 : decode cX0_show 16 = .ok (.iload 4, 2) := dk_21 4 (dk_at dksX0_show_0 16 rfl rfl)
theorem dX0_show_18 : decode cX0_show 18 = .ok (.invokestatic 105, 3) := dk_184 0 105 (dk_at dksX0_show_0 18 rfl rfl)
theorem dX0_show_21 : decode cX0_show 21 = .ok (.ifCond .ne 5, 3) := dk_154 0 5 (dk_at dksX0_show_0 21 rfl rfl)
theorem dX0_show_24 : decode cX0_show 24 = .ok (.iconst (-1), 1) := dk_2 (dk_at dksX0_show_1 0 rfl rfl)
theorem dX0_show_25 : decode cX0_show 25 = .ok (.ireturn, 1) := dk_172 (dk_at dksX0_show_1 1 rfl rfl)
theorem dX0_show_26 : decode cX0_show 26 = .ok (.aload_n 0, 1) := dk_42 (dk_at dksX0_show_1 2 rfl rfl)
theorem dX0_show_27 : decode cX0_show 27 = .ok (.getfield 10, 3) := dk_180 0 10 (dk_at dksX0_show_1 3 rfl rfl)
theorem dX0_show_30 : decode cX0_show 30 = .ok (.iload_n 1, 1) := dk_27 (dk_at dksX0_show_1 6 rfl rfl)
theorem dX0_show_31 : decode cX0_show 31 = .ok (.invokevirtual 76, 3) := dk_182 0 76 (dk_at dksX0_show_1 7 rfl rfl)
theorem dX0_show_34 : decode cX0_show 34 = .ok (.getfield 115, 3) := dk_180 0 115 (dk_at dksX0_show_1 10 rfl rfl)
theorem dX0_show_37 : decode cX0_show 37 = .ok (.iload_n 2, 1) := dk_28 (dk_at dksX0_show_1 13 rfl rfl)
theorem dX0_show_38 : decode cX0_show 38 = .ok (.aaload, 1) := dk_50 (dk_at dksX0_show_1 14 rfl rfl)
theorem dX0_show_39 : decode cX0_show 39 = .ok (.iload_n 3, 1) := dk_29 (dk_at dksX0_show_1 15 rfl rfl)
theorem dX0_show_40 : decode cX0_show 40 = .ok (.iaload, 1) := dk_46 (dk_at dksX0_show_1 16 rfl rfl)
theorem dX0_show_41 : decode cX0_show 41 = .ok (.istore 5, 2) := dk_54 5 (dk_at dksX0_show_1 17 rfl rfl)
theorem dX0_show_43 : decode cX0_show 43 = .ok (.aload_n 0, 1) := dk_42 (dk_at dksX0_show_1 19 rfl rfl)
theorem dX0_show_44 : decode cX0_show 44 = .ok (.getfield 10, 3) := dk_180 0 10 (dk_at dksX0_show_1 20 rfl rfl)
theorem dX0_show_47 : decode cX0_show 47 = .ok (.invokevirtual 98, 3) := dk_182 0 98 (dk_at dksX0_show_2 0 rfl rfl)
theorem dX0_show_50 : decode cX0_show 50 = .ok (.astore 6, 2) := dk_58 6 (dk_at dksX0_show_2 3 rfl rfl)
theorem dX0_show_52 : decode cX0_show 52 = .ok (.aload 6, 2) := dk_25 6 (dk_at dksX0_show_2 5 rfl rfl)
theorem dX0_show_54 : decode cX0_show 54 = .ok (.iload_n 1, 1) := dk_27 (dk_at dksX0_show_2 7 rfl rfl)
theorem dX0_show_55 : decode cX0_show 55 = .ok (.invokevirtual 76, 3) := dk_182 0 76 (dk_at dksX0_show_2 8 rfl rfl)
theorem dX0_show_58 : decode cX0_show 58 = .ok (.getfield 115, 3) := dk_180 0 115 (dk_at dksX0_show_2 11 rfl rfl)
theorem dX0_show_61 : decode cX0_show 61 = .ok (.iload_n 2, 1) := dk_28 (dk_at dksX0_show_2 14 rfl rfl)
theorem dX0_show_62 : decode cX0_show 62 = .ok (.aaload, 1) := dk_50 (dk_at dksX0_show_2 15 rfl rfl)
theorem dX0_show_63 : decode cX0_show 63 = .ok (.iload_n 3, 1) := dk_29 (dk_at dksX0_show_2 16 rfl rfl)
theorem dX0_show_64 : decode cX0_show 64 = .ok (.iload 4, 2) := dk_21 4 (dk_at dksX0_show_2 17 rfl rfl)
theorem dX0_show_66 : decode cX0_show 66 = .ok (.iastore, 1) := dk_79 (dk_at dksX0_show_2 19 rfl rfl)
theorem dX0_show_67 : decode cX0_show 67 = .ok (.aload_n 0, 1) := dk_42 (dk_at dksX0_show_2 20 rfl rfl)
theorem dX0_show_68 : decode cX0_show 68 = .ok (.aload 6, 2) := dk_25 6 (dk_at dksX0_show_2 21 rfl rfl)
theorem dX0_show_70 : decode cX0_show 70 = .ok (.iload_n 1, 1) := dk_27 (dk_at dksX0_show_2 23 rfl rfl)
theorem dX0_show_71 : decode cX0_show 71 = .ok (.invokevirtual 119, 3) := dk_182 0 119 (dk_at dksX0_show_3 0 rfl rfl)
theorem dX0_show_74 : decode cX0_show 74 = .ok (.ifCond .ne 8, 3) := dk_154 0 8 (dk_at dksX0_show_3 3 rfl rfl)
theorem dX0_show_77 : decode cX0_show 77 = .ok (.bipush (-2), 2) := dk_16 254 (dk_at dksX0_show_3 6 rfl rfl)
theorem dX0_show_79 : decode cX0_show 79 = .ok (.goto 16, 3) := dk_167 0 16 (dk_at dksX0_show_3 8 rfl rfl)
theorem dX0_show_82 : decode cX0_show 82 = .ok (.iload 5, 2) := dk_21 5 (dk_at dksX0_show_3 11 rfl rfl)
theorem dX0_show_84 : decode cX0_show 84 = .ok (.iconst (-1), 1) := dk_2 (dk_at dksX0_show_3 13 rfl rfl)
theorem dX0_show_85 : decode cX0_show 85 = .ok (.if_icmp .ne 8, 3) := dk_160 0 8 (dk_at dksX0_show_3 14 rfl rfl)
theorem dX0_show_88 : decode cX0_show 88 = .ok (.bipush 10, 2) := dk_16 10 (dk_at dksX0_show_3 17 rfl rfl)
theorem dX0_show_90 : decode cX0_show 90 = .ok (.goto 5, 3) := dk_167 0 5 (dk_at dksX0_show_3 19 rfl rfl)
theorem dX0_show_93 : decode cX0_show 93 = .ok (.iload 5, 2) := dk_21 5 (dk_at dksX0_show_3 22 rfl rfl)
theorem dX0_show_95 : decode cX0_show 95 = .ok (.ireturn, 1) := dk_172 (dk_at dksX0_show_4 0 rfl rfl)
abbrev cX0_isSheet : ByteArray := prog_1_method_4_code
def yX0_isSheet : MethodName := ⟨RX0, "isSheet", "(I)Z"⟩
def dkwX0_isSheet_0 : List UInt8 := [27, 133, 9, 42, 180, 0, 10, 180, 0, 46, 182, 0, 50, 4, 100, 133, 184, 0, 53, 172]
abbrev dktX0_isSheet_0 : List UInt8 := dkwX0_isSheet_0 ++ []
theorem dksX0_isSheet_0 : cX0_isSheet.data.toList.drop 0 = dktX0_isSheet_0 := by decide +kernel
theorem dX0_isSheet_0 : decode cX0_isSheet 0 = .ok (.iload_n 1, 1) := dk_27 (dk_at dksX0_isSheet_0 0 rfl rfl)
theorem dX0_isSheet_1 : decode cX0_isSheet 1 = .ok (.i2l, 1) := dk_133 (dk_at dksX0_isSheet_0 1 rfl rfl)
theorem dX0_isSheet_2 : decode cX0_isSheet 2 = .ok (.lconst 0, 1) := dk_9 (dk_at dksX0_isSheet_0 2 rfl rfl)
theorem dX0_isSheet_3 : decode cX0_isSheet 3 = .ok (.aload_n 0, 1) := dk_42 (dk_at dksX0_isSheet_0 3 rfl rfl)
theorem dX0_isSheet_4 : decode cX0_isSheet 4 = .ok (.getfield 10, 3) := dk_180 0 10 (dk_at dksX0_isSheet_0 4 rfl rfl)
theorem dX0_isSheet_7 : decode cX0_isSheet 7 = .ok (.getfield 46, 3) := dk_180 0 46 (dk_at dksX0_isSheet_0 7 rfl rfl)
theorem dX0_isSheet_10 : decode cX0_isSheet 10 = .ok (.invokevirtual 50, 3) := dk_182 0 50 (dk_at dksX0_isSheet_0 10 rfl rfl)
theorem dX0_isSheet_13 : decode cX0_isSheet 13 = .ok (.iconst 1, 1) := dk_4 (dk_at dksX0_isSheet_0 13 rfl rfl)
theorem dX0_isSheet_14 : decode cX0_isSheet 14 = .ok (.isub, 1) := dk_100 (dk_at dksX0_isSheet_0 14 rfl rfl)
theorem dX0_isSheet_15 : decode cX0_isSheet 15 = .ok (.i2l, 1) := dk_133 (dk_at dksX0_isSheet_0 15 rfl rfl)
theorem dX0_isSheet_16 : decode cX0_isSheet 16 = .ok (.invokestatic 53, 3) := dk_184 0 53 (dk_at dksX0_isSheet_0 16 rfl rfl)
theorem dX0_isSheet_19 : decode cX0_isSheet 19 = .ok (.ireturn, 1) := dk_172 (dk_at dksX0_isSheet_0 19 rfl rfl)
abbrev cX0_isPlace : ByteArray := prog_1_method_11_code
def yX0_isPlace : MethodName := ⟨RX0, "isPlace", "(II)Z"⟩
def dkwX0_isPlace_0 : List UInt8 := [26, 184, 0, 102, 153, 0, 14, 27, 184, 0, 105, 153, 0, 7, 4, 167, 0, 4, 3, 172]
abbrev dktX0_isPlace_0 : List UInt8 := dkwX0_isPlace_0 ++ []
theorem dksX0_isPlace_0 : cX0_isPlace.data.toList.drop 0 = dktX0_isPlace_0 := by decide +kernel
theorem dX0_isPlace_0 : decode cX0_isPlace 0 = .ok (.iload_n 0, 1) := dk_26 (dk_at dksX0_isPlace_0 0 rfl rfl)
theorem dX0_isPlace_1 : decode cX0_isPlace 1 = .ok (.invokestatic 102, 3) := dk_184 0 102 (dk_at dksX0_isPlace_0 1 rfl rfl)
theorem dX0_isPlace_4 : decode cX0_isPlace 4 = .ok (.ifCond .eq 14, 3) := dk_153 0 14 (dk_at dksX0_isPlace_0 4 rfl rfl)
theorem dX0_isPlace_7 : decode cX0_isPlace 7 = .ok (.iload_n 1, 1) := dk_27 (dk_at dksX0_isPlace_0 7 rfl rfl)
theorem dX0_isPlace_8 : decode cX0_isPlace 8 = .ok (.invokestatic 105, 3) := dk_184 0 105 (dk_at dksX0_isPlace_0 8 rfl rfl)
theorem dX0_isPlace_11 : decode cX0_isPlace 11 = .ok (.ifCond .eq 7, 3) := dk_153 0 7 (dk_at dksX0_isPlace_0 11 rfl rfl)
theorem dX0_isPlace_14 : decode cX0_isPlace 14 = .ok (.iconst 1, 1) := dk_4 (dk_at dksX0_isPlace_0 14 rfl rfl)
theorem dX0_isPlace_15 : decode cX0_isPlace 15 = .ok (.goto 4, 3) := dk_167 0 4 (dk_at dksX0_isPlace_0 15 rfl rfl)
theorem dX0_isPlace_18 : decode cX0_isPlace 18 = .ok (.iconst 0, 1) := dk_3 (dk_at dksX0_isPlace_0 18 rfl rfl)
theorem dX0_isPlace_19 : decode cX0_isPlace 19 = .ok (.ireturn, 1) := dk_172 (dk_at dksX0_isPlace_0 19 rfl rfl)
abbrev cX0_isSide : ByteArray := prog_1_method_7_code
def yX0_isSide : MethodName := ⟨RX0, "isSide", "(I)Z"⟩
def dkwX0_isSide_0 : List UInt8 := [26, 133, 9, 20, 0, 62, 184, 0, 53, 172]
abbrev dktX0_isSide_0 : List UInt8 := dkwX0_isSide_0 ++ []
theorem dksX0_isSide_0 : cX0_isSide.data.toList.drop 0 = dktX0_isSide_0 := by decide +kernel
theorem dX0_isSide_0 : decode cX0_isSide 0 = .ok (.iload_n 0, 1) := dk_26 (dk_at dksX0_isSide_0 0 rfl rfl)
theorem dX0_isSide_1 : decode cX0_isSide 1 = .ok (.i2l, 1) := dk_133 (dk_at dksX0_isSide_0 1 rfl rfl)
theorem dX0_isSide_2 : decode cX0_isSide 2 = .ok (.lconst 0, 1) := dk_9 (dk_at dksX0_isSide_0 2 rfl rfl)
theorem dX0_isSide_3 : decode cX0_isSide 3 = .ok (.ldc2_w 62, 3) := dk_20 0 62 (dk_at dksX0_isSide_0 3 rfl rfl)
theorem dX0_isSide_6 : decode cX0_isSide 6 = .ok (.invokestatic 53, 3) := dk_184 0 53 (dk_at dksX0_isSide_0 6 rfl rfl)
theorem dX0_isSide_9 : decode cX0_isSide 9 = .ok (.ireturn, 1) := dk_172 (dk_at dksX0_isSide_0 9 rfl rfl)
abbrev cX0_isDigit : ByteArray := prog_1_method_6_code
def yX0_isDigit : MethodName := ⟨RX0, "isDigit", "(I)Z"⟩
def dkwX0_isDigit_0 : List UInt8 := [26, 133, 9, 20, 0, 60, 184, 0, 53, 172]
abbrev dktX0_isDigit_0 : List UInt8 := dkwX0_isDigit_0 ++ []
theorem dksX0_isDigit_0 : cX0_isDigit.data.toList.drop 0 = dktX0_isDigit_0 := by decide +kernel
theorem dX0_isDigit_0 : decode cX0_isDigit 0 = .ok (.iload_n 0, 1) := dk_26 (dk_at dksX0_isDigit_0 0 rfl rfl)
theorem dX0_isDigit_1 : decode cX0_isDigit 1 = .ok (.i2l, 1) := dk_133 (dk_at dksX0_isDigit_0 1 rfl rfl)
theorem dX0_isDigit_2 : decode cX0_isDigit 2 = .ok (.lconst 0, 1) := dk_9 (dk_at dksX0_isDigit_0 2 rfl rfl)
theorem dX0_isDigit_3 : decode cX0_isDigit 3 = .ok (.ldc2_w 60, 3) := dk_20 0 60 (dk_at dksX0_isDigit_0 3 rfl rfl)
theorem dX0_isDigit_6 : decode cX0_isDigit 6 = .ok (.invokestatic 53, 3) := dk_184 0 53 (dk_at dksX0_isDigit_0 6 rfl rfl)
theorem dX0_isDigit_9 : decode cX0_isDigit 9 = .ok (.ireturn, 1) := dk_172 (dk_at dksX0_isDigit_0 9 rfl rfl)
abbrev cX0_takes : ByteArray := prog_1_method_8_code
def yX0_takes : MethodName := ⟨RX0, "takes", "(LMapSheets$Library;I)Z"⟩
def dkwX0_takes_1 : List UInt8 := [182, 0, 72, 43, 28, 182, 0, 76, 89, 180, 0, 80, 4, 96, 181, 0, 80, 42, 43, 182, 0, 86, 4, 172]
abbrev dktX0_takes_1 : List UInt8 := dkwX0_takes_1 ++ []
def dkwX0_takes_0 : List UInt8 := [43, 180, 0, 64, 3, 46, 4, 160, 0, 13, 43, 28, 182, 0, 68, 154, 0, 5, 3, 172, 43, 28]
abbrev dktX0_takes_0 : List UInt8 := dkwX0_takes_0 ++ dktX0_takes_1
theorem dksX0_takes_0 : cX0_takes.data.toList.drop 0 = dktX0_takes_0 := by decide +kernel
theorem dksX0_takes_1 : cX0_takes.data.toList.drop 22 = dktX0_takes_1 := dk_seg dksX0_takes_0 22 rfl rfl
theorem dX0_takes_0 : decode cX0_takes 0 = .ok (.aload_n 1, 1) := dk_43 (dk_at dksX0_takes_0 0 rfl rfl)
theorem dX0_takes_1 : decode cX0_takes 1 = .ok (.getfield 64, 3) := dk_180 0 64 (dk_at dksX0_takes_0 1 rfl rfl)
theorem dX0_takes_4 : decode cX0_takes 4 = .ok (.iconst 0, 1) := dk_3 (dk_at dksX0_takes_0 4 rfl rfl)
theorem dX0_takes_5 : decode cX0_takes 5 = .ok (.iaload, 1) := dk_46 (dk_at dksX0_takes_0 5 rfl rfl)
theorem dX0_takes_6 : decode cX0_takes 6 = .ok (.iconst 1, 1) := dk_4 (dk_at dksX0_takes_0 6 rfl rfl)
theorem dX0_takes_7 : decode cX0_takes 7 = .ok (.if_icmp .ne 13, 3) := dk_160 0 13 (dk_at dksX0_takes_0 7 rfl rfl)
theorem dX0_takes_10 : decode cX0_takes 10 = .ok (.aload_n 1, 1) := dk_43 (dk_at dksX0_takes_0 10 rfl rfl)
theorem dX0_takes_11 : decode cX0_takes 11 = .ok (.iload_n 2, 1) := dk_28 (dk_at dksX0_takes_0 11 rfl rfl)
theorem dX0_takes_12 : decode cX0_takes 12 = .ok (.invokevirtual 68, 3) := dk_182 0 68 (dk_at dksX0_takes_0 12 rfl rfl)
theorem dX0_takes_15 : decode cX0_takes 15 = .ok (.ifCond .ne 5, 3) := dk_154 0 5 (dk_at dksX0_takes_0 15 rfl rfl)
theorem dX0_takes_18 : decode cX0_takes 18 = .ok (.iconst 0, 1) := dk_3 (dk_at dksX0_takes_0 18 rfl rfl)
theorem dX0_takes_19 : decode cX0_takes 19 = .ok (.ireturn, 1) := dk_172 (dk_at dksX0_takes_0 19 rfl rfl)
theorem dX0_takes_20 : decode cX0_takes 20 = .ok (.aload_n 1, 1) := dk_43 (dk_at dksX0_takes_0 20 rfl rfl)
theorem dX0_takes_21 : decode cX0_takes 21 = .ok (.iload_n 2, 1) := dk_28 (dk_at dksX0_takes_0 21 rfl rfl)
theorem dX0_takes_22 : decode cX0_takes 22 = .ok (.invokevirtual 72, 3) := dk_182 0 72 (dk_at dksX0_takes_1 0 rfl rfl)
theorem dX0_takes_25 : decode cX0_takes 25 = .ok (.aload_n 1, 1) := dk_43 (dk_at dksX0_takes_1 3 rfl rfl)
theorem dX0_takes_26 : decode cX0_takes 26 = .ok (.iload_n 2, 1) := dk_28 (dk_at dksX0_takes_1 4 rfl rfl)
theorem dX0_takes_27 : decode cX0_takes 27 = .ok (.invokevirtual 76, 3) := dk_182 0 76 (dk_at dksX0_takes_1 5 rfl rfl)
theorem dX0_takes_30 : decode cX0_takes 30 = .ok (.dup, 1) := dk_89 (dk_at dksX0_takes_1 8 rfl rfl)
theorem dX0_takes_31 : decode cX0_takes 31 = .ok (.getfield 80, 3) := dk_180 0 80 (dk_at dksX0_takes_1 9 rfl rfl)
theorem dX0_takes_34 : decode cX0_takes 34 = .ok (.iconst 1, 1) := dk_4 (dk_at dksX0_takes_1 12 rfl rfl)
theorem dX0_takes_35 : decode cX0_takes 35 = .ok (.iadd, 1) := dk_96 (dk_at dksX0_takes_1 13 rfl rfl)
theorem dX0_takes_36 : decode cX0_takes 36 = .ok (.putfield 80, 3) := dk_181 0 80 (dk_at dksX0_takes_1 14 rfl rfl)
theorem dX0_takes_39 : decode cX0_takes 39 = .ok (.aload_n 0, 1) := dk_42 (dk_at dksX0_takes_1 17 rfl rfl)
theorem dX0_takes_40 : decode cX0_takes 40 = .ok (.aload_n 1, 1) := dk_43 (dk_at dksX0_takes_1 18 rfl rfl)
theorem dX0_takes_41 : decode cX0_takes 41 = .ok (.invokevirtual 86, 3) := dk_182 0 86 (dk_at dksX0_takes_1 19 rfl rfl)
theorem dX0_takes_44 : decode cX0_takes 44 = .ok (.iconst 1, 1) := dk_4 (dk_at dksX0_takes_1 22 rfl rfl)
theorem dX0_takes_45 : decode cX0_takes 45 = .ok (.ireturn, 1) := dk_172 (dk_at dksX0_takes_1 23 rfl rfl)
abbrev cX0_erase : ByteArray := prog_1_method_13_code
def yX0_erase : MethodName := ⟨RX0, "erase", "(III)I"⟩
def dkwX0_erase_3 : List UInt8 := [154, 0, 8, 16, 254, 167, 0, 5, 21, 4, 172]
abbrev dktX0_erase_3 : List UInt8 := dkwX0_erase_3 ++ []
def dkwX0_erase_2 : List UInt8 := [182, 0, 76, 180, 0, 115, 28, 50, 29, 2, 79, 21, 4, 2, 159, 0, 13, 42, 25, 5, 27, 182, 0, 119]
abbrev dktX0_erase_2 : List UInt8 := dkwX0_erase_2 ++ dktX0_erase_3
def dkwX0_erase_1 : List UInt8 := [182, 0, 76, 180, 0, 115, 28, 50, 29, 46, 54, 4, 42, 180, 0, 10, 182, 0, 98, 58, 5, 25, 5, 27]
abbrev dktX0_erase_1 : List UInt8 := dkwX0_erase_1 ++ dktX0_erase_2
def dkwX0_erase_0 : List UInt8 := [42, 27, 182, 0, 108, 153, 0, 11, 28, 29, 184, 0, 111, 154, 0, 5, 2, 172, 42, 180, 0, 10, 27]
abbrev dktX0_erase_0 : List UInt8 := dkwX0_erase_0 ++ dktX0_erase_1
theorem dksX0_erase_0 : cX0_erase.data.toList.drop 0 = dktX0_erase_0 := by decide +kernel
theorem dksX0_erase_1 : cX0_erase.data.toList.drop 23 = dktX0_erase_1 := dk_seg dksX0_erase_0 23 rfl rfl
theorem dksX0_erase_2 : cX0_erase.data.toList.drop 47 = dktX0_erase_2 := dk_seg dksX0_erase_1 24 rfl rfl
theorem dksX0_erase_3 : cX0_erase.data.toList.drop 71 = dktX0_erase_3 := dk_seg dksX0_erase_2 24 rfl rfl
theorem dX0_erase_0 : decode cX0_erase 0 = .ok (.aload_n 0, 1) := dk_42 (dk_at dksX0_erase_0 0 rfl rfl)
theorem dX0_erase_1 : decode cX0_erase 1 = .ok (.iload_n 1, 1) := dk_27 (dk_at dksX0_erase_0 1 rfl rfl)
theorem dX0_erase_2 : decode cX0_erase 2 = .ok (.invokevirtual 108, 3) := dk_182 0 108 (dk_at dksX0_erase_0 2 rfl rfl)
theorem dX0_erase_5 : decode cX0_erase 5 = .ok (.ifCond .eq 11, 3) := dk_153 0 11 (dk_at dksX0_erase_0 5 rfl rfl)
theorem dX0_erase_8 : decode cX0_erase 8 = .ok (.iload_n 2, 1) := dk_28 (dk_at dksX0_erase_0 8 rfl rfl)
theorem dX0_erase_9 : decode cX0_erase 9 = .ok (.iload_n 3, 1) := dk_29 (dk_at dksX0_erase_0 9 rfl rfl)
theorem dX0_erase_10 : decode cX0_erase 10 = .ok (.invokestatic 111, 3) := dk_184 0 111 (dk_at dksX0_erase_0 10 rfl rfl)
theorem dX0_erase_13 : decode cX0_erase 13 = .ok (.ifCond .ne 5, 3) := dk_154 0 5 (dk_at dksX0_erase_0 13 rfl rfl)
theorem dX0_erase_16 : decode cX0_erase 16 = .ok (.iconst (-1), 1) := dk_2 (dk_at dksX0_erase_0 16 rfl rfl)
theorem dX0_erase_17 : decode cX0_erase 17 = .ok (.ireturn, 1) := dk_172 (dk_at dksX0_erase_0 17 rfl rfl)
theorem dX0_erase_18 : decode cX0_erase 18 = .ok (.aload_n 0, 1) := dk_42 (dk_at dksX0_erase_0 18 rfl rfl)
theorem dX0_erase_19 : decode cX0_erase 19 = .ok (.getfield 10, 3) := dk_180 0 10 (dk_at dksX0_erase_0 19 rfl rfl)
theorem dX0_erase_22 : decode cX0_erase 22 = .ok (.iload_n 1, 1) := dk_27 (dk_at dksX0_erase_0 22 rfl rfl)
theorem dX0_erase_23 : decode cX0_erase 23 = .ok (.invokevirtual 76, 3) := dk_182 0 76 (dk_at dksX0_erase_1 0 rfl rfl)
theorem dX0_erase_26 : decode cX0_erase 26 = .ok (.getfield 115, 3) := dk_180 0 115 (dk_at dksX0_erase_1 3 rfl rfl)
theorem dX0_erase_29 : decode cX0_erase 29 = .ok (.iload_n 2, 1) := dk_28 (dk_at dksX0_erase_1 6 rfl rfl)
theorem dX0_erase_30 : decode cX0_erase 30 = .ok (.aaload, 1) := dk_50 (dk_at dksX0_erase_1 7 rfl rfl)
theorem dX0_erase_31 : decode cX0_erase 31 = .ok (.iload_n 3, 1) := dk_29 (dk_at dksX0_erase_1 8 rfl rfl)
theorem dX0_erase_32 : decode cX0_erase 32 = .ok (.iaload, 1) := dk_46 (dk_at dksX0_erase_1 9 rfl rfl)
theorem dX0_erase_33 : decode cX0_erase 33 = .ok (.istore 4, 2) := dk_54 4 (dk_at dksX0_erase_1 10 rfl rfl)
theorem dX0_erase_35 : decode cX0_erase 35 = .ok (.aload_n 0, 1) := dk_42 (dk_at dksX0_erase_1 12 rfl rfl)
theorem dX0_erase_36 : decode cX0_erase 36 = .ok (.getfield 10, 3) := dk_180 0 10 (dk_at dksX0_erase_1 13 rfl rfl)
theorem dX0_erase_39 : decode cX0_erase 39 = .ok (.invokevirtual 98, 3) := dk_182 0 98 (dk_at dksX0_erase_1 16 rfl rfl)
theorem dX0_erase_42 : decode cX0_erase 42 = .ok (.astore 5, 2) := dk_58 5 (dk_at dksX0_erase_1 19 rfl rfl)
theorem dX0_erase_44 : decode cX0_erase 44 = .ok (.aload 5, 2) := dk_25 5 (dk_at dksX0_erase_1 21 rfl rfl)
theorem dX0_erase_46 : decode cX0_erase 46 = .ok (.iload_n 1, 1) := dk_27 (dk_at dksX0_erase_1 23 rfl rfl)
theorem dX0_erase_47 : decode cX0_erase 47 = .ok (.invokevirtual 76, 3) := dk_182 0 76 (dk_at dksX0_erase_2 0 rfl rfl)
theorem dX0_erase_50 : decode cX0_erase 50 = .ok (.getfield 115, 3) := dk_180 0 115 (dk_at dksX0_erase_2 3 rfl rfl)
theorem dX0_erase_53 : decode cX0_erase 53 = .ok (.iload_n 2, 1) := dk_28 (dk_at dksX0_erase_2 6 rfl rfl)
theorem dX0_erase_54 : decode cX0_erase 54 = .ok (.aaload, 1) := dk_50 (dk_at dksX0_erase_2 7 rfl rfl)
theorem dX0_erase_55 : decode cX0_erase 55 = .ok (.iload_n 3, 1) := dk_29 (dk_at dksX0_erase_2 8 rfl rfl)
theorem dX0_erase_56 : decode cX0_erase 56 = .ok (.iconst (-1), 1) := dk_2 (dk_at dksX0_erase_2 9 rfl rfl)
theorem dX0_erase_57 : decode cX0_erase 57 = .ok (.iastore, 1) := dk_79 (dk_at dksX0_erase_2 10 rfl rfl)
theorem dX0_erase_58 : decode cX0_erase 58 = .ok (.iload 4, 2) := dk_21 4 (dk_at dksX0_erase_2 11 rfl rfl)
theorem dX0_erase_60 : decode cX0_erase 60 = .ok (.iconst (-1), 1) := dk_2 (dk_at dksX0_erase_2 13 rfl rfl)
theorem dX0_erase_61 : decode cX0_erase 61 = .ok (.if_icmp .eq 13, 3) := dk_159 0 13 (dk_at dksX0_erase_2 14 rfl rfl)
theorem dX0_erase_64 : decode cX0_erase 64 = .ok (.aload_n 0, 1) := dk_42 (dk_at dksX0_erase_2 17 rfl rfl)
theorem dX0_erase_65 : decode cX0_erase 65 = .ok (.aload 5, 2) := dk_25 5 (dk_at dksX0_erase_2 18 rfl rfl)
theorem dX0_erase_67 : decode cX0_erase 67 = .ok (.iload_n 1, 1) := dk_27 (dk_at dksX0_erase_2 20 rfl rfl)
theorem dX0_erase_68 : decode cX0_erase 68 = .ok (.invokevirtual 119, 3) := dk_182 0 119 (dk_at dksX0_erase_2 21 rfl rfl)
theorem dX0_erase_71 : decode cX0_erase 71 = .ok (.ifCond .ne 8, 3) := dk_154 0 8 (dk_at dksX0_erase_3 0 rfl rfl)
theorem dX0_erase_74 : decode cX0_erase 74 = .ok (.bipush (-2), 2) := dk_16 254 (dk_at dksX0_erase_3 3 rfl rfl)
theorem dX0_erase_76 : decode cX0_erase 76 = .ok (.goto 5, 3) := dk_167 0 5 (dk_at dksX0_erase_3 5 rfl rfl)
theorem dX0_erase_79 : decode cX0_erase 79 = .ok (.iload 4, 2) := dk_21 4 (dk_at dksX0_erase_3 8 rfl rfl)
theorem dX0_erase_81 : decode cX0_erase 81 = .ok (.ireturn, 1) := dk_172 (dk_at dksX0_erase_3 10 rfl rfl)
abbrev cX0_mean : ByteArray := prog_1_method_14_code
def yX0_mean : MethodName := ⟨RX0, "mean", "(III)I"⟩
def dkwX0_mean_3 : List UInt8 := [167, 0, 5, 16, 254, 172]
abbrev dktX0_mean_3 : List UInt8 := dkwX0_mean_3 ++ []
def dkwX0_mean_2 : List UInt8 := [25, 5, 27, 182, 0, 76, 180, 0, 123, 28, 29, 79, 42, 25, 5, 27, 182, 0, 119, 153, 0, 8, 21, 4]
abbrev dktX0_mean_2 : List UInt8 := dkwX0_mean_2 ++ dktX0_mean_3
def dkwX0_mean_1 : List UInt8 := [42, 180, 0, 10, 27, 182, 0, 76, 180, 0, 123, 28, 46, 54, 4, 42, 180, 0, 10, 182, 0, 98, 58, 5]
abbrev dktX0_mean_1 : List UInt8 := dkwX0_mean_1 ++ dktX0_mean_2
def dkwX0_mean_0 : List UInt8 := [42, 27, 182, 0, 108, 153, 0, 17, 28, 184, 0, 105, 153, 0, 10, 29, 184, 0, 105, 154, 0, 5, 2, 172]
abbrev dktX0_mean_0 : List UInt8 := dkwX0_mean_0 ++ dktX0_mean_1
theorem dksX0_mean_0 : cX0_mean.data.toList.drop 0 = dktX0_mean_0 := by decide +kernel
theorem dksX0_mean_1 : cX0_mean.data.toList.drop 24 = dktX0_mean_1 := dk_seg dksX0_mean_0 24 rfl rfl
theorem dksX0_mean_2 : cX0_mean.data.toList.drop 48 = dktX0_mean_2 := dk_seg dksX0_mean_1 24 rfl rfl
theorem dksX0_mean_3 : cX0_mean.data.toList.drop 72 = dktX0_mean_3 := dk_seg dksX0_mean_2 24 rfl rfl
theorem dX0_mean_0 : decode cX0_mean 0 = .ok (.aload_n 0, 1) := dk_42 (dk_at dksX0_mean_0 0 rfl rfl)
theorem dX0_mean_1 : decode cX0_mean 1 = .ok (.iload_n 1, 1) := dk_27 (dk_at dksX0_mean_0 1 rfl rfl)
theorem dX0_mean_2 : decode cX0_mean 2 = .ok (.invokevirtual 108, 3) := dk_182 0 108 (dk_at dksX0_mean_0 2 rfl rfl)
theorem dX0_mean_5 : decode cX0_mean 5 = .ok (.ifCond .eq 17, 3) := dk_153 0 17 (dk_at dksX0_mean_0 5 rfl rfl)
theorem dX0_mean_8 : decode cX0_mean 8 = .ok (.iload_n 2, 1) := dk_28 (dk_at dksX0_mean_0 8 rfl rfl)
theorem dX0_mean_9 : decode cX0_mean 9 = .ok (.invokestatic 105, 3) := dk_184 0 105 (dk_at dksX0_mean_0 9 rfl rfl)
theorem dX0_mean_12 : decode cX0_mean 12 = .ok (.ifCond .eq 10, 3) := dk_153 0 10 (dk_at dksX0_mean_0 12 rfl rfl)
theorem dX0_mean_15 : decode cX0_mean 15 = .ok (.iload_n 3, 1) := dk_29 (dk_at dksX0_mean_0 15 rfl rfl)
theorem dX0_mean_16 : decode cX0_mean 16 = .ok (.invokestatic 105, 3) := dk_184 0 105 (dk_at dksX0_mean_0 16 rfl rfl)
theorem dX0_mean_19 : decode cX0_mean 19 = .ok (.ifCond .ne 5, 3) := dk_154 0 5 (dk_at dksX0_mean_0 19 rfl rfl)
theorem dX0_mean_22 : decode cX0_mean 22 = .ok (.iconst (-1), 1) := dk_2 (dk_at dksX0_mean_0 22 rfl rfl)
theorem dX0_mean_23 : decode cX0_mean 23 = .ok (.ireturn, 1) := dk_172 (dk_at dksX0_mean_0 23 rfl rfl)
theorem dX0_mean_24 : decode cX0_mean 24 = .ok (.aload_n 0, 1) := dk_42 (dk_at dksX0_mean_1 0 rfl rfl)
theorem dX0_mean_25 : decode cX0_mean 25 = .ok (.getfield 10, 3) := dk_180 0 10 (dk_at dksX0_mean_1 1 rfl rfl)
theorem dX0_mean_28 : decode cX0_mean 28 = .ok (.iload_n 1, 1) := dk_27 (dk_at dksX0_mean_1 4 rfl rfl)
theorem dX0_mean_29 : decode cX0_mean 29 = .ok (.invokevirtual 76, 3) := dk_182 0 76 (dk_at dksX0_mean_1 5 rfl rfl)
theorem dX0_mean_32 : decode cX0_mean 32 = .ok (.getfield 123, 3) := dk_180 0 123 (dk_at dksX0_mean_1 8 rfl rfl)
theorem dX0_mean_35 : decode cX0_mean 35 = .ok (.iload_n 2, 1) := dk_28 (dk_at dksX0_mean_1 11 rfl rfl)
theorem dX0_mean_36 : decode cX0_mean 36 = .ok (.iaload, 1) := dk_46 (dk_at dksX0_mean_1 12 rfl rfl)
theorem dX0_mean_37 : decode cX0_mean 37 = .ok (.istore 4, 2) := dk_54 4 (dk_at dksX0_mean_1 13 rfl rfl)
theorem dX0_mean_39 : decode cX0_mean 39 = .ok (.aload_n 0, 1) := dk_42 (dk_at dksX0_mean_1 15 rfl rfl)
theorem dX0_mean_40 : decode cX0_mean 40 = .ok (.getfield 10, 3) := dk_180 0 10 (dk_at dksX0_mean_1 16 rfl rfl)
theorem dX0_mean_43 : decode cX0_mean 43 = .ok (.invokevirtual 98, 3) := dk_182 0 98 (dk_at dksX0_mean_1 19 rfl rfl)
theorem dX0_mean_46 : decode cX0_mean 46 = .ok (.astore 5, 2) := dk_58 5 (dk_at dksX0_mean_1 22 rfl rfl)
theorem dX0_mean_48 : decode cX0_mean 48 = .ok (.aload 5, 2) := dk_25 5 (dk_at dksX0_mean_2 0 rfl rfl)
theorem dX0_mean_50 : decode cX0_mean 50 = .ok (.iload_n 1, 1) := dk_27 (dk_at dksX0_mean_2 2 rfl rfl)
theorem dX0_mean_51 : decode cX0_mean 51 = .ok (.invokevirtual 76, 3) := dk_182 0 76 (dk_at dksX0_mean_2 3 rfl rfl)
theorem dX0_mean_54 : decode cX0_mean 54 = .ok (.getfield 123, 3) := dk_180 0 123 (dk_at dksX0_mean_2 6 rfl rfl)
theorem dX0_mean_57 : decode cX0_mean 57 = .ok (.iload_n 2, 1) := dk_28 (dk_at dksX0_mean_2 9 rfl rfl)
theorem dX0_mean_58 : decode cX0_mean 58 = .ok (.iload_n 3, 1) := dk_29 (dk_at dksX0_mean_2 10 rfl rfl)
theorem dX0_mean_59 : decode cX0_mean 59 = .ok (.iastore, 1) := dk_79 (dk_at dksX0_mean_2 11 rfl rfl)
theorem dX0_mean_60 : decode cX0_mean 60 = .ok (.aload_n 0, 1) := dk_42 (dk_at dksX0_mean_2 12 rfl rfl)
theorem dX0_mean_61 : decode cX0_mean 61 = .ok (.aload 5, 2) := dk_25 5 (dk_at dksX0_mean_2 13 rfl rfl)
theorem dX0_mean_63 : decode cX0_mean 63 = .ok (.iload_n 1, 1) := dk_27 (dk_at dksX0_mean_2 15 rfl rfl)
theorem dX0_mean_64 : decode cX0_mean 64 = .ok (.invokevirtual 119, 3) := dk_182 0 119 (dk_at dksX0_mean_2 16 rfl rfl)
theorem dX0_mean_67 : decode cX0_mean 67 = .ok (.ifCond .eq 8, 3) := dk_153 0 8 (dk_at dksX0_mean_2 19 rfl rfl)
theorem dX0_mean_70 : decode cX0_mean 70 = .ok (.iload 4, 2) := dk_21 4 (dk_at dksX0_mean_2 22 rfl rfl)
theorem dX0_mean_72 : decode cX0_mean 72 = .ok (.goto 5, 3) := dk_167 0 5 (dk_at dksX0_mean_3 0 rfl rfl)
theorem dX0_mean_75 : decode cX0_mean 75 = .ok (.bipush (-2), 2) := dk_16 254 (dk_at dksX0_mean_3 3 rfl rfl)
theorem dX0_mean_77 : decode cX0_mean 77 = .ok (.ireturn, 1) := dk_172 (dk_at dksX0_mean_3 5 rfl rfl)
abbrev cX0_sign : ByteArray := prog_1_method_16_code
def yX0_sign : MethodName := ⟨RX0, "sign", "(III)I"⟩
def dkwX0_sign_1 : List UInt8 := [180, 0, 115, 28, 50, 29, 46, 184, 0, 126, 167, 0, 4, 2, 172]
abbrev dktX0_sign_1 : List UInt8 := dkwX0_sign_1 ++ []
def dkwX0_sign_0 : List UInt8 := [42, 27, 182, 0, 108, 153, 0, 32, 28, 29, 184, 0, 111, 153, 0, 24, 42, 180, 0, 10, 27, 182, 0, 76]
abbrev dktX0_sign_0 : List UInt8 := dkwX0_sign_0 ++ dktX0_sign_1
theorem dksX0_sign_0 : cX0_sign.data.toList.drop 0 = dktX0_sign_0 := by decide +kernel
theorem dksX0_sign_1 : cX0_sign.data.toList.drop 24 = dktX0_sign_1 := dk_seg dksX0_sign_0 24 rfl rfl
theorem dX0_sign_0 : decode cX0_sign 0 = .ok (.aload_n 0, 1) := dk_42 (dk_at dksX0_sign_0 0 rfl rfl)
theorem dX0_sign_1 : decode cX0_sign 1 = .ok (.iload_n 1, 1) := dk_27 (dk_at dksX0_sign_0 1 rfl rfl)
theorem dX0_sign_2 : decode cX0_sign 2 = .ok (.invokevirtual 108, 3) := dk_182 0 108 (dk_at dksX0_sign_0 2 rfl rfl)
theorem dX0_sign_5 : decode cX0_sign 5 = .ok (.ifCond .eq 32, 3) := dk_153 0 32 (dk_at dksX0_sign_0 5 rfl rfl)
theorem dX0_sign_8 : decode cX0_sign 8 = .ok (.iload_n 2, 1) := dk_28 (dk_at dksX0_sign_0 8 rfl rfl)
theorem dX0_sign_9 : decode cX0_sign 9 = .ok (.iload_n 3, 1) := dk_29 (dk_at dksX0_sign_0 9 rfl rfl)
theorem dX0_sign_10 : decode cX0_sign 10 = .ok (.invokestatic 111, 3) := dk_184 0 111 (dk_at dksX0_sign_0 10 rfl rfl)
theorem dX0_sign_13 : decode cX0_sign 13 = .ok (.ifCond .eq 24, 3) := dk_153 0 24 (dk_at dksX0_sign_0 13 rfl rfl)
theorem dX0_sign_16 : decode cX0_sign 16 = .ok (.aload_n 0, 1) := dk_42 (dk_at dksX0_sign_0 16 rfl rfl)
theorem dX0_sign_17 : decode cX0_sign 17 = .ok (.getfield 10, 3) := dk_180 0 10 (dk_at dksX0_sign_0 17 rfl rfl)
theorem dX0_sign_20 : decode cX0_sign 20 = .ok (.iload_n 1, 1) := dk_27 (dk_at dksX0_sign_0 20 rfl rfl)
theorem dX0_sign_21 : decode cX0_sign 21 = .ok (.invokevirtual 76, 3) := dk_182 0 76 (dk_at dksX0_sign_0 21 rfl rfl)
theorem dX0_sign_24 : decode cX0_sign 24 = .ok (.getfield 115, 3) := dk_180 0 115 (dk_at dksX0_sign_1 0 rfl rfl)
theorem dX0_sign_27 : decode cX0_sign 27 = .ok (.iload_n 2, 1) := dk_28 (dk_at dksX0_sign_1 3 rfl rfl)
theorem dX0_sign_28 : decode cX0_sign 28 = .ok (.aaload, 1) := dk_50 (dk_at dksX0_sign_1 4 rfl rfl)
theorem dX0_sign_29 : decode cX0_sign 29 = .ok (.iload_n 3, 1) := dk_29 (dk_at dksX0_sign_1 5 rfl rfl)
theorem dX0_sign_30 : decode cX0_sign 30 = .ok (.iaload, 1) := dk_46 (dk_at dksX0_sign_1 6 rfl rfl)
theorem dX0_sign_31 : decode cX0_sign 31 = .ok (.invokestatic 126, 3) := dk_184 0 126 (dk_at dksX0_sign_1 7 rfl rfl)
theorem dX0_sign_34 : decode cX0_sign 34 = .ok (.goto 4, 3) := dk_167 0 4 (dk_at dksX0_sign_1 10 rfl rfl)
theorem dX0_sign_37 : decode cX0_sign 37 = .ok (.iconst (-1), 1) := dk_2 (dk_at dksX0_sign_1 13 rfl rfl)
theorem dX0_sign_38 : decode cX0_sign 38 = .ok (.ireturn, 1) := dk_172 (dk_at dksX0_sign_1 14 rfl rfl)
abbrev cX0_found : ByteArray := prog_1_method_15_code
def yX0_found : MethodName := ⟨RX0, "found", "(I)I"⟩
def dkwX0_found_0 : List UInt8 := [26, 2, 160, 0, 8, 16, 252, 167, 0, 4, 26, 172]
abbrev dktX0_found_0 : List UInt8 := dkwX0_found_0 ++ []
theorem dksX0_found_0 : cX0_found.data.toList.drop 0 = dktX0_found_0 := by decide +kernel
theorem dX0_found_0 : decode cX0_found 0 = .ok (.iload_n 0, 1) := dk_26 (dk_at dksX0_found_0 0 rfl rfl)
theorem dX0_found_1 : decode cX0_found 1 = .ok (.iconst (-1), 1) := dk_2 (dk_at dksX0_found_0 1 rfl rfl)
theorem dX0_found_2 : decode cX0_found 2 = .ok (.if_icmp .ne 8, 3) := dk_160 0 8 (dk_at dksX0_found_0 2 rfl rfl)
theorem dX0_found_5 : decode cX0_found 5 = .ok (.bipush (-4), 2) := dk_16 252 (dk_at dksX0_found_0 5 rfl rfl)
theorem dX0_found_7 : decode cX0_found 7 = .ok (.goto 4, 3) := dk_167 0 4 (dk_at dksX0_found_0 7 rfl rfl)
theorem dX0_found_10 : decode cX0_found 10 = .ok (.iload_n 0, 1) := dk_26 (dk_at dksX0_found_0 10 rfl rfl)
theorem dX0_found_11 : decode cX0_found 11 = .ok (.ireturn, 1) := dk_172 (dk_at dksX0_found_0 11 rfl rfl)
abbrev cX0_meaning : ByteArray := prog_1_method_17_code
def yX0_meaning : MethodName := ⟨RX0, "meaning", "(II)I"⟩
def dkwX0_meaning_1 : List UInt8 := [180, 0, 123, 28, 46, 167, 0, 4, 2, 172]
abbrev dktX0_meaning_1 : List UInt8 := dkwX0_meaning_1 ++ []
def dkwX0_meaning_0 : List UInt8 := [42, 27, 182, 0, 108, 153, 0, 26, 28, 184, 0, 105, 153, 0, 19, 42, 180, 0, 10, 27, 182, 0, 76]
abbrev dktX0_meaning_0 : List UInt8 := dkwX0_meaning_0 ++ dktX0_meaning_1
theorem dksX0_meaning_0 : cX0_meaning.data.toList.drop 0 = dktX0_meaning_0 := by decide +kernel
theorem dksX0_meaning_1 : cX0_meaning.data.toList.drop 23 = dktX0_meaning_1 := dk_seg dksX0_meaning_0 23 rfl rfl
theorem dX0_meaning_0 : decode cX0_meaning 0 = .ok (.aload_n 0, 1) := dk_42 (dk_at dksX0_meaning_0 0 rfl rfl)
theorem dX0_meaning_1 : decode cX0_meaning 1 = .ok (.iload_n 1, 1) := dk_27 (dk_at dksX0_meaning_0 1 rfl rfl)
theorem dX0_meaning_2 : decode cX0_meaning 2 = .ok (.invokevirtual 108, 3) := dk_182 0 108 (dk_at dksX0_meaning_0 2 rfl rfl)
theorem dX0_meaning_5 : decode cX0_meaning 5 = .ok (.ifCond .eq 26, 3) := dk_153 0 26 (dk_at dksX0_meaning_0 5 rfl rfl)
theorem dX0_meaning_8 : decode cX0_meaning 8 = .ok (.iload_n 2, 1) := dk_28 (dk_at dksX0_meaning_0 8 rfl rfl)
theorem dX0_meaning_9 : decode cX0_meaning 9 = .ok (.invokestatic 105, 3) := dk_184 0 105 (dk_at dksX0_meaning_0 9 rfl rfl)
theorem dX0_meaning_12 : decode cX0_meaning 12 = .ok (.ifCond .eq 19, 3) := dk_153 0 19 (dk_at dksX0_meaning_0 12 rfl rfl)
theorem dX0_meaning_15 : decode cX0_meaning 15 = .ok (.aload_n 0, 1) := dk_42 (dk_at dksX0_meaning_0 15 rfl rfl)
theorem dX0_meaning_16 : decode cX0_meaning 16 = .ok (.getfield 10, 3) := dk_180 0 10 (dk_at dksX0_meaning_0 16 rfl rfl)
theorem dX0_meaning_19 : decode cX0_meaning 19 = .ok (.iload_n 1, 1) := dk_27 (dk_at dksX0_meaning_0 19 rfl rfl)
theorem dX0_meaning_20 : decode cX0_meaning 20 = .ok (.invokevirtual 76, 3) := dk_182 0 76 (dk_at dksX0_meaning_0 20 rfl rfl)
theorem dX0_meaning_23 : decode cX0_meaning 23 = .ok (.getfield 123, 3) := dk_180 0 123 (dk_at dksX0_meaning_1 0 rfl rfl)
theorem dX0_meaning_26 : decode cX0_meaning 26 = .ok (.iload_n 2, 1) := dk_28 (dk_at dksX0_meaning_1 3 rfl rfl)
theorem dX0_meaning_27 : decode cX0_meaning 27 = .ok (.iaload, 1) := dk_46 (dk_at dksX0_meaning_1 4 rfl rfl)
theorem dX0_meaning_28 : decode cX0_meaning 28 = .ok (.goto 4, 3) := dk_167 0 4 (dk_at dksX0_meaning_1 5 rfl rfl)
theorem dX0_meaning_31 : decode cX0_meaning 31 = .ok (.iconst (-1), 1) := dk_2 (dk_at dksX0_meaning_1 8 rfl rfl)
theorem dX0_meaning_32 : decode cX0_meaning 32 = .ok (.ireturn, 1) := dk_172 (dk_at dksX0_meaning_1 9 rfl rfl)
abbrev cX0_sheet : ByteArray := prog_1_method_19_code
def yX0_sheet : MethodName := ⟨RX0, "sheet", "(II)I"⟩
def dkwX0_sheet_5 : List UInt8 := [182, 0, 147, 172, 42, 180, 0, 10, 182, 0, 150, 27, 46, 172, 2, 172]
abbrev dktX0_sheet_5 : List UInt8 := dkwX0_sheet_5 ++ []
def dkwX0_sheet_4 : List UInt8 := [184, 0, 126, 172, 45, 184, 0, 140, 153, 0, 7, 4, 167, 0, 4, 3, 172, 45, 180, 0, 144, 172, 45]
abbrev dktX0_sheet_4 : List UInt8 := dkwX0_sheet_4 ++ dktX0_sheet_5
def dkwX0_sheet_3 : List UInt8 := [27, 28, 6, 160, 0, 7, 4, 167, 0, 4, 3, 182, 0, 136, 172, 45, 180, 0, 80, 172, 45, 180, 0, 130]
abbrev dktX0_sheet_3 : List UInt8 := dkwX0_sheet_3 ++ dktX0_sheet_4
def dkwX0_sheet_2 : List UInt8 := [27, 42, 180, 0, 10, 180, 0, 133, 112, 172, 27, 42, 180, 0, 10, 180, 0, 133, 108, 172, 42, 180, 0, 10]
abbrev dktX0_sheet_2 : List UInt8 := dkwX0_sheet_2 ++ dktX0_sheet_3
def dkwX0_sheet_1 : List UInt8 := [170, 0, 0, 0, 0, 0, 0, 141, 0, 0, 0, 0, 0, 0, 0, 9, 0, 0, 0, 56, 0, 0, 0, 66, 0, 0, 0, 76, 0, 0, 0, 76, 0, 0, 0, 95, 0, 0, 0, 100, 0, 0, 0, 108, 0, 0, 0, 121, 0, 0, 0, 126, 0, 0, 0, 131]
abbrev dktX0_sheet_1 : List UInt8 := dkwX0_sheet_1 ++ dktX0_sheet_2
def dkwX0_sheet_0 : List UInt8 := [42, 27, 182, 0, 108, 154, 0, 5, 2, 172, 42, 180, 0, 10, 27, 182, 0, 76, 78, 28]
abbrev dktX0_sheet_0 : List UInt8 := dkwX0_sheet_0 ++ dktX0_sheet_1
theorem dksX0_sheet_0 : cX0_sheet.data.toList.drop 0 = dktX0_sheet_0 := by decide +kernel
theorem dksX0_sheet_1 : cX0_sheet.data.toList.drop 20 = dktX0_sheet_1 := dk_seg dksX0_sheet_0 20 rfl rfl
theorem dksX0_sheet_2 : cX0_sheet.data.toList.drop 76 = dktX0_sheet_2 := dk_seg dksX0_sheet_1 56 rfl rfl
theorem dksX0_sheet_3 : cX0_sheet.data.toList.drop 100 = dktX0_sheet_3 := dk_seg dksX0_sheet_2 24 rfl rfl
theorem dksX0_sheet_4 : cX0_sheet.data.toList.drop 124 = dktX0_sheet_4 := dk_seg dksX0_sheet_3 24 rfl rfl
theorem dksX0_sheet_5 : cX0_sheet.data.toList.drop 147 = dktX0_sheet_5 := dk_seg dksX0_sheet_4 23 rfl rfl
theorem dX0_sheet_0 : decode cX0_sheet 0 = .ok (.aload_n 0, 1) := dk_42 (dk_at dksX0_sheet_0 0 rfl rfl)
theorem dX0_sheet_1 : decode cX0_sheet 1 = .ok (.iload_n 1, 1) := dk_27 (dk_at dksX0_sheet_0 1 rfl rfl)
theorem dX0_sheet_2 : decode cX0_sheet 2 = .ok (.invokevirtual 108, 3) := dk_182 0 108 (dk_at dksX0_sheet_0 2 rfl rfl)
theorem dX0_sheet_5 : decode cX0_sheet 5 = .ok (.ifCond .ne 5, 3) := dk_154 0 5 (dk_at dksX0_sheet_0 5 rfl rfl)
theorem dX0_sheet_8 : decode cX0_sheet 8 = .ok (.iconst (-1), 1) := dk_2 (dk_at dksX0_sheet_0 8 rfl rfl)
theorem dX0_sheet_9 : decode cX0_sheet 9 = .ok (.ireturn, 1) := dk_172 (dk_at dksX0_sheet_0 9 rfl rfl)
theorem dX0_sheet_10 : decode cX0_sheet 10 = .ok (.aload_n 0, 1) := dk_42 (dk_at dksX0_sheet_0 10 rfl rfl)
theorem dX0_sheet_11 : decode cX0_sheet 11 = .ok (.getfield 10, 3) := dk_180 0 10 (dk_at dksX0_sheet_0 11 rfl rfl)
theorem dX0_sheet_14 : decode cX0_sheet 14 = .ok (.iload_n 1, 1) := dk_27 (dk_at dksX0_sheet_0 14 rfl rfl)
theorem dX0_sheet_15 : decode cX0_sheet 15 = .ok (.invokevirtual 76, 3) := dk_182 0 76 (dk_at dksX0_sheet_0 15 rfl rfl)
theorem dX0_sheet_18 : decode cX0_sheet 18 = .ok (.astore_n 3, 1) := dk_78 (dk_at dksX0_sheet_0 18 rfl rfl)
theorem dX0_sheet_19 : decode cX0_sheet 19 = .ok (.iload_n 2, 1) := dk_28 (dk_at dksX0_sheet_0 19 rfl rfl)
theorem dX0_sheet_20 : decode cX0_sheet 20 = .ok (.tableswitch 141 0 9 #[56, 66, 76, 76, 95, 100, 108, 121, 126, 131], 56) := by decide +kernel
theorem dX0_sheet_76 : decode cX0_sheet 76 = .ok (.iload_n 1, 1) := dk_27 (dk_at dksX0_sheet_2 0 rfl rfl)
theorem dX0_sheet_77 : decode cX0_sheet 77 = .ok (.aload_n 0, 1) := dk_42 (dk_at dksX0_sheet_2 1 rfl rfl)
theorem dX0_sheet_78 : decode cX0_sheet 78 = .ok (.getfield 10, 3) := dk_180 0 10 (dk_at dksX0_sheet_2 2 rfl rfl)
theorem dX0_sheet_81 : decode cX0_sheet 81 = .ok (.getfield 133, 3) := dk_180 0 133 (dk_at dksX0_sheet_2 5 rfl rfl)
theorem dX0_sheet_84 : decode cX0_sheet 84 = .ok (.irem, 1) := dk_112 (dk_at dksX0_sheet_2 8 rfl rfl)
theorem dX0_sheet_85 : decode cX0_sheet 85 = .ok (.ireturn, 1) := dk_172 (dk_at dksX0_sheet_2 9 rfl rfl)
theorem dX0_sheet_86 : decode cX0_sheet 86 = .ok (.iload_n 1, 1) := dk_27 (dk_at dksX0_sheet_2 10 rfl rfl)
theorem dX0_sheet_87 : decode cX0_sheet 87 = .ok (.aload_n 0, 1) := dk_42 (dk_at dksX0_sheet_2 11 rfl rfl)
theorem dX0_sheet_88 : decode cX0_sheet 88 = .ok (.getfield 10, 3) := dk_180 0 10 (dk_at dksX0_sheet_2 12 rfl rfl)
theorem dX0_sheet_91 : decode cX0_sheet 91 = .ok (.getfield 133, 3) := dk_180 0 133 (dk_at dksX0_sheet_2 15 rfl rfl)
theorem dX0_sheet_94 : decode cX0_sheet 94 = .ok (.idiv, 1) := dk_108 (dk_at dksX0_sheet_2 18 rfl rfl)
theorem dX0_sheet_95 : decode cX0_sheet 95 = .ok (.ireturn, 1) := dk_172 (dk_at dksX0_sheet_2 19 rfl rfl)
theorem dX0_sheet_96 : decode cX0_sheet 96 = .ok (.aload_n 0, 1) := dk_42 (dk_at dksX0_sheet_2 20 rfl rfl)
theorem dX0_sheet_97 : decode cX0_sheet 97 = .ok (.getfield 10, 3) := dk_180 0 10 (dk_at dksX0_sheet_2 21 rfl rfl)
theorem dX0_sheet_100 : decode cX0_sheet 100 = .ok (.iload_n 1, 1) := dk_27 (dk_at dksX0_sheet_3 0 rfl rfl)
theorem dX0_sheet_101 : decode cX0_sheet 101 = .ok (.iload_n 2, 1) := dk_28 (dk_at dksX0_sheet_3 1 rfl rfl)
theorem dX0_sheet_102 : decode cX0_sheet 102 = .ok (.iconst 3, 1) := dk_6 (dk_at dksX0_sheet_3 2 rfl rfl)
theorem dX0_sheet_103 : decode cX0_sheet 103 = .ok (.if_icmp .ne 7, 3) := dk_160 0 7 (dk_at dksX0_sheet_3 3 rfl rfl)
theorem dX0_sheet_106 : decode cX0_sheet 106 = .ok (.iconst 1, 1) := dk_4 (dk_at dksX0_sheet_3 6 rfl rfl)
theorem dX0_sheet_107 : decode cX0_sheet 107 = .ok (.goto 4, 3) := dk_167 0 4 (dk_at dksX0_sheet_3 7 rfl rfl)
theorem dX0_sheet_110 : decode cX0_sheet 110 = .ok (.iconst 0, 1) := dk_3 (dk_at dksX0_sheet_3 10 rfl rfl)
theorem dX0_sheet_111 : decode cX0_sheet 111 = .ok (.invokevirtual 136, 3) := dk_182 0 136 (dk_at dksX0_sheet_3 11 rfl rfl)
theorem dX0_sheet_114 : decode cX0_sheet 114 = .ok (.ireturn, 1) := dk_172 (dk_at dksX0_sheet_3 14 rfl rfl)
theorem dX0_sheet_115 : decode cX0_sheet 115 = .ok (.aload_n 3, 1) := dk_45 (dk_at dksX0_sheet_3 15 rfl rfl)
theorem dX0_sheet_116 : decode cX0_sheet 116 = .ok (.getfield 80, 3) := dk_180 0 80 (dk_at dksX0_sheet_3 16 rfl rfl)
theorem dX0_sheet_119 : decode cX0_sheet 119 = .ok (.ireturn, 1) := dk_172 (dk_at dksX0_sheet_3 19 rfl rfl)
theorem dX0_sheet_120 : decode cX0_sheet 120 = .ok (.aload_n 3, 1) := dk_45 (dk_at dksX0_sheet_3 20 rfl rfl)
theorem dX0_sheet_121 : decode cX0_sheet 121 = .ok (.getfield 130, 3) := dk_180 0 130 (dk_at dksX0_sheet_3 21 rfl rfl)
theorem dX0_sheet_124 : decode cX0_sheet 124 = .ok (.invokestatic 126, 3) := dk_184 0 126 (dk_at dksX0_sheet_4 0 rfl rfl)
theorem dX0_sheet_127 : decode cX0_sheet 127 = .ok (.ireturn, 1) := dk_172 (dk_at dksX0_sheet_4 3 rfl rfl)
theorem dX0_sheet_128 : decode cX0_sheet 128 = .ok (.aload_n 3, 1) := dk_45 (dk_at dksX0_sheet_4 4 rfl rfl)
theorem dX0_sheet_129 : decode cX0_sheet 129 = .ok (.invokestatic 140, 3) := dk_184 0 140 (dk_at dksX0_sheet_4 5 rfl rfl)
theorem dX0_sheet_132 : decode cX0_sheet 132 = .ok (.ifCond .eq 7, 3) := dk_153 0 7 (dk_at dksX0_sheet_4 8 rfl rfl)
theorem dX0_sheet_135 : decode cX0_sheet 135 = .ok (.iconst 1, 1) := dk_4 (dk_at dksX0_sheet_4 11 rfl rfl)
theorem dX0_sheet_136 : decode cX0_sheet 136 = .ok (.goto 4, 3) := dk_167 0 4 (dk_at dksX0_sheet_4 12 rfl rfl)
theorem dX0_sheet_139 : decode cX0_sheet 139 = .ok (.iconst 0, 1) := dk_3 (dk_at dksX0_sheet_4 15 rfl rfl)
theorem dX0_sheet_140 : decode cX0_sheet 140 = .ok (.ireturn, 1) := dk_172 (dk_at dksX0_sheet_4 16 rfl rfl)
theorem dX0_sheet_141 : decode cX0_sheet 141 = .ok (.aload_n 3, 1) := dk_45 (dk_at dksX0_sheet_4 17 rfl rfl)
theorem dX0_sheet_142 : decode cX0_sheet 142 = .ok (.getfield 144, 3) := dk_180 0 144 (dk_at dksX0_sheet_4 18 rfl rfl)
theorem dX0_sheet_145 : decode cX0_sheet 145 = .ok (.ireturn, 1) := dk_172 (dk_at dksX0_sheet_4 21 rfl rfl)
theorem dX0_sheet_146 : decode cX0_sheet 146 = .ok (.aload_n 3, 1) := dk_45 (dk_at dksX0_sheet_4 22 rfl rfl)
theorem dX0_sheet_147 : decode cX0_sheet 147 = .ok (.invokevirtual 147, 3) := dk_182 0 147 (dk_at dksX0_sheet_5 0 rfl rfl)
theorem dX0_sheet_150 : decode cX0_sheet 150 = .ok (.ireturn, 1) := dk_172 (dk_at dksX0_sheet_5 3 rfl rfl)
theorem dX0_sheet_151 : decode cX0_sheet 151 = .ok (.aload_n 0, 1) := dk_42 (dk_at dksX0_sheet_5 4 rfl rfl)
theorem dX0_sheet_152 : decode cX0_sheet 152 = .ok (.getfield 10, 3) := dk_180 0 10 (dk_at dksX0_sheet_5 5 rfl rfl)
theorem dX0_sheet_155 : decode cX0_sheet 155 = .ok (.invokevirtual 150, 3) := dk_182 0 150 (dk_at dksX0_sheet_5 8 rfl rfl)
theorem dX0_sheet_158 : decode cX0_sheet 158 = .ok (.iload_n 1, 1) := dk_27 (dk_at dksX0_sheet_5 11 rfl rfl)
theorem dX0_sheet_159 : decode cX0_sheet 159 = .ok (.iaload, 1) := dk_46 (dk_at dksX0_sheet_5 12 rfl rfl)
theorem dX0_sheet_160 : decode cX0_sheet 160 = .ok (.ireturn, 1) := dk_172 (dk_at dksX0_sheet_5 13 rfl rfl)
theorem dX0_sheet_161 : decode cX0_sheet 161 = .ok (.iconst (-1), 1) := dk_2 (dk_at dksX0_sheet_5 14 rfl rfl)
theorem dX0_sheet_162 : decode cX0_sheet 162 = .ok (.ireturn, 1) := dk_172 (dk_at dksX0_sheet_5 15 rfl rfl)
abbrev cX0_isUpToDate : ByteArray := prog_1_method_18_code
def yX0_isUpToDate : MethodName := ⟨RX0, "isUpToDate", "(LMapSheets$Sheet;)Z"⟩
def dkwX0_isUpToDate_0 : List UInt8 := [42, 180, 0, 130, 42, 180, 0, 80, 160, 0, 7, 4, 167, 0, 4, 3, 172]
abbrev dktX0_isUpToDate_0 : List UInt8 := dkwX0_isUpToDate_0 ++ []
theorem dksX0_isUpToDate_0 : cX0_isUpToDate.data.toList.drop 0 = dktX0_isUpToDate_0 := by decide +kernel
theorem dX0_isUpToDate_0 : decode cX0_isUpToDate 0 = .ok (.aload_n 0, 1) := dk_42 (dk_at dksX0_isUpToDate_0 0 rfl rfl)
theorem dX0_isUpToDate_1 : decode cX0_isUpToDate 1 = .ok (.getfield 130, 3) := dk_180 0 130 (dk_at dksX0_isUpToDate_0 1 rfl rfl)
theorem dX0_isUpToDate_4 : decode cX0_isUpToDate 4 = .ok (.aload_n 0, 1) := dk_42 (dk_at dksX0_isUpToDate_0 4 rfl rfl)
theorem dX0_isUpToDate_5 : decode cX0_isUpToDate 5 = .ok (.getfield 80, 3) := dk_180 0 80 (dk_at dksX0_isUpToDate_0 5 rfl rfl)
theorem dX0_isUpToDate_8 : decode cX0_isUpToDate 8 = .ok (.if_icmp .ne 7, 3) := dk_160 0 7 (dk_at dksX0_isUpToDate_0 8 rfl rfl)
theorem dX0_isUpToDate_11 : decode cX0_isUpToDate 11 = .ok (.iconst 1, 1) := dk_4 (dk_at dksX0_isUpToDate_0 11 rfl rfl)
theorem dX0_isUpToDate_12 : decode cX0_isUpToDate 12 = .ok (.goto 4, 3) := dk_167 0 4 (dk_at dksX0_isUpToDate_0 12 rfl rfl)
theorem dX0_isUpToDate_15 : decode cX0_isUpToDate 15 = .ok (.iconst 0, 1) := dk_3 (dk_at dksX0_isUpToDate_0 15 rfl rfl)
theorem dX0_isUpToDate_16 : decode cX0_isUpToDate 16 = .ok (.ireturn, 1) := dk_172 (dk_at dksX0_isUpToDate_0 16 rfl rfl)
abbrev cX0_count : ByteArray := prog_1_method_22_code
def yX0_count : MethodName := ⟨RX0, "count", "(I)I"⟩
def dkwX0_count_6 : List UInt8 := [180, 0, 10, 180, 0, 64, 27, 16, 13, 100, 46, 172, 2, 172]
abbrev dktX0_count_6 : List UInt8 := dkwX0_count_6 ++ []
def dkwX0_count_5 : List UInt8 := [6, 182, 0, 187, 172, 42, 180, 0, 19, 182, 0, 38, 172, 42, 180, 0, 26, 182, 0, 197, 172, 42]
abbrev dktX0_count_5 : List UInt8 := dkwX0_count_5 ++ dktX0_count_6
def dkwX0_count_4 : List UInt8 := [180, 0, 10, 182, 0, 190, 172, 42, 27, 16, 9, 160, 0, 7, 4, 167, 0, 4, 3, 182, 0, 193, 172, 42]
abbrev dktX0_count_4 : List UInt8 := dkwX0_count_4 ++ dktX0_count_5
def dkwX0_count_3 : List UInt8 := [182, 0, 50, 172, 42, 180, 0, 10, 180, 0, 57, 182, 0, 50, 172, 42, 27, 7, 100, 182, 0, 187, 172, 42]
abbrev dktX0_count_3 : List UInt8 := dkwX0_count_3 ++ dktX0_count_4
def dkwX0_count_2 : List UInt8 := [42, 180, 0, 10, 180, 0, 133, 172, 42, 180, 0, 10, 180, 0, 184, 172, 42, 180, 0, 10, 180, 0, 46]
abbrev dktX0_count_2 : List UInt8 := dkwX0_count_2 ++ dktX0_count_3
def dkwX0_count_1 : List UInt8 := [170, 0, 0, 0, 0, 0, 180, 0, 0, 0, 0, 0, 0, 0, 14, 0, 0, 0, 75, 0, 0, 0, 83, 0, 0, 0, 91, 0, 0, 0, 102, 0, 0, 0, 113, 0, 0, 0, 113, 0, 0, 0, 113, 0, 0, 0, 121, 0, 0, 0, 129, 0, 0, 0, 129, 0, 0, 0, 145, 0, 0, 0, 151, 0, 0, 0, 159, 0, 0, 0, 167, 0, 0, 0, 167]
abbrev dktX0_count_1 : List UInt8 := dkwX0_count_1 ++ dktX0_count_2
def dkwX0_count_0 : List UInt8 := [27]
abbrev dktX0_count_0 : List UInt8 := dkwX0_count_0 ++ dktX0_count_1
theorem dksX0_count_0 : cX0_count.data.toList.drop 0 = dktX0_count_0 := by decide +kernel
theorem dksX0_count_1 : cX0_count.data.toList.drop 1 = dktX0_count_1 := dk_seg dksX0_count_0 1 rfl rfl
theorem dksX0_count_2 : cX0_count.data.toList.drop 76 = dktX0_count_2 := dk_seg dksX0_count_1 75 rfl rfl
theorem dksX0_count_3 : cX0_count.data.toList.drop 99 = dktX0_count_3 := dk_seg dksX0_count_2 23 rfl rfl
theorem dksX0_count_4 : cX0_count.data.toList.drop 123 = dktX0_count_4 := dk_seg dksX0_count_3 24 rfl rfl
theorem dksX0_count_5 : cX0_count.data.toList.drop 147 = dktX0_count_5 := dk_seg dksX0_count_4 24 rfl rfl
theorem dksX0_count_6 : cX0_count.data.toList.drop 169 = dktX0_count_6 := dk_seg dksX0_count_5 22 rfl rfl
theorem dX0_count_0 : decode cX0_count 0 = .ok (.iload_n 1, 1) := dk_27 (dk_at dksX0_count_0 0 rfl rfl)
theorem dX0_count_1 : decode cX0_count 1 = .ok (.tableswitch 180 0 14 #[75, 83, 91, 102, 113, 113, 113, 121, 129, 129, 145, 151, 159, 167, 167], 75) := by decide +kernel
theorem dX0_count_76 : decode cX0_count 76 = .ok (.aload_n 0, 1) := dk_42 (dk_at dksX0_count_2 0 rfl rfl)
theorem dX0_count_77 : decode cX0_count 77 = .ok (.getfield 10, 3) := dk_180 0 10 (dk_at dksX0_count_2 1 rfl rfl)
theorem dX0_count_80 : decode cX0_count 80 = .ok (.getfield 133, 3) := dk_180 0 133 (dk_at dksX0_count_2 4 rfl rfl)
theorem dX0_count_83 : decode cX0_count 83 = .ok (.ireturn, 1) := dk_172 (dk_at dksX0_count_2 7 rfl rfl)
theorem dX0_count_84 : decode cX0_count 84 = .ok (.aload_n 0, 1) := dk_42 (dk_at dksX0_count_2 8 rfl rfl)
theorem dX0_count_85 : decode cX0_count 85 = .ok (.getfield 10, 3) := dk_180 0 10 (dk_at dksX0_count_2 9 rfl rfl)
theorem dX0_count_88 : decode cX0_count 88 = .ok (.getfield 184, 3) := dk_180 0 184 (dk_at dksX0_count_2 12 rfl rfl)
theorem dX0_count_91 : decode cX0_count 91 = .ok (.ireturn, 1) := dk_172 (dk_at dksX0_count_2 15 rfl rfl)
theorem dX0_count_92 : decode cX0_count 92 = .ok (.aload_n 0, 1) := dk_42 (dk_at dksX0_count_2 16 rfl rfl)
theorem dX0_count_93 : decode cX0_count 93 = .ok (.getfield 10, 3) := dk_180 0 10 (dk_at dksX0_count_2 17 rfl rfl)
theorem dX0_count_96 : decode cX0_count 96 = .ok (.getfield 46, 3) := dk_180 0 46 (dk_at dksX0_count_2 20 rfl rfl)
theorem dX0_count_99 : decode cX0_count 99 = .ok (.invokevirtual 50, 3) := dk_182 0 50 (dk_at dksX0_count_3 0 rfl rfl)
theorem dX0_count_102 : decode cX0_count 102 = .ok (.ireturn, 1) := dk_172 (dk_at dksX0_count_3 3 rfl rfl)
theorem dX0_count_103 : decode cX0_count 103 = .ok (.aload_n 0, 1) := dk_42 (dk_at dksX0_count_3 4 rfl rfl)
theorem dX0_count_104 : decode cX0_count 104 = .ok (.getfield 10, 3) := dk_180 0 10 (dk_at dksX0_count_3 5 rfl rfl)
theorem dX0_count_107 : decode cX0_count 107 = .ok (.getfield 57, 3) := dk_180 0 57 (dk_at dksX0_count_3 8 rfl rfl)
theorem dX0_count_110 : decode cX0_count 110 = .ok (.invokevirtual 50, 3) := dk_182 0 50 (dk_at dksX0_count_3 11 rfl rfl)
theorem dX0_count_113 : decode cX0_count 113 = .ok (.ireturn, 1) := dk_172 (dk_at dksX0_count_3 14 rfl rfl)
theorem dX0_count_114 : decode cX0_count 114 = .ok (.aload_n 0, 1) := dk_42 (dk_at dksX0_count_3 15 rfl rfl)
theorem dX0_count_115 : decode cX0_count 115 = .ok (.iload_n 1, 1) := dk_27 (dk_at dksX0_count_3 16 rfl rfl)
theorem dX0_count_116 : decode cX0_count 116 = .ok (.iconst 4, 1) := dk_7 (dk_at dksX0_count_3 17 rfl rfl)
theorem dX0_count_117 : decode cX0_count 117 = .ok (.isub, 1) := dk_100 (dk_at dksX0_count_3 18 rfl rfl)
theorem dX0_count_118 : decode cX0_count 118 = .ok (.invokevirtual 187, 3) := dk_182 0 187 (dk_at dksX0_count_3 19 rfl rfl)
theorem dX0_count_121 : decode cX0_count 121 = .ok (.ireturn, 1) := dk_172 (dk_at dksX0_count_3 22 rfl rfl)
theorem dX0_count_122 : decode cX0_count 122 = .ok (.aload_n 0, 1) := dk_42 (dk_at dksX0_count_3 23 rfl rfl)
theorem dX0_count_123 : decode cX0_count 123 = .ok (.getfield 10, 3) := dk_180 0 10 (dk_at dksX0_count_4 0 rfl rfl)
theorem dX0_count_126 : decode cX0_count 126 = .ok (.invokevirtual 190, 3) := dk_182 0 190 (dk_at dksX0_count_4 3 rfl rfl)
theorem dX0_count_129 : decode cX0_count 129 = .ok (.ireturn, 1) := dk_172 (dk_at dksX0_count_4 6 rfl rfl)
theorem dX0_count_130 : decode cX0_count 130 = .ok (.aload_n 0, 1) := dk_42 (dk_at dksX0_count_4 7 rfl rfl)
theorem dX0_count_131 : decode cX0_count 131 = .ok (.iload_n 1, 1) := dk_27 (dk_at dksX0_count_4 8 rfl rfl)
theorem dX0_count_132 : decode cX0_count 132 = .ok (.bipush 9, 2) := dk_16 9 (dk_at dksX0_count_4 9 rfl rfl)
theorem dX0_count_134 : decode cX0_count 134 = .ok (.if_icmp .ne 7, 3) := dk_160 0 7 (dk_at dksX0_count_4 11 rfl rfl)
theorem dX0_count_137 : decode cX0_count 137 = .ok (.iconst 1, 1) := dk_4 (dk_at dksX0_count_4 14 rfl rfl)
theorem dX0_count_138 : decode cX0_count 138 = .ok (.goto 4, 3) := dk_167 0 4 (dk_at dksX0_count_4 15 rfl rfl)
theorem dX0_count_141 : decode cX0_count 141 = .ok (.iconst 0, 1) := dk_3 (dk_at dksX0_count_4 18 rfl rfl)
theorem dX0_count_142 : decode cX0_count 142 = .ok (.invokevirtual 193, 3) := dk_182 0 193 (dk_at dksX0_count_4 19 rfl rfl)
theorem dX0_count_145 : decode cX0_count 145 = .ok (.ireturn, 1) := dk_172 (dk_at dksX0_count_4 22 rfl rfl)
theorem dX0_count_146 : decode cX0_count 146 = .ok (.aload_n 0, 1) := dk_42 (dk_at dksX0_count_4 23 rfl rfl)
theorem dX0_count_147 : decode cX0_count 147 = .ok (.iconst 3, 1) := dk_6 (dk_at dksX0_count_5 0 rfl rfl)
theorem dX0_count_148 : decode cX0_count 148 = .ok (.invokevirtual 187, 3) := dk_182 0 187 (dk_at dksX0_count_5 1 rfl rfl)
theorem dX0_count_151 : decode cX0_count 151 = .ok (.ireturn, 1) := dk_172 (dk_at dksX0_count_5 4 rfl rfl)
theorem dX0_count_152 : decode cX0_count 152 = .ok (.aload_n 0, 1) := dk_42 (dk_at dksX0_count_5 5 rfl rfl)
theorem dX0_count_153 : decode cX0_count 153 = .ok (.getfield 19, 3) := dk_180 0 19 (dk_at dksX0_count_5 6 rfl rfl)
theorem dX0_count_156 : decode cX0_count 156 = .ok (.invokevirtual 38, 3) := dk_182 0 38 (dk_at dksX0_count_5 9 rfl rfl)
theorem dX0_count_159 : decode cX0_count 159 = .ok (.ireturn, 1) := dk_172 (dk_at dksX0_count_5 12 rfl rfl)
theorem dX0_count_160 : decode cX0_count 160 = .ok (.aload_n 0, 1) := dk_42 (dk_at dksX0_count_5 13 rfl rfl)
theorem dX0_count_161 : decode cX0_count 161 = .ok (.getfield 26, 3) := dk_180 0 26 (dk_at dksX0_count_5 14 rfl rfl)
theorem dX0_count_164 : decode cX0_count 164 = .ok (.invokevirtual 197, 3) := dk_182 0 197 (dk_at dksX0_count_5 17 rfl rfl)
theorem dX0_count_167 : decode cX0_count 167 = .ok (.ireturn, 1) := dk_172 (dk_at dksX0_count_5 20 rfl rfl)
theorem dX0_count_168 : decode cX0_count 168 = .ok (.aload_n 0, 1) := dk_42 (dk_at dksX0_count_5 21 rfl rfl)
theorem dX0_count_169 : decode cX0_count 169 = .ok (.getfield 10, 3) := dk_180 0 10 (dk_at dksX0_count_6 0 rfl rfl)
theorem dX0_count_172 : decode cX0_count 172 = .ok (.getfield 64, 3) := dk_180 0 64 (dk_at dksX0_count_6 3 rfl rfl)
theorem dX0_count_175 : decode cX0_count 175 = .ok (.iload_n 1, 1) := dk_27 (dk_at dksX0_count_6 6 rfl rfl)
theorem dX0_count_176 : decode cX0_count 176 = .ok (.bipush 13, 2) := dk_16 13 (dk_at dksX0_count_6 7 rfl rfl)
theorem dX0_count_178 : decode cX0_count 178 = .ok (.isub, 1) := dk_100 (dk_at dksX0_count_6 9 rfl rfl)
theorem dX0_count_179 : decode cX0_count 179 = .ok (.iaload, 1) := dk_46 (dk_at dksX0_count_6 10 rfl rfl)
theorem dX0_count_180 : decode cX0_count 180 = .ok (.ireturn, 1) := dk_172 (dk_at dksX0_count_6 11 rfl rfl)
theorem dX0_count_181 : decode cX0_count 181 = .ok (.iconst (-1), 1) := dk_2 (dk_at dksX0_count_6 12 rfl rfl)
theorem dX0_count_182 : decode cX0_count 182 = .ok (.ireturn, 1) := dk_172 (dk_at dksX0_count_6 13 rfl rfl)
abbrev cX0_overEdges : ByteArray := prog_1_method_20_code
def yX0_overEdges : MethodName := ⟨RX0, "overEdges", "(I)I"⟩
def dkwX0_overEdges_5 : List UInt8 := [167, 255, 158, 28, 172]
abbrev dktX0_overEdges_5 : List UInt8 := dkwX0_overEdges_5 ++ []
def dkwX0_overEdges_4 : List UInt8 := [160, 0, 19, 42, 180, 0, 10, 25, 4, 182, 0, 181, 153, 0, 7, 4, 167, 0, 4, 3, 96, 61]
abbrev dktX0_overEdges_4 : List UInt8 := dkwX0_overEdges_4 ++ dktX0_overEdges_5
def dkwX0_overEdges_3 : List UInt8 := [154, 0, 37, 27, 4, 160, 0, 15, 42, 180, 0, 10, 25, 4, 182, 0, 177, 154, 0, 20, 27, 6]
abbrev dktX0_overEdges_3 : List UInt8 := dkwX0_overEdges_3 ++ dktX0_overEdges_4
def dkwX0_overEdges_2 : List UInt8 := [182, 0, 169, 182, 0, 50, 167, 0, 4, 3, 96, 61, 28, 27, 154, 0, 11, 25, 4, 180, 0, 173]
abbrev dktX0_overEdges_2 : List UInt8 := dkwX0_overEdges_2 ++ dktX0_overEdges_3
def dkwX0_overEdges_1 : List UInt8 := [185, 0, 164, 1, 0, 192, 0, 167, 58, 4, 28, 27, 5, 160, 0, 18, 42, 180, 0, 10, 25, 4]
abbrev dktX0_overEdges_1 : List UInt8 := dkwX0_overEdges_1 ++ dktX0_overEdges_2
def dkwX0_overEdges_0 : List UInt8 := [3, 61, 42, 180, 0, 10, 180, 0, 57, 182, 0, 154, 78, 45, 185, 0, 158, 1, 0, 153, 0, 95, 45]
abbrev dktX0_overEdges_0 : List UInt8 := dkwX0_overEdges_0 ++ dktX0_overEdges_1
theorem dksX0_overEdges_0 : cX0_overEdges.data.toList.drop 0 = dktX0_overEdges_0 := by decide +kernel
theorem dksX0_overEdges_1 : cX0_overEdges.data.toList.drop 23 = dktX0_overEdges_1 := dk_seg dksX0_overEdges_0 23 rfl rfl
theorem dksX0_overEdges_2 : cX0_overEdges.data.toList.drop 45 = dktX0_overEdges_2 := dk_seg dksX0_overEdges_1 22 rfl rfl
theorem dksX0_overEdges_3 : cX0_overEdges.data.toList.drop 67 = dktX0_overEdges_3 := dk_seg dksX0_overEdges_2 22 rfl rfl
theorem dksX0_overEdges_4 : cX0_overEdges.data.toList.drop 89 = dktX0_overEdges_4 := dk_seg dksX0_overEdges_3 22 rfl rfl
theorem dksX0_overEdges_5 : cX0_overEdges.data.toList.drop 111 = dktX0_overEdges_5 := dk_seg dksX0_overEdges_4 22 rfl rfl
theorem dX0_overEdges_0 : decode cX0_overEdges 0 = .ok (.iconst 0, 1) := dk_3 (dk_at dksX0_overEdges_0 0 rfl rfl)
theorem dX0_overEdges_1 : decode cX0_overEdges 1 = .ok (.istore_n 2, 1) := dk_61 (dk_at dksX0_overEdges_0 1 rfl rfl)
theorem dX0_overEdges_2 : decode cX0_overEdges 2 = .ok (.aload_n 0, 1) := dk_42 (dk_at dksX0_overEdges_0 2 rfl rfl)
theorem dX0_overEdges_3 : decode cX0_overEdges 3 = .ok (.getfield 10, 3) := dk_180 0 10 (dk_at dksX0_overEdges_0 3 rfl rfl)
theorem dX0_overEdges_6 : decode cX0_overEdges 6 = .ok (.getfield 57, 3) := dk_180 0 57 (dk_at dksX0_overEdges_0 6 rfl rfl)
theorem dX0_overEdges_9 : decode cX0_overEdges 9 = .ok (.invokevirtual 154, 3) := dk_182 0 154 (dk_at dksX0_overEdges_0 9 rfl rfl)
theorem dX0_overEdges_12 : decode cX0_overEdges 12 = .ok (.astore_n 3, 1) := dk_78 (dk_at dksX0_overEdges_0 12 rfl rfl)
theorem dX0_overEdges_13 : decode cX0_overEdges 13 = .ok (.aload_n 3, 1) := dk_45 (dk_at dksX0_overEdges_0 13 rfl rfl)
theorem dX0_overEdges_14 : decode cX0_overEdges 14 = .ok (.invokeinterface 158 1, 5) := by decide +kernel
theorem dX0_overEdges_19 : decode cX0_overEdges 19 = .ok (.ifCond .eq 95, 3) := dk_153 0 95 (dk_at dksX0_overEdges_0 19 rfl rfl)
theorem dX0_overEdges_22 : decode cX0_overEdges 22 = .ok (.aload_n 3, 1) := dk_45 (dk_at dksX0_overEdges_0 22 rfl rfl)
theorem dX0_overEdges_23 : decode cX0_overEdges 23 = .ok (.invokeinterface 164 1, 5) := by decide +kernel
theorem dX0_overEdges_28 : decode cX0_overEdges 28 = .ok (.checkcast 167, 3) := dk_192 0 167 (dk_at dksX0_overEdges_1 5 rfl rfl)
theorem dX0_overEdges_31 : decode cX0_overEdges 31 = .ok (.astore 4, 2) := dk_58 4 (dk_at dksX0_overEdges_1 8 rfl rfl)
theorem dX0_overEdges_33 : decode cX0_overEdges 33 = .ok (.iload_n 2, 1) := dk_28 (dk_at dksX0_overEdges_1 10 rfl rfl)
theorem dX0_overEdges_34 : decode cX0_overEdges 34 = .ok (.iload_n 1, 1) := dk_27 (dk_at dksX0_overEdges_1 11 rfl rfl)
theorem dX0_overEdges_35 : decode cX0_overEdges 35 = .ok (.iconst 2, 1) := dk_5 (dk_at dksX0_overEdges_1 12 rfl rfl)
theorem dX0_overEdges_36 : decode cX0_overEdges 36 = .ok (.if_icmp .ne 18, 3) := dk_160 0 18 (dk_at dksX0_overEdges_1 13 rfl rfl)
theorem dX0_overEdges_39 : decode cX0_overEdges 39 = .ok (.aload_n 0, 1) := dk_42 (dk_at dksX0_overEdges_1 16 rfl rfl)
theorem dX0_overEdges_40 : decode cX0_overEdges 40 = .ok (.getfield 10, 3) := dk_180 0 10 (dk_at dksX0_overEdges_1 17 rfl rfl)
theorem dX0_overEdges_43 : decode cX0_overEdges 43 = .ok (.aload 4, 2) := dk_25 4 (dk_at dksX0_overEdges_1 20 rfl rfl)
theorem dX0_overEdges_45 : decode cX0_overEdges 45 = .ok (.invokevirtual 169, 3) := dk_182 0 169 (dk_at dksX0_overEdges_2 0 rfl rfl)
theorem dX0_overEdges_48 : decode cX0_overEdges 48 = .ok (.invokevirtual 50, 3) := dk_182 0 50 (dk_at dksX0_overEdges_2 3 rfl rfl)
theorem dX0_overEdges_51 : decode cX0_overEdges 51 = .ok (.goto 4, 3) := dk_167 0 4 (dk_at dksX0_overEdges_2 6 rfl rfl)
theorem dX0_overEdges_54 : decode cX0_overEdges 54 = .ok (.iconst 0, 1) := dk_3 (dk_at dksX0_overEdges_2 9 rfl rfl)
theorem dX0_overEdges_55 : decode cX0_overEdges 55 = .ok (.iadd, 1) := dk_96 (dk_at dksX0_overEdges_2 10 rfl rfl)
theorem dX0_overEdges_56 : decode cX0_overEdges 56 = .ok (.istore_n 2, 1) := dk_61 (dk_at dksX0_overEdges_2 11 rfl rfl)
theorem dX0_overEdges_57 : decode cX0_overEdges 57 = .ok (.iload_n 2, 1) := dk_28 (dk_at dksX0_overEdges_2 12 rfl rfl)
theorem dX0_overEdges_58 : decode cX0_overEdges 58 = .ok (.iload_n 1, 1) := dk_27 (dk_at dksX0_overEdges_2 13 rfl rfl)
theorem dX0_overEdges_59 : decode cX0_overEdges 59 = .ok (.ifCond .ne 11, 3) := dk_154 0 11 (dk_at dksX0_overEdges_2 14 rfl rfl)
theorem dX0_overEdges_62 : decode cX0_overEdges 62 = .ok (.aload 4, 2) := dk_25 4 (dk_at dksX0_overEdges_2 17 rfl rfl)
theorem dX0_overEdges_64 : decode cX0_overEdges 64 = .ok (.getfield 173, 3) := dk_180 0 173 (dk_at dksX0_overEdges_2 19 rfl rfl)
theorem dX0_overEdges_67 : decode cX0_overEdges 67 = .ok (.ifCond .ne 37, 3) := dk_154 0 37 (dk_at dksX0_overEdges_3 0 rfl rfl)
theorem dX0_overEdges_70 : decode cX0_overEdges 70 = .ok (.iload_n 1, 1) := dk_27 (dk_at dksX0_overEdges_3 3 rfl rfl)
theorem dX0_overEdges_71 : decode cX0_overEdges 71 = .ok (.iconst 1, 1) := dk_4 (dk_at dksX0_overEdges_3 4 rfl rfl)
theorem dX0_overEdges_72 : decode cX0_overEdges 72 = .ok (.if_icmp .ne 15, 3) := dk_160 0 15 (dk_at dksX0_overEdges_3 5 rfl rfl)
theorem dX0_overEdges_75 : decode cX0_overEdges 75 = .ok (.aload_n 0, 1) := dk_42 (dk_at dksX0_overEdges_3 8 rfl rfl)
theorem dX0_overEdges_76 : decode cX0_overEdges 76 = .ok (.getfield 10, 3) := dk_180 0 10 (dk_at dksX0_overEdges_3 9 rfl rfl)
theorem dX0_overEdges_79 : decode cX0_overEdges 79 = .ok (.aload 4, 2) := dk_25 4 (dk_at dksX0_overEdges_3 12 rfl rfl)
theorem dX0_overEdges_81 : decode cX0_overEdges 81 = .ok (.invokevirtual 177, 3) := dk_182 0 177 (dk_at dksX0_overEdges_3 14 rfl rfl)
theorem dX0_overEdges_84 : decode cX0_overEdges 84 = .ok (.ifCond .ne 20, 3) := dk_154 0 20 (dk_at dksX0_overEdges_3 17 rfl rfl)
theorem dX0_overEdges_87 : decode cX0_overEdges 87 = .ok (.iload_n 1, 1) := dk_27 (dk_at dksX0_overEdges_3 20 rfl rfl)
theorem dX0_overEdges_88 : decode cX0_overEdges 88 = .ok (.iconst 3, 1) := dk_6 (dk_at dksX0_overEdges_3 21 rfl rfl)
theorem dX0_overEdges_89 : decode cX0_overEdges 89 = .ok (.if_icmp .ne 19, 3) := dk_160 0 19 (dk_at dksX0_overEdges_4 0 rfl rfl)
theorem dX0_overEdges_92 : decode cX0_overEdges 92 = .ok (.aload_n 0, 1) := dk_42 (dk_at dksX0_overEdges_4 3 rfl rfl)
theorem dX0_overEdges_93 : decode cX0_overEdges 93 = .ok (.getfield 10, 3) := dk_180 0 10 (dk_at dksX0_overEdges_4 4 rfl rfl)
theorem dX0_overEdges_96 : decode cX0_overEdges 96 = .ok (.aload 4, 2) := dk_25 4 (dk_at dksX0_overEdges_4 7 rfl rfl)
theorem dX0_overEdges_98 : decode cX0_overEdges 98 = .ok (.invokevirtual 181, 3) := dk_182 0 181 (dk_at dksX0_overEdges_4 9 rfl rfl)
theorem dX0_overEdges_101 : decode cX0_overEdges 101 = .ok (.ifCond .eq 7, 3) := dk_153 0 7 (dk_at dksX0_overEdges_4 12 rfl rfl)
theorem dX0_overEdges_104 : decode cX0_overEdges 104 = .ok (.iconst 1, 1) := dk_4 (dk_at dksX0_overEdges_4 15 rfl rfl)
theorem dX0_overEdges_105 : decode cX0_overEdges 105 = .ok (.goto 4, 3) := dk_167 0 4 (dk_at dksX0_overEdges_4 16 rfl rfl)
theorem dX0_overEdges_108 : decode cX0_overEdges 108 = .ok (.iconst 0, 1) := dk_3 (dk_at dksX0_overEdges_4 19 rfl rfl)
theorem dX0_overEdges_109 : decode cX0_overEdges 109 = .ok (.iadd, 1) := dk_96 (dk_at dksX0_overEdges_4 20 rfl rfl)
theorem dX0_overEdges_110 : decode cX0_overEdges 110 = .ok (.istore_n 2, 1) := dk_61 (dk_at dksX0_overEdges_4 21 rfl rfl)
theorem dX0_overEdges_111 : decode cX0_overEdges 111 = .ok (.goto (-98), 3) := dk_167 255 158 (dk_at dksX0_overEdges_5 0 rfl rfl)
theorem dX0_overEdges_114 : decode cX0_overEdges 114 = .ok (.iload_n 2, 1) := dk_28 (dk_at dksX0_overEdges_5 3 rfl rfl)
theorem dX0_overEdges_115 : decode cX0_overEdges 115 = .ok (.ireturn, 1) := dk_172 (dk_at dksX0_overEdges_5 4 rfl rfl)
abbrev cX0_overSheets : ByteArray := prog_1_method_21_code
def yX0_overSheets : MethodName := ⟨RX0, "overSheets", "(Z)I"⟩
def dkwX0_overSheets_3 : List UInt8 := [167, 255, 199, 28, 172]
abbrev dktX0_overSheets_3 : List UInt8 := dkwX0_overSheets_3 ++ []
def dkwX0_overSheets_2 : List UInt8 := [167, 0, 21, 3, 167, 0, 17, 25, 4, 180, 0, 130, 2, 160, 0, 7, 3, 167, 0, 4, 4, 96, 61]
abbrev dktX0_overSheets_2 : List UInt8 := dkwX0_overSheets_2 ++ dktX0_overSheets_3
def dkwX0_overSheets_1 : List UInt8 := [185, 0, 164, 1, 0, 192, 0, 81, 58, 4, 28, 27, 153, 0, 19, 25, 4, 184, 0, 140, 153, 0, 7, 4]
abbrev dktX0_overSheets_1 : List UInt8 := dkwX0_overSheets_1 ++ dktX0_overSheets_2
def dkwX0_overSheets_0 : List UInt8 := [3, 61, 42, 180, 0, 10, 180, 0, 46, 182, 0, 154, 78, 45, 185, 0, 158, 1, 0, 153, 0, 54, 45]
abbrev dktX0_overSheets_0 : List UInt8 := dkwX0_overSheets_0 ++ dktX0_overSheets_1
theorem dksX0_overSheets_0 : cX0_overSheets.data.toList.drop 0 = dktX0_overSheets_0 := by decide +kernel
theorem dksX0_overSheets_1 : cX0_overSheets.data.toList.drop 23 = dktX0_overSheets_1 := dk_seg dksX0_overSheets_0 23 rfl rfl
theorem dksX0_overSheets_2 : cX0_overSheets.data.toList.drop 47 = dktX0_overSheets_2 := dk_seg dksX0_overSheets_1 24 rfl rfl
theorem dksX0_overSheets_3 : cX0_overSheets.data.toList.drop 70 = dktX0_overSheets_3 := dk_seg dksX0_overSheets_2 23 rfl rfl
theorem dX0_overSheets_0 : decode cX0_overSheets 0 = .ok (.iconst 0, 1) := dk_3 (dk_at dksX0_overSheets_0 0 rfl rfl)
theorem dX0_overSheets_1 : decode cX0_overSheets 1 = .ok (.istore_n 2, 1) := dk_61 (dk_at dksX0_overSheets_0 1 rfl rfl)
theorem dX0_overSheets_2 : decode cX0_overSheets 2 = .ok (.aload_n 0, 1) := dk_42 (dk_at dksX0_overSheets_0 2 rfl rfl)
theorem dX0_overSheets_3 : decode cX0_overSheets 3 = .ok (.getfield 10, 3) := dk_180 0 10 (dk_at dksX0_overSheets_0 3 rfl rfl)
theorem dX0_overSheets_6 : decode cX0_overSheets 6 = .ok (.getfield 46, 3) := dk_180 0 46 (dk_at dksX0_overSheets_0 6 rfl rfl)
theorem dX0_overSheets_9 : decode cX0_overSheets 9 = .ok (.invokevirtual 154, 3) := dk_182 0 154 (dk_at dksX0_overSheets_0 9 rfl rfl)
theorem dX0_overSheets_12 : decode cX0_overSheets 12 = .ok (.astore_n 3, 1) := dk_78 (dk_at dksX0_overSheets_0 12 rfl rfl)
theorem dX0_overSheets_13 : decode cX0_overSheets 13 = .ok (.aload_n 3, 1) := dk_45 (dk_at dksX0_overSheets_0 13 rfl rfl)
theorem dX0_overSheets_14 : decode cX0_overSheets 14 = .ok (.invokeinterface 158 1, 5) := by decide +kernel
theorem dX0_overSheets_19 : decode cX0_overSheets 19 = .ok (.ifCond .eq 54, 3) := dk_153 0 54 (dk_at dksX0_overSheets_0 19 rfl rfl)
theorem dX0_overSheets_22 : decode cX0_overSheets 22 = .ok (.aload_n 3, 1) := dk_45 (dk_at dksX0_overSheets_0 22 rfl rfl)
theorem dX0_overSheets_23 : decode cX0_overSheets 23 = .ok (.invokeinterface 164 1, 5) := by decide +kernel
theorem dX0_overSheets_28 : decode cX0_overSheets 28 = .ok (.checkcast 81, 3) := dk_192 0 81 (dk_at dksX0_overSheets_1 5 rfl rfl)
theorem dX0_overSheets_31 : decode cX0_overSheets 31 = .ok (.astore 4, 2) := dk_58 4 (dk_at dksX0_overSheets_1 8 rfl rfl)
theorem dX0_overSheets_33 : decode cX0_overSheets 33 = .ok (.iload_n 2, 1) := dk_28 (dk_at dksX0_overSheets_1 10 rfl rfl)
theorem dX0_overSheets_34 : decode cX0_overSheets 34 = .ok (.iload_n 1, 1) := dk_27 (dk_at dksX0_overSheets_1 11 rfl rfl)
theorem dX0_overSheets_35 : decode cX0_overSheets 35 = .ok (.ifCond .eq 19, 3) := dk_153 0 19 (dk_at dksX0_overSheets_1 12 rfl rfl)
theorem dX0_overSheets_38 : decode cX0_overSheets 38 = .ok (.aload 4, 2) := dk_25 4 (dk_at dksX0_overSheets_1 15 rfl rfl)
theorem dX0_overSheets_40 : decode cX0_overSheets 40 = .ok (.invokestatic 140, 3) := dk_184 0 140 (dk_at dksX0_overSheets_1 17 rfl rfl)
theorem dX0_overSheets_43 : decode cX0_overSheets 43 = .ok (.ifCond .eq 7, 3) := dk_153 0 7 (dk_at dksX0_overSheets_1 20 rfl rfl)
theorem dX0_overSheets_46 : decode cX0_overSheets 46 = .ok (.iconst 1, 1) := dk_4 (dk_at dksX0_overSheets_1 23 rfl rfl)
theorem dX0_overSheets_47 : decode cX0_overSheets 47 = .ok (.goto 21, 3) := dk_167 0 21 (dk_at dksX0_overSheets_2 0 rfl rfl)
theorem dX0_overSheets_50 : decode cX0_overSheets 50 = .ok (.iconst 0, 1) := dk_3 (dk_at dksX0_overSheets_2 3 rfl rfl)
theorem dX0_overSheets_51 : decode cX0_overSheets 51 = .ok (.goto 17, 3) := dk_167 0 17 (dk_at dksX0_overSheets_2 4 rfl rfl)
theorem dX0_overSheets_54 : decode cX0_overSheets 54 = .ok (.aload 4, 2) := dk_25 4 (dk_at dksX0_overSheets_2 7 rfl rfl)
theorem dX0_overSheets_56 : decode cX0_overSheets 56 = .ok (.getfield 130, 3) := dk_180 0 130 (dk_at dksX0_overSheets_2 9 rfl rfl)
theorem dX0_overSheets_59 : decode cX0_overSheets 59 = .ok (.iconst (-1), 1) := dk_2 (dk_at dksX0_overSheets_2 12 rfl rfl)
theorem dX0_overSheets_60 : decode cX0_overSheets 60 = .ok (.if_icmp .ne 7, 3) := dk_160 0 7 (dk_at dksX0_overSheets_2 13 rfl rfl)
theorem dX0_overSheets_63 : decode cX0_overSheets 63 = .ok (.iconst 0, 1) := dk_3 (dk_at dksX0_overSheets_2 16 rfl rfl)
theorem dX0_overSheets_64 : decode cX0_overSheets 64 = .ok (.goto 4, 3) := dk_167 0 4 (dk_at dksX0_overSheets_2 17 rfl rfl)
theorem dX0_overSheets_67 : decode cX0_overSheets 67 = .ok (.iconst 1, 1) := dk_4 (dk_at dksX0_overSheets_2 20 rfl rfl)
theorem dX0_overSheets_68 : decode cX0_overSheets 68 = .ok (.iadd, 1) := dk_96 (dk_at dksX0_overSheets_2 21 rfl rfl)
theorem dX0_overSheets_69 : decode cX0_overSheets 69 = .ok (.istore_n 2, 1) := dk_61 (dk_at dksX0_overSheets_2 22 rfl rfl)
theorem dX0_overSheets_70 : decode cX0_overSheets 70 = .ok (.goto (-57), 3) := dk_167 255 199 (dk_at dksX0_overSheets_3 0 rfl rfl)
theorem dX0_overSheets_73 : decode cX0_overSheets 73 = .ok (.iload_n 2, 1) := dk_28 (dk_at dksX0_overSheets_3 3 rfl rfl)
theorem dX0_overSheets_74 : decode cX0_overSheets 74 = .ok (.ireturn, 1) := dk_172 (dk_at dksX0_overSheets_3 4 rfl rfl)
abbrev cX0_undo : ByteArray := prog_1_method_23_code
def yX0_undo : MethodName := ⟨RX0, "undo", "()I"⟩
def dkwX0_undo_1 : List UInt8 := [181, 0, 10, 42, 180, 0, 19, 182, 0, 38, 172]
abbrev dktX0_undo_1 : List UInt8 := dkwX0_undo_1 ++ []
def dkwX0_undo_0 : List UInt8 := [42, 180, 0, 19, 182, 0, 200, 153, 0, 6, 16, 254, 172, 42, 42, 180, 0, 19, 182, 0, 203, 192, 0, 7]
abbrev dktX0_undo_0 : List UInt8 := dkwX0_undo_0 ++ dktX0_undo_1
theorem dksX0_undo_0 : cX0_undo.data.toList.drop 0 = dktX0_undo_0 := by decide +kernel
theorem dksX0_undo_1 : cX0_undo.data.toList.drop 24 = dktX0_undo_1 := dk_seg dksX0_undo_0 24 rfl rfl
theorem dX0_undo_0 : decode cX0_undo 0 = .ok (.aload_n 0, 1) := dk_42 (dk_at dksX0_undo_0 0 rfl rfl)
theorem dX0_undo_1 : decode cX0_undo 1 = .ok (.getfield 19, 3) := dk_180 0 19 (dk_at dksX0_undo_0 1 rfl rfl)
theorem dX0_undo_4 : decode cX0_undo 4 = .ok (.invokevirtual 200, 3) := dk_182 0 200 (dk_at dksX0_undo_0 4 rfl rfl)
theorem dX0_undo_7 : decode cX0_undo 7 = .ok (.ifCond .eq 6, 3) := dk_153 0 6 (dk_at dksX0_undo_0 7 rfl rfl)
theorem dX0_undo_10 : decode cX0_undo 10 = .ok (.bipush (-2), 2) := dk_16 254 (dk_at dksX0_undo_0 10 rfl rfl)
theorem dX0_undo_12 : decode cX0_undo 12 = .ok (.ireturn, 1) := dk_172 (dk_at dksX0_undo_0 12 rfl rfl)
theorem dX0_undo_13 : decode cX0_undo 13 = .ok (.aload_n 0, 1) := dk_42 (dk_at dksX0_undo_0 13 rfl rfl)
theorem dX0_undo_14 : decode cX0_undo 14 = .ok (.aload_n 0, 1) := dk_42 (dk_at dksX0_undo_0 14 rfl rfl)
theorem dX0_undo_15 : decode cX0_undo 15 = .ok (.getfield 19, 3) := dk_180 0 19 (dk_at dksX0_undo_0 15 rfl rfl)
theorem dX0_undo_18 : decode cX0_undo 18 = .ok (.invokevirtual 203, 3) := dk_182 0 203 (dk_at dksX0_undo_0 18 rfl rfl)
theorem dX0_undo_21 : decode cX0_undo 21 = .ok (.checkcast 7, 3) := dk_192 0 7 (dk_at dksX0_undo_0 21 rfl rfl)
theorem dX0_undo_24 : decode cX0_undo 24 = .ok (.putfield 10, 3) := dk_181 0 10 (dk_at dksX0_undo_1 0 rfl rfl)
theorem dX0_undo_27 : decode cX0_undo 27 = .ok (.aload_n 0, 1) := dk_42 (dk_at dksX0_undo_1 3 rfl rfl)
theorem dX0_undo_28 : decode cX0_undo 28 = .ok (.getfield 19, 3) := dk_180 0 19 (dk_at dksX0_undo_1 4 rfl rfl)
theorem dX0_undo_31 : decode cX0_undo 31 = .ok (.invokevirtual 38, 3) := dk_182 0 38 (dk_at dksX0_undo_1 7 rfl rfl)
theorem dX0_undo_34 : decode cX0_undo 34 = .ok (.ireturn, 1) := dk_172 (dk_at dksX0_undo_1 10 rfl rfl)
abbrev cX0_edge : ByteArray := prog_1_method_25_code
def yX0_edge : MethodName := ⟨RX0, "edge", "(II)I"⟩
def dkwX0_edge_5 : List UInt8 := [180, 0, 10, 45, 182, 0, 181, 153, 0, 7, 4, 167, 0, 4, 3, 172, 2, 172]
abbrev dktX0_edge_5 : List UInt8 := dkwX0_edge_5 ++ []
def dkwX0_edge_4 : List UInt8 := [167, 0, 4, 3, 172, 42, 180, 0, 10, 45, 182, 0, 169, 182, 0, 50, 172, 42, 45, 182, 0, 226, 172, 42]
abbrev dktX0_edge_4 : List UInt8 := dkwX0_edge_4 ++ dktX0_edge_5
def dkwX0_edge_3 : List UInt8 := [45, 180, 0, 206, 172, 45, 180, 0, 213, 172, 45, 180, 0, 223, 172, 45, 180, 0, 173, 153, 0, 7, 4]
abbrev dktX0_edge_3 : List UInt8 := dkwX0_edge_3 ++ dktX0_edge_4
def dkwX0_edge_2 : List UInt8 := [170, 0, 0, 0, 0, 105, 0, 0, 0, 0, 0, 0, 0, 6, 0, 0, 0, 42, 0, 0, 0, 47, 0, 0, 0, 52, 0, 0, 0, 57, 0, 0, 0, 70, 0, 0, 0, 82, 0, 0, 0, 88]
abbrev dktX0_edge_2 : List UInt8 := dkwX0_edge_2 ++ dktX0_edge_3
def dkwX0_edge_1 : List UInt8 := [78, 28]
abbrev dktX0_edge_1 : List UInt8 := dkwX0_edge_1 ++ dktX0_edge_2
def dkwX0_edge_0 : List UInt8 := [42, 27, 182, 0, 216, 154, 0, 5, 2, 172, 42, 180, 0, 10, 180, 0, 57, 27, 182, 0, 219, 192, 0, 167]
abbrev dktX0_edge_0 : List UInt8 := dkwX0_edge_0 ++ dktX0_edge_1
theorem dksX0_edge_0 : cX0_edge.data.toList.drop 0 = dktX0_edge_0 := by decide +kernel
theorem dksX0_edge_1 : cX0_edge.data.toList.drop 24 = dktX0_edge_1 := dk_seg dksX0_edge_0 24 rfl rfl
theorem dksX0_edge_2 : cX0_edge.data.toList.drop 26 = dktX0_edge_2 := dk_seg dksX0_edge_1 2 rfl rfl
theorem dksX0_edge_3 : cX0_edge.data.toList.drop 68 = dktX0_edge_3 := dk_seg dksX0_edge_2 42 rfl rfl
theorem dksX0_edge_4 : cX0_edge.data.toList.drop 91 = dktX0_edge_4 := dk_seg dksX0_edge_3 23 rfl rfl
theorem dksX0_edge_5 : cX0_edge.data.toList.drop 115 = dktX0_edge_5 := dk_seg dksX0_edge_4 24 rfl rfl
theorem dX0_edge_0 : decode cX0_edge 0 = .ok (.aload_n 0, 1) := dk_42 (dk_at dksX0_edge_0 0 rfl rfl)
theorem dX0_edge_1 : decode cX0_edge 1 = .ok (.iload_n 1, 1) := dk_27 (dk_at dksX0_edge_0 1 rfl rfl)
theorem dX0_edge_2 : decode cX0_edge 2 = .ok (.invokevirtual 216, 3) := dk_182 0 216 (dk_at dksX0_edge_0 2 rfl rfl)
theorem dX0_edge_5 : decode cX0_edge 5 = .ok (.ifCond .ne 5, 3) := dk_154 0 5 (dk_at dksX0_edge_0 5 rfl rfl)
theorem dX0_edge_8 : decode cX0_edge 8 = .ok (.iconst (-1), 1) := dk_2 (dk_at dksX0_edge_0 8 rfl rfl)
theorem dX0_edge_9 : decode cX0_edge 9 = .ok (.ireturn, 1) := dk_172 (dk_at dksX0_edge_0 9 rfl rfl)
theorem dX0_edge_10 : decode cX0_edge 10 = .ok (.aload_n 0, 1) := dk_42 (dk_at dksX0_edge_0 10 rfl rfl)
theorem dX0_edge_11 : decode cX0_edge 11 = .ok (.getfield 10, 3) := dk_180 0 10 (dk_at dksX0_edge_0 11 rfl rfl)
theorem dX0_edge_14 : decode cX0_edge 14 = .ok (.getfield 57, 3) := dk_180 0 57 (dk_at dksX0_edge_0 14 rfl rfl)
theorem dX0_edge_17 : decode cX0_edge 17 = .ok (.iload_n 1, 1) := dk_27 (dk_at dksX0_edge_0 17 rfl rfl)
theorem dX0_edge_18 : decode cX0_edge 18 = .ok (.invokevirtual 219, 3) := dk_182 0 219 (dk_at dksX0_edge_0 18 rfl rfl)
theorem dX0_edge_21 : decode cX0_edge 21 = .ok (.checkcast 167, 3) := dk_192 0 167 (dk_at dksX0_edge_0 21 rfl rfl)
theorem dX0_edge_24 : decode cX0_edge 24 = .ok (.astore_n 3, 1) := dk_78 (dk_at dksX0_edge_1 0 rfl rfl)
theorem dX0_edge_25 : decode cX0_edge 25 = .ok (.iload_n 2, 1) := dk_28 (dk_at dksX0_edge_1 1 rfl rfl)
theorem dX0_edge_26 : decode cX0_edge 26 = .ok (.tableswitch 105 0 6 #[42, 47, 52, 57, 70, 82, 88], 42) := by decide +kernel
theorem dX0_edge_68 : decode cX0_edge 68 = .ok (.aload_n 3, 1) := dk_45 (dk_at dksX0_edge_3 0 rfl rfl)
theorem dX0_edge_69 : decode cX0_edge 69 = .ok (.getfield 206, 3) := dk_180 0 206 (dk_at dksX0_edge_3 1 rfl rfl)
theorem dX0_edge_72 : decode cX0_edge 72 = .ok (.ireturn, 1) := dk_172 (dk_at dksX0_edge_3 4 rfl rfl)
theorem dX0_edge_73 : decode cX0_edge 73 = .ok (.aload_n 3, 1) := dk_45 (dk_at dksX0_edge_3 5 rfl rfl)
theorem dX0_edge_74 : decode cX0_edge 74 = .ok (.getfield 213, 3) := dk_180 0 213 (dk_at dksX0_edge_3 6 rfl rfl)
theorem dX0_edge_77 : decode cX0_edge 77 = .ok (.ireturn, 1) := dk_172 (dk_at dksX0_edge_3 9 rfl rfl)
theorem dX0_edge_78 : decode cX0_edge 78 = .ok (.aload_n 3, 1) := dk_45 (dk_at dksX0_edge_3 10 rfl rfl)
theorem dX0_edge_79 : decode cX0_edge 79 = .ok (.getfield 223, 3) := dk_180 0 223 (dk_at dksX0_edge_3 11 rfl rfl)
theorem dX0_edge_82 : decode cX0_edge 82 = .ok (.ireturn, 1) := dk_172 (dk_at dksX0_edge_3 14 rfl rfl)
theorem dX0_edge_83 : decode cX0_edge 83 = .ok (.aload_n 3, 1) := dk_45 (dk_at dksX0_edge_3 15 rfl rfl)
theorem dX0_edge_84 : decode cX0_edge 84 = .ok (.getfield 173, 3) := dk_180 0 173 (dk_at dksX0_edge_3 16 rfl rfl)
theorem dX0_edge_87 : decode cX0_edge 87 = .ok (.ifCond .eq 7, 3) := dk_153 0 7 (dk_at dksX0_edge_3 19 rfl rfl)
theorem dX0_edge_90 : decode cX0_edge 90 = .ok (.iconst 1, 1) := dk_4 (dk_at dksX0_edge_3 22 rfl rfl)
theorem dX0_edge_91 : decode cX0_edge 91 = .ok (.goto 4, 3) := dk_167 0 4 (dk_at dksX0_edge_4 0 rfl rfl)
theorem dX0_edge_94 : decode cX0_edge 94 = .ok (.iconst 0, 1) := dk_3 (dk_at dksX0_edge_4 3 rfl rfl)
theorem dX0_edge_95 : decode cX0_edge 95 = .ok (.ireturn, 1) := dk_172 (dk_at dksX0_edge_4 4 rfl rfl)
theorem dX0_edge_96 : decode cX0_edge 96 = .ok (.aload_n 0, 1) := dk_42 (dk_at dksX0_edge_4 5 rfl rfl)
theorem dX0_edge_97 : decode cX0_edge 97 = .ok (.getfield 10, 3) := dk_180 0 10 (dk_at dksX0_edge_4 6 rfl rfl)
theorem dX0_edge_100 : decode cX0_edge 100 = .ok (.aload_n 3, 1) := dk_45 (dk_at dksX0_edge_4 9 rfl rfl)
theorem dX0_edge_101 : decode cX0_edge 101 = .ok (.invokevirtual 169, 3) := dk_182 0 169 (dk_at dksX0_edge_4 10 rfl rfl)
theorem dX0_edge_104 : decode cX0_edge 104 = .ok (.invokevirtual 50, 3) := dk_182 0 50 (dk_at dksX0_edge_4 13 rfl rfl)
theorem dX0_edge_107 : decode cX0_edge 107 = .ok (.ireturn, 1) := dk_172 (dk_at dksX0_edge_4 16 rfl rfl)
theorem dX0_edge_108 : decode cX0_edge 108 = .ok (.aload_n 0, 1) := dk_42 (dk_at dksX0_edge_4 17 rfl rfl)
theorem dX0_edge_109 : decode cX0_edge 109 = .ok (.aload_n 3, 1) := dk_45 (dk_at dksX0_edge_4 18 rfl rfl)
theorem dX0_edge_110 : decode cX0_edge 110 = .ok (.invokevirtual 226, 3) := dk_182 0 226 (dk_at dksX0_edge_4 19 rfl rfl)
theorem dX0_edge_113 : decode cX0_edge 113 = .ok (.ireturn, 1) := dk_172 (dk_at dksX0_edge_4 22 rfl rfl)
theorem dX0_edge_114 : decode cX0_edge 114 = .ok (.aload_n 0, 1) := dk_42 (dk_at dksX0_edge_4 23 rfl rfl)
theorem dX0_edge_115 : decode cX0_edge 115 = .ok (.getfield 10, 3) := dk_180 0 10 (dk_at dksX0_edge_5 0 rfl rfl)
theorem dX0_edge_118 : decode cX0_edge 118 = .ok (.aload_n 3, 1) := dk_45 (dk_at dksX0_edge_5 3 rfl rfl)
theorem dX0_edge_119 : decode cX0_edge 119 = .ok (.invokevirtual 181, 3) := dk_182 0 181 (dk_at dksX0_edge_5 4 rfl rfl)
theorem dX0_edge_122 : decode cX0_edge 122 = .ok (.ifCond .eq 7, 3) := dk_153 0 7 (dk_at dksX0_edge_5 7 rfl rfl)
theorem dX0_edge_125 : decode cX0_edge 125 = .ok (.iconst 1, 1) := dk_4 (dk_at dksX0_edge_5 10 rfl rfl)
theorem dX0_edge_126 : decode cX0_edge 126 = .ok (.goto 4, 3) := dk_167 0 4 (dk_at dksX0_edge_5 11 rfl rfl)
theorem dX0_edge_129 : decode cX0_edge 129 = .ok (.iconst 0, 1) := dk_3 (dk_at dksX0_edge_5 14 rfl rfl)
theorem dX0_edge_130 : decode cX0_edge 130 = .ok (.ireturn, 1) := dk_172 (dk_at dksX0_edge_5 15 rfl rfl)
theorem dX0_edge_131 : decode cX0_edge 131 = .ok (.iconst (-1), 1) := dk_2 (dk_at dksX0_edge_5 16 rfl rfl)
theorem dX0_edge_132 : decode cX0_edge 132 = .ok (.ireturn, 1) := dk_172 (dk_at dksX0_edge_5 17 rfl rfl)
abbrev cX0_isEdge : ByteArray := prog_1_method_5_code
def yX0_isEdge : MethodName := ⟨RX0, "isEdge", "(I)Z"⟩
def dkwX0_isEdge_0 : List UInt8 := [27, 133, 9, 42, 180, 0, 10, 180, 0, 57, 182, 0, 50, 4, 100, 133, 184, 0, 53, 172]
abbrev dktX0_isEdge_0 : List UInt8 := dkwX0_isEdge_0 ++ []
theorem dksX0_isEdge_0 : cX0_isEdge.data.toList.drop 0 = dktX0_isEdge_0 := by decide +kernel
theorem dX0_isEdge_0 : decode cX0_isEdge 0 = .ok (.iload_n 1, 1) := dk_27 (dk_at dksX0_isEdge_0 0 rfl rfl)
theorem dX0_isEdge_1 : decode cX0_isEdge 1 = .ok (.i2l, 1) := dk_133 (dk_at dksX0_isEdge_0 1 rfl rfl)
theorem dX0_isEdge_2 : decode cX0_isEdge 2 = .ok (.lconst 0, 1) := dk_9 (dk_at dksX0_isEdge_0 2 rfl rfl)
theorem dX0_isEdge_3 : decode cX0_isEdge 3 = .ok (.aload_n 0, 1) := dk_42 (dk_at dksX0_isEdge_0 3 rfl rfl)
theorem dX0_isEdge_4 : decode cX0_isEdge 4 = .ok (.getfield 10, 3) := dk_180 0 10 (dk_at dksX0_isEdge_0 4 rfl rfl)
theorem dX0_isEdge_7 : decode cX0_isEdge 7 = .ok (.getfield 57, 3) := dk_180 0 57 (dk_at dksX0_isEdge_0 7 rfl rfl)
theorem dX0_isEdge_10 : decode cX0_isEdge 10 = .ok (.invokevirtual 50, 3) := dk_182 0 50 (dk_at dksX0_isEdge_0 10 rfl rfl)
theorem dX0_isEdge_13 : decode cX0_isEdge 13 = .ok (.iconst 1, 1) := dk_4 (dk_at dksX0_isEdge_0 13 rfl rfl)
theorem dX0_isEdge_14 : decode cX0_isEdge 14 = .ok (.isub, 1) := dk_100 (dk_at dksX0_isEdge_0 14 rfl rfl)
theorem dX0_isEdge_15 : decode cX0_isEdge 15 = .ok (.i2l, 1) := dk_133 (dk_at dksX0_isEdge_0 15 rfl rfl)
theorem dX0_isEdge_16 : decode cX0_isEdge 16 = .ok (.invokestatic 53, 3) := dk_184 0 53 (dk_at dksX0_isEdge_0 16 rfl rfl)
theorem dX0_isEdge_19 : decode cX0_isEdge 19 = .ok (.ireturn, 1) := dk_172 (dk_at dksX0_isEdge_0 19 rfl rfl)
abbrev cX0_crossing : ByteArray := prog_1_method_24_code
def yX0_crossing : MethodName := ⟨RX0, "crossing", "(LMapSheets$Edge;)I"⟩
def dkwX0_crossing_2 : List UInt8 := [167, 0, 4, 3, 96, 61, 132, 3, 1, 167, 255, 205, 28, 172]
abbrev dktX0_crossing_2 : List UInt8 := dkwX0_crossing_2 ++ []
def dkwX0_crossing_1 : List UInt8 := [2, 159, 0, 24, 42, 180, 0, 10, 43, 43, 180, 0, 213, 29, 182, 0, 209, 2, 159, 0, 7, 4]
abbrev dktX0_crossing_1 : List UInt8 := dkwX0_crossing_1 ++ dktX0_crossing_2
def dkwX0_crossing_0 : List UInt8 := [3, 61, 3, 62, 29, 16, 10, 162, 0, 51, 28, 42, 180, 0, 10, 43, 43, 180, 0, 206, 29, 182, 0, 209]
abbrev dktX0_crossing_0 : List UInt8 := dkwX0_crossing_0 ++ dktX0_crossing_1
theorem dksX0_crossing_0 : cX0_crossing.data.toList.drop 0 = dktX0_crossing_0 := by decide +kernel
theorem dksX0_crossing_1 : cX0_crossing.data.toList.drop 24 = dktX0_crossing_1 := dk_seg dksX0_crossing_0 24 rfl rfl
theorem dksX0_crossing_2 : cX0_crossing.data.toList.drop 46 = dktX0_crossing_2 := dk_seg dksX0_crossing_1 22 rfl rfl
theorem dX0_crossing_0 : decode cX0_crossing 0 = .ok (.iconst 0, 1) := dk_3 (dk_at dksX0_crossing_0 0 rfl rfl)
theorem dX0_crossing_1 : decode cX0_crossing 1 = .ok (.istore_n 2, 1) := dk_61 (dk_at dksX0_crossing_0 1 rfl rfl)
theorem dX0_crossing_2 : decode cX0_crossing 2 = .ok (.iconst 0, 1) := dk_3 (dk_at dksX0_crossing_0 2 rfl rfl)
theorem dX0_crossing_3 : decode cX0_crossing 3 = .ok (.istore_n 3, 1) := dk_62 (dk_at dksX0_crossing_0 3 rfl rfl)
theorem dX0_crossing_4 : decode cX0_crossing 4 = .ok (.iload_n 3, 1) := dk_29 (dk_at dksX0_crossing_0 4 rfl rfl)
theorem dX0_crossing_5 : decode cX0_crossing 5 = .ok (.bipush 10, 2) := dk_16 10 (dk_at dksX0_crossing_0 5 rfl rfl)
theorem dX0_crossing_7 : decode cX0_crossing 7 = .ok (.if_icmp .ge 51, 3) := dk_162 0 51 (dk_at dksX0_crossing_0 7 rfl rfl)
theorem dX0_crossing_10 : decode cX0_crossing 10 = .ok (.iload_n 2, 1) := dk_28 (dk_at dksX0_crossing_0 10 rfl rfl)
theorem dX0_crossing_11 : decode cX0_crossing 11 = .ok (.aload_n 0, 1) := dk_42 (dk_at dksX0_crossing_0 11 rfl rfl)
theorem dX0_crossing_12 : decode cX0_crossing 12 = .ok (.getfield 10, 3) := dk_180 0 10 (dk_at dksX0_crossing_0 12 rfl rfl)
theorem dX0_crossing_15 : decode cX0_crossing 15 = .ok (.aload_n 1, 1) := dk_43 (dk_at dksX0_crossing_0 15 rfl rfl)
theorem dX0_crossing_16 : decode cX0_crossing 16 = .ok (.aload_n 1, 1) := dk_43 (dk_at dksX0_crossing_0 16 rfl rfl)
theorem dX0_crossing_17 : decode cX0_crossing 17 = .ok (.getfield 206, 3) := dk_180 0 206 (dk_at dksX0_crossing_0 17 rfl rfl)
theorem dX0_crossing_20 : decode cX0_crossing 20 = .ok (.iload_n 3, 1) := dk_29 (dk_at dksX0_crossing_0 20 rfl rfl)
theorem dX0_crossing_21 : decode cX0_crossing 21 = .ok (.invokevirtual 209, 3) := dk_182 0 209 (dk_at dksX0_crossing_0 21 rfl rfl)
theorem dX0_crossing_24 : decode cX0_crossing 24 = .ok (.iconst (-1), 1) := dk_2 (dk_at dksX0_crossing_1 0 rfl rfl)
theorem dX0_crossing_25 : decode cX0_crossing 25 = .ok (.if_icmp .eq 24, 3) := dk_159 0 24 (dk_at dksX0_crossing_1 1 rfl rfl)
theorem dX0_crossing_28 : decode cX0_crossing 28 = .ok (.aload_n 0, 1) := dk_42 (dk_at dksX0_crossing_1 4 rfl rfl)
theorem dX0_crossing_29 : decode cX0_crossing 29 = .ok (.getfield 10, 3) := dk_180 0 10 (dk_at dksX0_crossing_1 5 rfl rfl)
theorem dX0_crossing_32 : decode cX0_crossing 32 = .ok (.aload_n 1, 1) := dk_43 (dk_at dksX0_crossing_1 8 rfl rfl)
theorem dX0_crossing_33 : decode cX0_crossing 33 = .ok (.aload_n 1, 1) := dk_43 (dk_at dksX0_crossing_1 9 rfl rfl)
theorem dX0_crossing_34 : decode cX0_crossing 34 = .ok (.getfield 213, 3) := dk_180 0 213 (dk_at dksX0_crossing_1 10 rfl rfl)
theorem dX0_crossing_37 : decode cX0_crossing 37 = .ok (.iload_n 3, 1) := dk_29 (dk_at dksX0_crossing_1 13 rfl rfl)
theorem dX0_crossing_38 : decode cX0_crossing 38 = .ok (.invokevirtual 209, 3) := dk_182 0 209 (dk_at dksX0_crossing_1 14 rfl rfl)
theorem dX0_crossing_41 : decode cX0_crossing 41 = .ok (.iconst (-1), 1) := dk_2 (dk_at dksX0_crossing_1 17 rfl rfl)
theorem dX0_crossing_42 : decode cX0_crossing 42 = .ok (.if_icmp .eq 7, 3) := dk_159 0 7 (dk_at dksX0_crossing_1 18 rfl rfl)
theorem dX0_crossing_45 : decode cX0_crossing 45 = .ok (.iconst 1, 1) := dk_4 (dk_at dksX0_crossing_1 21 rfl rfl)
theorem dX0_crossing_46 : decode cX0_crossing 46 = .ok (.goto 4, 3) := dk_167 0 4 (dk_at dksX0_crossing_2 0 rfl rfl)
theorem dX0_crossing_49 : decode cX0_crossing 49 = .ok (.iconst 0, 1) := dk_3 (dk_at dksX0_crossing_2 3 rfl rfl)
theorem dX0_crossing_50 : decode cX0_crossing 50 = .ok (.iadd, 1) := dk_96 (dk_at dksX0_crossing_2 4 rfl rfl)
theorem dX0_crossing_51 : decode cX0_crossing 51 = .ok (.istore_n 2, 1) := dk_61 (dk_at dksX0_crossing_2 5 rfl rfl)
theorem dX0_crossing_52 : decode cX0_crossing 52 = .ok (.iinc 3 1, 3) := dk_132 3 1 (dk_at dksX0_crossing_2 6 rfl rfl)
theorem dX0_crossing_55 : decode cX0_crossing 55 = .ok (.goto (-51), 3) := dk_167 255 205 (dk_at dksX0_crossing_2 9 rfl rfl)
theorem dX0_crossing_58 : decode cX0_crossing 58 = .ok (.iload_n 2, 1) := dk_28 (dk_at dksX0_crossing_2 12 rfl rfl)
theorem dX0_crossing_59 : decode cX0_crossing 59 = .ok (.ireturn, 1) := dk_172 (dk_at dksX0_crossing_2 13 rfl rfl)
abbrev cX0_edgeAt : ByteArray := prog_1_method_26_code
def yX0_edgeAt : MethodName := ⟨RX0, "edgeAt", "(II)I"⟩
def dkwX0_edgeAt_2 : List UInt8 := [172]
abbrev dktX0_edgeAt_2 : List UInt8 := dkwX0_edgeAt_2 ++ []
def dkwX0_edgeAt_1 : List UInt8 := [182, 0, 230, 78, 45, 199, 0, 8, 16, 252, 167, 0, 14, 42, 180, 0, 10, 180, 0, 57, 45, 182, 0, 234]
abbrev dktX0_edgeAt_1 : List UInt8 := dkwX0_edgeAt_1 ++ dktX0_edgeAt_2
def dkwX0_edgeAt_0 : List UInt8 := [42, 27, 182, 0, 108, 153, 0, 10, 28, 184, 0, 102, 154, 0, 5, 2, 172, 42, 180, 0, 10, 27, 28]
abbrev dktX0_edgeAt_0 : List UInt8 := dkwX0_edgeAt_0 ++ dktX0_edgeAt_1
theorem dksX0_edgeAt_0 : cX0_edgeAt.data.toList.drop 0 = dktX0_edgeAt_0 := by decide +kernel
theorem dksX0_edgeAt_1 : cX0_edgeAt.data.toList.drop 23 = dktX0_edgeAt_1 := dk_seg dksX0_edgeAt_0 23 rfl rfl
theorem dksX0_edgeAt_2 : cX0_edgeAt.data.toList.drop 47 = dktX0_edgeAt_2 := dk_seg dksX0_edgeAt_1 24 rfl rfl
theorem dX0_edgeAt_0 : decode cX0_edgeAt 0 = .ok (.aload_n 0, 1) := dk_42 (dk_at dksX0_edgeAt_0 0 rfl rfl)
theorem dX0_edgeAt_1 : decode cX0_edgeAt 1 = .ok (.iload_n 1, 1) := dk_27 (dk_at dksX0_edgeAt_0 1 rfl rfl)
theorem dX0_edgeAt_2 : decode cX0_edgeAt 2 = .ok (.invokevirtual 108, 3) := dk_182 0 108 (dk_at dksX0_edgeAt_0 2 rfl rfl)
theorem dX0_edgeAt_5 : decode cX0_edgeAt 5 = .ok (.ifCond .eq 10, 3) := dk_153 0 10 (dk_at dksX0_edgeAt_0 5 rfl rfl)
theorem dX0_edgeAt_8 : decode cX0_edgeAt 8 = .ok (.iload_n 2, 1) := dk_28 (dk_at dksX0_edgeAt_0 8 rfl rfl)
theorem dX0_edgeAt_9 : decode cX0_edgeAt 9 = .ok (.invokestatic 102, 3) := dk_184 0 102 (dk_at dksX0_edgeAt_0 9 rfl rfl)
theorem dX0_edgeAt_12 : decode cX0_edgeAt 12 = .ok (.ifCond .ne 5, 3) := dk_154 0 5 (dk_at dksX0_edgeAt_0 12 rfl rfl)
theorem dX0_edgeAt_15 : decode cX0_edgeAt 15 = .ok (.iconst (-1), 1) := dk_2 (dk_at dksX0_edgeAt_0 15 rfl rfl)
theorem dX0_edgeAt_16 : decode cX0_edgeAt 16 = .ok (.ireturn, 1) := dk_172 (dk_at dksX0_edgeAt_0 16 rfl rfl)
theorem dX0_edgeAt_17 : decode cX0_edgeAt 17 = .ok (.aload_n 0, 1) := dk_42 (dk_at dksX0_edgeAt_0 17 rfl rfl)
theorem dX0_edgeAt_18 : decode cX0_edgeAt 18 = .ok (.getfield 10, 3) := dk_180 0 10 (dk_at dksX0_edgeAt_0 18 rfl rfl)
theorem dX0_edgeAt_21 : decode cX0_edgeAt 21 = .ok (.iload_n 1, 1) := dk_27 (dk_at dksX0_edgeAt_0 21 rfl rfl)
theorem dX0_edgeAt_22 : decode cX0_edgeAt 22 = .ok (.iload_n 2, 1) := dk_28 (dk_at dksX0_edgeAt_0 22 rfl rfl)
theorem dX0_edgeAt_23 : decode cX0_edgeAt 23 = .ok (.invokevirtual 230, 3) := dk_182 0 230 (dk_at dksX0_edgeAt_1 0 rfl rfl)
theorem dX0_edgeAt_26 : decode cX0_edgeAt 26 = .ok (.astore_n 3, 1) := dk_78 (dk_at dksX0_edgeAt_1 3 rfl rfl)
theorem dX0_edgeAt_27 : decode cX0_edgeAt 27 = .ok (.aload_n 3, 1) := dk_45 (dk_at dksX0_edgeAt_1 4 rfl rfl)
theorem dX0_edgeAt_28 : decode cX0_edgeAt 28 = .ok (.ifnonnull 8, 3) := dk_199 0 8 (dk_at dksX0_edgeAt_1 5 rfl rfl)
theorem dX0_edgeAt_31 : decode cX0_edgeAt 31 = .ok (.bipush (-4), 2) := dk_16 252 (dk_at dksX0_edgeAt_1 8 rfl rfl)
theorem dX0_edgeAt_33 : decode cX0_edgeAt 33 = .ok (.goto 14, 3) := dk_167 0 14 (dk_at dksX0_edgeAt_1 10 rfl rfl)
theorem dX0_edgeAt_36 : decode cX0_edgeAt 36 = .ok (.aload_n 0, 1) := dk_42 (dk_at dksX0_edgeAt_1 13 rfl rfl)
theorem dX0_edgeAt_37 : decode cX0_edgeAt 37 = .ok (.getfield 10, 3) := dk_180 0 10 (dk_at dksX0_edgeAt_1 14 rfl rfl)
theorem dX0_edgeAt_40 : decode cX0_edgeAt 40 = .ok (.getfield 57, 3) := dk_180 0 57 (dk_at dksX0_edgeAt_1 17 rfl rfl)
theorem dX0_edgeAt_43 : decode cX0_edgeAt 43 = .ok (.aload_n 3, 1) := dk_45 (dk_at dksX0_edgeAt_1 20 rfl rfl)
theorem dX0_edgeAt_44 : decode cX0_edgeAt 44 = .ok (.invokevirtual 234, 3) := dk_182 0 234 (dk_at dksX0_edgeAt_1 21 rfl rfl)
theorem dX0_edgeAt_47 : decode cX0_edgeAt 47 = .ok (.ireturn, 1) := dk_172 (dk_at dksX0_edgeAt_2 0 rfl rfl)
abbrev cX0_quarrel : ByteArray := prog_1_method_27_code
def yX0_quarrel : MethodName := ⟨RX0, "quarrel", "(III)I"⟩
def dkwX0_quarrel_5 : List UInt8 := [25, 4, 180, 0, 213, 25, 6, 180, 0, 240, 182, 0, 209, 184, 0, 126, 172]
abbrev dktX0_quarrel_5 : List UInt8 := dkwX0_quarrel_5 ++ []
def dkwX0_quarrel_4 : List UInt8 := [180, 0, 243, 172, 42, 180, 0, 10, 25, 4, 29, 5, 160, 0, 11, 25, 4, 180, 0, 206, 167, 0, 8]
abbrev dktX0_quarrel_4 : List UInt8 := dkwX0_quarrel_4 ++ dktX0_quarrel_5
def dkwX0_quarrel_3 : List UInt8 := [192, 0, 238, 58, 6, 29, 5, 162, 0, 21, 29, 154, 0, 11, 25, 6, 180, 0, 240, 167, 0, 8, 25, 6]
abbrev dktX0_quarrel_3 : List UInt8 := dkwX0_quarrel_3 ++ dktX0_quarrel_4
def dkwX0_quarrel_2 : List UInt8 := [182, 0, 169, 58, 5, 28, 25, 5, 182, 0, 50, 161, 0, 6, 16, 252, 172, 25, 5, 28, 182, 0, 219]
abbrev dktX0_quarrel_2 : List UInt8 := dkwX0_quarrel_2 ++ dktX0_quarrel_3
def dkwX0_quarrel_1 : List UInt8 := [2, 172, 42, 180, 0, 10, 180, 0, 57, 27, 182, 0, 219, 192, 0, 167, 58, 4, 42, 180, 0, 10, 25, 4]
abbrev dktX0_quarrel_1 : List UInt8 := dkwX0_quarrel_1 ++ dktX0_quarrel_2
def dkwX0_quarrel_0 : List UInt8 := [42, 27, 182, 0, 216, 153, 0, 19, 28, 155, 0, 15, 29, 133, 9, 20, 0, 62, 184, 0, 53, 154, 0, 5]
abbrev dktX0_quarrel_0 : List UInt8 := dkwX0_quarrel_0 ++ dktX0_quarrel_1
theorem dksX0_quarrel_0 : cX0_quarrel.data.toList.drop 0 = dktX0_quarrel_0 := by decide +kernel
theorem dksX0_quarrel_1 : cX0_quarrel.data.toList.drop 24 = dktX0_quarrel_1 := dk_seg dksX0_quarrel_0 24 rfl rfl
theorem dksX0_quarrel_2 : cX0_quarrel.data.toList.drop 48 = dktX0_quarrel_2 := dk_seg dksX0_quarrel_1 24 rfl rfl
theorem dksX0_quarrel_3 : cX0_quarrel.data.toList.drop 71 = dktX0_quarrel_3 := dk_seg dksX0_quarrel_2 23 rfl rfl
theorem dksX0_quarrel_4 : cX0_quarrel.data.toList.drop 95 = dktX0_quarrel_4 := dk_seg dksX0_quarrel_3 24 rfl rfl
theorem dksX0_quarrel_5 : cX0_quarrel.data.toList.drop 118 = dktX0_quarrel_5 := dk_seg dksX0_quarrel_4 23 rfl rfl
theorem dX0_quarrel_0 : decode cX0_quarrel 0 = .ok (.aload_n 0, 1) := dk_42 (dk_at dksX0_quarrel_0 0 rfl rfl)
theorem dX0_quarrel_1 : decode cX0_quarrel 1 = .ok (.iload_n 1, 1) := dk_27 (dk_at dksX0_quarrel_0 1 rfl rfl)
theorem dX0_quarrel_2 : decode cX0_quarrel 2 = .ok (.invokevirtual 216, 3) := dk_182 0 216 (dk_at dksX0_quarrel_0 2 rfl rfl)
theorem dX0_quarrel_5 : decode cX0_quarrel 5 = .ok (.ifCond .eq 19, 3) := dk_153 0 19 (dk_at dksX0_quarrel_0 5 rfl rfl)
theorem dX0_quarrel_8 : decode cX0_quarrel 8 = .ok (.iload_n 2, 1) := dk_28 (dk_at dksX0_quarrel_0 8 rfl rfl)
theorem dX0_quarrel_9 : decode cX0_quarrel 9 = .ok (.ifCond .lt 15, 3) := dk_155 0 15 (dk_at dksX0_quarrel_0 9 rfl rfl)
theorem dX0_quarrel_12 : decode cX0_quarrel 12 = .ok (.iload_n 3, 1) := dk_29 (dk_at dksX0_quarrel_0 12 rfl rfl)
theorem dX0_quarrel_13 : decode cX0_quarrel 13 = .ok (.i2l, 1) := dk_133 (dk_at dksX0_quarrel_0 13 rfl rfl)
theorem dX0_quarrel_14 : decode cX0_quarrel 14 = .ok (.lconst 0, 1) := dk_9 (dk_at dksX0_quarrel_0 14 rfl rfl)
theorem dX0_quarrel_15 : decode cX0_quarrel 15 = .ok (.ldc2_w 62, 3) := dk_20 0 62 (dk_at dksX0_quarrel_0 15 rfl rfl)
theorem dX0_quarrel_18 : decode cX0_quarrel 18 = .ok (.invokestatic 53, 3) := dk_184 0 53 (dk_at dksX0_quarrel_0 18 rfl rfl)
theorem dX0_quarrel_21 : decode cX0_quarrel 21 = .ok (.ifCond .ne 5, 3) := dk_154 0 5 (dk_at dksX0_quarrel_0 21 rfl rfl)
theorem dX0_quarrel_24 : decode cX0_quarrel 24 = .ok (.iconst (-1), 1) := dk_2 (dk_at dksX0_quarrel_1 0 rfl rfl)
theorem dX0_quarrel_25 : decode cX0_quarrel 25 = .ok (.ireturn, 1) := dk_172 (dk_at dksX0_quarrel_1 1 rfl rfl)
theorem dX0_quarrel_26 : decode cX0_quarrel 26 = .ok (.aload_n 0, 1) := dk_42 (dk_at dksX0_quarrel_1 2 rfl rfl)
theorem dX0_quarrel_27 : decode cX0_quarrel 27 = .ok (.getfield 10, 3) := dk_180 0 10 (dk_at dksX0_quarrel_1 3 rfl rfl)
theorem dX0_quarrel_30 : decode cX0_quarrel 30 = .ok (.getfield 57, 3) := dk_180 0 57 (dk_at dksX0_quarrel_1 6 rfl rfl)
theorem dX0_quarrel_33 : decode cX0_quarrel 33 = .ok (.iload_n 1, 1) := dk_27 (dk_at dksX0_quarrel_1 9 rfl rfl)
theorem dX0_quarrel_34 : decode cX0_quarrel 34 = .ok (.invokevirtual 219, 3) := dk_182 0 219 (dk_at dksX0_quarrel_1 10 rfl rfl)
theorem dX0_quarrel_37 : decode cX0_quarrel 37 = .ok (.checkcast 167, 3) := dk_192 0 167 (dk_at dksX0_quarrel_1 13 rfl rfl)
theorem dX0_quarrel_40 : decode cX0_quarrel 40 = .ok (.astore 4, 2) := dk_58 4 (dk_at dksX0_quarrel_1 16 rfl rfl)
theorem dX0_quarrel_42 : decode cX0_quarrel 42 = .ok (.aload_n 0, 1) := dk_42 (dk_at dksX0_quarrel_1 18 rfl rfl)
theorem dX0_quarrel_43 : decode cX0_quarrel 43 = .ok (.getfield 10, 3) := dk_180 0 10 (dk_at dksX0_quarrel_1 19 rfl rfl)
theorem dX0_quarrel_46 : decode cX0_quarrel 46 = .ok (.aload 4, 2) := dk_25 4 (dk_at dksX0_quarrel_1 22 rfl rfl)
theorem dX0_quarrel_48 : decode cX0_quarrel 48 = .ok (.invokevirtual 169, 3) := dk_182 0 169 (dk_at dksX0_quarrel_2 0 rfl rfl)
theorem dX0_quarrel_51 : decode cX0_quarrel 51 = .ok (.astore 5, 2) := dk_58 5 (dk_at dksX0_quarrel_2 3 rfl rfl)
theorem dX0_quarrel_53 : decode cX0_quarrel 53 = .ok (.iload_n 2, 1) := dk_28 (dk_at dksX0_quarrel_2 5 rfl rfl)
theorem dX0_quarrel_54 : decode cX0_quarrel 54 = .ok (.aload 5, 2) := dk_25 5 (dk_at dksX0_quarrel_2 6 rfl rfl)
theorem dX0_quarrel_56 : decode cX0_quarrel 56 = .ok (.invokevirtual 50, 3) := dk_182 0 50 (dk_at dksX0_quarrel_2 8 rfl rfl)
theorem dX0_quarrel_59 : decode cX0_quarrel 59 = .ok (.if_icmp .lt 6, 3) := dk_161 0 6 (dk_at dksX0_quarrel_2 11 rfl rfl)
theorem dX0_quarrel_62 : decode cX0_quarrel 62 = .ok (.bipush (-4), 2) := dk_16 252 (dk_at dksX0_quarrel_2 14 rfl rfl)
theorem dX0_quarrel_64 : decode cX0_quarrel 64 = .ok (.ireturn, 1) := dk_172 (dk_at dksX0_quarrel_2 16 rfl rfl)
theorem dX0_quarrel_65 : decode cX0_quarrel 65 = .ok (.aload 5, 2) := dk_25 5 (dk_at dksX0_quarrel_2 17 rfl rfl)
theorem dX0_quarrel_67 : decode cX0_quarrel 67 = .ok (.iload_n 2, 1) := dk_28 (dk_at dksX0_quarrel_2 19 rfl rfl)
theorem dX0_quarrel_68 : decode cX0_quarrel 68 = .ok (.invokevirtual 219, 3) := dk_182 0 219 (dk_at dksX0_quarrel_2 20 rfl rfl)
theorem dX0_quarrel_71 : decode cX0_quarrel 71 = .ok (.checkcast 238, 3) := dk_192 0 238 (dk_at dksX0_quarrel_3 0 rfl rfl)
theorem dX0_quarrel_74 : decode cX0_quarrel 74 = .ok (.astore 6, 2) := dk_58 6 (dk_at dksX0_quarrel_3 3 rfl rfl)
theorem dX0_quarrel_76 : decode cX0_quarrel 76 = .ok (.iload_n 3, 1) := dk_29 (dk_at dksX0_quarrel_3 5 rfl rfl)
theorem dX0_quarrel_77 : decode cX0_quarrel 77 = .ok (.iconst 2, 1) := dk_5 (dk_at dksX0_quarrel_3 6 rfl rfl)
theorem dX0_quarrel_78 : decode cX0_quarrel 78 = .ok (.if_icmp .ge 21, 3) := dk_162 0 21 (dk_at dksX0_quarrel_3 7 rfl rfl)
theorem dX0_quarrel_81 : decode cX0_quarrel 81 = .ok (.iload_n 3, 1) := dk_29 (dk_at dksX0_quarrel_3 10 rfl rfl)
theorem dX0_quarrel_82 : decode cX0_quarrel 82 = .ok (.ifCond .ne 11, 3) := dk_154 0 11 (dk_at dksX0_quarrel_3 11 rfl rfl)
theorem dX0_quarrel_85 : decode cX0_quarrel 85 = .ok (.aload 6, 2) := dk_25 6 (dk_at dksX0_quarrel_3 14 rfl rfl)
theorem dX0_quarrel_87 : decode cX0_quarrel 87 = .ok (.getfield 240, 3) := dk_180 0 240 (dk_at dksX0_quarrel_3 16 rfl rfl)
theorem dX0_quarrel_90 : decode cX0_quarrel 90 = .ok (.goto 8, 3) := dk_167 0 8 (dk_at dksX0_quarrel_3 19 rfl rfl)
theorem dX0_quarrel_93 : decode cX0_quarrel 93 = .ok (.aload 6, 2) := dk_25 6 (dk_at dksX0_quarrel_3 22 rfl rfl)
theorem dX0_quarrel_95 : decode cX0_quarrel 95 = .ok (.getfield 243, 3) := dk_180 0 243 (dk_at dksX0_quarrel_4 0 rfl rfl)
theorem dX0_quarrel_98 : decode cX0_quarrel 98 = .ok (.ireturn, 1) := dk_172 (dk_at dksX0_quarrel_4 3 rfl rfl)
theorem dX0_quarrel_99 : decode cX0_quarrel 99 = .ok (.aload_n 0, 1) := dk_42 (dk_at dksX0_quarrel_4 4 rfl rfl)
theorem dX0_quarrel_100 : decode cX0_quarrel 100 = .ok (.getfield 10, 3) := dk_180 0 10 (dk_at dksX0_quarrel_4 5 rfl rfl)
theorem dX0_quarrel_103 : decode cX0_quarrel 103 = .ok (.aload 4, 2) := dk_25 4 (dk_at dksX0_quarrel_4 8 rfl rfl)
theorem dX0_quarrel_105 : decode cX0_quarrel 105 = .ok (.iload_n 3, 1) := dk_29 (dk_at dksX0_quarrel_4 10 rfl rfl)
theorem dX0_quarrel_106 : decode cX0_quarrel 106 = .ok (.iconst 2, 1) := dk_5 (dk_at dksX0_quarrel_4 11 rfl rfl)
theorem dX0_quarrel_107 : decode cX0_quarrel 107 = .ok (.if_icmp .ne 11, 3) := dk_160 0 11 (dk_at dksX0_quarrel_4 12 rfl rfl)
theorem dX0_quarrel_110 : decode cX0_quarrel 110 = .ok (.aload 4, 2) := dk_25 4 (dk_at dksX0_quarrel_4 15 rfl rfl)
theorem dX0_quarrel_112 : decode cX0_quarrel 112 = .ok (.getfield 206, 3) := dk_180 0 206 (dk_at dksX0_quarrel_4 17 rfl rfl)
theorem dX0_quarrel_115 : decode cX0_quarrel 115 = .ok (.goto 8, 3) := dk_167 0 8 (dk_at dksX0_quarrel_4 20 rfl rfl)
theorem dX0_quarrel_118 : decode cX0_quarrel 118 = .ok (.aload 4, 2) := dk_25 4 (dk_at dksX0_quarrel_5 0 rfl rfl)
theorem dX0_quarrel_120 : decode cX0_quarrel 120 = .ok (.getfield 213, 3) := dk_180 0 213 (dk_at dksX0_quarrel_5 2 rfl rfl)
theorem dX0_quarrel_123 : decode cX0_quarrel 123 = .ok (.aload 6, 2) := dk_25 6 (dk_at dksX0_quarrel_5 5 rfl rfl)
theorem dX0_quarrel_125 : decode cX0_quarrel 125 = .ok (.getfield 240, 3) := dk_180 0 240 (dk_at dksX0_quarrel_5 7 rfl rfl)
theorem dX0_quarrel_128 : decode cX0_quarrel 128 = .ok (.invokevirtual 209, 3) := dk_182 0 209 (dk_at dksX0_quarrel_5 10 rfl rfl)
theorem dX0_quarrel_131 : decode cX0_quarrel 131 = .ok (.invokestatic 126, 3) := dk_184 0 126 (dk_at dksX0_quarrel_5 13 rfl rfl)
theorem dX0_quarrel_134 : decode cX0_quarrel 134 = .ok (.ireturn, 1) := dk_172 (dk_at dksX0_quarrel_5 16 rfl rfl)
abbrev cX0_agree : ByteArray := prog_1_method_28_code
def yX0_agree : MethodName := ⟨RX0, "agree", "(I)I"⟩
def dkwX0_agree_3 : List UInt8 := [192, 0, 167, 4, 181, 0, 173, 42, 25, 4, 182, 0, 86, 29, 172]
abbrev dktX0_agree_3 : List UInt8 := dkwX0_agree_3 ++ []
def dkwX0_agree_2 : List UInt8 := [167, 0, 4, 3, 62, 42, 180, 0, 10, 182, 0, 98, 58, 4, 25, 4, 180, 0, 57, 27, 182, 0, 219]
abbrev dktX0_agree_2 : List UInt8 := dkwX0_agree_2 ++ dktX0_agree_3
def dkwX0_agree_1 : List UInt8 := [77, 42, 180, 0, 10, 44, 182, 0, 177, 154, 0, 6, 16, 254, 172, 44, 180, 0, 173, 153, 0, 7, 4]
abbrev dktX0_agree_1 : List UInt8 := dkwX0_agree_1 ++ dktX0_agree_2
def dkwX0_agree_0 : List UInt8 := [42, 27, 182, 0, 216, 154, 0, 5, 2, 172, 42, 180, 0, 10, 180, 0, 57, 27, 182, 0, 219, 192, 0, 167]
abbrev dktX0_agree_0 : List UInt8 := dkwX0_agree_0 ++ dktX0_agree_1
theorem dksX0_agree_0 : cX0_agree.data.toList.drop 0 = dktX0_agree_0 := by decide +kernel
theorem dksX0_agree_1 : cX0_agree.data.toList.drop 24 = dktX0_agree_1 := dk_seg dksX0_agree_0 24 rfl rfl
theorem dksX0_agree_2 : cX0_agree.data.toList.drop 47 = dktX0_agree_2 := dk_seg dksX0_agree_1 23 rfl rfl
theorem dksX0_agree_3 : cX0_agree.data.toList.drop 70 = dktX0_agree_3 := dk_seg dksX0_agree_2 23 rfl rfl
theorem dX0_agree_0 : decode cX0_agree 0 = .ok (.aload_n 0, 1) := dk_42 (dk_at dksX0_agree_0 0 rfl rfl)
theorem dX0_agree_1 : decode cX0_agree 1 = .ok (.iload_n 1, 1) := dk_27 (dk_at dksX0_agree_0 1 rfl rfl)
theorem dX0_agree_2 : decode cX0_agree 2 = .ok (.invokevirtual 216, 3) := dk_182 0 216 (dk_at dksX0_agree_0 2 rfl rfl)
theorem dX0_agree_5 : decode cX0_agree 5 = .ok (.ifCond .ne 5, 3) := dk_154 0 5 (dk_at dksX0_agree_0 5 rfl rfl)
theorem dX0_agree_8 : decode cX0_agree 8 = .ok (.iconst (-1), 1) := dk_2 (dk_at dksX0_agree_0 8 rfl rfl)
theorem dX0_agree_9 : decode cX0_agree 9 = .ok (.ireturn, 1) := dk_172 (dk_at dksX0_agree_0 9 rfl rfl)
theorem dX0_agree_10 : decode cX0_agree 10 = .ok (.aload_n 0, 1) := dk_42 (dk_at dksX0_agree_0 10 rfl rfl)
theorem dX0_agree_11 : decode cX0_agree 11 = .ok (.getfield 10, 3) := dk_180 0 10 (dk_at dksX0_agree_0 11 rfl rfl)
theorem dX0_agree_14 : decode cX0_agree 14 = .ok (.getfield 57, 3) := dk_180 0 57 (dk_at dksX0_agree_0 14 rfl rfl)
theorem dX0_agree_17 : decode cX0_agree 17 = .ok (.iload_n 1, 1) := dk_27 (dk_at dksX0_agree_0 17 rfl rfl)
theorem dX0_agree_18 : decode cX0_agree 18 = .ok (.invokevirtual 219, 3) := dk_182 0 219 (dk_at dksX0_agree_0 18 rfl rfl)
theorem dX0_agree_21 : decode cX0_agree 21 = .ok (.checkcast 167, 3) := dk_192 0 167 (dk_at dksX0_agree_0 21 rfl rfl)
theorem dX0_agree_24 : decode cX0_agree 24 = .ok (.astore_n 2, 1) := dk_77 (dk_at dksX0_agree_1 0 rfl rfl)
theorem dX0_agree_25 : decode cX0_agree 25 = .ok (.aload_n 0, 1) := dk_42 (dk_at dksX0_agree_1 1 rfl rfl)
theorem dX0_agree_26 : decode cX0_agree 26 = .ok (.getfield 10, 3) := dk_180 0 10 (dk_at dksX0_agree_1 2 rfl rfl)
theorem dX0_agree_29 : decode cX0_agree 29 = .ok (.aload_n 2, 1) := dk_44 (dk_at dksX0_agree_1 5 rfl rfl)
theorem dX0_agree_30 : decode cX0_agree 30 = .ok (.invokevirtual 177, 3) := dk_182 0 177 (dk_at dksX0_agree_1 6 rfl rfl)
theorem dX0_agree_33 : decode cX0_agree 33 = .ok (.ifCond .ne 6, 3) := dk_154 0 6 (dk_at dksX0_agree_1 9 rfl rfl)
theorem dX0_agree_36 : decode cX0_agree 36 = .ok (.bipush (-2), 2) := dk_16 254 (dk_at dksX0_agree_1 12 rfl rfl)
theorem dX0_agree_38 : decode cX0_agree 38 = .ok (.ireturn, 1) := dk_172 (dk_at dksX0_agree_1 14 rfl rfl)
theorem dX0_agree_39 : decode cX0_agree 39 = .ok (.aload_n 2, 1) := dk_44 (dk_at dksX0_agree_1 15 rfl rfl)
theorem dX0_agree_40 : decode cX0_agree 40 = .ok (.getfield 173, 3) := dk_180 0 173 (dk_at dksX0_agree_1 16 rfl rfl)
theorem dX0_agree_43 : decode cX0_agree 43 = .ok (.ifCond .eq 7, 3) := dk_153 0 7 (dk_at dksX0_agree_1 19 rfl rfl)
theorem dX0_agree_46 : decode cX0_agree 46 = .ok (.iconst 1, 1) := dk_4 (dk_at dksX0_agree_1 22 rfl rfl)
theorem dX0_agree_47 : decode cX0_agree 47 = .ok (.goto 4, 3) := dk_167 0 4 (dk_at dksX0_agree_2 0 rfl rfl)
theorem dX0_agree_50 : decode cX0_agree 50 = .ok (.iconst 0, 1) := dk_3 (dk_at dksX0_agree_2 3 rfl rfl)
theorem dX0_agree_51 : decode cX0_agree 51 = .ok (.istore_n 3, 1) := dk_62 (dk_at dksX0_agree_2 4 rfl rfl)
theorem dX0_agree_52 : decode cX0_agree 52 = .ok (.aload_n 0, 1) := dk_42 (dk_at dksX0_agree_2 5 rfl rfl)
theorem dX0_agree_53 : decode cX0_agree 53 = .ok (.getfield 10, 3) := dk_180 0 10 (dk_at dksX0_agree_2 6 rfl rfl)
theorem dX0_agree_56 : decode cX0_agree 56 = .ok (.invokevirtual 98, 3) := dk_182 0 98 (dk_at dksX0_agree_2 9 rfl rfl)
theorem dX0_agree_59 : decode cX0_agree 59 = .ok (.astore 4, 2) := dk_58 4 (dk_at dksX0_agree_2 12 rfl rfl)
theorem dX0_agree_61 : decode cX0_agree 61 = .ok (.aload 4, 2) := dk_25 4 (dk_at dksX0_agree_2 14 rfl rfl)
theorem dX0_agree_63 : decode cX0_agree 63 = .ok (.getfield 57, 3) := dk_180 0 57 (dk_at dksX0_agree_2 16 rfl rfl)
theorem dX0_agree_66 : decode cX0_agree 66 = .ok (.iload_n 1, 1) := dk_27 (dk_at dksX0_agree_2 19 rfl rfl)
theorem dX0_agree_67 : decode cX0_agree 67 = .ok (.invokevirtual 219, 3) := dk_182 0 219 (dk_at dksX0_agree_2 20 rfl rfl)
theorem dX0_agree_70 : decode cX0_agree 70 = .ok (.checkcast 167, 3) := dk_192 0 167 (dk_at dksX0_agree_3 0 rfl rfl)
theorem dX0_agree_73 : decode cX0_agree 73 = .ok (.iconst 1, 1) := dk_4 (dk_at dksX0_agree_3 3 rfl rfl)
theorem dX0_agree_74 : decode cX0_agree 74 = .ok (.putfield 173, 3) := dk_181 0 173 (dk_at dksX0_agree_3 4 rfl rfl)
theorem dX0_agree_77 : decode cX0_agree 77 = .ok (.aload_n 0, 1) := dk_42 (dk_at dksX0_agree_3 7 rfl rfl)
theorem dX0_agree_78 : decode cX0_agree 78 = .ok (.aload 4, 2) := dk_25 4 (dk_at dksX0_agree_3 8 rfl rfl)
theorem dX0_agree_80 : decode cX0_agree 80 = .ok (.invokevirtual 86, 3) := dk_182 0 86 (dk_at dksX0_agree_3 10 rfl rfl)
theorem dX0_agree_83 : decode cX0_agree 83 = .ok (.iload_n 3, 1) := dk_29 (dk_at dksX0_agree_3 13 rfl rfl)
theorem dX0_agree_84 : decode cX0_agree 84 = .ok (.ireturn, 1) := dk_172 (dk_at dksX0_agree_3 14 rfl rfl)
abbrev cX0_release : ByteArray := prog_1_method_29_code
def yX0_release : MethodName := ⟨RX0, "release", "(I)I"⟩
def dkwX0_release_2 : List UInt8 := [182, 0, 219, 192, 0, 167, 3, 181, 0, 173, 42, 44, 182, 0, 86, 44, 182, 0, 190, 172]
abbrev dktX0_release_2 : List UInt8 := dkwX0_release_2 ++ []
def dkwX0_release_1 : List UInt8 := [180, 0, 173, 154, 0, 6, 16, 254, 172, 42, 180, 0, 10, 182, 0, 98, 77, 44, 180, 0, 57, 27]
abbrev dktX0_release_1 : List UInt8 := dkwX0_release_1 ++ dktX0_release_2
def dkwX0_release_0 : List UInt8 := [42, 27, 182, 0, 216, 154, 0, 5, 2, 172, 42, 180, 0, 10, 180, 0, 57, 27, 182, 0, 219, 192, 0, 167]
abbrev dktX0_release_0 : List UInt8 := dkwX0_release_0 ++ dktX0_release_1
theorem dksX0_release_0 : cX0_release.data.toList.drop 0 = dktX0_release_0 := by decide +kernel
theorem dksX0_release_1 : cX0_release.data.toList.drop 24 = dktX0_release_1 := dk_seg dksX0_release_0 24 rfl rfl
theorem dksX0_release_2 : cX0_release.data.toList.drop 46 = dktX0_release_2 := dk_seg dksX0_release_1 22 rfl rfl
theorem dX0_release_0 : decode cX0_release 0 = .ok (.aload_n 0, 1) := dk_42 (dk_at dksX0_release_0 0 rfl rfl)
theorem dX0_release_1 : decode cX0_release 1 = .ok (.iload_n 1, 1) := dk_27 (dk_at dksX0_release_0 1 rfl rfl)
theorem dX0_release_2 : decode cX0_release 2 = .ok (.invokevirtual 216, 3) := dk_182 0 216 (dk_at dksX0_release_0 2 rfl rfl)
theorem dX0_release_5 : decode cX0_release 5 = .ok (.ifCond .ne 5, 3) := dk_154 0 5 (dk_at dksX0_release_0 5 rfl rfl)
theorem dX0_release_8 : decode cX0_release 8 = .ok (.iconst (-1), 1) := dk_2 (dk_at dksX0_release_0 8 rfl rfl)
theorem dX0_release_9 : decode cX0_release 9 = .ok (.ireturn, 1) := dk_172 (dk_at dksX0_release_0 9 rfl rfl)
theorem dX0_release_10 : decode cX0_release 10 = .ok (.aload_n 0, 1) := dk_42 (dk_at dksX0_release_0 10 rfl rfl)
theorem dX0_release_11 : decode cX0_release 11 = .ok (.getfield 10, 3) := dk_180 0 10 (dk_at dksX0_release_0 11 rfl rfl)
theorem dX0_release_14 : decode cX0_release 14 = .ok (.getfield 57, 3) := dk_180 0 57 (dk_at dksX0_release_0 14 rfl rfl)
theorem dX0_release_17 : decode cX0_release 17 = .ok (.iload_n 1, 1) := dk_27 (dk_at dksX0_release_0 17 rfl rfl)
theorem dX0_release_18 : decode cX0_release 18 = .ok (.invokevirtual 219, 3) := dk_182 0 219 (dk_at dksX0_release_0 18 rfl rfl)
theorem dX0_release_21 : decode cX0_release 21 = .ok (.checkcast 167, 3) := dk_192 0 167 (dk_at dksX0_release_0 21 rfl rfl)
theorem dX0_release_24 : decode cX0_release 24 = .ok (.getfield 173, 3) := dk_180 0 173 (dk_at dksX0_release_1 0 rfl rfl)
theorem dX0_release_27 : decode cX0_release 27 = .ok (.ifCond .ne 6, 3) := dk_154 0 6 (dk_at dksX0_release_1 3 rfl rfl)
theorem dX0_release_30 : decode cX0_release 30 = .ok (.bipush (-2), 2) := dk_16 254 (dk_at dksX0_release_1 6 rfl rfl)
theorem dX0_release_32 : decode cX0_release 32 = .ok (.ireturn, 1) := dk_172 (dk_at dksX0_release_1 8 rfl rfl)
theorem dX0_release_33 : decode cX0_release 33 = .ok (.aload_n 0, 1) := dk_42 (dk_at dksX0_release_1 9 rfl rfl)
theorem dX0_release_34 : decode cX0_release 34 = .ok (.getfield 10, 3) := dk_180 0 10 (dk_at dksX0_release_1 10 rfl rfl)
theorem dX0_release_37 : decode cX0_release 37 = .ok (.invokevirtual 98, 3) := dk_182 0 98 (dk_at dksX0_release_1 13 rfl rfl)
theorem dX0_release_40 : decode cX0_release 40 = .ok (.astore_n 2, 1) := dk_77 (dk_at dksX0_release_1 16 rfl rfl)
theorem dX0_release_41 : decode cX0_release 41 = .ok (.aload_n 2, 1) := dk_44 (dk_at dksX0_release_1 17 rfl rfl)
theorem dX0_release_42 : decode cX0_release 42 = .ok (.getfield 57, 3) := dk_180 0 57 (dk_at dksX0_release_1 18 rfl rfl)
theorem dX0_release_45 : decode cX0_release 45 = .ok (.iload_n 1, 1) := dk_27 (dk_at dksX0_release_1 21 rfl rfl)
theorem dX0_release_46 : decode cX0_release 46 = .ok (.invokevirtual 219, 3) := dk_182 0 219 (dk_at dksX0_release_2 0 rfl rfl)
theorem dX0_release_49 : decode cX0_release 49 = .ok (.checkcast 167, 3) := dk_192 0 167 (dk_at dksX0_release_2 3 rfl rfl)
theorem dX0_release_52 : decode cX0_release 52 = .ok (.iconst 0, 1) := dk_3 (dk_at dksX0_release_2 6 rfl rfl)
theorem dX0_release_53 : decode cX0_release 53 = .ok (.putfield 173, 3) := dk_181 0 173 (dk_at dksX0_release_2 7 rfl rfl)
theorem dX0_release_56 : decode cX0_release 56 = .ok (.aload_n 0, 1) := dk_42 (dk_at dksX0_release_2 10 rfl rfl)
theorem dX0_release_57 : decode cX0_release 57 = .ok (.aload_n 2, 1) := dk_44 (dk_at dksX0_release_2 11 rfl rfl)
theorem dX0_release_58 : decode cX0_release 58 = .ok (.invokevirtual 86, 3) := dk_182 0 86 (dk_at dksX0_release_2 12 rfl rfl)
theorem dX0_release_61 : decode cX0_release 61 = .ok (.aload_n 2, 1) := dk_44 (dk_at dksX0_release_2 15 rfl rfl)
theorem dX0_release_62 : decode cX0_release 62 = .ok (.invokevirtual 190, 3) := dk_182 0 190 (dk_at dksX0_release_2 16 rfl rfl)
theorem dX0_release_65 : decode cX0_release 65 = .ok (.ireturn, 1) := dk_172 (dk_at dksX0_release_2 19 rfl rfl)
abbrev cX0_settle : ByteArray := prog_1_method_30_code
def yX0_settle : MethodName := ⟨RX0, "settle", "(II)I"⟩
def dkwX0_settle_3 : List UInt8 := [182, 0, 86, 21, 4, 172]
abbrev dktX0_settle_3 : List UInt8 := dkwX0_settle_3 ++ []
def dkwX0_settle_2 : List UInt8 := [182, 0, 219, 192, 0, 167, 28, 182, 0, 249, 54, 4, 21, 4, 156, 0, 6, 16, 254, 172, 42, 45]
abbrev dktX0_settle_2 : List UInt8 := dkwX0_settle_2 ++ dktX0_settle_3
def dkwX0_settle_1 : List UInt8 := [182, 0, 246, 154, 0, 5, 2, 172, 42, 180, 0, 10, 182, 0, 98, 78, 45, 45, 180, 0, 57, 27]
abbrev dktX0_settle_1 : List UInt8 := dkwX0_settle_1 ++ dktX0_settle_2
def dkwX0_settle_0 : List UInt8 := [42, 27, 182, 0, 216, 153, 0, 24, 42, 180, 0, 10, 180, 0, 57, 27, 182, 0, 219, 192, 0, 167, 28]
abbrev dktX0_settle_0 : List UInt8 := dkwX0_settle_0 ++ dktX0_settle_1
theorem dksX0_settle_0 : cX0_settle.data.toList.drop 0 = dktX0_settle_0 := by decide +kernel
theorem dksX0_settle_1 : cX0_settle.data.toList.drop 23 = dktX0_settle_1 := dk_seg dksX0_settle_0 23 rfl rfl
theorem dksX0_settle_2 : cX0_settle.data.toList.drop 45 = dktX0_settle_2 := dk_seg dksX0_settle_1 22 rfl rfl
theorem dksX0_settle_3 : cX0_settle.data.toList.drop 67 = dktX0_settle_3 := dk_seg dksX0_settle_2 22 rfl rfl
theorem dX0_settle_0 : decode cX0_settle 0 = .ok (.aload_n 0, 1) := dk_42 (dk_at dksX0_settle_0 0 rfl rfl)
theorem dX0_settle_1 : decode cX0_settle 1 = .ok (.iload_n 1, 1) := dk_27 (dk_at dksX0_settle_0 1 rfl rfl)
theorem dX0_settle_2 : decode cX0_settle 2 = .ok (.invokevirtual 216, 3) := dk_182 0 216 (dk_at dksX0_settle_0 2 rfl rfl)
theorem dX0_settle_5 : decode cX0_settle 5 = .ok (.ifCond .eq 24, 3) := dk_153 0 24 (dk_at dksX0_settle_0 5 rfl rfl)
theorem dX0_settle_8 : decode cX0_settle 8 = .ok (.aload_n 0, 1) := dk_42 (dk_at dksX0_settle_0 8 rfl rfl)
theorem dX0_settle_9 : decode cX0_settle 9 = .ok (.getfield 10, 3) := dk_180 0 10 (dk_at dksX0_settle_0 9 rfl rfl)
theorem dX0_settle_12 : decode cX0_settle 12 = .ok (.getfield 57, 3) := dk_180 0 57 (dk_at dksX0_settle_0 12 rfl rfl)
theorem dX0_settle_15 : decode cX0_settle 15 = .ok (.iload_n 1, 1) := dk_27 (dk_at dksX0_settle_0 15 rfl rfl)
theorem dX0_settle_16 : decode cX0_settle 16 = .ok (.invokevirtual 219, 3) := dk_182 0 219 (dk_at dksX0_settle_0 16 rfl rfl)
theorem dX0_settle_19 : decode cX0_settle 19 = .ok (.checkcast 167, 3) := dk_192 0 167 (dk_at dksX0_settle_0 19 rfl rfl)
theorem dX0_settle_22 : decode cX0_settle 22 = .ok (.iload_n 2, 1) := dk_28 (dk_at dksX0_settle_0 22 rfl rfl)
theorem dX0_settle_23 : decode cX0_settle 23 = .ok (.invokevirtual 246, 3) := dk_182 0 246 (dk_at dksX0_settle_1 0 rfl rfl)
theorem dX0_settle_26 : decode cX0_settle 26 = .ok (.ifCond .ne 5, 3) := dk_154 0 5 (dk_at dksX0_settle_1 3 rfl rfl)
theorem dX0_settle_29 : decode cX0_settle 29 = .ok (.iconst (-1), 1) := dk_2 (dk_at dksX0_settle_1 6 rfl rfl)
theorem dX0_settle_30 : decode cX0_settle 30 = .ok (.ireturn, 1) := dk_172 (dk_at dksX0_settle_1 7 rfl rfl)
theorem dX0_settle_31 : decode cX0_settle 31 = .ok (.aload_n 0, 1) := dk_42 (dk_at dksX0_settle_1 8 rfl rfl)
theorem dX0_settle_32 : decode cX0_settle 32 = .ok (.getfield 10, 3) := dk_180 0 10 (dk_at dksX0_settle_1 9 rfl rfl)
theorem dX0_settle_35 : decode cX0_settle 35 = .ok (.invokevirtual 98, 3) := dk_182 0 98 (dk_at dksX0_settle_1 12 rfl rfl)
theorem dX0_settle_38 : decode cX0_settle 38 = .ok (.astore_n 3, 1) := dk_78 (dk_at dksX0_settle_1 15 rfl rfl)
theorem dX0_settle_39 : decode cX0_settle 39 = .ok (.aload_n 3, 1) := dk_45 (dk_at dksX0_settle_1 16 rfl rfl)
theorem dX0_settle_40 : decode cX0_settle 40 = .ok (.aload_n 3, 1) := dk_45 (dk_at dksX0_settle_1 17 rfl rfl)
theorem dX0_settle_41 : decode cX0_settle 41 = .ok (.getfield 57, 3) := dk_180 0 57 (dk_at dksX0_settle_1 18 rfl rfl)
theorem dX0_settle_44 : decode cX0_settle 44 = .ok (.iload_n 1, 1) := dk_27 (dk_at dksX0_settle_1 21 rfl rfl)
theorem dX0_settle_45 : decode cX0_settle 45 = .ok (.invokevirtual 219, 3) := dk_182 0 219 (dk_at dksX0_settle_2 0 rfl rfl)
theorem dX0_settle_48 : decode cX0_settle 48 = .ok (.checkcast 167, 3) := dk_192 0 167 (dk_at dksX0_settle_2 3 rfl rfl)
theorem dX0_settle_51 : decode cX0_settle 51 = .ok (.iload_n 2, 1) := dk_28 (dk_at dksX0_settle_2 6 rfl rfl)
theorem dX0_settle_52 : decode cX0_settle 52 = .ok (.invokevirtual 249, 3) := dk_182 0 249 (dk_at dksX0_settle_2 7 rfl rfl)
theorem dX0_settle_55 : decode cX0_settle 55 = .ok (.istore 4, 2) := dk_54 4 (dk_at dksX0_settle_2 10 rfl rfl)
theorem dX0_settle_57 : decode cX0_settle 57 = .ok (.iload 4, 2) := dk_21 4 (dk_at dksX0_settle_2 12 rfl rfl)
theorem dX0_settle_59 : decode cX0_settle 59 = .ok (.ifCond .ge 6, 3) := dk_156 0 6 (dk_at dksX0_settle_2 14 rfl rfl)
theorem dX0_settle_62 : decode cX0_settle 62 = .ok (.bipush (-2), 2) := dk_16 254 (dk_at dksX0_settle_2 17 rfl rfl)
theorem dX0_settle_64 : decode cX0_settle 64 = .ok (.ireturn, 1) := dk_172 (dk_at dksX0_settle_2 19 rfl rfl)
theorem dX0_settle_65 : decode cX0_settle 65 = .ok (.aload_n 0, 1) := dk_42 (dk_at dksX0_settle_2 20 rfl rfl)
theorem dX0_settle_66 : decode cX0_settle 66 = .ok (.aload_n 3, 1) := dk_45 (dk_at dksX0_settle_2 21 rfl rfl)
theorem dX0_settle_67 : decode cX0_settle 67 = .ok (.invokevirtual 86, 3) := dk_182 0 86 (dk_at dksX0_settle_3 0 rfl rfl)
theorem dX0_settle_70 : decode cX0_settle 70 = .ok (.iload 4, 2) := dk_21 4 (dk_at dksX0_settle_3 3 rfl rfl)
theorem dX0_settle_72 : decode cX0_settle 72 = .ok (.ireturn, 1) := dk_172 (dk_at dksX0_settle_3 5 rfl rfl)
abbrev cX0_ratio : ByteArray := prog_1_method_31_code
def yX0_ratio : MethodName := ⟨RX0, "ratio", "(I)I"⟩
def dkwX0_ratio_1 : List UInt8 := [192, 0, 167, 182, 0, 253, 184, 1, 1, 167, 0, 4, 2, 172]
abbrev dktX0_ratio_1 : List UInt8 := dkwX0_ratio_1 ++ []
def dkwX0_ratio_0 : List UInt8 := [42, 27, 182, 0, 216, 153, 0, 30, 42, 180, 0, 10, 42, 180, 0, 10, 180, 0, 57, 27, 182, 0, 219]
abbrev dktX0_ratio_0 : List UInt8 := dkwX0_ratio_0 ++ dktX0_ratio_1
theorem dksX0_ratio_0 : cX0_ratio.data.toList.drop 0 = dktX0_ratio_0 := by decide +kernel
theorem dksX0_ratio_1 : cX0_ratio.data.toList.drop 23 = dktX0_ratio_1 := dk_seg dksX0_ratio_0 23 rfl rfl
theorem dX0_ratio_0 : decode cX0_ratio 0 = .ok (.aload_n 0, 1) := dk_42 (dk_at dksX0_ratio_0 0 rfl rfl)
theorem dX0_ratio_1 : decode cX0_ratio 1 = .ok (.iload_n 1, 1) := dk_27 (dk_at dksX0_ratio_0 1 rfl rfl)
theorem dX0_ratio_2 : decode cX0_ratio 2 = .ok (.invokevirtual 216, 3) := dk_182 0 216 (dk_at dksX0_ratio_0 2 rfl rfl)
theorem dX0_ratio_5 : decode cX0_ratio 5 = .ok (.ifCond .eq 30, 3) := dk_153 0 30 (dk_at dksX0_ratio_0 5 rfl rfl)
theorem dX0_ratio_8 : decode cX0_ratio 8 = .ok (.aload_n 0, 1) := dk_42 (dk_at dksX0_ratio_0 8 rfl rfl)
theorem dX0_ratio_9 : decode cX0_ratio 9 = .ok (.getfield 10, 3) := dk_180 0 10 (dk_at dksX0_ratio_0 9 rfl rfl)
theorem dX0_ratio_12 : decode cX0_ratio 12 = .ok (.aload_n 0, 1) := dk_42 (dk_at dksX0_ratio_0 12 rfl rfl)
theorem dX0_ratio_13 : decode cX0_ratio 13 = .ok (.getfield 10, 3) := dk_180 0 10 (dk_at dksX0_ratio_0 13 rfl rfl)
theorem dX0_ratio_16 : decode cX0_ratio 16 = .ok (.getfield 57, 3) := dk_180 0 57 (dk_at dksX0_ratio_0 16 rfl rfl)
theorem dX0_ratio_19 : decode cX0_ratio 19 = .ok (.iload_n 1, 1) := dk_27 (dk_at dksX0_ratio_0 19 rfl rfl)
theorem dX0_ratio_20 : decode cX0_ratio 20 = .ok (.invokevirtual 219, 3) := dk_182 0 219 (dk_at dksX0_ratio_0 20 rfl rfl)
theorem dX0_ratio_23 : decode cX0_ratio 23 = .ok (.checkcast 167, 3) := dk_192 0 167 (dk_at dksX0_ratio_1 0 rfl rfl)
theorem dX0_ratio_26 : decode cX0_ratio 26 = .ok (.invokevirtual 253, 3) := dk_182 0 253 (dk_at dksX0_ratio_1 3 rfl rfl)
theorem dX0_ratio_29 : decode cX0_ratio 29 = .ok (.invokestatic 257, 3) := dk_184 1 1 (dk_at dksX0_ratio_1 6 rfl rfl)
theorem dX0_ratio_32 : decode cX0_ratio 32 = .ok (.goto 4, 3) := dk_167 0 4 (dk_at dksX0_ratio_1 9 rfl rfl)
theorem dX0_ratio_35 : decode cX0_ratio 35 = .ok (.iconst (-1), 1) := dk_2 (dk_at dksX0_ratio_1 12 rfl rfl)
theorem dX0_ratio_36 : decode cX0_ratio 36 = .ok (.ireturn, 1) := dk_172 (dk_at dksX0_ratio_1 13 rfl rfl)
abbrev cX0_publish : ByteArray := prog_1_method_32_code
def yX0_publish : MethodName := ⟨RX0, "publish", "(I)I"⟩
def dkwX0_publish_2 : List UInt8 := [45, 45, 180, 0, 80, 181, 0, 130, 42, 44, 182, 0, 86, 45, 180, 0, 80, 172]
abbrev dktX0_publish_2 : List UInt8 := dkwX0_publish_2 ++ []
def dkwX0_publish_1 : List UInt8 := [3, 182, 0, 136, 162, 0, 6, 16, 254, 172, 42, 180, 0, 10, 182, 0, 98, 77, 44, 27, 182, 0, 76, 78]
abbrev dktX0_publish_1 : List UInt8 := dkwX0_publish_1 ++ dktX0_publish_2
def dkwX0_publish_0 : List UInt8 := [42, 27, 182, 0, 108, 154, 0, 5, 2, 172, 42, 180, 0, 10, 27, 4, 182, 0, 136, 42, 180, 0, 10, 27]
abbrev dktX0_publish_0 : List UInt8 := dkwX0_publish_0 ++ dktX0_publish_1
theorem dksX0_publish_0 : cX0_publish.data.toList.drop 0 = dktX0_publish_0 := by decide +kernel
theorem dksX0_publish_1 : cX0_publish.data.toList.drop 24 = dktX0_publish_1 := dk_seg dksX0_publish_0 24 rfl rfl
theorem dksX0_publish_2 : cX0_publish.data.toList.drop 48 = dktX0_publish_2 := dk_seg dksX0_publish_1 24 rfl rfl
theorem dX0_publish_0 : decode cX0_publish 0 = .ok (.aload_n 0, 1) := dk_42 (dk_at dksX0_publish_0 0 rfl rfl)
theorem dX0_publish_1 : decode cX0_publish 1 = .ok (.iload_n 1, 1) := dk_27 (dk_at dksX0_publish_0 1 rfl rfl)
theorem dX0_publish_2 : decode cX0_publish 2 = .ok (.invokevirtual 108, 3) := dk_182 0 108 (dk_at dksX0_publish_0 2 rfl rfl)
theorem dX0_publish_5 : decode cX0_publish 5 = .ok (.ifCond .ne 5, 3) := dk_154 0 5 (dk_at dksX0_publish_0 5 rfl rfl)
theorem dX0_publish_8 : decode cX0_publish 8 = .ok (.iconst (-1), 1) := dk_2 (dk_at dksX0_publish_0 8 rfl rfl)
theorem dX0_publish_9 : decode cX0_publish 9 = .ok (.ireturn, 1) := dk_172 (dk_at dksX0_publish_0 9 rfl rfl)
theorem dX0_publish_10 : decode cX0_publish 10 = .ok (.aload_n 0, 1) := dk_42 (dk_at dksX0_publish_0 10 rfl rfl)
theorem dX0_publish_11 : decode cX0_publish 11 = .ok (.getfield 10, 3) := dk_180 0 10 (dk_at dksX0_publish_0 11 rfl rfl)
theorem dX0_publish_14 : decode cX0_publish 14 = .ok (.iload_n 1, 1) := dk_27 (dk_at dksX0_publish_0 14 rfl rfl)
theorem dX0_publish_15 : decode cX0_publish 15 = .ok (.iconst 1, 1) := dk_4 (dk_at dksX0_publish_0 15 rfl rfl)
theorem dX0_publish_16 : decode cX0_publish 16 = .ok (.invokevirtual 136, 3) := dk_182 0 136 (dk_at dksX0_publish_0 16 rfl rfl)
theorem dX0_publish_19 : decode cX0_publish 19 = .ok (.aload_n 0, 1) := dk_42 (dk_at dksX0_publish_0 19 rfl rfl)
theorem dX0_publish_20 : decode cX0_publish 20 = .ok (.getfield 10, 3) := dk_180 0 10 (dk_at dksX0_publish_0 20 rfl rfl)
theorem dX0_publish_23 : decode cX0_publish 23 = .ok (.iload_n 1, 1) := dk_27 (dk_at dksX0_publish_0 23 rfl rfl)
theorem dX0_publish_24 : decode cX0_publish 24 = .ok (.iconst 0, 1) := dk_3 (dk_at dksX0_publish_1 0 rfl rfl)
theorem dX0_publish_25 : decode cX0_publish 25 = .ok (.invokevirtual 136, 3) := dk_182 0 136 (dk_at dksX0_publish_1 1 rfl rfl)
theorem dX0_publish_28 : decode cX0_publish 28 = .ok (.if_icmp .ge 6, 3) := dk_162 0 6 (dk_at dksX0_publish_1 4 rfl rfl)
theorem dX0_publish_31 : decode cX0_publish 31 = .ok (.bipush (-2), 2) := dk_16 254 (dk_at dksX0_publish_1 7 rfl rfl)
theorem dX0_publish_33 : decode cX0_publish 33 = .ok (.ireturn, 1) := dk_172 (dk_at dksX0_publish_1 9 rfl rfl)
theorem dX0_publish_34 : decode cX0_publish 34 = .ok (.aload_n 0, 1) := dk_42 (dk_at dksX0_publish_1 10 rfl rfl)
theorem dX0_publish_35 : decode cX0_publish 35 = .ok (.getfield 10, 3) := dk_180 0 10 (dk_at dksX0_publish_1 11 rfl rfl)
theorem dX0_publish_38 : decode cX0_publish 38 = .ok (.invokevirtual 98, 3) := dk_182 0 98 (dk_at dksX0_publish_1 14 rfl rfl)
theorem dX0_publish_41 : decode cX0_publish 41 = .ok (.astore_n 2, 1) := dk_77 (dk_at dksX0_publish_1 17 rfl rfl)
theorem dX0_publish_42 : decode cX0_publish 42 = .ok (.aload_n 2, 1) := dk_44 (dk_at dksX0_publish_1 18 rfl rfl)
theorem dX0_publish_43 : decode cX0_publish 43 = .ok (.iload_n 1, 1) := dk_27 (dk_at dksX0_publish_1 19 rfl rfl)
theorem dX0_publish_44 : decode cX0_publish 44 = .ok (.invokevirtual 76, 3) := dk_182 0 76 (dk_at dksX0_publish_1 20 rfl rfl)
theorem dX0_publish_47 : decode cX0_publish 47 = .ok (.astore_n 3, 1) := dk_78 (dk_at dksX0_publish_1 23 rfl rfl)
theorem dX0_publish_48 : decode cX0_publish 48 = .ok (.aload_n 3, 1) := dk_45 (dk_at dksX0_publish_2 0 rfl rfl)
theorem dX0_publish_49 : decode cX0_publish 49 = .ok (.aload_n 3, 1) := dk_45 (dk_at dksX0_publish_2 1 rfl rfl)
theorem dX0_publish_50 : decode cX0_publish 50 = .ok (.getfield 80, 3) := dk_180 0 80 (dk_at dksX0_publish_2 2 rfl rfl)
theorem dX0_publish_53 : decode cX0_publish 53 = .ok (.putfield 130, 3) := dk_181 0 130 (dk_at dksX0_publish_2 5 rfl rfl)
theorem dX0_publish_56 : decode cX0_publish 56 = .ok (.aload_n 0, 1) := dk_42 (dk_at dksX0_publish_2 8 rfl rfl)
theorem dX0_publish_57 : decode cX0_publish 57 = .ok (.aload_n 2, 1) := dk_44 (dk_at dksX0_publish_2 9 rfl rfl)
theorem dX0_publish_58 : decode cX0_publish 58 = .ok (.invokevirtual 86, 3) := dk_182 0 86 (dk_at dksX0_publish_2 10 rfl rfl)
theorem dX0_publish_61 : decode cX0_publish 61 = .ok (.aload_n 3, 1) := dk_45 (dk_at dksX0_publish_2 13 rfl rfl)
theorem dX0_publish_62 : decode cX0_publish 62 = .ok (.getfield 80, 3) := dk_180 0 80 (dk_at dksX0_publish_2 14 rfl rfl)
theorem dX0_publish_65 : decode cX0_publish 65 = .ok (.ireturn, 1) := dk_172 (dk_at dksX0_publish_2 17 rfl rfl)
abbrev cX0_scale : ByteArray := prog_1_method_33_code
def yX0_scale : MethodName := ⟨RX0, "scale", "(II)I"⟩
def dkwX0_scale_2 : List UInt8 := [182, 0, 76, 28, 182, 1, 9, 42, 25, 4, 182, 0, 86, 29, 172]
abbrev dktX0_scale_2 : List UInt8 := dkwX0_scale_2 ++ []
def dkwX0_scale_1 : List UInt8 := [180, 0, 10, 27, 182, 0, 76, 180, 0, 144, 62, 42, 180, 0, 10, 182, 0, 98, 58, 4, 25, 4, 27]
abbrev dktX0_scale_1 : List UInt8 := dkwX0_scale_1 ++ dktX0_scale_2
def dkwX0_scale_0 : List UInt8 := [42, 27, 182, 0, 108, 153, 0, 15, 28, 133, 10, 20, 1, 7, 184, 0, 53, 154, 0, 5, 2, 172, 42]
abbrev dktX0_scale_0 : List UInt8 := dkwX0_scale_0 ++ dktX0_scale_1
theorem dksX0_scale_0 : cX0_scale.data.toList.drop 0 = dktX0_scale_0 := by decide +kernel
theorem dksX0_scale_1 : cX0_scale.data.toList.drop 23 = dktX0_scale_1 := dk_seg dksX0_scale_0 23 rfl rfl
theorem dksX0_scale_2 : cX0_scale.data.toList.drop 46 = dktX0_scale_2 := dk_seg dksX0_scale_1 23 rfl rfl
theorem dX0_scale_0 : decode cX0_scale 0 = .ok (.aload_n 0, 1) := dk_42 (dk_at dksX0_scale_0 0 rfl rfl)
theorem dX0_scale_1 : decode cX0_scale 1 = .ok (.iload_n 1, 1) := dk_27 (dk_at dksX0_scale_0 1 rfl rfl)
theorem dX0_scale_2 : decode cX0_scale 2 = .ok (.invokevirtual 108, 3) := dk_182 0 108 (dk_at dksX0_scale_0 2 rfl rfl)
theorem dX0_scale_5 : decode cX0_scale 5 = .ok (.ifCond .eq 15, 3) := dk_153 0 15 (dk_at dksX0_scale_0 5 rfl rfl)
theorem dX0_scale_8 : decode cX0_scale 8 = .ok (.iload_n 2, 1) := dk_28 (dk_at dksX0_scale_0 8 rfl rfl)
theorem dX0_scale_9 : decode cX0_scale 9 = .ok (.i2l, 1) := dk_133 (dk_at dksX0_scale_0 9 rfl rfl)
theorem dX0_scale_10 : decode cX0_scale 10 = .ok (.lconst 1, 1) := dk_10 (dk_at dksX0_scale_0 10 rfl rfl)
theorem dX0_scale_11 : decode cX0_scale 11 = .ok (.ldc2_w 263, 3) := dk_20 1 7 (dk_at dksX0_scale_0 11 rfl rfl)
theorem dX0_scale_14 : decode cX0_scale 14 = .ok (.invokestatic 53, 3) := dk_184 0 53 (dk_at dksX0_scale_0 14 rfl rfl)
theorem dX0_scale_17 : decode cX0_scale 17 = .ok (.ifCond .ne 5, 3) := dk_154 0 5 (dk_at dksX0_scale_0 17 rfl rfl)
theorem dX0_scale_20 : decode cX0_scale 20 = .ok (.iconst (-1), 1) := dk_2 (dk_at dksX0_scale_0 20 rfl rfl)
theorem dX0_scale_21 : decode cX0_scale 21 = .ok (.ireturn, 1) := dk_172 (dk_at dksX0_scale_0 21 rfl rfl)
theorem dX0_scale_22 : decode cX0_scale 22 = .ok (.aload_n 0, 1) := dk_42 (dk_at dksX0_scale_0 22 rfl rfl)
theorem dX0_scale_23 : decode cX0_scale 23 = .ok (.getfield 10, 3) := dk_180 0 10 (dk_at dksX0_scale_1 0 rfl rfl)
theorem dX0_scale_26 : decode cX0_scale 26 = .ok (.iload_n 1, 1) := dk_27 (dk_at dksX0_scale_1 3 rfl rfl)
theorem dX0_scale_27 : decode cX0_scale 27 = .ok (.invokevirtual 76, 3) := dk_182 0 76 (dk_at dksX0_scale_1 4 rfl rfl)
theorem dX0_scale_30 : decode cX0_scale 30 = .ok (.getfield 144, 3) := dk_180 0 144 (dk_at dksX0_scale_1 7 rfl rfl)
theorem dX0_scale_33 : decode cX0_scale 33 = .ok (.istore_n 3, 1) := dk_62 (dk_at dksX0_scale_1 10 rfl rfl)
theorem dX0_scale_34 : decode cX0_scale 34 = .ok (.aload_n 0, 1) := dk_42 (dk_at dksX0_scale_1 11 rfl rfl)
theorem dX0_scale_35 : decode cX0_scale 35 = .ok (.getfield 10, 3) := dk_180 0 10 (dk_at dksX0_scale_1 12 rfl rfl)
theorem dX0_scale_38 : decode cX0_scale 38 = .ok (.invokevirtual 98, 3) := dk_182 0 98 (dk_at dksX0_scale_1 15 rfl rfl)
theorem dX0_scale_41 : decode cX0_scale 41 = .ok (.astore 4, 2) := dk_58 4 (dk_at dksX0_scale_1 18 rfl rfl)
theorem dX0_scale_43 : decode cX0_scale 43 = .ok (.aload 4, 2) := dk_25 4 (dk_at dksX0_scale_1 20 rfl rfl)
theorem dX0_scale_45 : decode cX0_scale 45 = .ok (.iload_n 1, 1) := dk_27 (dk_at dksX0_scale_1 22 rfl rfl)
theorem dX0_scale_46 : decode cX0_scale 46 = .ok (.invokevirtual 76, 3) := dk_182 0 76 (dk_at dksX0_scale_2 0 rfl rfl)
theorem dX0_scale_49 : decode cX0_scale 49 = .ok (.iload_n 2, 1) := dk_28 (dk_at dksX0_scale_2 3 rfl rfl)
theorem dX0_scale_50 : decode cX0_scale 50 = .ok (.invokevirtual 265, 3) := dk_182 1 9 (dk_at dksX0_scale_2 4 rfl rfl)
theorem dX0_scale_53 : decode cX0_scale 53 = .ok (.aload_n 0, 1) := dk_42 (dk_at dksX0_scale_2 7 rfl rfl)
theorem dX0_scale_54 : decode cX0_scale 54 = .ok (.aload 4, 2) := dk_25 4 (dk_at dksX0_scale_2 8 rfl rfl)
theorem dX0_scale_56 : decode cX0_scale 56 = .ok (.invokevirtual 86, 3) := dk_182 0 86 (dk_at dksX0_scale_2 10 rfl rfl)
theorem dX0_scale_59 : decode cX0_scale 59 = .ok (.iload_n 3, 1) := dk_29 (dk_at dksX0_scale_2 13 rfl rfl)
theorem dX0_scale_60 : decode cX0_scale 60 = .ok (.ireturn, 1) := dk_172 (dk_at dksX0_scale_2 14 rfl rfl)
abbrev cX0_stretched : ByteArray := prog_1_method_34_code
def yX0_stretched : MethodName := ⟨RX0, "stretched", "(II)I"⟩
def dkwX0_stretched_1 : List UInt8 := [42, 180, 0, 10, 27, 182, 0, 76, 180, 1, 14, 106, 139, 172]
abbrev dktX0_stretched_1 : List UInt8 := dkwX0_stretched_1 ++ []
def dkwX0_stretched_0 : List UInt8 := [42, 27, 182, 0, 108, 153, 0, 15, 28, 133, 9, 20, 1, 12, 184, 0, 53, 154, 0, 5, 2, 172, 28, 134]
abbrev dktX0_stretched_0 : List UInt8 := dkwX0_stretched_0 ++ dktX0_stretched_1
theorem dksX0_stretched_0 : cX0_stretched.data.toList.drop 0 = dktX0_stretched_0 := by decide +kernel
theorem dksX0_stretched_1 : cX0_stretched.data.toList.drop 24 = dktX0_stretched_1 := dk_seg dksX0_stretched_0 24 rfl rfl
theorem dX0_stretched_0 : decode cX0_stretched 0 = .ok (.aload_n 0, 1) := dk_42 (dk_at dksX0_stretched_0 0 rfl rfl)
theorem dX0_stretched_1 : decode cX0_stretched 1 = .ok (.iload_n 1, 1) := dk_27 (dk_at dksX0_stretched_0 1 rfl rfl)
theorem dX0_stretched_2 : decode cX0_stretched 2 = .ok (.invokevirtual 108, 3) := dk_182 0 108 (dk_at dksX0_stretched_0 2 rfl rfl)
theorem dX0_stretched_5 : decode cX0_stretched 5 = .ok (.ifCond .eq 15, 3) := dk_153 0 15 (dk_at dksX0_stretched_0 5 rfl rfl)
theorem dX0_stretched_8 : decode cX0_stretched 8 = .ok (.iload_n 2, 1) := dk_28 (dk_at dksX0_stretched_0 8 rfl rfl)
theorem dX0_stretched_9 : decode cX0_stretched 9 = .ok (.i2l, 1) := dk_133 (dk_at dksX0_stretched_0 9 rfl rfl)
theorem dX0_stretched_10 : decode cX0_stretched 10 = .ok (.lconst 0, 1) := dk_9 (dk_at dksX0_stretched_0 10 rfl rfl)
theorem dX0_stretched_11 : decode cX0_stretched 11 = .ok (.ldc2_w 268, 3) := dk_20 1 12 (dk_at dksX0_stretched_0 11 rfl rfl)
theorem dX0_stretched_14 : decode cX0_stretched 14 = .ok (.invokestatic 53, 3) := dk_184 0 53 (dk_at dksX0_stretched_0 14 rfl rfl)
theorem dX0_stretched_17 : decode cX0_stretched 17 = .ok (.ifCond .ne 5, 3) := dk_154 0 5 (dk_at dksX0_stretched_0 17 rfl rfl)
theorem dX0_stretched_20 : decode cX0_stretched 20 = .ok (.iconst (-1), 1) := dk_2 (dk_at dksX0_stretched_0 20 rfl rfl)
theorem dX0_stretched_21 : decode cX0_stretched 21 = .ok (.ireturn, 1) := dk_172 (dk_at dksX0_stretched_0 21 rfl rfl)
theorem dX0_stretched_22 : decode cX0_stretched 22 = .ok (.iload_n 2, 1) := dk_28 (dk_at dksX0_stretched_0 22 rfl rfl)
theorem dX0_stretched_23 : decode cX0_stretched 23 = .ok (.i2f, 1) := dk_134 (dk_at dksX0_stretched_0 23 rfl rfl)
theorem dX0_stretched_24 : decode cX0_stretched 24 = .ok (.aload_n 0, 1) := dk_42 (dk_at dksX0_stretched_1 0 rfl rfl)
theorem dX0_stretched_25 : decode cX0_stretched 25 = .ok (.getfield 10, 3) := dk_180 0 10 (dk_at dksX0_stretched_1 1 rfl rfl)
theorem dX0_stretched_28 : decode cX0_stretched 28 = .ok (.iload_n 1, 1) := dk_27 (dk_at dksX0_stretched_1 4 rfl rfl)
theorem dX0_stretched_29 : decode cX0_stretched 29 = .ok (.invokevirtual 76, 3) := dk_182 0 76 (dk_at dksX0_stretched_1 5 rfl rfl)
theorem dX0_stretched_32 : decode cX0_stretched 32 = .ok (.getfield 270, 3) := dk_180 1 14 (dk_at dksX0_stretched_1 8 rfl rfl)
theorem dX0_stretched_35 : decode cX0_stretched 35 = .ok (.fmul, 1) := dk_106 (dk_at dksX0_stretched_1 11 rfl rfl)
theorem dX0_stretched_36 : decode cX0_stretched 36 = .ok (.f2i, 1) := dk_139 (dk_at dksX0_stretched_1 12 rfl rfl)
theorem dX0_stretched_37 : decode cX0_stretched 37 = .ok (.ireturn, 1) := dk_172 (dk_at dksX0_stretched_1 13 rfl rfl)
abbrev cX0_type : ByteArray := prog_1_method_35_code
def yX0_type : MethodName := ⟨RX0, "type", "(I)I"⟩
def dkwX0_type_2 : List UInt8 := [182, 0, 197, 172]
abbrev dktX0_type_2 : List UInt8 := dkwX0_type_2 ++ []
def dkwX0_type_1 : List UInt8 := [16, 100, 160, 0, 6, 16, 253, 172, 42, 180, 0, 26, 27, 146, 182, 1, 22, 87, 42, 180, 0, 26]
abbrev dktX0_type_1 : List UInt8 := dkwX0_type_1 ++ dktX0_type_2
def dkwX0_type_0 : List UInt8 := [27, 133, 20, 1, 18, 20, 1, 20, 184, 0, 53, 154, 0, 5, 2, 172, 42, 180, 0, 26, 182, 0, 197]
abbrev dktX0_type_0 : List UInt8 := dkwX0_type_0 ++ dktX0_type_1
theorem dksX0_type_0 : cX0_type.data.toList.drop 0 = dktX0_type_0 := by decide +kernel
theorem dksX0_type_1 : cX0_type.data.toList.drop 23 = dktX0_type_1 := dk_seg dksX0_type_0 23 rfl rfl
theorem dksX0_type_2 : cX0_type.data.toList.drop 45 = dktX0_type_2 := dk_seg dksX0_type_1 22 rfl rfl
theorem dX0_type_0 : decode cX0_type 0 = .ok (.iload_n 1, 1) := dk_27 (dk_at dksX0_type_0 0 rfl rfl)
theorem dX0_type_1 : decode cX0_type 1 = .ok (.i2l, 1) := dk_133 (dk_at dksX0_type_0 1 rfl rfl)
theorem dX0_type_2 : decode cX0_type 2 = .ok (.ldc2_w 274, 3) := dk_20 1 18 (dk_at dksX0_type_0 2 rfl rfl)
theorem dX0_type_5 : decode cX0_type 5 = .ok (.ldc2_w 276, 3) := dk_20 1 20 (dk_at dksX0_type_0 5 rfl rfl)
theorem dX0_type_8 : decode cX0_type 8 = .ok (.invokestatic 53, 3) := dk_184 0 53 (dk_at dksX0_type_0 8 rfl rfl)
theorem dX0_type_11 : decode cX0_type 11 = .ok (.ifCond .ne 5, 3) := dk_154 0 5 (dk_at dksX0_type_0 11 rfl rfl)
theorem dX0_type_14 : decode cX0_type 14 = .ok (.iconst (-1), 1) := dk_2 (dk_at dksX0_type_0 14 rfl rfl)
theorem dX0_type_15 : decode cX0_type 15 = .ok (.ireturn, 1) := dk_172 (dk_at dksX0_type_0 15 rfl rfl)
theorem dX0_type_16 : decode cX0_type 16 = .ok (.aload_n 0, 1) := dk_42 (dk_at dksX0_type_0 16 rfl rfl)
theorem dX0_type_17 : decode cX0_type 17 = .ok (.getfield 26, 3) := dk_180 0 26 (dk_at dksX0_type_0 17 rfl rfl)
theorem dX0_type_20 : decode cX0_type 20 = .ok (.invokevirtual 197, 3) := dk_182 0 197 (dk_at dksX0_type_0 20 rfl rfl)
theorem dX0_type_23 : decode cX0_type 23 = .ok (.bipush 100, 2) := dk_16 100 (dk_at dksX0_type_1 0 rfl rfl)
theorem dX0_type_25 : decode cX0_type 25 = .ok (.if_icmp .ne 6, 3) := dk_160 0 6 (dk_at dksX0_type_1 2 rfl rfl)
theorem dX0_type_28 : decode cX0_type 28 = .ok (.bipush (-3), 2) := dk_16 253 (dk_at dksX0_type_1 5 rfl rfl)
theorem dX0_type_30 : decode cX0_type 30 = .ok (.ireturn, 1) := dk_172 (dk_at dksX0_type_1 7 rfl rfl)
theorem dX0_type_31 : decode cX0_type 31 = .ok (.aload_n 0, 1) := dk_42 (dk_at dksX0_type_1 8 rfl rfl)
theorem dX0_type_32 : decode cX0_type 32 = .ok (.getfield 26, 3) := dk_180 0 26 (dk_at dksX0_type_1 9 rfl rfl)
theorem dX0_type_35 : decode cX0_type 35 = .ok (.iload_n 1, 1) := dk_27 (dk_at dksX0_type_1 12 rfl rfl)
theorem dX0_type_36 : decode cX0_type 36 = .ok (.i2c, 1) := dk_146 (dk_at dksX0_type_1 13 rfl rfl)
theorem dX0_type_37 : decode cX0_type 37 = .ok (.invokevirtual 278, 3) := dk_182 1 22 (dk_at dksX0_type_1 14 rfl rfl)
theorem dX0_type_40 : decode cX0_type 40 = .ok (.pop, 1) := dk_87 (dk_at dksX0_type_1 17 rfl rfl)
theorem dX0_type_41 : decode cX0_type 41 = .ok (.aload_n 0, 1) := dk_42 (dk_at dksX0_type_1 18 rfl rfl)
theorem dX0_type_42 : decode cX0_type 42 = .ok (.getfield 26, 3) := dk_180 0 26 (dk_at dksX0_type_1 19 rfl rfl)
theorem dX0_type_45 : decode cX0_type 45 = .ok (.invokevirtual 197, 3) := dk_182 0 197 (dk_at dksX0_type_2 0 rfl rfl)
theorem dX0_type_48 : decode cX0_type 48 = .ok (.ireturn, 1) := dk_172 (dk_at dksX0_type_2 3 rfl rfl)
abbrev cX0_clearText : ByteArray := prog_1_method_36_code
def yX0_clearText : MethodName := ⟨RX0, "clearText", "()I"⟩
def dkwX0_clearText_0 : List UInt8 := [42, 180, 0, 26, 182, 0, 197, 60, 42, 180, 0, 26, 3, 182, 1, 26, 27, 172]
abbrev dktX0_clearText_0 : List UInt8 := dkwX0_clearText_0 ++ []
theorem dksX0_clearText_0 : cX0_clearText.data.toList.drop 0 = dktX0_clearText_0 := by decide +kernel
theorem dX0_clearText_0 : decode cX0_clearText 0 = .ok (.aload_n 0, 1) := dk_42 (dk_at dksX0_clearText_0 0 rfl rfl)
theorem dX0_clearText_1 : decode cX0_clearText 1 = .ok (.getfield 26, 3) := dk_180 0 26 (dk_at dksX0_clearText_0 1 rfl rfl)
theorem dX0_clearText_4 : decode cX0_clearText 4 = .ok (.invokevirtual 197, 3) := dk_182 0 197 (dk_at dksX0_clearText_0 4 rfl rfl)
theorem dX0_clearText_7 : decode cX0_clearText 7 = .ok (.istore_n 1, 1) := dk_60 (dk_at dksX0_clearText_0 7 rfl rfl)
theorem dX0_clearText_8 : decode cX0_clearText 8 = .ok (.aload_n 0, 1) := dk_42 (dk_at dksX0_clearText_0 8 rfl rfl)
theorem dX0_clearText_9 : decode cX0_clearText 9 = .ok (.getfield 26, 3) := dk_180 0 26 (dk_at dksX0_clearText_0 9 rfl rfl)
theorem dX0_clearText_12 : decode cX0_clearText 12 = .ok (.iconst 0, 1) := dk_3 (dk_at dksX0_clearText_0 12 rfl rfl)
theorem dX0_clearText_13 : decode cX0_clearText 13 = .ok (.invokevirtual 282, 3) := dk_182 1 26 (dk_at dksX0_clearText_0 13 rfl rfl)
theorem dX0_clearText_16 : decode cX0_clearText 16 = .ok (.iload_n 1, 1) := dk_27 (dk_at dksX0_clearText_0 16 rfl rfl)
theorem dX0_clearText_17 : decode cX0_clearText 17 = .ok (.ireturn, 1) := dk_172 (dk_at dksX0_clearText_0 17 rfl rfl)
abbrev cX0_fault : ByteArray := prog_1_method_37_code
def yX0_fault : MethodName := ⟨RX0, "fault", "()I"⟩
def dkwX0_fault_1 : List UInt8 := [180, 1, 37, 172]
abbrev dktX0_fault_1 : List UInt8 := dkwX0_fault_1 ++ []
def dkwX0_fault_0 : List UInt8 := [187, 1, 29, 89, 42, 183, 1, 31, 76, 43, 182, 1, 34, 153, 0, 8, 16, 252, 167, 0, 7, 43]
abbrev dktX0_fault_0 : List UInt8 := dkwX0_fault_0 ++ dktX0_fault_1
theorem dksX0_fault_0 : cX0_fault.data.toList.drop 0 = dktX0_fault_0 := by decide +kernel
theorem dksX0_fault_1 : cX0_fault.data.toList.drop 22 = dktX0_fault_1 := dk_seg dksX0_fault_0 22 rfl rfl
theorem dX0_fault_0 : decode cX0_fault 0 = .ok (.new 285, 3) := dk_187 1 29 (dk_at dksX0_fault_0 0 rfl rfl)
theorem dX0_fault_3 : decode cX0_fault 3 = .ok (.dup, 1) := dk_89 (dk_at dksX0_fault_0 3 rfl rfl)
theorem dX0_fault_4 : decode cX0_fault 4 = .ok (.aload_n 0, 1) := dk_42 (dk_at dksX0_fault_0 4 rfl rfl)
theorem dX0_fault_5 : decode cX0_fault 5 = .ok (.invokespecial 287, 3) := dk_183 1 31 (dk_at dksX0_fault_0 5 rfl rfl)
theorem dX0_fault_8 : decode cX0_fault 8 = .ok (.astore_n 1, 1) := dk_76 (dk_at dksX0_fault_0 8 rfl rfl)
theorem dX0_fault_9 : decode cX0_fault 9 = .ok (.aload_n 1, 1) := dk_43 (dk_at dksX0_fault_0 9 rfl rfl)
theorem dX0_fault_10 : decode cX0_fault 10 = .ok (.invokevirtual 290, 3) := dk_182 1 34 (dk_at dksX0_fault_0 10 rfl rfl)
theorem dX0_fault_13 : decode cX0_fault 13 = .ok (.ifCond .eq 8, 3) := dk_153 0 8 (dk_at dksX0_fault_0 13 rfl rfl)
theorem dX0_fault_16 : decode cX0_fault 16 = .ok (.bipush (-4), 2) := dk_16 252 (dk_at dksX0_fault_0 16 rfl rfl)
theorem dX0_fault_18 : decode cX0_fault 18 = .ok (.goto 7, 3) := dk_167 0 7 (dk_at dksX0_fault_0 18 rfl rfl)
theorem dX0_fault_21 : decode cX0_fault 21 = .ok (.aload_n 1, 1) := dk_43 (dk_at dksX0_fault_0 21 rfl rfl)
theorem dX0_fault_22 : decode cX0_fault 22 = .ok (.getfield 293, 3) := dk_180 1 37 (dk_at dksX0_fault_1 0 rfl rfl)
theorem dX0_fault_25 : decode cX0_fault 25 = .ok (.ireturn, 1) := dk_172 (dk_at dksX0_fault_1 3 rfl rfl)
abbrev cX0_read : ByteArray := prog_1_method_38_code
def yX0_read : MethodName := ⟨RX0, "read", "(I)I"⟩
def dkwX0_read_3 : List UInt8 := [153, 0, 13, 44, 180, 1, 40, 182, 0, 50, 167, 0, 5, 16, 254, 172]
abbrev dktX0_read_3 : List UInt8 := dkwX0_read_3 ++ []
def dkwX0_read_2 : List UInt8 := [42, 45, 182, 0, 86, 3, 172, 44, 45, 27, 182, 0, 76, 182, 1, 44, 42, 45, 27, 182, 0, 119]
abbrev dktX0_read_2 : List UInt8 := dkwX0_read_2 ++ dktX0_read_3
def dkwX0_read_1 : List UInt8 := [154, 0, 6, 16, 254, 172, 42, 180, 0, 10, 182, 0, 98, 78, 44, 180, 1, 40, 182, 1, 43, 153, 0, 10]
abbrev dktX0_read_1 : List UInt8 := dkwX0_read_1 ++ dktX0_read_2
def dkwX0_read_0 : List UInt8 := [42, 27, 182, 0, 108, 154, 0, 5, 2, 172, 187, 1, 29, 89, 42, 183, 1, 31, 77, 44, 182, 1, 34]
abbrev dktX0_read_0 : List UInt8 := dkwX0_read_0 ++ dktX0_read_1
theorem dksX0_read_0 : cX0_read.data.toList.drop 0 = dktX0_read_0 := by decide +kernel
theorem dksX0_read_1 : cX0_read.data.toList.drop 23 = dktX0_read_1 := dk_seg dksX0_read_0 23 rfl rfl
theorem dksX0_read_2 : cX0_read.data.toList.drop 47 = dktX0_read_2 := dk_seg dksX0_read_1 24 rfl rfl
theorem dksX0_read_3 : cX0_read.data.toList.drop 69 = dktX0_read_3 := dk_seg dksX0_read_2 22 rfl rfl
theorem dX0_read_0 : decode cX0_read 0 = .ok (.aload_n 0, 1) := dk_42 (dk_at dksX0_read_0 0 rfl rfl)
theorem dX0_read_1 : decode cX0_read 1 = .ok (.iload_n 1, 1) := dk_27 (dk_at dksX0_read_0 1 rfl rfl)
theorem dX0_read_2 : decode cX0_read 2 = .ok (.invokevirtual 108, 3) := dk_182 0 108 (dk_at dksX0_read_0 2 rfl rfl)
theorem dX0_read_5 : decode cX0_read 5 = .ok (.ifCond .ne 5, 3) := dk_154 0 5 (dk_at dksX0_read_0 5 rfl rfl)
theorem dX0_read_8 : decode cX0_read 8 = .ok (.iconst (-1), 1) := dk_2 (dk_at dksX0_read_0 8 rfl rfl)
theorem dX0_read_9 : decode cX0_read 9 = .ok (.ireturn, 1) := dk_172 (dk_at dksX0_read_0 9 rfl rfl)
theorem dX0_read_10 : decode cX0_read 10 = .ok (.new 285, 3) := dk_187 1 29 (dk_at dksX0_read_0 10 rfl rfl)
theorem dX0_read_13 : decode cX0_read 13 = .ok (.dup, 1) := dk_89 (dk_at dksX0_read_0 13 rfl rfl)
theorem dX0_read_14 : decode cX0_read 14 = .ok (.aload_n 0, 1) := dk_42 (dk_at dksX0_read_0 14 rfl rfl)
theorem dX0_read_15 : decode cX0_read 15 = .ok (.invokespecial 287, 3) := dk_183 1 31 (dk_at dksX0_read_0 15 rfl rfl)
theorem dX0_read_18 : decode cX0_read 18 = .ok (.astore_n 2, 1) := dk_77 (dk_at dksX0_read_0 18 rfl rfl)
theorem dX0_read_19 : decode cX0_read 19 = .ok (.aload_n 2, 1) := dk_44 (dk_at dksX0_read_0 19 rfl rfl)
theorem dX0_read_20 : decode cX0_read 20 = .ok (.invokevirtual 290, 3) := dk_182 1 34 (dk_at dksX0_read_0 20 rfl rfl)
theorem dX0_read_23 : decode cX0_read 23 = .ok (.ifCond .ne 6, 3) := dk_154 0 6 (dk_at dksX0_read_1 0 rfl rfl)
theorem dX0_read_26 : decode cX0_read 26 = .ok (.bipush (-2), 2) := dk_16 254 (dk_at dksX0_read_1 3 rfl rfl)
theorem dX0_read_28 : decode cX0_read 28 = .ok (.ireturn, 1) := dk_172 (dk_at dksX0_read_1 5 rfl rfl)
theorem dX0_read_29 : decode cX0_read 29 = .ok (.aload_n 0, 1) := dk_42 (dk_at dksX0_read_1 6 rfl rfl)
theorem dX0_read_30 : decode cX0_read 30 = .ok (.getfield 10, 3) := dk_180 0 10 (dk_at dksX0_read_1 7 rfl rfl)
theorem dX0_read_33 : decode cX0_read 33 = .ok (.invokevirtual 98, 3) := dk_182 0 98 (dk_at dksX0_read_1 10 rfl rfl)
theorem dX0_read_36 : decode cX0_read 36 = .ok (.astore_n 3, 1) := dk_78 (dk_at dksX0_read_1 13 rfl rfl)
theorem dX0_read_37 : decode cX0_read 37 = .ok (.aload_n 2, 1) := dk_44 (dk_at dksX0_read_1 14 rfl rfl)
theorem dX0_read_38 : decode cX0_read 38 = .ok (.getfield 296, 3) := dk_180 1 40 (dk_at dksX0_read_1 15 rfl rfl)
theorem dX0_read_41 : decode cX0_read 41 = .ok (.invokevirtual 299, 3) := dk_182 1 43 (dk_at dksX0_read_1 18 rfl rfl)
theorem dX0_read_44 : decode cX0_read 44 = .ok (.ifCond .eq 10, 3) := dk_153 0 10 (dk_at dksX0_read_1 21 rfl rfl)
theorem dX0_read_47 : decode cX0_read 47 = .ok (.aload_n 0, 1) := dk_42 (dk_at dksX0_read_2 0 rfl rfl)
theorem dX0_read_48 : decode cX0_read 48 = .ok (.aload_n 3, 1) := dk_45 (dk_at dksX0_read_2 1 rfl rfl)
theorem dX0_read_49 : decode cX0_read 49 = .ok (.invokevirtual 86, 3) := dk_182 0 86 (dk_at dksX0_read_2 2 rfl rfl)
theorem dX0_read_52 : decode cX0_read 52 = .ok (.iconst 0, 1) := dk_3 (dk_at dksX0_read_2 5 rfl rfl)
theorem dX0_read_53 : decode cX0_read 53 = .ok (.ireturn, 1) := dk_172 (dk_at dksX0_read_2 6 rfl rfl)
theorem dX0_read_54 : decode cX0_read 54 = .ok (.aload_n 2, 1) := dk_44 (dk_at dksX0_read_2 7 rfl rfl)
theorem dX0_read_55 : decode cX0_read 55 = .ok (.aload_n 3, 1) := dk_45 (dk_at dksX0_read_2 8 rfl rfl)
theorem dX0_read_56 : decode cX0_read 56 = .ok (.iload_n 1, 1) := dk_27 (dk_at dksX0_read_2 9 rfl rfl)
theorem dX0_read_57 : decode cX0_read 57 = .ok (.invokevirtual 76, 3) := dk_182 0 76 (dk_at dksX0_read_2 10 rfl rfl)
theorem dX0_read_60 : decode cX0_read 60 = .ok (.invokevirtual 300, 3) := dk_182 1 44 (dk_at dksX0_read_2 13 rfl rfl)
theorem dX0_read_63 : decode cX0_read 63 = .ok (.aload_n 0, 1) := dk_42 (dk_at dksX0_read_2 16 rfl rfl)
theorem dX0_read_64 : decode cX0_read 64 = .ok (.aload_n 3, 1) := dk_45 (dk_at dksX0_read_2 17 rfl rfl)
theorem dX0_read_65 : decode cX0_read 65 = .ok (.iload_n 1, 1) := dk_27 (dk_at dksX0_read_2 18 rfl rfl)
theorem dX0_read_66 : decode cX0_read 66 = .ok (.invokevirtual 119, 3) := dk_182 0 119 (dk_at dksX0_read_2 19 rfl rfl)
theorem dX0_read_69 : decode cX0_read 69 = .ok (.ifCond .eq 13, 3) := dk_153 0 13 (dk_at dksX0_read_3 0 rfl rfl)
theorem dX0_read_72 : decode cX0_read 72 = .ok (.aload_n 2, 1) := dk_44 (dk_at dksX0_read_3 3 rfl rfl)
theorem dX0_read_73 : decode cX0_read 73 = .ok (.getfield 296, 3) := dk_180 1 40 (dk_at dksX0_read_3 4 rfl rfl)
theorem dX0_read_76 : decode cX0_read 76 = .ok (.invokevirtual 50, 3) := dk_182 0 50 (dk_at dksX0_read_3 7 rfl rfl)
theorem dX0_read_79 : decode cX0_read 79 = .ok (.goto 5, 3) := dk_167 0 5 (dk_at dksX0_read_3 10 rfl rfl)
theorem dX0_read_82 : decode cX0_read 82 = .ok (.bipush (-2), 2) := dk_16 254 (dk_at dksX0_read_3 13 rfl rfl)
theorem dX0_read_84 : decode cX0_read 84 = .ok (.ireturn, 1) := dk_172 (dk_at dksX0_read_3 15 rfl rfl)
theorem q63 : (Jvm.Cond.initialized "MapSheets") ∈ lw_all := lw_g (lw_at lw_m1 1 rfl) rfl
theorem q97 : (Jvm.Cond.instantiable "MapSheets" (3 : Nat)) ∈ lw_all := lw_g (lw_at lw_m1 35 rfl) rfl
theorem q99 : (Jvm.Cond.instanceMethod ({ cls := "MapSheets", name := "<init>", desc := "()V" } : Jvm.MethodName)) ∈ lw_all := lw_g (lw_at lw_m1 37 rfl) rfl
theorem q100 : (Jvm.Cond.code ({ cls := "MapSheets", name := "<init>", desc := "()V" } : Jvm.MethodName) prog_1_method_2_code (1 : Nat) (Option.none : Option Jvm.ClassFile.FieldType)) ∈ lw_all := lw_g (lw_at lw_m1 38 rfl) rfl
theorem q101 : (Jvm.Cond.methodLink "MapSheets" (1 : Nat) ({ cls := "java/lang/Object", name := "<init>", desc := "()V" } : Jvm.MethodName)) ∈ lw_all := lw_g (lw_at lw_m1 39 rfl) rfl
theorem q104 : (Jvm.Cond.classLink "MapSheets" (7 : Nat) "MapSheets$Library") ∈ lw_all := lw_g (lw_at lw_m1 42 rfl) rfl
theorem q106 : (Jvm.Cond.methodLinkNest "MapSheets" (9 : Nat) ({ cls := "MapSheets$Library", name := "<init>", desc := "()V" } : Jvm.MethodName) "MapSheets") ∈ lw_tbl := lw_at lw_m1 44 rfl
theorem q140 : (Jvm.Cond.fieldLinkNest "MapSheets" (133 : Nat) "MapSheets$Library" "columns" "I" "MapSheets") ∈ lw_tbl := lw_at lw_m1 78 rfl
theorem q142 : (Jvm.Cond.fieldLinkNest "MapSheets" (184 : Nat) "MapSheets$Library" "rows" "I" "MapSheets") ∈ lw_tbl := lw_at lw_m1 80 rfl
theorem q144 : (Jvm.Cond.fieldLinkNest "MapSheets" (46 : Nat) "MapSheets$Library" "sheets" "Ljava/util/ArrayList;" "MapSheets") ∈ lw_tbl := lw_at lw_m1 82 rfl
theorem q146 : (Jvm.Cond.fieldLinkNest "MapSheets" (57 : Nat) "MapSheets$Library" "edges" "Ljava/util/ArrayList;" "MapSheets") ∈ lw_tbl := lw_at lw_m1 84 rfl
theorem q148 : (Jvm.Cond.fieldLinkNest "MapSheets" (64 : Nat) "MapSheets$Library" "settings" "[I" "MapSheets") ∈ lw_tbl := lw_at lw_m1 86 rfl
theorem q161 : (Jvm.Cond.classLink "MapSheets" (16 : Nat) "java/util/ArrayDeque") ∈ lw_all := lw_g (lw_at lw_m1 99 rfl) rfl
theorem q163 : (Jvm.Cond.methodLink "MapSheets" (18 : Nat) ({ cls := "java/util/ArrayDeque", name := "<init>", desc := "()V" } : Jvm.MethodName)) ∈ lw_all := lw_g (lw_at lw_m1 101 rfl) rfl
theorem q179 : (Jvm.Cond.classLink "MapSheets" (23 : Nat) "java/lang/StringBuilder") ∈ lw_all := lw_g (lw_at lw_m1 117 rfl) rfl
theorem q181 : (Jvm.Cond.methodLink "MapSheets" (25 : Nat) ({ cls := "java/lang/StringBuilder", name := "<init>", desc := "()V" } : Jvm.MethodName)) ∈ lw_all := lw_g (lw_at lw_m1 119 rfl) rfl
theorem q211 : (Jvm.Cond.methodLink "MapSheets" (30 : Nat) ({ cls := "MapSheets$Library", name := "begin", desc := "(II)V" } : Jvm.MethodName)) ∈ lw_all := lw_g (lw_at lw_m1 149 rfl) rfl
theorem q229 : (Jvm.Cond.fieldLinkNest "MapSheets" (115 : Nat) "MapSheets$Sheet" "sides" "[[I" "MapSheets") ∈ lw_tbl := lw_at lw_m1 167 rfl
theorem q232 : (Jvm.Cond.fieldLinkNest "MapSheets" (123 : Nat) "MapSheets$Sheet" "legend" "[I" "MapSheets") ∈ lw_tbl := lw_at lw_m1 170 rfl
theorem q234 : (Jvm.Cond.fieldLinkNest "MapSheets" (80 : Nat) "MapSheets$Sheet" "revision" "I" "MapSheets") ∈ lw_tbl := lw_at lw_m1 172 rfl
theorem q237 : (Jvm.Cond.fieldLinkNest "MapSheets" (130 : Nat) "MapSheets$Sheet" "published" "I" "MapSheets") ∈ lw_tbl := lw_at lw_m1 175 rfl
theorem q240 : (Jvm.Cond.fieldLinkNest "MapSheets" (270 : Nat) "MapSheets$Sheet" "scale" "F" "MapSheets") ∈ lw_tbl := lw_at lw_m1 178 rfl
theorem q242 : (Jvm.Cond.fieldLinkNest "MapSheets" (144 : Nat) "MapSheets$Sheet" "thousandths" "I" "MapSheets") ∈ lw_tbl := lw_at lw_m1 180 rfl
theorem q288 : (Jvm.Cond.selects "MapSheets" ({ cls := "java/lang/Object", name := "getClass", desc := "()Ljava/lang/Class;" } : Jvm.MethodName) ({ cls := "java/lang/Object", name := "getClass", desc := "()Ljava/lang/Class;" } : Jvm.MethodName)) ∈ lw_all := lw_g (lw_at lw_m1 226 rfl) rfl
theorem q328 : (Jvm.Cond.fieldLinkNest "MapSheets" (206 : Nat) "MapSheets$Edge" "first" "I" "MapSheets") ∈ lw_tbl := lw_at lw_m2 26 rfl
theorem q331 : (Jvm.Cond.fieldLinkNest "MapSheets" (213 : Nat) "MapSheets$Edge" "second" "I" "MapSheets") ∈ lw_tbl := lw_at lw_m2 29 rfl
theorem q333 : (Jvm.Cond.fieldLinkNest "MapSheets" (223 : Nat) "MapSheets$Edge" "side" "I" "MapSheets") ∈ lw_tbl := lw_at lw_m2 31 rfl
theorem q335 : (Jvm.Cond.fieldLinkNest "MapSheets" (173 : Nat) "MapSheets$Edge" "isAgreed" "Z" "MapSheets") ∈ lw_tbl := lw_at lw_m2 33 rfl
theorem q345 : (Jvm.Cond.fieldLink "MapSheets" (10 : Nat) "MapSheets" "library" "LMapSheets$Library;") ∈ lw_all := lw_g (lw_at lw_m2 43 rfl) rfl
theorem q346 : (Jvm.Cond.fieldLink "MapSheets" (19 : Nat) "MapSheets" "history" "Ljava/util/ArrayDeque;") ∈ lw_all := lw_g (lw_at lw_m2 44 rfl) rfl
theorem q348 : (Jvm.Cond.fieldLink "MapSheets" (26 : Nat) "MapSheets" "text" "Ljava/lang/StringBuilder;") ∈ lw_all := lw_g (lw_at lw_m2 46 rfl) rfl
theorem q349 : (Jvm.Cond.lays "MapSheets" "MapSheets" "library" "LMapSheets$Library;") ∈ lw_all := lw_g (lw_at lw_m2 47 rfl) rfl
theorem q350 : (Jvm.Cond.soleField "MapSheets" "library") ∈ lw_all := lw_g (lw_at lw_m2 48 rfl) rfl
theorem q351 : (Jvm.Cond.laysFinal "MapSheets" "MapSheets" "history" "Ljava/util/ArrayDeque;") ∈ lw_all := lw_g (lw_at lw_m2 49 rfl) rfl
theorem q352 : (Jvm.Cond.soleField "MapSheets" "history") ∈ lw_all := lw_g (lw_at lw_m2 50 rfl) rfl
theorem q353 : (Jvm.Cond.laysFinal "MapSheets" "MapSheets" "text" "Ljava/lang/StringBuilder;") ∈ lw_all := lw_g (lw_at lw_m2 51 rfl) rfl
theorem q354 : (Jvm.Cond.soleField "MapSheets" "text") ∈ lw_all := lw_g (lw_at lw_m2 52 rfl) rfl
theorem q355 : (Jvm.Cond.superclass "MapSheets" "java/lang/Object") ∈ lw_all := lw_g (lw_at lw_m2 53 rfl) rfl
theorem q357 : (Jvm.Cond.instanceMethod ({ cls := "MapSheets", name := "grid", desc := "(II)I" } : Jvm.MethodName)) ∈ lw_all := lw_g (lw_at lw_m2 55 rfl) rfl
theorem q358 : (Jvm.Cond.selects "MapSheets" ({ cls := "MapSheets", name := "grid", desc := "(II)I" } : Jvm.MethodName) ({ cls := "MapSheets", name := "grid", desc := "(II)I" } : Jvm.MethodName)) ∈ lw_all := lw_g (lw_at lw_m2 56 rfl) rfl
theorem q359 : (Jvm.Cond.code ({ cls := "MapSheets", name := "grid", desc := "(II)I" } : Jvm.MethodName) prog_1_method_9_code (4 : Nat) (Option.some Jvm.ClassFile.FieldType.int)) ∈ lw_all := lw_g (lw_at lw_m2 57 rfl) rfl
theorem q360 : (Jvm.Cond.constantLong "MapSheets" (90 : Nat) (6 : Int64)) ∈ lw_all := lw_g (lw_at lw_m2 58 rfl) rfl
theorem q361 : (Jvm.Cond.methodLink "MapSheets" (53 : Nat) ({ cls := "MapSheets", name := "isBetween", desc := "(JJJ)Z" } : Jvm.MethodName)) ∈ lw_all := lw_g (lw_at lw_m2 59 rfl) rfl
theorem q362 : (Jvm.Cond.static ({ cls := "MapSheets", name := "isBetween", desc := "(JJJ)Z" } : Jvm.MethodName)) ∈ lw_all := lw_g (lw_at lw_m2 60 rfl) rfl
theorem q363 : (Jvm.Cond.code ({ cls := "MapSheets", name := "isBetween", desc := "(JJJ)Z" } : Jvm.MethodName) prog_1_method_1_code (6 : Nat) (Option.some Jvm.ClassFile.FieldType.boolean)) ∈ lw_all := lw_g (lw_at lw_m2 61 rfl) rfl
theorem q364 : (Jvm.Cond.methodLink "MapSheets" (92 : Nat) ({ cls := "[I", name := "clone", desc := "()Ljava/lang/Object;" } : Jvm.MethodName)) ∈ lw_all := lw_g (lw_at lw_m2 62 rfl) rfl
theorem q370 : (Jvm.Cond.classLink "MapSheets" (93 : Nat) "[I") ∈ lw_all := lw_g (lw_at lw_m2 68 rfl) rfl
theorem q371 : (Jvm.Cond.methodLink "MapSheets" (86 : Nat) ({ cls := "MapSheets", name := "change", desc := "(LMapSheets$Library;)V" } : Jvm.MethodName)) ∈ lw_all := lw_g (lw_at lw_m2 69 rfl) rfl
theorem q372 : (Jvm.Cond.privateMethod ({ cls := "MapSheets", name := "change", desc := "(LMapSheets$Library;)V" } : Jvm.MethodName)) ∈ lw_tbl := lw_at lw_m2 70 rfl
theorem q373 : (Jvm.Cond.instanceMethod ({ cls := "MapSheets", name := "change", desc := "(LMapSheets$Library;)V" } : Jvm.MethodName)) ∈ lw_all := lw_g (lw_at lw_m2 71 rfl) rfl
theorem q374 : (Jvm.Cond.code ({ cls := "MapSheets", name := "change", desc := "(LMapSheets$Library;)V" } : Jvm.MethodName) prog_1_method_3_code (2 : Nat) (Option.none : Option Jvm.ClassFile.FieldType)) ∈ lw_all := lw_g (lw_at lw_m2 72 rfl) rfl
theorem q375 : (Jvm.Cond.methodLink "MapSheets" (34 : Nat) ({ cls := "java/util/ArrayDeque", name := "addLast", desc := "(Ljava/lang/Object;)V" } : Jvm.MethodName)) ∈ lw_all := lw_g (lw_at lw_m2 73 rfl) rfl
theorem q394 : (Jvm.Cond.methodLink "MapSheets" (38 : Nat) ({ cls := "java/util/ArrayDeque", name := "size", desc := "()I" } : Jvm.MethodName)) ∈ lw_all := lw_g (lw_at lw_m2 92 rfl) rfl
theorem q401 : (Jvm.Cond.methodLink "MapSheets" (42 : Nat) ({ cls := "java/util/ArrayDeque", name := "removeFirst", desc := "()Ljava/lang/Object;" } : Jvm.MethodName)) ∈ lw_all := lw_g (lw_at lw_m2 99 rfl) rfl
theorem q412 : (Jvm.Cond.methodLink "MapSheets" (50 : Nat) ({ cls := "java/util/ArrayList", name := "size", desc := "()I" } : Jvm.MethodName)) ∈ lw_all := lw_g (lw_at lw_m2 110 rfl) rfl
theorem q417 : (Jvm.Cond.instanceMethod ({ cls := "MapSheets", name := "set", desc := "(II)I" } : Jvm.MethodName)) ∈ lw_all := lw_g (lw_at lw_m2 115 rfl) rfl
theorem q418 : (Jvm.Cond.selects "MapSheets" ({ cls := "MapSheets", name := "set", desc := "(II)I" } : Jvm.MethodName) ({ cls := "MapSheets", name := "set", desc := "(II)I" } : Jvm.MethodName)) ∈ lw_all := lw_g (lw_at lw_m2 116 rfl) rfl
theorem q419 : (Jvm.Cond.code ({ cls := "MapSheets", name := "set", desc := "(II)I" } : Jvm.MethodName) prog_1_method_10_code (6 : Nat) (Option.some Jvm.ClassFile.FieldType.int)) ∈ lw_all := lw_g (lw_at lw_m2 117 rfl) rfl
theorem q420 : (Jvm.Cond.constantLong "MapSheets" (96 : Nat) (1000 : Int64)) ∈ lw_all := lw_g (lw_at lw_m2 118 rfl) rfl
theorem q421 : (Jvm.Cond.methodLink "MapSheets" (98 : Nat) ({ cls := "MapSheets$Library", name := "copy", desc := "()LMapSheets$Library;" } : Jvm.MethodName)) ∈ lw_all := lw_g (lw_at lw_m2 119 rfl) rfl
theorem q503 : (Jvm.Cond.instanceMethod ({ cls := "MapSheets", name := "show", desc := "(IIII)I" } : Jvm.MethodName)) ∈ lw_all := lw_g (lw_at lw_m2 201 rfl) rfl
theorem q504 : (Jvm.Cond.selects "MapSheets" ({ cls := "MapSheets", name := "show", desc := "(IIII)I" } : Jvm.MethodName) ({ cls := "MapSheets", name := "show", desc := "(IIII)I" } : Jvm.MethodName)) ∈ lw_all := lw_g (lw_at lw_m2 202 rfl) rfl
theorem q505 : (Jvm.Cond.code ({ cls := "MapSheets", name := "show", desc := "(IIII)I" } : Jvm.MethodName) prog_1_method_12_code (7 : Nat) (Option.some Jvm.ClassFile.FieldType.int)) ∈ lw_all := lw_g (lw_at lw_m2 203 rfl) rfl
theorem q506 : (Jvm.Cond.methodLink "MapSheets" (108 : Nat) ({ cls := "MapSheets", name := "isSheet", desc := "(I)Z" } : Jvm.MethodName)) ∈ lw_all := lw_g (lw_at lw_m2 204 rfl) rfl
theorem q507 : (Jvm.Cond.privateMethod ({ cls := "MapSheets", name := "isSheet", desc := "(I)Z" } : Jvm.MethodName)) ∈ lw_tbl := lw_at lw_m2 205 rfl
theorem q508 : (Jvm.Cond.instanceMethod ({ cls := "MapSheets", name := "isSheet", desc := "(I)Z" } : Jvm.MethodName)) ∈ lw_all := lw_g (lw_at lw_m2 206 rfl) rfl
theorem q509 : (Jvm.Cond.code ({ cls := "MapSheets", name := "isSheet", desc := "(I)Z" } : Jvm.MethodName) prog_1_method_4_code (2 : Nat) (Option.some Jvm.ClassFile.FieldType.boolean)) ∈ lw_all := lw_g (lw_at lw_m2 207 rfl) rfl
theorem q510 : (Jvm.Cond.methodLink "MapSheets" (111 : Nat) ({ cls := "MapSheets", name := "isPlace", desc := "(II)Z" } : Jvm.MethodName)) ∈ lw_all := lw_g (lw_at lw_m2 208 rfl) rfl
theorem q511 : (Jvm.Cond.static ({ cls := "MapSheets", name := "isPlace", desc := "(II)Z" } : Jvm.MethodName)) ∈ lw_all := lw_g (lw_at lw_m2 209 rfl) rfl
theorem q512 : (Jvm.Cond.code ({ cls := "MapSheets", name := "isPlace", desc := "(II)Z" } : Jvm.MethodName) prog_1_method_11_code (2 : Nat) (Option.some Jvm.ClassFile.FieldType.boolean)) ∈ lw_all := lw_g (lw_at lw_m2 210 rfl) rfl
theorem q513 : (Jvm.Cond.methodLink "MapSheets" (102 : Nat) ({ cls := "MapSheets", name := "isSide", desc := "(I)Z" } : Jvm.MethodName)) ∈ lw_all := lw_g (lw_at lw_m2 211 rfl) rfl
theorem q514 : (Jvm.Cond.static ({ cls := "MapSheets", name := "isSide", desc := "(I)Z" } : Jvm.MethodName)) ∈ lw_all := lw_g (lw_at lw_m2 212 rfl) rfl
theorem q515 : (Jvm.Cond.code ({ cls := "MapSheets", name := "isSide", desc := "(I)Z" } : Jvm.MethodName) prog_1_method_7_code (1 : Nat) (Option.some Jvm.ClassFile.FieldType.boolean)) ∈ lw_all := lw_g (lw_at lw_m2 213 rfl) rfl
theorem q516 : (Jvm.Cond.constantLong "MapSheets" (62 : Nat) (3 : Int64)) ∈ lw_all := lw_g (lw_at lw_m2 214 rfl) rfl
theorem q517 : (Jvm.Cond.methodLink "MapSheets" (105 : Nat) ({ cls := "MapSheets", name := "isDigit", desc := "(I)Z" } : Jvm.MethodName)) ∈ lw_all := lw_g (lw_at lw_m2 215 rfl) rfl
theorem q518 : (Jvm.Cond.static ({ cls := "MapSheets", name := "isDigit", desc := "(I)Z" } : Jvm.MethodName)) ∈ lw_all := lw_g (lw_at lw_m2 216 rfl) rfl
theorem q519 : (Jvm.Cond.code ({ cls := "MapSheets", name := "isDigit", desc := "(I)Z" } : Jvm.MethodName) prog_1_method_6_code (1 : Nat) (Option.some Jvm.ClassFile.FieldType.boolean)) ∈ lw_all := lw_g (lw_at lw_m2 217 rfl) rfl
theorem q520 : (Jvm.Cond.constantLong "MapSheets" (60 : Nat) (9 : Int64)) ∈ lw_all := lw_g (lw_at lw_m2 218 rfl) rfl
theorem q521 : (Jvm.Cond.methodLink "MapSheets" (76 : Nat) ({ cls := "MapSheets$Library", name := "sheet", desc := "(I)LMapSheets$Sheet;" } : Jvm.MethodName)) ∈ lw_all := lw_g (lw_at lw_m2 219 rfl) rfl
theorem q525 : (Jvm.Cond.methodLink "MapSheets" (119 : Nat) ({ cls := "MapSheets", name := "takes", desc := "(LMapSheets$Library;I)Z" } : Jvm.MethodName)) ∈ lw_all := lw_g (lw_at lw_m2 223 rfl) rfl
theorem q526 : (Jvm.Cond.privateMethod ({ cls := "MapSheets", name := "takes", desc := "(LMapSheets$Library;I)Z" } : Jvm.MethodName)) ∈ lw_tbl := lw_at lw_m2 224 rfl
theorem q527 : (Jvm.Cond.instanceMethod ({ cls := "MapSheets", name := "takes", desc := "(LMapSheets$Library;I)Z" } : Jvm.MethodName)) ∈ lw_all := lw_g (lw_at lw_m2 225 rfl) rfl
theorem q528 : (Jvm.Cond.code ({ cls := "MapSheets", name := "takes", desc := "(LMapSheets$Library;I)Z" } : Jvm.MethodName) prog_1_method_8_code (3 : Nat) (Option.some Jvm.ClassFile.FieldType.boolean)) ∈ lw_all := lw_g (lw_at lw_m2 226 rfl) rfl
theorem q529 : (Jvm.Cond.methodLink "MapSheets" (68 : Nat) ({ cls := "MapSheets$Library", name := "isGuarded", desc := "(I)Z" } : Jvm.MethodName)) ∈ lw_all := lw_g (lw_at lw_m2 227 rfl) rfl
theorem q565 : (Jvm.Cond.fieldLinkNest "MapSheets" (240 : Nat) "MapSheets$Quarrel" "position" "I" "MapSheets") ∈ lw_tbl := lw_at lw_m3 23 rfl
theorem q567 : (Jvm.Cond.fieldLinkNest "MapSheets" (243 : Nat) "MapSheets$Quarrel" "reason" "I" "MapSheets") ∈ lw_tbl := lw_at lw_m3 25 rfl
theorem q577 : (Jvm.Cond.methodLink "MapSheets" (72 : Nat) ({ cls := "MapSheets$Library", name := "letGo", desc := "(I)V" } : Jvm.MethodName)) ∈ lw_all := lw_g (lw_at lw_m3 35 rfl) rfl
theorem q582 : (Jvm.Cond.instanceMethod ({ cls := "MapSheets", name := "erase", desc := "(III)I" } : Jvm.MethodName)) ∈ lw_all := lw_g (lw_at lw_m3 40 rfl) rfl
theorem q583 : (Jvm.Cond.selects "MapSheets" ({ cls := "MapSheets", name := "erase", desc := "(III)I" } : Jvm.MethodName) ({ cls := "MapSheets", name := "erase", desc := "(III)I" } : Jvm.MethodName)) ∈ lw_all := lw_g (lw_at lw_m3 41 rfl) rfl
theorem q584 : (Jvm.Cond.code ({ cls := "MapSheets", name := "erase", desc := "(III)I" } : Jvm.MethodName) prog_1_method_13_code (6 : Nat) (Option.some Jvm.ClassFile.FieldType.int)) ∈ lw_all := lw_g (lw_at lw_m3 42 rfl) rfl
theorem q586 : (Jvm.Cond.instanceMethod ({ cls := "MapSheets", name := "mean", desc := "(III)I" } : Jvm.MethodName)) ∈ lw_all := lw_g (lw_at lw_m3 44 rfl) rfl
theorem q587 : (Jvm.Cond.selects "MapSheets" ({ cls := "MapSheets", name := "mean", desc := "(III)I" } : Jvm.MethodName) ({ cls := "MapSheets", name := "mean", desc := "(III)I" } : Jvm.MethodName)) ∈ lw_all := lw_g (lw_at lw_m3 45 rfl) rfl
theorem q588 : (Jvm.Cond.code ({ cls := "MapSheets", name := "mean", desc := "(III)I" } : Jvm.MethodName) prog_1_method_14_code (6 : Nat) (Option.some Jvm.ClassFile.FieldType.int)) ∈ lw_all := lw_g (lw_at lw_m3 46 rfl) rfl
theorem q590 : (Jvm.Cond.instanceMethod ({ cls := "MapSheets", name := "sign", desc := "(III)I" } : Jvm.MethodName)) ∈ lw_all := lw_g (lw_at lw_m3 48 rfl) rfl
theorem q591 : (Jvm.Cond.selects "MapSheets" ({ cls := "MapSheets", name := "sign", desc := "(III)I" } : Jvm.MethodName) ({ cls := "MapSheets", name := "sign", desc := "(III)I" } : Jvm.MethodName)) ∈ lw_all := lw_g (lw_at lw_m3 49 rfl) rfl
theorem q592 : (Jvm.Cond.code ({ cls := "MapSheets", name := "sign", desc := "(III)I" } : Jvm.MethodName) prog_1_method_16_code (4 : Nat) (Option.some Jvm.ClassFile.FieldType.int)) ∈ lw_all := lw_g (lw_at lw_m3 50 rfl) rfl
theorem q593 : (Jvm.Cond.methodLink "MapSheets" (126 : Nat) ({ cls := "MapSheets", name := "found", desc := "(I)I" } : Jvm.MethodName)) ∈ lw_all := lw_g (lw_at lw_m3 51 rfl) rfl
theorem q594 : (Jvm.Cond.static ({ cls := "MapSheets", name := "found", desc := "(I)I" } : Jvm.MethodName)) ∈ lw_all := lw_g (lw_at lw_m3 52 rfl) rfl
theorem q595 : (Jvm.Cond.code ({ cls := "MapSheets", name := "found", desc := "(I)I" } : Jvm.MethodName) prog_1_method_15_code (1 : Nat) (Option.some Jvm.ClassFile.FieldType.int)) ∈ lw_all := lw_g (lw_at lw_m3 53 rfl) rfl
theorem q597 : (Jvm.Cond.instanceMethod ({ cls := "MapSheets", name := "meaning", desc := "(II)I" } : Jvm.MethodName)) ∈ lw_all := lw_g (lw_at lw_m3 55 rfl) rfl
theorem q598 : (Jvm.Cond.selects "MapSheets" ({ cls := "MapSheets", name := "meaning", desc := "(II)I" } : Jvm.MethodName) ({ cls := "MapSheets", name := "meaning", desc := "(II)I" } : Jvm.MethodName)) ∈ lw_all := lw_g (lw_at lw_m3 56 rfl) rfl
theorem q599 : (Jvm.Cond.code ({ cls := "MapSheets", name := "meaning", desc := "(II)I" } : Jvm.MethodName) prog_1_method_17_code (3 : Nat) (Option.some Jvm.ClassFile.FieldType.int)) ∈ lw_all := lw_g (lw_at lw_m3 57 rfl) rfl
theorem q601 : (Jvm.Cond.instanceMethod ({ cls := "MapSheets", name := "sheet", desc := "(II)I" } : Jvm.MethodName)) ∈ lw_all := lw_g (lw_at lw_m3 59 rfl) rfl
theorem q602 : (Jvm.Cond.selects "MapSheets" ({ cls := "MapSheets", name := "sheet", desc := "(II)I" } : Jvm.MethodName) ({ cls := "MapSheets", name := "sheet", desc := "(II)I" } : Jvm.MethodName)) ∈ lw_all := lw_g (lw_at lw_m3 60 rfl) rfl
theorem q603 : (Jvm.Cond.code ({ cls := "MapSheets", name := "sheet", desc := "(II)I" } : Jvm.MethodName) prog_1_method_19_code (4 : Nat) (Option.some Jvm.ClassFile.FieldType.int)) ∈ lw_all := lw_g (lw_at lw_m3 61 rfl) rfl
theorem q604 : (Jvm.Cond.methodLink "MapSheets" (136 : Nat) ({ cls := "MapSheets$Library", name := "edgesOf", desc := "(IZ)I" } : Jvm.MethodName)) ∈ lw_all := lw_g (lw_at lw_m3 62 rfl) rfl
theorem q608 : (Jvm.Cond.methodLink "MapSheets" (140 : Nat) ({ cls := "MapSheets", name := "isUpToDate", desc := "(LMapSheets$Sheet;)Z" } : Jvm.MethodName)) ∈ lw_all := lw_g (lw_at lw_m3 66 rfl) rfl
theorem q609 : (Jvm.Cond.static ({ cls := "MapSheets", name := "isUpToDate", desc := "(LMapSheets$Sheet;)Z" } : Jvm.MethodName)) ∈ lw_all := lw_g (lw_at lw_m3 67 rfl) rfl
theorem q610 : (Jvm.Cond.code ({ cls := "MapSheets", name := "isUpToDate", desc := "(LMapSheets$Sheet;)Z" } : Jvm.MethodName) prog_1_method_18_code (1 : Nat) (Option.some Jvm.ClassFile.FieldType.boolean)) ∈ lw_all := lw_g (lw_at lw_m3 68 rfl) rfl
theorem q611 : (Jvm.Cond.methodLink "MapSheets" (147 : Nat) ({ cls := "MapSheets$Sheet", name := "signs", desc := "()I" } : Jvm.MethodName)) ∈ lw_all := lw_g (lw_at lw_m3 69 rfl) rfl
theorem q615 : (Jvm.Cond.methodLink "MapSheets" (150 : Nat) ({ cls := "MapSheets$Library", name := "blocks", desc := "()[I" } : Jvm.MethodName)) ∈ lw_all := lw_g (lw_at lw_m3 73 rfl) rfl
theorem q621 : (Jvm.Cond.instanceMethod ({ cls := "MapSheets", name := "count", desc := "(I)I" } : Jvm.MethodName)) ∈ lw_all := lw_g (lw_at lw_m3 79 rfl) rfl
theorem q622 : (Jvm.Cond.selects "MapSheets" ({ cls := "MapSheets", name := "count", desc := "(I)I" } : Jvm.MethodName) ({ cls := "MapSheets", name := "count", desc := "(I)I" } : Jvm.MethodName)) ∈ lw_all := lw_g (lw_at lw_m3 80 rfl) rfl
theorem q623 : (Jvm.Cond.code ({ cls := "MapSheets", name := "count", desc := "(I)I" } : Jvm.MethodName) prog_1_method_22_code (2 : Nat) (Option.some Jvm.ClassFile.FieldType.int)) ∈ lw_all := lw_g (lw_at lw_m3 81 rfl) rfl
theorem q624 : (Jvm.Cond.methodLink "MapSheets" (187 : Nat) ({ cls := "MapSheets", name := "overEdges", desc := "(I)I" } : Jvm.MethodName)) ∈ lw_all := lw_g (lw_at lw_m3 82 rfl) rfl
theorem q625 : (Jvm.Cond.privateMethod ({ cls := "MapSheets", name := "overEdges", desc := "(I)I" } : Jvm.MethodName)) ∈ lw_tbl := lw_at lw_m3 83 rfl
theorem q626 : (Jvm.Cond.instanceMethod ({ cls := "MapSheets", name := "overEdges", desc := "(I)I" } : Jvm.MethodName)) ∈ lw_all := lw_g (lw_at lw_m3 84 rfl) rfl
theorem q627 : (Jvm.Cond.code ({ cls := "MapSheets", name := "overEdges", desc := "(I)I" } : Jvm.MethodName) prog_1_method_20_code (5 : Nat) (Option.some Jvm.ClassFile.FieldType.int)) ∈ lw_all := lw_g (lw_at lw_m3 85 rfl) rfl
theorem q628 : (Jvm.Cond.methodLink "MapSheets" (154 : Nat) ({ cls := "java/util/ArrayList", name := "iterator", desc := "()Ljava/util/Iterator;" } : Jvm.MethodName)) ∈ lw_all := lw_g (lw_at lw_m3 86 rfl) rfl
theorem q629 : (Jvm.Cond.interfaceEntry "MapSheets" (158 : Nat)) ∈ lw_tbl := lw_at lw_m3 87 rfl
theorem q630 : (Jvm.Cond.methodLink "MapSheets" (158 : Nat) ({ cls := "java/util/Iterator", name := "hasNext", desc := "()Z" } : Jvm.MethodName)) ∈ lw_all := lw_g (lw_at lw_m3 88 rfl) rfl
theorem q631 : (Jvm.Cond.interfaceEntry "MapSheets" (164 : Nat)) ∈ lw_tbl := lw_at lw_m3 89 rfl
theorem q632 : (Jvm.Cond.methodLink "MapSheets" (164 : Nat) ({ cls := "java/util/Iterator", name := "next", desc := "()Ljava/lang/Object;" } : Jvm.MethodName)) ∈ lw_all := lw_g (lw_at lw_m3 90 rfl) rfl
theorem q633 : (Jvm.Cond.classLink "MapSheets" (167 : Nat) "MapSheets$Edge") ∈ lw_all := lw_g (lw_at lw_m3 91 rfl) rfl
theorem q634 : (Jvm.Cond.methodLink "MapSheets" (169 : Nat) ({ cls := "MapSheets$Library", name := "quarrels", desc := "(LMapSheets$Edge;)Ljava/util/ArrayList;" } : Jvm.MethodName)) ∈ lw_all := lw_g (lw_at lw_m3 92 rfl) rfl
theorem q635 : (Jvm.Cond.methodLink "MapSheets" (177 : Nat) ({ cls := "MapSheets$Library", name := "isClean", desc := "(LMapSheets$Edge;)Z" } : Jvm.MethodName)) ∈ lw_all := lw_g (lw_at lw_m3 93 rfl) rfl
theorem q636 : (Jvm.Cond.methodLink "MapSheets" (181 : Nat) ({ cls := "MapSheets$Library", name := "fits", desc := "(LMapSheets$Edge;)Z" } : Jvm.MethodName)) ∈ lw_all := lw_g (lw_at lw_m3 94 rfl) rfl
theorem q645 : (Jvm.Cond.methodLink "MapSheets" (190 : Nat) ({ cls := "MapSheets$Library", name := "blockMany", desc := "()I" } : Jvm.MethodName)) ∈ lw_all := lw_g (lw_at lw_m3 103 rfl) rfl
theorem q650 : (Jvm.Cond.methodLink "MapSheets" (193 : Nat) ({ cls := "MapSheets", name := "overSheets", desc := "(Z)I" } : Jvm.MethodName)) ∈ lw_all := lw_g (lw_at lw_m3 108 rfl) rfl
theorem q651 : (Jvm.Cond.privateMethod ({ cls := "MapSheets", name := "overSheets", desc := "(Z)I" } : Jvm.MethodName)) ∈ lw_tbl := lw_at lw_m3 109 rfl
theorem q652 : (Jvm.Cond.instanceMethod ({ cls := "MapSheets", name := "overSheets", desc := "(Z)I" } : Jvm.MethodName)) ∈ lw_all := lw_g (lw_at lw_m3 110 rfl) rfl
theorem q653 : (Jvm.Cond.code ({ cls := "MapSheets", name := "overSheets", desc := "(Z)I" } : Jvm.MethodName) prog_1_method_21_code (5 : Nat) (Option.some Jvm.ClassFile.FieldType.int)) ∈ lw_all := lw_g (lw_at lw_m3 111 rfl) rfl
theorem q654 : (Jvm.Cond.classLink "MapSheets" (81 : Nat) "MapSheets$Sheet") ∈ lw_all := lw_g (lw_at lw_m3 112 rfl) rfl
theorem q655 : (Jvm.Cond.methodLink "MapSheets" (197 : Nat) ({ cls := "java/lang/StringBuilder", name := "length", desc := "()I" } : Jvm.MethodName)) ∈ lw_all := lw_g (lw_at lw_m3 113 rfl) rfl
theorem q663 : (Jvm.Cond.instanceMethod ({ cls := "MapSheets", name := "undo", desc := "()I" } : Jvm.MethodName)) ∈ lw_all := lw_g (lw_at lw_m3 121 rfl) rfl
theorem q664 : (Jvm.Cond.selects "MapSheets" ({ cls := "MapSheets", name := "undo", desc := "()I" } : Jvm.MethodName) ({ cls := "MapSheets", name := "undo", desc := "()I" } : Jvm.MethodName)) ∈ lw_all := lw_g (lw_at lw_m3 122 rfl) rfl
theorem q665 : (Jvm.Cond.code ({ cls := "MapSheets", name := "undo", desc := "()I" } : Jvm.MethodName) prog_1_method_23_code (1 : Nat) (Option.some Jvm.ClassFile.FieldType.int)) ∈ lw_all := lw_g (lw_at lw_m3 123 rfl) rfl
theorem q666 : (Jvm.Cond.methodLink "MapSheets" (200 : Nat) ({ cls := "java/util/ArrayDeque", name := "isEmpty", desc := "()Z" } : Jvm.MethodName)) ∈ lw_all := lw_g (lw_at lw_m3 124 rfl) rfl
theorem q670 : (Jvm.Cond.methodLink "MapSheets" (203 : Nat) ({ cls := "java/util/ArrayDeque", name := "removeLast", desc := "()Ljava/lang/Object;" } : Jvm.MethodName)) ∈ lw_all := lw_g (lw_at lw_m3 128 rfl) rfl
theorem q682 : (Jvm.Cond.instanceMethod ({ cls := "MapSheets", name := "edge", desc := "(II)I" } : Jvm.MethodName)) ∈ lw_all := lw_g (lw_at lw_m3 140 rfl) rfl
theorem q683 : (Jvm.Cond.selects "MapSheets" ({ cls := "MapSheets", name := "edge", desc := "(II)I" } : Jvm.MethodName) ({ cls := "MapSheets", name := "edge", desc := "(II)I" } : Jvm.MethodName)) ∈ lw_all := lw_g (lw_at lw_m3 141 rfl) rfl
theorem q684 : (Jvm.Cond.code ({ cls := "MapSheets", name := "edge", desc := "(II)I" } : Jvm.MethodName) prog_1_method_25_code (4 : Nat) (Option.some Jvm.ClassFile.FieldType.int)) ∈ lw_all := lw_g (lw_at lw_m3 142 rfl) rfl
theorem q685 : (Jvm.Cond.methodLink "MapSheets" (216 : Nat) ({ cls := "MapSheets", name := "isEdge", desc := "(I)Z" } : Jvm.MethodName)) ∈ lw_all := lw_g (lw_at lw_m3 143 rfl) rfl
theorem q686 : (Jvm.Cond.privateMethod ({ cls := "MapSheets", name := "isEdge", desc := "(I)Z" } : Jvm.MethodName)) ∈ lw_tbl := lw_at lw_m3 144 rfl
theorem q687 : (Jvm.Cond.instanceMethod ({ cls := "MapSheets", name := "isEdge", desc := "(I)Z" } : Jvm.MethodName)) ∈ lw_all := lw_g (lw_at lw_m3 145 rfl) rfl
theorem q688 : (Jvm.Cond.code ({ cls := "MapSheets", name := "isEdge", desc := "(I)Z" } : Jvm.MethodName) prog_1_method_5_code (2 : Nat) (Option.some Jvm.ClassFile.FieldType.boolean)) ∈ lw_all := lw_g (lw_at lw_m3 146 rfl) rfl
theorem q689 : (Jvm.Cond.methodLink "MapSheets" (219 : Nat) ({ cls := "java/util/ArrayList", name := "get", desc := "(I)Ljava/lang/Object;" } : Jvm.MethodName)) ∈ lw_all := lw_g (lw_at lw_m3 147 rfl) rfl
theorem q690 : (Jvm.Cond.methodLink "MapSheets" (226 : Nat) ({ cls := "MapSheets", name := "crossing", desc := "(LMapSheets$Edge;)I" } : Jvm.MethodName)) ∈ lw_all := lw_g (lw_at lw_m3 148 rfl) rfl
theorem q691 : (Jvm.Cond.privateMethod ({ cls := "MapSheets", name := "crossing", desc := "(LMapSheets$Edge;)I" } : Jvm.MethodName)) ∈ lw_tbl := lw_at lw_m3 149 rfl
theorem q692 : (Jvm.Cond.instanceMethod ({ cls := "MapSheets", name := "crossing", desc := "(LMapSheets$Edge;)I" } : Jvm.MethodName)) ∈ lw_all := lw_g (lw_at lw_m3 150 rfl) rfl
theorem q693 : (Jvm.Cond.code ({ cls := "MapSheets", name := "crossing", desc := "(LMapSheets$Edge;)I" } : Jvm.MethodName) prog_1_method_24_code (4 : Nat) (Option.some Jvm.ClassFile.FieldType.int)) ∈ lw_all := lw_g (lw_at lw_m3 151 rfl) rfl
theorem q694 : (Jvm.Cond.methodLink "MapSheets" (209 : Nat) ({ cls := "MapSheets$Library", name := "meant", desc := "(LMapSheets$Edge;II)I" } : Jvm.MethodName)) ∈ lw_all := lw_g (lw_at lw_m3 152 rfl) rfl
theorem q696 : (Jvm.Cond.instanceMethod ({ cls := "MapSheets", name := "edgeAt", desc := "(II)I" } : Jvm.MethodName)) ∈ lw_all := lw_g (lw_at lw_m3 154 rfl) rfl
theorem q697 : (Jvm.Cond.selects "MapSheets" ({ cls := "MapSheets", name := "edgeAt", desc := "(II)I" } : Jvm.MethodName) ({ cls := "MapSheets", name := "edgeAt", desc := "(II)I" } : Jvm.MethodName)) ∈ lw_all := lw_g (lw_at lw_m3 155 rfl) rfl
theorem q698 : (Jvm.Cond.code ({ cls := "MapSheets", name := "edgeAt", desc := "(II)I" } : Jvm.MethodName) prog_1_method_26_code (4 : Nat) (Option.some Jvm.ClassFile.FieldType.int)) ∈ lw_all := lw_g (lw_at lw_m3 156 rfl) rfl
theorem q699 : (Jvm.Cond.methodLink "MapSheets" (230 : Nat) ({ cls := "MapSheets$Library", name := "edgeAt", desc := "(II)LMapSheets$Edge;" } : Jvm.MethodName)) ∈ lw_all := lw_g (lw_at lw_m3 157 rfl) rfl
theorem q703 : (Jvm.Cond.methodLink "MapSheets" (234 : Nat) ({ cls := "java/util/ArrayList", name := "indexOf", desc := "(Ljava/lang/Object;)I" } : Jvm.MethodName)) ∈ lw_all := lw_g (lw_at lw_m3 161 rfl) rfl
theorem q715 : (Jvm.Cond.selects "MapSheets" ({ cls := "java/lang/Object", name := "equals", desc := "(Ljava/lang/Object;)Z" } : Jvm.MethodName) ({ cls := "java/lang/Object", name := "equals", desc := "(Ljava/lang/Object;)Z" } : Jvm.MethodName)) ∈ lw_all := lw_g (lw_at lw_m3 173 rfl) rfl
theorem q736 : (Jvm.Cond.instanceMethod ({ cls := "MapSheets", name := "quarrel", desc := "(III)I" } : Jvm.MethodName)) ∈ lw_all := lw_g (lw_at lw_m3 194 rfl) rfl
theorem q737 : (Jvm.Cond.selects "MapSheets" ({ cls := "MapSheets", name := "quarrel", desc := "(III)I" } : Jvm.MethodName) ({ cls := "MapSheets", name := "quarrel", desc := "(III)I" } : Jvm.MethodName)) ∈ lw_all := lw_g (lw_at lw_m3 195 rfl) rfl
theorem q738 : (Jvm.Cond.code ({ cls := "MapSheets", name := "quarrel", desc := "(III)I" } : Jvm.MethodName) prog_1_method_27_code (7 : Nat) (Option.some Jvm.ClassFile.FieldType.int)) ∈ lw_all := lw_g (lw_at lw_m3 196 rfl) rfl
theorem q739 : (Jvm.Cond.classLink "MapSheets" (238 : Nat) "MapSheets$Quarrel") ∈ lw_all := lw_g (lw_at lw_m3 197 rfl) rfl
theorem q741 : (Jvm.Cond.instanceMethod ({ cls := "MapSheets", name := "agree", desc := "(I)I" } : Jvm.MethodName)) ∈ lw_all := lw_g (lw_at lw_m3 199 rfl) rfl
theorem q742 : (Jvm.Cond.selects "MapSheets" ({ cls := "MapSheets", name := "agree", desc := "(I)I" } : Jvm.MethodName) ({ cls := "MapSheets", name := "agree", desc := "(I)I" } : Jvm.MethodName)) ∈ lw_all := lw_g (lw_at lw_m3 200 rfl) rfl
theorem q743 : (Jvm.Cond.code ({ cls := "MapSheets", name := "agree", desc := "(I)I" } : Jvm.MethodName) prog_1_method_28_code (5 : Nat) (Option.some Jvm.ClassFile.FieldType.int)) ∈ lw_all := lw_g (lw_at lw_m3 201 rfl) rfl
theorem q745 : (Jvm.Cond.instanceMethod ({ cls := "MapSheets", name := "release", desc := "(I)I" } : Jvm.MethodName)) ∈ lw_all := lw_g (lw_at lw_m3 203 rfl) rfl
theorem q746 : (Jvm.Cond.selects "MapSheets" ({ cls := "MapSheets", name := "release", desc := "(I)I" } : Jvm.MethodName) ({ cls := "MapSheets", name := "release", desc := "(I)I" } : Jvm.MethodName)) ∈ lw_all := lw_g (lw_at lw_m3 204 rfl) rfl
theorem q747 : (Jvm.Cond.code ({ cls := "MapSheets", name := "release", desc := "(I)I" } : Jvm.MethodName) prog_1_method_29_code (3 : Nat) (Option.some Jvm.ClassFile.FieldType.int)) ∈ lw_all := lw_g (lw_at lw_m3 205 rfl) rfl
theorem q749 : (Jvm.Cond.instanceMethod ({ cls := "MapSheets", name := "settle", desc := "(II)I" } : Jvm.MethodName)) ∈ lw_all := lw_g (lw_at lw_m3 207 rfl) rfl
theorem q750 : (Jvm.Cond.selects "MapSheets" ({ cls := "MapSheets", name := "settle", desc := "(II)I" } : Jvm.MethodName) ({ cls := "MapSheets", name := "settle", desc := "(II)I" } : Jvm.MethodName)) ∈ lw_all := lw_g (lw_at lw_m3 208 rfl) rfl
theorem q751 : (Jvm.Cond.code ({ cls := "MapSheets", name := "settle", desc := "(II)I" } : Jvm.MethodName) prog_1_method_30_code (5 : Nat) (Option.some Jvm.ClassFile.FieldType.int)) ∈ lw_all := lw_g (lw_at lw_m3 209 rfl) rfl
theorem q752 : (Jvm.Cond.methodLink "MapSheets" (246 : Nat) ({ cls := "MapSheets$Edge", name := "has", desc := "(I)Z" } : Jvm.MethodName)) ∈ lw_all := lw_g (lw_at lw_m3 210 rfl) rfl
theorem q753 : (Jvm.Cond.methodLink "MapSheets" (249 : Nat) ({ cls := "MapSheets$Library", name := "settle", desc := "(LMapSheets$Edge;I)I" } : Jvm.MethodName)) ∈ lw_all := lw_g (lw_at lw_m3 211 rfl) rfl
theorem q771 : (Jvm.Cond.instanceMethod ({ cls := "MapSheets", name := "ratio", desc := "(I)I" } : Jvm.MethodName)) ∈ lw_all := lw_g (lw_at lw_m3 229 rfl) rfl
theorem q772 : (Jvm.Cond.selects "MapSheets" ({ cls := "MapSheets", name := "ratio", desc := "(I)I" } : Jvm.MethodName) ({ cls := "MapSheets", name := "ratio", desc := "(I)I" } : Jvm.MethodName)) ∈ lw_all := lw_g (lw_at lw_m3 230 rfl) rfl
theorem q773 : (Jvm.Cond.code ({ cls := "MapSheets", name := "ratio", desc := "(I)I" } : Jvm.MethodName) prog_1_method_31_code (2 : Nat) (Option.some Jvm.ClassFile.FieldType.int)) ∈ lw_all := lw_g (lw_at lw_m3 231 rfl) rfl
theorem q774 : (Jvm.Cond.methodLink "MapSheets" (253 : Nat) ({ cls := "MapSheets$Library", name := "ratio", desc := "(LMapSheets$Edge;)F" } : Jvm.MethodName)) ∈ lw_all := lw_g (lw_at lw_m3 232 rfl) rfl
theorem q775 : (Jvm.Cond.methodLink "MapSheets" (257 : Nat) ({ cls := "java/lang/Float", name := "floatToIntBits", desc := "(F)I" } : Jvm.MethodName)) ∈ lw_all := lw_g (lw_at lw_m3 233 rfl) rfl
theorem q786 : (Jvm.Cond.instanceMethod ({ cls := "MapSheets", name := "publish", desc := "(I)I" } : Jvm.MethodName)) ∈ lw_all := lw_g (lw_at lw_m4 4 rfl) rfl
theorem q787 : (Jvm.Cond.selects "MapSheets" ({ cls := "MapSheets", name := "publish", desc := "(I)I" } : Jvm.MethodName) ({ cls := "MapSheets", name := "publish", desc := "(I)I" } : Jvm.MethodName)) ∈ lw_all := lw_g (lw_at lw_m4 5 rfl) rfl
theorem q788 : (Jvm.Cond.code ({ cls := "MapSheets", name := "publish", desc := "(I)I" } : Jvm.MethodName) prog_1_method_32_code (4 : Nat) (Option.some Jvm.ClassFile.FieldType.int)) ∈ lw_all := lw_g (lw_at lw_m4 6 rfl) rfl
theorem q790 : (Jvm.Cond.instanceMethod ({ cls := "MapSheets", name := "scale", desc := "(II)I" } : Jvm.MethodName)) ∈ lw_all := lw_g (lw_at lw_m4 8 rfl) rfl
theorem q791 : (Jvm.Cond.selects "MapSheets" ({ cls := "MapSheets", name := "scale", desc := "(II)I" } : Jvm.MethodName) ({ cls := "MapSheets", name := "scale", desc := "(II)I" } : Jvm.MethodName)) ∈ lw_all := lw_g (lw_at lw_m4 9 rfl) rfl
theorem q792 : (Jvm.Cond.code ({ cls := "MapSheets", name := "scale", desc := "(II)I" } : Jvm.MethodName) prog_1_method_33_code (5 : Nat) (Option.some Jvm.ClassFile.FieldType.int)) ∈ lw_all := lw_g (lw_at lw_m4 10 rfl) rfl
theorem q793 : (Jvm.Cond.constantLong "MapSheets" (263 : Nat) (1000000 : Int64)) ∈ lw_all := lw_g (lw_at lw_m4 11 rfl) rfl
theorem q794 : (Jvm.Cond.methodLink "MapSheets" (265 : Nat) ({ cls := "MapSheets$Sheet", name := "setScale", desc := "(I)V" } : Jvm.MethodName)) ∈ lw_all := lw_g (lw_at lw_m4 12 rfl) rfl
theorem q796 : (Jvm.Cond.instanceMethod ({ cls := "MapSheets", name := "stretched", desc := "(II)I" } : Jvm.MethodName)) ∈ lw_all := lw_g (lw_at lw_m4 14 rfl) rfl
theorem q797 : (Jvm.Cond.selects "MapSheets" ({ cls := "MapSheets", name := "stretched", desc := "(II)I" } : Jvm.MethodName) ({ cls := "MapSheets", name := "stretched", desc := "(II)I" } : Jvm.MethodName)) ∈ lw_all := lw_g (lw_at lw_m4 15 rfl) rfl
theorem q798 : (Jvm.Cond.code ({ cls := "MapSheets", name := "stretched", desc := "(II)I" } : Jvm.MethodName) prog_1_method_34_code (3 : Nat) (Option.some Jvm.ClassFile.FieldType.int)) ∈ lw_all := lw_g (lw_at lw_m4 16 rfl) rfl
theorem q799 : (Jvm.Cond.constantLong "MapSheets" (268 : Nat) (10000000 : Int64)) ∈ lw_all := lw_g (lw_at lw_m4 17 rfl) rfl
theorem q801 : (Jvm.Cond.instanceMethod ({ cls := "MapSheets", name := "type", desc := "(I)I" } : Jvm.MethodName)) ∈ lw_all := lw_g (lw_at lw_m4 19 rfl) rfl
theorem q802 : (Jvm.Cond.selects "MapSheets" ({ cls := "MapSheets", name := "type", desc := "(I)I" } : Jvm.MethodName) ({ cls := "MapSheets", name := "type", desc := "(I)I" } : Jvm.MethodName)) ∈ lw_all := lw_g (lw_at lw_m4 20 rfl) rfl
theorem q803 : (Jvm.Cond.code ({ cls := "MapSheets", name := "type", desc := "(I)I" } : Jvm.MethodName) prog_1_method_35_code (2 : Nat) (Option.some Jvm.ClassFile.FieldType.int)) ∈ lw_all := lw_g (lw_at lw_m4 21 rfl) rfl
theorem q804 : (Jvm.Cond.constantLong "MapSheets" (274 : Nat) (32 : Int64)) ∈ lw_all := lw_g (lw_at lw_m4 22 rfl) rfl
theorem q805 : (Jvm.Cond.constantLong "MapSheets" (276 : Nat) (126 : Int64)) ∈ lw_all := lw_g (lw_at lw_m4 23 rfl) rfl
theorem q806 : (Jvm.Cond.methodLink "MapSheets" (278 : Nat) ({ cls := "java/lang/StringBuilder", name := "append", desc := "(C)Ljava/lang/StringBuilder;" } : Jvm.MethodName)) ∈ lw_all := lw_g (lw_at lw_m4 24 rfl) rfl
theorem q883 : (Jvm.Cond.instanceMethod ({ cls := "MapSheets", name := "clearText", desc := "()I" } : Jvm.MethodName)) ∈ lw_all := lw_g (lw_at lw_m4 101 rfl) rfl
theorem q884 : (Jvm.Cond.selects "MapSheets" ({ cls := "MapSheets", name := "clearText", desc := "()I" } : Jvm.MethodName) ({ cls := "MapSheets", name := "clearText", desc := "()I" } : Jvm.MethodName)) ∈ lw_all := lw_g (lw_at lw_m4 102 rfl) rfl
theorem q885 : (Jvm.Cond.code ({ cls := "MapSheets", name := "clearText", desc := "()I" } : Jvm.MethodName) prog_1_method_36_code (2 : Nat) (Option.some Jvm.ClassFile.FieldType.int)) ∈ lw_all := lw_g (lw_at lw_m4 103 rfl) rfl
theorem q886 : (Jvm.Cond.methodLink "MapSheets" (282 : Nat) ({ cls := "java/lang/StringBuilder", name := "setLength", desc := "(I)V" } : Jvm.MethodName)) ∈ lw_all := lw_g (lw_at lw_m4 104 rfl) rfl
theorem q907 : (Jvm.Cond.instanceMethod ({ cls := "MapSheets", name := "fault", desc := "()I" } : Jvm.MethodName)) ∈ lw_all := lw_g (lw_at lw_m4 125 rfl) rfl
theorem q908 : (Jvm.Cond.selects "MapSheets" ({ cls := "MapSheets", name := "fault", desc := "()I" } : Jvm.MethodName) ({ cls := "MapSheets", name := "fault", desc := "()I" } : Jvm.MethodName)) ∈ lw_all := lw_g (lw_at lw_m4 126 rfl) rfl
theorem q909 : (Jvm.Cond.code ({ cls := "MapSheets", name := "fault", desc := "()I" } : Jvm.MethodName) prog_1_method_37_code (2 : Nat) (Option.some Jvm.ClassFile.FieldType.int)) ∈ lw_all := lw_g (lw_at lw_m4 127 rfl) rfl
theorem q910 : (Jvm.Cond.classLink "MapSheets" (285 : Nat) "MapSheets$Reader") ∈ lw_all := lw_g (lw_at lw_m4 128 rfl) rfl
theorem q912 : (Jvm.Cond.methodLinkNest "MapSheets" (287 : Nat) ({ cls := "MapSheets$Reader", name := "<init>", desc := "(LMapSheets;)V" } : Jvm.MethodName) "MapSheets") ∈ lw_tbl := lw_at lw_m4 130 rfl
theorem q919 : (Jvm.Cond.fieldLinkNest "MapSheets" (296 : Nat) "MapSheets$Reader" "read" "Ljava/util/ArrayList;" "MapSheets") ∈ lw_tbl := lw_at lw_m4 137 rfl
theorem q921 : (Jvm.Cond.fieldLinkNest "MapSheets" (293 : Nat) "MapSheets$Reader" "at" "I" "MapSheets") ∈ lw_tbl := lw_at lw_m4 139 rfl
theorem q930 : (Jvm.Cond.methodLink "MapSheets" (290 : Nat) ({ cls := "MapSheets$Reader", name := "reads", desc := "()Z" } : Jvm.MethodName)) ∈ lw_all := lw_g (lw_at lw_m4 148 rfl) rfl
theorem q1063 : (Jvm.Cond.instanceMethod ({ cls := "MapSheets", name := "read", desc := "(I)I" } : Jvm.MethodName)) ∈ lw_all := lw_g (lw_at lw_m5 41 rfl) rfl
theorem q1064 : (Jvm.Cond.selects "MapSheets" ({ cls := "MapSheets", name := "read", desc := "(I)I" } : Jvm.MethodName) ({ cls := "MapSheets", name := "read", desc := "(I)I" } : Jvm.MethodName)) ∈ lw_all := lw_g (lw_at lw_m5 42 rfl) rfl
theorem q1065 : (Jvm.Cond.code ({ cls := "MapSheets", name := "read", desc := "(I)I" } : Jvm.MethodName) prog_1_method_38_code (4 : Nat) (Option.some Jvm.ClassFile.FieldType.int)) ∈ lw_all := lw_g (lw_at lw_m5 43 rfl) rfl
theorem q1066 : (Jvm.Cond.methodLink "MapSheets" (299 : Nat) ({ cls := "java/util/ArrayList", name := "isEmpty", desc := "()Z" } : Jvm.MethodName)) ∈ lw_all := lw_g (lw_at lw_m5 44 rfl) rfl
theorem q1067 : (Jvm.Cond.methodLink "MapSheets" (300 : Nat) ({ cls := "MapSheets$Reader", name := "takeInto", desc := "(LMapSheets$Sheet;)V" } : Jvm.MethodName)) ∈ lw_all := lw_g (lw_at lw_m5 45 rfl) rfl
theorem q1473 : (Jvm.Cond.castable "MapSheets" "java/lang/Object") ∈ lw_tbl := lw_at lw_m6 211 rfl
theorem in_X0 : ∀ w ∈ wsX00, w ∈ lw_all := lw_in wsX00 [349, 351, 353] (by decide +kernel) (by decide +kernel)

