/-! JoinLoom$Table -/
set_option maxRecDepth 100000
def RX5 : String := "JoinLoom$Table"
def TX5 : u_T := fun k => match k with
  | 0 => ("JoinLoom$Table", "columns", "I", true)
  | 1 => ("JoinLoom$Table", "values", "[I", true)
  | _ => ("JoinLoom$Table", "many", "I", false)
def tyX5 : Nat → FieldType := fun k => match k with
  | 0 => .int
  | 1 => .array .int
  | _ => .int
abbrev wsX50 : List Cond := u_ws RX5 TX5 3
theorem nmX5 : ∀ a, a < 3 → ∀ b, b < 3 → a ≠ b → (TX5 a).2.1 ≠ (TX5 b).2.1 := by decide +kernel
theorem tyX5_ok : ∀ k, k < 3 → parseFieldDescriptor (TX5 k).2.2.1 = some (tyX5 k) := by decide +kernel
abbrev cX5_init : ByteArray := prog_10_method_1_code
def yX5_init : MethodName := ⟨RX5, "<init>", "(I)V"⟩
def dkwX5_init_0 : List UInt8 := [42, 183, 0, 3, 42, 16, 120, 188, 10, 181, 0, 9, 42, 27, 181, 0, 15, 177]
abbrev dktX5_init_0 : List UInt8 := dkwX5_init_0 ++ []
theorem dksX5_init_0 : cX5_init.data.toList.drop 0 = dktX5_init_0 := by decide +kernel
theorem dX5_init_0 : decode cX5_init 0 = .ok (.aload_n 0, 1) := dk_42 (dk_at dksX5_init_0 0 rfl rfl)
theorem dX5_init_1 : decode cX5_init 1 = .ok (.invokespecial 3, 3) := dk_183 0 3 (dk_at dksX5_init_0 1 rfl rfl)
theorem dX5_init_4 : decode cX5_init 4 = .ok (.aload_n 0, 1) := dk_42 (dk_at dksX5_init_0 4 rfl rfl)
theorem dX5_init_5 : decode cX5_init 5 = .ok (.bipush 120, 2) := dk_16 120 (dk_at dksX5_init_0 5 rfl rfl)
theorem dX5_init_7 : decode cX5_init 7 = .ok (.newarray .int, 2) := dk_188_10 (dk_at dksX5_init_0 7 rfl rfl)
theorem dX5_init_9 : decode cX5_init 9 = .ok (.putfield 9, 3) := dk_181 0 9 (dk_at dksX5_init_0 9 rfl rfl)
theorem dX5_init_12 : decode cX5_init 12 = .ok (.aload_n 0, 1) := dk_42 (dk_at dksX5_init_0 12 rfl rfl)
theorem dX5_init_13 : decode cX5_init 13 = .ok (.iload_n 1, 1) := dk_27 (dk_at dksX5_init_0 13 rfl rfl)
theorem dX5_init_14 : decode cX5_init 14 = .ok (.putfield 15, 3) := dk_181 0 15 (dk_at dksX5_init_0 14 rfl rfl)
theorem dX5_init_17 : decode cX5_init 17 = .ok (.return_, 1) := dk_177 (dk_at dksX5_init_0 17 rfl rfl)
abbrev cX5_find : ByteArray := prog_10_method_5_code
def yX5_find : MethodName := ⟨RX5, "find", "(III)I"⟩
def dkwX5_find_1 : List UInt8 := [182, 0, 30, 154, 0, 8, 21, 4, 167, 0, 4, 2, 172]
abbrev dktX5_find_1 : List UInt8 := dkwX5_find_1 ++ []
def dkwX5_find_0 : List UInt8 := [42, 27, 28, 29, 182, 0, 34, 54, 4, 21, 4, 42, 180, 0, 27, 162, 0, 20, 42, 21, 4, 27, 28, 29]
abbrev dktX5_find_0 : List UInt8 := dkwX5_find_0 ++ dktX5_find_1
theorem dksX5_find_0 : cX5_find.data.toList.drop 0 = dktX5_find_0 := by decide +kernel
theorem dksX5_find_1 : cX5_find.data.toList.drop 24 = dktX5_find_1 := dk_seg dksX5_find_0 24 rfl rfl
theorem dX5_find_0 : decode cX5_find 0 = .ok (.aload_n 0, 1) := dk_42 (dk_at dksX5_find_0 0 rfl rfl)
theorem dX5_find_1 : decode cX5_find 1 = .ok (.iload_n 1, 1) := dk_27 (dk_at dksX5_find_0 1 rfl rfl)
theorem dX5_find_2 : decode cX5_find 2 = .ok (.iload_n 2, 1) := dk_28 (dk_at dksX5_find_0 2 rfl rfl)
theorem dX5_find_3 : decode cX5_find 3 = .ok (.iload_n 3, 1) := dk_29 (dk_at dksX5_find_0 3 rfl rfl)
theorem dX5_find_4 : decode cX5_find 4 = .ok (.invokevirtual 34, 3) := dk_182 0 34 (dk_at dksX5_find_0 4 rfl rfl)
theorem dX5_find_7 : decode cX5_find 7 = .ok (.istore 4, 2) := dk_54 4 (dk_at dksX5_find_0 7 rfl rfl)
theorem dX5_find_9 : decode cX5_find 9 = .ok (.iload 4, 2) := dk_21 4 (dk_at dksX5_find_0 9 rfl rfl)
theorem dX5_find_11 : decode cX5_find 11 = .ok (.aload_n 0, 1) := dk_42 (dk_at dksX5_find_0 11 rfl rfl)
theorem dX5_find_12 : decode cX5_find 12 = .ok (.getfield 27, 3) := dk_180 0 27 (dk_at dksX5_find_0 12 rfl rfl)
theorem dX5_find_15 : decode cX5_find 15 = .ok (.if_icmp .ge 20, 3) := dk_162 0 20 (dk_at dksX5_find_0 15 rfl rfl)
theorem dX5_find_18 : decode cX5_find 18 = .ok (.aload_n 0, 1) := dk_42 (dk_at dksX5_find_0 18 rfl rfl)
theorem dX5_find_19 : decode cX5_find 19 = .ok (.iload 4, 2) := dk_21 4 (dk_at dksX5_find_0 19 rfl rfl)
theorem dX5_find_21 : decode cX5_find 21 = .ok (.iload_n 1, 1) := dk_27 (dk_at dksX5_find_0 21 rfl rfl)
theorem dX5_find_22 : decode cX5_find 22 = .ok (.iload_n 2, 1) := dk_28 (dk_at dksX5_find_0 22 rfl rfl)
theorem dX5_find_23 : decode cX5_find 23 = .ok (.iload_n 3, 1) := dk_29 (dk_at dksX5_find_0 23 rfl rfl)
theorem dX5_find_24 : decode cX5_find 24 = .ok (.invokevirtual 30, 3) := dk_182 0 30 (dk_at dksX5_find_1 0 rfl rfl)
theorem dX5_find_27 : decode cX5_find 27 = .ok (.ifCond .ne 8, 3) := dk_154 0 8 (dk_at dksX5_find_1 3 rfl rfl)
theorem dX5_find_30 : decode cX5_find 30 = .ok (.iload 4, 2) := dk_21 4 (dk_at dksX5_find_1 6 rfl rfl)
theorem dX5_find_32 : decode cX5_find 32 = .ok (.goto 4, 3) := dk_167 0 4 (dk_at dksX5_find_1 8 rfl rfl)
theorem dX5_find_35 : decode cX5_find 35 = .ok (.iconst (-1), 1) := dk_2 (dk_at dksX5_find_1 11 rfl rfl)
theorem dX5_find_36 : decode cX5_find 36 = .ok (.ireturn, 1) := dk_172 (dk_at dksX5_find_1 12 rfl rfl)
abbrev cX5_place : ByteArray := prog_10_method_4_code
def yX5_place : MethodName := ⟨RX5, "place", "(III)I"⟩
def dkwX5_place_2 : List UInt8 := [21, 6, 54, 5, 167, 255, 215, 21, 4, 172]
abbrev dktX5_place_2 : List UInt8 := dkwX5_place_2 ++ []
def dkwX5_place_1 : List UInt8 := [54, 6, 42, 21, 6, 27, 28, 29, 182, 0, 30, 156, 0, 12, 21, 6, 4, 96, 54, 4, 167, 0, 7]
abbrev dktX5_place_1 : List UInt8 := dkwX5_place_1 ++ dktX5_place_2
def dkwX5_place_0 : List UInt8 := [3, 54, 4, 42, 180, 0, 27, 54, 5, 21, 4, 21, 5, 162, 0, 40, 21, 4, 21, 5, 96, 5, 108]
abbrev dktX5_place_0 : List UInt8 := dkwX5_place_0 ++ dktX5_place_1
theorem dksX5_place_0 : cX5_place.data.toList.drop 0 = dktX5_place_0 := by decide +kernel
theorem dksX5_place_1 : cX5_place.data.toList.drop 23 = dktX5_place_1 := dk_seg dksX5_place_0 23 rfl rfl
theorem dksX5_place_2 : cX5_place.data.toList.drop 46 = dktX5_place_2 := dk_seg dksX5_place_1 23 rfl rfl
theorem dX5_place_0 : decode cX5_place 0 = .ok (.iconst 0, 1) := dk_3 (dk_at dksX5_place_0 0 rfl rfl)
theorem dX5_place_1 : decode cX5_place 1 = .ok (.istore 4, 2) := dk_54 4 (dk_at dksX5_place_0 1 rfl rfl)
theorem dX5_place_3 : decode cX5_place 3 = .ok (.aload_n 0, 1) := dk_42 (dk_at dksX5_place_0 3 rfl rfl)
theorem dX5_place_4 : decode cX5_place 4 = .ok (.getfield 27, 3) := dk_180 0 27 (dk_at dksX5_place_0 4 rfl rfl)
theorem dX5_place_7 : decode cX5_place 7 = .ok (.istore 5, 2) := dk_54 5 (dk_at dksX5_place_0 7 rfl rfl)
theorem dX5_place_9 : decode cX5_place 9 = .ok (.iload 4, 2) := dk_21 4 (dk_at dksX5_place_0 9 rfl rfl)
theorem dX5_place_11 : decode cX5_place 11 = .ok (.iload 5, 2) := dk_21 5 (dk_at dksX5_place_0 11 rfl rfl)
theorem dX5_place_13 : decode cX5_place 13 = .ok (.if_icmp .ge 40, 3) := dk_162 0 40 (dk_at dksX5_place_0 13 rfl rfl)
theorem dX5_place_16 : decode cX5_place 16 = .ok (.iload 4, 2) := dk_21 4 (dk_at dksX5_place_0 16 rfl rfl)
theorem dX5_place_18 : decode cX5_place 18 = .ok (.iload 5, 2) := dk_21 5 (dk_at dksX5_place_0 18 rfl rfl)
theorem dX5_place_20 : decode cX5_place 20 = .ok (.iadd, 1) := dk_96 (dk_at dksX5_place_0 20 rfl rfl)
theorem dX5_place_21 : decode cX5_place 21 = .ok (.iconst 2, 1) := dk_5 (dk_at dksX5_place_0 21 rfl rfl)
theorem dX5_place_22 : decode cX5_place 22 = .ok (.idiv, 1) := dk_108 (dk_at dksX5_place_0 22 rfl rfl)
theorem dX5_place_23 : decode cX5_place 23 = .ok (.istore 6, 2) := dk_54 6 (dk_at dksX5_place_1 0 rfl rfl)
theorem dX5_place_25 : decode cX5_place 25 = .ok (.aload_n 0, 1) := dk_42 (dk_at dksX5_place_1 2 rfl rfl)
theorem dX5_place_26 : decode cX5_place 26 = .ok (.iload 6, 2) := dk_21 6 (dk_at dksX5_place_1 3 rfl rfl)
theorem dX5_place_28 : decode cX5_place 28 = .ok (.iload_n 1, 1) := dk_27 (dk_at dksX5_place_1 5 rfl rfl)
theorem dX5_place_29 : decode cX5_place 29 = .ok (.iload_n 2, 1) := dk_28 (dk_at dksX5_place_1 6 rfl rfl)
theorem dX5_place_30 : decode cX5_place 30 = .ok (.iload_n 3, 1) := dk_29 (dk_at dksX5_place_1 7 rfl rfl)
theorem dX5_place_31 : decode cX5_place 31 = .ok (.invokevirtual 30, 3) := dk_182 0 30 (dk_at dksX5_place_1 8 rfl rfl)
theorem dX5_place_34 : decode cX5_place 34 = .ok (.ifCond .ge 12, 3) := dk_156 0 12 (dk_at dksX5_place_1 11 rfl rfl)
theorem dX5_place_37 : decode cX5_place 37 = .ok (.iload 6, 2) := dk_21 6 (dk_at dksX5_place_1 14 rfl rfl)
theorem dX5_place_39 : decode cX5_place 39 = .ok (.iconst 1, 1) := dk_4 (dk_at dksX5_place_1 16 rfl rfl)
theorem dX5_place_40 : decode cX5_place 40 = .ok (.iadd, 1) := dk_96 (dk_at dksX5_place_1 17 rfl rfl)
theorem dX5_place_41 : decode cX5_place 41 = .ok (.istore 4, 2) := dk_54 4 (dk_at dksX5_place_1 18 rfl rfl)
theorem dX5_place_43 : decode cX5_place 43 = .ok (.goto 7, 3) := dk_167 0 7 (dk_at dksX5_place_1 20 rfl rfl)
theorem dX5_place_46 : decode cX5_place 46 = .ok (.iload 6, 2) := dk_21 6 (dk_at dksX5_place_2 0 rfl rfl)
theorem dX5_place_48 : decode cX5_place 48 = .ok (.istore 5, 2) := dk_54 5 (dk_at dksX5_place_2 2 rfl rfl)
theorem dX5_place_50 : decode cX5_place 50 = .ok (.goto (-41), 3) := dk_167 255 215 (dk_at dksX5_place_2 4 rfl rfl)
theorem dX5_place_53 : decode cX5_place 53 = .ok (.iload 4, 2) := dk_21 4 (dk_at dksX5_place_2 7 rfl rfl)
theorem dX5_place_55 : decode cX5_place 55 = .ok (.ireturn, 1) := dk_172 (dk_at dksX5_place_2 9 rfl rfl)
abbrev cX5_compare : ByteArray := prog_10_method_3_code
def yX5_compare : MethodName := ⟨RX5, "compare", "(IIII)I"⟩
def dkwX5_compare_3 : List UInt8 := [132, 5, 1, 167, 255, 184, 3, 172]
abbrev dktX5_compare_3 : List UInt8 := dkwX5_compare_3 ++ []
def dkwX5_compare_2 : List UInt8 := [27, 21, 5, 182, 0, 19, 184, 0, 23, 21, 6, 184, 0, 23, 148, 156, 0, 7, 2, 167, 0, 4, 4, 172]
abbrev dktX5_compare_2 : List UInt8 := dkwX5_compare_2 ++ dktX5_compare_3
def dkwX5_compare_1 : List UInt8 := [160, 0, 7, 29, 167, 0, 5, 21, 4, 54, 6, 42, 27, 21, 5, 182, 0, 19, 21, 6, 159, 0, 28, 42]
abbrev dktX5_compare_1 : List UInt8 := dkwX5_compare_1 ++ dktX5_compare_2
def dkwX5_compare_0 : List UInt8 := [3, 54, 5, 21, 5, 42, 180, 0, 15, 162, 0, 69, 21, 5, 154, 0, 7, 28, 167, 0, 15, 21, 5, 4]
abbrev dktX5_compare_0 : List UInt8 := dkwX5_compare_0 ++ dktX5_compare_1
theorem dksX5_compare_0 : cX5_compare.data.toList.drop 0 = dktX5_compare_0 := by decide +kernel
theorem dksX5_compare_1 : cX5_compare.data.toList.drop 24 = dktX5_compare_1 := dk_seg dksX5_compare_0 24 rfl rfl
theorem dksX5_compare_2 : cX5_compare.data.toList.drop 48 = dktX5_compare_2 := dk_seg dksX5_compare_1 24 rfl rfl
theorem dksX5_compare_3 : cX5_compare.data.toList.drop 72 = dktX5_compare_3 := dk_seg dksX5_compare_2 24 rfl rfl
theorem dX5_compare_0 : decode cX5_compare 0 = .ok (.iconst 0, 1) := dk_3 (dk_at dksX5_compare_0 0 rfl rfl)
theorem dX5_compare_1 : decode cX5_compare 1 = .ok (.istore 5, 2) := dk_54 5 (dk_at dksX5_compare_0 1 rfl rfl)
theorem dX5_compare_3 : decode cX5_compare 3 = .ok (.iload 5, 2) := dk_21 5 (dk_at dksX5_compare_0 3 rfl rfl)
theorem dX5_compare_5 : decode cX5_compare 5 = .ok (.aload_n 0, 1) := dk_42 (dk_at dksX5_compare_0 5 rfl rfl)
theorem dX5_compare_6 : decode cX5_compare 6 = .ok (.getfield 15, 3) := dk_180 0 15 (dk_at dksX5_compare_0 6 rfl rfl)
theorem dX5_compare_9 : decode cX5_compare 9 = .ok (.if_icmp .ge 69, 3) := dk_162 0 69 (dk_at dksX5_compare_0 9 rfl rfl)
theorem dX5_compare_12 : decode cX5_compare 12 = .ok (.iload 5, 2) := dk_21 5 (dk_at dksX5_compare_0 12 rfl rfl)
theorem dX5_compare_14 : decode cX5_compare 14 = .ok (.ifCond .ne 7, 3) := dk_154 0 7 (dk_at dksX5_compare_0 14 rfl rfl)
theorem dX5_compare_17 : decode cX5_compare 17 = .ok (.iload_n 2, 1) := dk_28 (dk_at dksX5_compare_0 17 rfl rfl)
theorem dX5_compare_18 : decode cX5_compare 18 = .ok (.goto 15, 3) := dk_167 0 15 (dk_at dksX5_compare_0 18 rfl rfl)
theorem dX5_compare_21 : decode cX5_compare 21 = .ok (.iload 5, 2) := dk_21 5 (dk_at dksX5_compare_0 21 rfl rfl)
theorem dX5_compare_23 : decode cX5_compare 23 = .ok (.iconst 1, 1) := dk_4 (dk_at dksX5_compare_0 23 rfl rfl)
theorem dX5_compare_24 : decode cX5_compare 24 = .ok (.if_icmp .ne 7, 3) := dk_160 0 7 (dk_at dksX5_compare_1 0 rfl rfl)
theorem dX5_compare_27 : decode cX5_compare 27 = .ok (.iload_n 3, 1) := dk_29 (dk_at dksX5_compare_1 3 rfl rfl)
theorem dX5_compare_28 : decode cX5_compare 28 = .ok (.goto 5, 3) := dk_167 0 5 (dk_at dksX5_compare_1 4 rfl rfl)
theorem dX5_compare_31 : decode cX5_compare 31 = .ok (.iload 4, 2) := dk_21 4 (dk_at dksX5_compare_1 7 rfl rfl)
theorem dX5_compare_33 : decode cX5_compare 33 = .ok (.istore 6, 2) := dk_54 6 (dk_at dksX5_compare_1 9 rfl rfl)
theorem dX5_compare_35 : decode cX5_compare 35 = .ok (.aload_n 0, 1) := dk_42 (dk_at dksX5_compare_1 11 rfl rfl)
theorem dX5_compare_36 : decode cX5_compare 36 = .ok (.iload_n 1, 1) := dk_27 (dk_at dksX5_compare_1 12 rfl rfl)
theorem dX5_compare_37 : decode cX5_compare 37 = .ok (.iload 5, 2) := dk_21 5 (dk_at dksX5_compare_1 13 rfl rfl)
theorem dX5_compare_39 : decode cX5_compare 39 = .ok (.invokevirtual 19, 3) := dk_182 0 19 (dk_at dksX5_compare_1 15 rfl rfl)
theorem dX5_compare_42 : decode cX5_compare 42 = .ok (.iload 6, 2) := dk_21 6 (dk_at dksX5_compare_1 18 rfl rfl)
theorem dX5_compare_44 : decode cX5_compare 44 = .ok (.if_icmp .eq 28, 3) := dk_159 0 28 (dk_at dksX5_compare_1 20 rfl rfl)
theorem dX5_compare_47 : decode cX5_compare 47 = .ok (.aload_n 0, 1) := dk_42 (dk_at dksX5_compare_1 23 rfl rfl)
theorem dX5_compare_48 : decode cX5_compare 48 = .ok (.iload_n 1, 1) := dk_27 (dk_at dksX5_compare_2 0 rfl rfl)
theorem dX5_compare_49 : decode cX5_compare 49 = .ok (.iload 5, 2) := dk_21 5 (dk_at dksX5_compare_2 1 rfl rfl)
theorem dX5_compare_51 : decode cX5_compare 51 = .ok (.invokevirtual 19, 3) := dk_182 0 19 (dk_at dksX5_compare_2 3 rfl rfl)
theorem dX5_compare_54 : decode cX5_compare 54 = .ok (.invokestatic 23, 3) := dk_184 0 23 (dk_at dksX5_compare_2 6 rfl rfl)
theorem dX5_compare_57 : decode cX5_compare 57 = .ok (.iload 6, 2) := dk_21 6 (dk_at dksX5_compare_2 9 rfl rfl)
theorem dX5_compare_59 : decode cX5_compare 59 = .ok (.invokestatic 23, 3) := dk_184 0 23 (dk_at dksX5_compare_2 11 rfl rfl)
theorem dX5_compare_62 : decode cX5_compare 62 = .ok (.lcmp, 1) := dk_148 (dk_at dksX5_compare_2 14 rfl rfl)
theorem dX5_compare_63 : decode cX5_compare 63 = .ok (.ifCond .ge 7, 3) := dk_156 0 7 (dk_at dksX5_compare_2 15 rfl rfl)
theorem dX5_compare_66 : decode cX5_compare 66 = .ok (.iconst (-1), 1) := dk_2 (dk_at dksX5_compare_2 18 rfl rfl)
theorem dX5_compare_67 : decode cX5_compare 67 = .ok (.goto 4, 3) := dk_167 0 4 (dk_at dksX5_compare_2 19 rfl rfl)
theorem dX5_compare_70 : decode cX5_compare 70 = .ok (.iconst 1, 1) := dk_4 (dk_at dksX5_compare_2 22 rfl rfl)
theorem dX5_compare_71 : decode cX5_compare 71 = .ok (.ireturn, 1) := dk_172 (dk_at dksX5_compare_2 23 rfl rfl)
theorem dX5_compare_72 : decode cX5_compare 72 = .ok (.iinc 5 1, 3) := dk_132 5 1 (dk_at dksX5_compare_3 0 rfl rfl)
theorem dX5_compare_75 : decode cX5_compare 75 = .ok (.goto (-72), 3) := dk_167 255 184 (dk_at dksX5_compare_3 3 rfl rfl)
theorem dX5_compare_78 : decode cX5_compare 78 = .ok (.iconst 0, 1) := dk_3 (dk_at dksX5_compare_3 6 rfl rfl)
theorem dX5_compare_79 : decode cX5_compare 79 = .ok (.ireturn, 1) := dk_172 (dk_at dksX5_compare_3 7 rfl rfl)
abbrev cX5_at : ByteArray := prog_10_method_2_code
def yX5_at : MethodName := ⟨RX5, "at", "(II)I"⟩
def dkwX5_at_0 : List UInt8 := [42, 180, 0, 9, 27, 6, 104, 28, 96, 46, 172]
abbrev dktX5_at_0 : List UInt8 := dkwX5_at_0 ++ []
theorem dksX5_at_0 : cX5_at.data.toList.drop 0 = dktX5_at_0 := by decide +kernel
theorem dX5_at_0 : decode cX5_at 0 = .ok (.aload_n 0, 1) := dk_42 (dk_at dksX5_at_0 0 rfl rfl)
theorem dX5_at_1 : decode cX5_at 1 = .ok (.getfield 9, 3) := dk_180 0 9 (dk_at dksX5_at_0 1 rfl rfl)
theorem dX5_at_4 : decode cX5_at 4 = .ok (.iload_n 1, 1) := dk_27 (dk_at dksX5_at_0 4 rfl rfl)
theorem dX5_at_5 : decode cX5_at 5 = .ok (.iconst 3, 1) := dk_6 (dk_at dksX5_at_0 5 rfl rfl)
theorem dX5_at_6 : decode cX5_at 6 = .ok (.imul, 1) := dk_104 (dk_at dksX5_at_0 6 rfl rfl)
theorem dX5_at_7 : decode cX5_at 7 = .ok (.iload_n 2, 1) := dk_28 (dk_at dksX5_at_0 7 rfl rfl)
theorem dX5_at_8 : decode cX5_at 8 = .ok (.iadd, 1) := dk_96 (dk_at dksX5_at_0 8 rfl rfl)
theorem dX5_at_9 : decode cX5_at 9 = .ok (.iaload, 1) := dk_46 (dk_at dksX5_at_0 9 rfl rfl)
theorem dX5_at_10 : decode cX5_at 10 = .ok (.ireturn, 1) := dk_172 (dk_at dksX5_at_0 10 rfl rfl)
abbrev cX5_puts : ByteArray := prog_10_method_7_code
def yX5_puts : MethodName := ⟨RX5, "puts", "(IIII)V"⟩
def dkwX5_puts_4 : List UInt8 := [177]
abbrev dktX5_puts_4 : List UInt8 := dkwX5_puts_4 ++ []
def dkwX5_puts_3 : List UInt8 := [180, 0, 15, 5, 164, 0, 8, 21, 4, 167, 0, 4, 3, 79, 42, 89, 180, 0, 27, 4, 96, 181, 0, 27]
abbrev dktX5_puts_3 : List UInt8 := dkwX5_puts_3 ++ dktX5_puts_4
def dkwX5_puts_2 : List UInt8 := [42, 180, 0, 15, 4, 164, 0, 7, 29, 167, 0, 4, 3, 79, 42, 180, 0, 9, 27, 6, 104, 5, 96, 42]
abbrev dktX5_puts_2 : List UInt8 := dkwX5_puts_2 ++ dktX5_puts_3
def dkwX5_puts_1 : List UInt8 := [132, 5, 255, 167, 255, 237, 42, 180, 0, 9, 27, 6, 104, 28, 79, 42, 180, 0, 9, 27, 6, 104, 4, 96]
abbrev dktX5_puts_1 : List UInt8 := dkwX5_puts_1 ++ dktX5_puts_2
def dkwX5_puts_0 : List UInt8 := [42, 180, 0, 27, 54, 5, 21, 5, 27, 164, 0, 19, 42, 21, 5, 4, 100, 21, 5, 182, 0, 38]
abbrev dktX5_puts_0 : List UInt8 := dkwX5_puts_0 ++ dktX5_puts_1
theorem dksX5_puts_0 : cX5_puts.data.toList.drop 0 = dktX5_puts_0 := by decide +kernel
theorem dksX5_puts_1 : cX5_puts.data.toList.drop 22 = dktX5_puts_1 := dk_seg dksX5_puts_0 22 rfl rfl
theorem dksX5_puts_2 : cX5_puts.data.toList.drop 46 = dktX5_puts_2 := dk_seg dksX5_puts_1 24 rfl rfl
theorem dksX5_puts_3 : cX5_puts.data.toList.drop 70 = dktX5_puts_3 := dk_seg dksX5_puts_2 24 rfl rfl
theorem dksX5_puts_4 : cX5_puts.data.toList.drop 94 = dktX5_puts_4 := dk_seg dksX5_puts_3 24 rfl rfl
theorem dX5_puts_0 : decode cX5_puts 0 = .ok (.aload_n 0, 1) := dk_42 (dk_at dksX5_puts_0 0 rfl rfl)
theorem dX5_puts_1 : decode cX5_puts 1 = .ok (.getfield 27, 3) := dk_180 0 27 (dk_at dksX5_puts_0 1 rfl rfl)
theorem dX5_puts_4 : decode cX5_puts 4 = .ok (.istore 5, 2) := dk_54 5 (dk_at dksX5_puts_0 4 rfl rfl)
theorem dX5_puts_6 : decode cX5_puts 6 = .ok (.iload 5, 2) := dk_21 5 (dk_at dksX5_puts_0 6 rfl rfl)
theorem dX5_puts_8 : decode cX5_puts 8 = .ok (.iload_n 1, 1) := dk_27 (dk_at dksX5_puts_0 8 rfl rfl)
theorem dX5_puts_9 : decode cX5_puts 9 = .ok (.if_icmp .le 19, 3) := dk_164 0 19 (dk_at dksX5_puts_0 9 rfl rfl)
theorem dX5_puts_12 : decode cX5_puts 12 = .ok (.aload_n 0, 1) := dk_42 (dk_at dksX5_puts_0 12 rfl rfl)
theorem dX5_puts_13 : decode cX5_puts 13 = .ok (.iload 5, 2) := dk_21 5 (dk_at dksX5_puts_0 13 rfl rfl)
theorem dX5_puts_15 : decode cX5_puts 15 = .ok (.iconst 1, 1) := dk_4 (dk_at dksX5_puts_0 15 rfl rfl)
theorem dX5_puts_16 : decode cX5_puts 16 = .ok (.isub, 1) := dk_100 (dk_at dksX5_puts_0 16 rfl rfl)
theorem dX5_puts_17 : decode cX5_puts 17 = .ok (.iload 5, 2) := dk_21 5 (dk_at dksX5_puts_0 17 rfl rfl)
theorem dX5_puts_19 : decode cX5_puts 19 = .ok (.invokevirtual 38, 3) := dk_182 0 38 (dk_at dksX5_puts_0 19 rfl rfl)
theorem dX5_puts_22 : decode cX5_puts 22 = .ok (.iinc 5 (-1), 3) := dk_132 5 255 (dk_at dksX5_puts_1 0 rfl rfl)
theorem dX5_puts_25 : decode cX5_puts 25 = .ok (.goto (-19), 3) := dk_167 255 237 (dk_at dksX5_puts_1 3 rfl rfl)
theorem dX5_puts_28 : decode cX5_puts 28 = .ok (.aload_n 0, 1) := dk_42 (dk_at dksX5_puts_1 6 rfl rfl)
theorem dX5_puts_29 : decode cX5_puts 29 = .ok (.getfield 9, 3) := dk_180 0 9 (dk_at dksX5_puts_1 7 rfl rfl)
theorem dX5_puts_32 : decode cX5_puts 32 = .ok (.iload_n 1, 1) := dk_27 (dk_at dksX5_puts_1 10 rfl rfl)
theorem dX5_puts_33 : decode cX5_puts 33 = .ok (.iconst 3, 1) := dk_6 (dk_at dksX5_puts_1 11 rfl rfl)
theorem dX5_puts_34 : decode cX5_puts 34 = .ok (.imul, 1) := dk_104 (dk_at dksX5_puts_1 12 rfl rfl)
theorem dX5_puts_35 : decode cX5_puts 35 = .ok (.iload_n 2, 1) := dk_28 (dk_at dksX5_puts_1 13 rfl rfl)
theorem dX5_puts_36 : decode cX5_puts 36 = .ok (.iastore, 1) := dk_79 (dk_at dksX5_puts_1 14 rfl rfl)
theorem dX5_puts_37 : decode cX5_puts 37 = .ok (.aload_n 0, 1) := dk_42 (dk_at dksX5_puts_1 15 rfl rfl)
theorem dX5_puts_38 : decode cX5_puts 38 = .ok (.getfield 9, 3) := dk_180 0 9 (dk_at dksX5_puts_1 16 rfl rfl)
theorem dX5_puts_41 : decode cX5_puts 41 = .ok (.iload_n 1, 1) := dk_27 (dk_at dksX5_puts_1 19 rfl rfl)
theorem dX5_puts_42 : decode cX5_puts 42 = .ok (.iconst 3, 1) := dk_6 (dk_at dksX5_puts_1 20 rfl rfl)
theorem dX5_puts_43 : decode cX5_puts 43 = .ok (.imul, 1) := dk_104 (dk_at dksX5_puts_1 21 rfl rfl)
theorem dX5_puts_44 : decode cX5_puts 44 = .ok (.iconst 1, 1) := dk_4 (dk_at dksX5_puts_1 22 rfl rfl)
theorem dX5_puts_45 : decode cX5_puts 45 = .ok (.iadd, 1) := dk_96 (dk_at dksX5_puts_1 23 rfl rfl)
theorem dX5_puts_46 : decode cX5_puts 46 = .ok (.aload_n 0, 1) := dk_42 (dk_at dksX5_puts_2 0 rfl rfl)
theorem dX5_puts_47 : decode cX5_puts 47 = .ok (.getfield 15, 3) := dk_180 0 15 (dk_at dksX5_puts_2 1 rfl rfl)
theorem dX5_puts_50 : decode cX5_puts 50 = .ok (.iconst 1, 1) := dk_4 (dk_at dksX5_puts_2 4 rfl rfl)
theorem dX5_puts_51 : decode cX5_puts 51 = .ok (.if_icmp .le 7, 3) := dk_164 0 7 (dk_at dksX5_puts_2 5 rfl rfl)
theorem dX5_puts_54 : decode cX5_puts 54 = .ok (.iload_n 3, 1) := dk_29 (dk_at dksX5_puts_2 8 rfl rfl)
theorem dX5_puts_55 : decode cX5_puts 55 = .ok (.goto 4, 3) := dk_167 0 4 (dk_at dksX5_puts_2 9 rfl rfl)
theorem dX5_puts_58 : decode cX5_puts 58 = .ok (.iconst 0, 1) := dk_3 (dk_at dksX5_puts_2 12 rfl rfl)
theorem dX5_puts_59 : decode cX5_puts 59 = .ok (.iastore, 1) := dk_79 (dk_at dksX5_puts_2 13 rfl rfl)
theorem dX5_puts_60 : decode cX5_puts 60 = .ok (.aload_n 0, 1) := dk_42 (dk_at dksX5_puts_2 14 rfl rfl)
theorem dX5_puts_61 : decode cX5_puts 61 = .ok (.getfield 9, 3) := dk_180 0 9 (dk_at dksX5_puts_2 15 rfl rfl)
theorem dX5_puts_64 : decode cX5_puts 64 = .ok (.iload_n 1, 1) := dk_27 (dk_at dksX5_puts_2 18 rfl rfl)
theorem dX5_puts_65 : decode cX5_puts 65 = .ok (.iconst 3, 1) := dk_6 (dk_at dksX5_puts_2 19 rfl rfl)
theorem dX5_puts_66 : decode cX5_puts 66 = .ok (.imul, 1) := dk_104 (dk_at dksX5_puts_2 20 rfl rfl)
theorem dX5_puts_67 : decode cX5_puts 67 = .ok (.iconst 2, 1) := dk_5 (dk_at dksX5_puts_2 21 rfl rfl)
theorem dX5_puts_68 : decode cX5_puts 68 = .ok (.iadd, 1) := dk_96 (dk_at dksX5_puts_2 22 rfl rfl)
theorem dX5_puts_69 : decode cX5_puts 69 = .ok (.aload_n 0, 1) := dk_42 (dk_at dksX5_puts_2 23 rfl rfl)
theorem dX5_puts_70 : decode cX5_puts 70 = .ok (.getfield 15, 3) := dk_180 0 15 (dk_at dksX5_puts_3 0 rfl rfl)
theorem dX5_puts_73 : decode cX5_puts 73 = .ok (.iconst 2, 1) := dk_5 (dk_at dksX5_puts_3 3 rfl rfl)
theorem dX5_puts_74 : decode cX5_puts 74 = .ok (.if_icmp .le 8, 3) := dk_164 0 8 (dk_at dksX5_puts_3 4 rfl rfl)
theorem dX5_puts_77 : decode cX5_puts 77 = .ok (.iload 4, 2) := dk_21 4 (dk_at dksX5_puts_3 7 rfl rfl)
theorem dX5_puts_79 : decode cX5_puts 79 = .ok (.goto 4, 3) := dk_167 0 4 (dk_at dksX5_puts_3 9 rfl rfl)
theorem dX5_puts_82 : decode cX5_puts 82 = .ok (.iconst 0, 1) := dk_3 (dk_at dksX5_puts_3 12 rfl rfl)
theorem dX5_puts_83 : decode cX5_puts 83 = .ok (.iastore, 1) := dk_79 (dk_at dksX5_puts_3 13 rfl rfl)
theorem dX5_puts_84 : decode cX5_puts 84 = .ok (.aload_n 0, 1) := dk_42 (dk_at dksX5_puts_3 14 rfl rfl)
theorem dX5_puts_85 : decode cX5_puts 85 = .ok (.dup, 1) := dk_89 (dk_at dksX5_puts_3 15 rfl rfl)
theorem dX5_puts_86 : decode cX5_puts 86 = .ok (.getfield 27, 3) := dk_180 0 27 (dk_at dksX5_puts_3 16 rfl rfl)
theorem dX5_puts_89 : decode cX5_puts 89 = .ok (.iconst 1, 1) := dk_4 (dk_at dksX5_puts_3 19 rfl rfl)
theorem dX5_puts_90 : decode cX5_puts 90 = .ok (.iadd, 1) := dk_96 (dk_at dksX5_puts_3 20 rfl rfl)
theorem dX5_puts_91 : decode cX5_puts 91 = .ok (.putfield 27, 3) := dk_181 0 27 (dk_at dksX5_puts_3 21 rfl rfl)
theorem dX5_puts_94 : decode cX5_puts 94 = .ok (.return_, 1) := dk_177 (dk_at dksX5_puts_4 0 rfl rfl)
abbrev cX5_moves : ByteArray := prog_10_method_6_code
def yX5_moves : MethodName := ⟨RX5, "moves", "(II)V"⟩
def dkwX5_moves_1 : List UInt8 := [96, 46, 79, 132, 3, 1, 167, 255, 228, 177]
abbrev dktX5_moves_1 : List UInt8 := dkwX5_moves_1 ++ []
def dkwX5_moves_0 : List UInt8 := [3, 62, 29, 6, 162, 0, 29, 42, 180, 0, 9, 28, 6, 104, 29, 96, 42, 180, 0, 9, 27, 6, 104, 29]
abbrev dktX5_moves_0 : List UInt8 := dkwX5_moves_0 ++ dktX5_moves_1
theorem dksX5_moves_0 : cX5_moves.data.toList.drop 0 = dktX5_moves_0 := by decide +kernel
theorem dksX5_moves_1 : cX5_moves.data.toList.drop 24 = dktX5_moves_1 := dk_seg dksX5_moves_0 24 rfl rfl
theorem dX5_moves_0 : decode cX5_moves 0 = .ok (.iconst 0, 1) := dk_3 (dk_at dksX5_moves_0 0 rfl rfl)
theorem dX5_moves_1 : decode cX5_moves 1 = .ok (.istore_n 3, 1) := dk_62 (dk_at dksX5_moves_0 1 rfl rfl)
theorem dX5_moves_2 : decode cX5_moves 2 = .ok (.iload_n 3, 1) := dk_29 (dk_at dksX5_moves_0 2 rfl rfl)
theorem dX5_moves_3 : decode cX5_moves 3 = .ok (.iconst 3, 1) := dk_6 (dk_at dksX5_moves_0 3 rfl rfl)
theorem dX5_moves_4 : decode cX5_moves 4 = .ok (.if_icmp .ge 29, 3) := dk_162 0 29 (dk_at dksX5_moves_0 4 rfl rfl)
theorem dX5_moves_7 : decode cX5_moves 7 = .ok (.aload_n 0, 1) := dk_42 (dk_at dksX5_moves_0 7 rfl rfl)
theorem dX5_moves_8 : decode cX5_moves 8 = .ok (.getfield 9, 3) := dk_180 0 9 (dk_at dksX5_moves_0 8 rfl rfl)
theorem dX5_moves_11 : decode cX5_moves 11 = .ok (.iload_n 2, 1) := dk_28 (dk_at dksX5_moves_0 11 rfl rfl)
theorem dX5_moves_12 : decode cX5_moves 12 = .ok (.iconst 3, 1) := dk_6 (dk_at dksX5_moves_0 12 rfl rfl)
theorem dX5_moves_13 : decode cX5_moves 13 = .ok (.imul, 1) := dk_104 (dk_at dksX5_moves_0 13 rfl rfl)
theorem dX5_moves_14 : decode cX5_moves 14 = .ok (.iload_n 3, 1) := dk_29 (dk_at dksX5_moves_0 14 rfl rfl)
theorem dX5_moves_15 : decode cX5_moves 15 = .ok (.iadd, 1) := dk_96 (dk_at dksX5_moves_0 15 rfl rfl)
theorem dX5_moves_16 : decode cX5_moves 16 = .ok (.aload_n 0, 1) := dk_42 (dk_at dksX5_moves_0 16 rfl rfl)
theorem dX5_moves_17 : decode cX5_moves 17 = .ok (.getfield 9, 3) := dk_180 0 9 (dk_at dksX5_moves_0 17 rfl rfl)
theorem dX5_moves_20 : decode cX5_moves 20 = .ok (.iload_n 1, 1) := dk_27 (dk_at dksX5_moves_0 20 rfl rfl)
theorem dX5_moves_21 : decode cX5_moves 21 = .ok (.iconst 3, 1) := dk_6 (dk_at dksX5_moves_0 21 rfl rfl)
theorem dX5_moves_22 : decode cX5_moves 22 = .ok (.imul, 1) := dk_104 (dk_at dksX5_moves_0 22 rfl rfl)
theorem dX5_moves_23 : decode cX5_moves 23 = .ok (.iload_n 3, 1) := dk_29 (dk_at dksX5_moves_0 23 rfl rfl)
theorem dX5_moves_24 : decode cX5_moves 24 = .ok (.iadd, 1) := dk_96 (dk_at dksX5_moves_1 0 rfl rfl)
theorem dX5_moves_25 : decode cX5_moves 25 = .ok (.iaload, 1) := dk_46 (dk_at dksX5_moves_1 1 rfl rfl)
theorem dX5_moves_26 : decode cX5_moves 26 = .ok (.iastore, 1) := dk_79 (dk_at dksX5_moves_1 2 rfl rfl)
theorem dX5_moves_27 : decode cX5_moves 27 = .ok (.iinc 3 1, 3) := dk_132 3 1 (dk_at dksX5_moves_1 3 rfl rfl)
theorem dX5_moves_30 : decode cX5_moves 30 = .ok (.goto (-28), 3) := dk_167 255 228 (dk_at dksX5_moves_1 6 rfl rfl)
theorem dX5_moves_33 : decode cX5_moves 33 = .ok (.return_, 1) := dk_177 (dk_at dksX5_moves_1 9 rfl rfl)
abbrev cX5_drops : ByteArray := prog_10_method_8_code
def yX5_drops : MethodName := ⟨RX5, "drops", "(I)V"⟩
def dkwX5_drops_1 : List UInt8 := [28, 182, 0, 38, 132, 2, 1, 167, 255, 237, 177]
abbrev dktX5_drops_1 : List UInt8 := dkwX5_drops_1 ++ []
def dkwX5_drops_0 : List UInt8 := [42, 89, 180, 0, 27, 4, 100, 181, 0, 27, 27, 61, 28, 42, 180, 0, 27, 162, 0, 17, 42, 28, 4, 96]
abbrev dktX5_drops_0 : List UInt8 := dkwX5_drops_0 ++ dktX5_drops_1
theorem dksX5_drops_0 : cX5_drops.data.toList.drop 0 = dktX5_drops_0 := by decide +kernel
theorem dksX5_drops_1 : cX5_drops.data.toList.drop 24 = dktX5_drops_1 := dk_seg dksX5_drops_0 24 rfl rfl
theorem dX5_drops_0 : decode cX5_drops 0 = .ok (.aload_n 0, 1) := dk_42 (dk_at dksX5_drops_0 0 rfl rfl)
theorem dX5_drops_1 : decode cX5_drops 1 = .ok (.dup, 1) := dk_89 (dk_at dksX5_drops_0 1 rfl rfl)
theorem dX5_drops_2 : decode cX5_drops 2 = .ok (.getfield 27, 3) := dk_180 0 27 (dk_at dksX5_drops_0 2 rfl rfl)
theorem dX5_drops_5 : decode cX5_drops 5 = .ok (.iconst 1, 1) := dk_4 (dk_at dksX5_drops_0 5 rfl rfl)
theorem dX5_drops_6 : decode cX5_drops 6 = .ok (.isub, 1) := dk_100 (dk_at dksX5_drops_0 6 rfl rfl)
theorem dX5_drops_7 : decode cX5_drops 7 = .ok (.putfield 27, 3) := dk_181 0 27 (dk_at dksX5_drops_0 7 rfl rfl)
theorem dX5_drops_10 : decode cX5_drops 10 = .ok (.iload_n 1, 1) := dk_27 (dk_at dksX5_drops_0 10 rfl rfl)
theorem dX5_drops_11 : decode cX5_drops 11 = .ok (.istore_n 2, 1) := dk_61 (dk_at dksX5_drops_0 11 rfl rfl)
theorem dX5_drops_12 : decode cX5_drops 12 = .ok (.iload_n 2, 1) := dk_28 (dk_at dksX5_drops_0 12 rfl rfl)
theorem dX5_drops_13 : decode cX5_drops 13 = .ok (.aload_n 0, 1) := dk_42 (dk_at dksX5_drops_0 13 rfl rfl)
theorem dX5_drops_14 : decode cX5_drops 14 = .ok (.getfield 27, 3) := dk_180 0 27 (dk_at dksX5_drops_0 14 rfl rfl)
theorem dX5_drops_17 : decode cX5_drops 17 = .ok (.if_icmp .ge 17, 3) := dk_162 0 17 (dk_at dksX5_drops_0 17 rfl rfl)
theorem dX5_drops_20 : decode cX5_drops 20 = .ok (.aload_n 0, 1) := dk_42 (dk_at dksX5_drops_0 20 rfl rfl)
theorem dX5_drops_21 : decode cX5_drops 21 = .ok (.iload_n 2, 1) := dk_28 (dk_at dksX5_drops_0 21 rfl rfl)
theorem dX5_drops_22 : decode cX5_drops 22 = .ok (.iconst 1, 1) := dk_4 (dk_at dksX5_drops_0 22 rfl rfl)
theorem dX5_drops_23 : decode cX5_drops 23 = .ok (.iadd, 1) := dk_96 (dk_at dksX5_drops_0 23 rfl rfl)
theorem dX5_drops_24 : decode cX5_drops 24 = .ok (.iload_n 2, 1) := dk_28 (dk_at dksX5_drops_1 0 rfl rfl)
theorem dX5_drops_25 : decode cX5_drops 25 = .ok (.invokevirtual 38, 3) := dk_182 0 38 (dk_at dksX5_drops_1 1 rfl rfl)
theorem dX5_drops_28 : decode cX5_drops 28 = .ok (.iinc 2 1, 3) := dk_132 2 1 (dk_at dksX5_drops_1 4 rfl rfl)
theorem dX5_drops_31 : decode cX5_drops 31 = .ok (.goto (-19), 3) := dk_167 255 237 (dk_at dksX5_drops_1 7 rfl rfl)
theorem dX5_drops_34 : decode cX5_drops 34 = .ok (.return_, 1) := dk_177 (dk_at dksX5_drops_1 10 rfl rfl)
theorem q62 : (Jvm.Cond.initialized "JoinLoom$Table") ∈ lw_all := lw_g (lw_at lw_m1 6 rfl) rfl
theorem q241 : (Jvm.Cond.instantiable "JoinLoom$Table" (3 : Nat)) ∈ lw_all := lw_g (lw_at lw_m1 185 rfl) rfl
theorem q243 : (Jvm.Cond.instanceMethod ({ cls := "JoinLoom$Table", name := "<init>", desc := "(I)V" } : Jvm.MethodName)) ∈ lw_all := lw_g (lw_at lw_m1 187 rfl) rfl
theorem q244 : (Jvm.Cond.code ({ cls := "JoinLoom$Table", name := "<init>", desc := "(I)V" } : Jvm.MethodName) prog_10_method_1_code (2 : Nat) (Option.none : Option Jvm.ClassFile.FieldType)) ∈ lw_all := lw_g (lw_at lw_m1 188 rfl) rfl
theorem q245 : (Jvm.Cond.methodLink "JoinLoom$Table" (3 : Nat) ({ cls := "java/lang/Object", name := "<init>", desc := "()V" } : Jvm.MethodName)) ∈ lw_all := lw_g (lw_at lw_m1 189 rfl) rfl
theorem q246 : (Jvm.Cond.fieldLink "JoinLoom$Table" (15 : Nat) "JoinLoom$Table" "columns" "I") ∈ lw_all := lw_g (lw_at lw_m1 190 rfl) rfl
theorem q249 : (Jvm.Cond.fieldLink "JoinLoom$Table" (9 : Nat) "JoinLoom$Table" "values" "[I") ∈ lw_all := lw_g (lw_at lw_m1 193 rfl) rfl
theorem q251 : (Jvm.Cond.fieldLink "JoinLoom$Table" (27 : Nat) "JoinLoom$Table" "many" "I") ∈ lw_all := lw_g (lw_at lw_m1 195 rfl) rfl
theorem q253 : (Jvm.Cond.laysFinal "JoinLoom$Table" "JoinLoom$Table" "columns" "I") ∈ lw_all := lw_g (lw_at lw_m1 197 rfl) rfl
theorem q254 : (Jvm.Cond.soleField "JoinLoom$Table" "columns") ∈ lw_all := lw_g (lw_at lw_m1 198 rfl) rfl
theorem q255 : (Jvm.Cond.laysFinal "JoinLoom$Table" "JoinLoom$Table" "values" "[I") ∈ lw_all := lw_g (lw_at lw_m1 199 rfl) rfl
theorem q256 : (Jvm.Cond.soleField "JoinLoom$Table" "values") ∈ lw_all := lw_g (lw_at lw_m1 200 rfl) rfl
theorem q257 : (Jvm.Cond.lays "JoinLoom$Table" "JoinLoom$Table" "many" "I") ∈ lw_all := lw_g (lw_at lw_m1 201 rfl) rfl
theorem q258 : (Jvm.Cond.soleField "JoinLoom$Table" "many") ∈ lw_all := lw_g (lw_at lw_m1 202 rfl) rfl
theorem q259 : (Jvm.Cond.superclass "JoinLoom$Table" "java/lang/Object") ∈ lw_all := lw_g (lw_at lw_m1 203 rfl) rfl
theorem q269 : (Jvm.Cond.instanceMethod ({ cls := "JoinLoom$Table", name := "find", desc := "(III)I" } : Jvm.MethodName)) ∈ lw_all := lw_g (lw_at lw_m1 213 rfl) rfl
theorem q270 : (Jvm.Cond.selects "JoinLoom$Table" ({ cls := "JoinLoom$Table", name := "find", desc := "(III)I" } : Jvm.MethodName) ({ cls := "JoinLoom$Table", name := "find", desc := "(III)I" } : Jvm.MethodName)) ∈ lw_all := lw_g (lw_at lw_m1 214 rfl) rfl
theorem q271 : (Jvm.Cond.code ({ cls := "JoinLoom$Table", name := "find", desc := "(III)I" } : Jvm.MethodName) prog_10_method_5_code (5 : Nat) (Option.some Jvm.ClassFile.FieldType.int)) ∈ lw_all := lw_g (lw_at lw_m1 215 rfl) rfl
theorem q272 : (Jvm.Cond.methodLink "JoinLoom$Table" (34 : Nat) ({ cls := "JoinLoom$Table", name := "place", desc := "(III)I" } : Jvm.MethodName)) ∈ lw_all := lw_g (lw_at lw_m1 216 rfl) rfl
theorem q273 : (Jvm.Cond.instanceMethod ({ cls := "JoinLoom$Table", name := "place", desc := "(III)I" } : Jvm.MethodName)) ∈ lw_all := lw_g (lw_at lw_m1 217 rfl) rfl
theorem q274 : (Jvm.Cond.selects "JoinLoom$Table" ({ cls := "JoinLoom$Table", name := "place", desc := "(III)I" } : Jvm.MethodName) ({ cls := "JoinLoom$Table", name := "place", desc := "(III)I" } : Jvm.MethodName)) ∈ lw_all := lw_g (lw_at lw_m1 218 rfl) rfl
theorem q275 : (Jvm.Cond.code ({ cls := "JoinLoom$Table", name := "place", desc := "(III)I" } : Jvm.MethodName) prog_10_method_4_code (7 : Nat) (Option.some Jvm.ClassFile.FieldType.int)) ∈ lw_all := lw_g (lw_at lw_m1 219 rfl) rfl
theorem q276 : (Jvm.Cond.methodLink "JoinLoom$Table" (30 : Nat) ({ cls := "JoinLoom$Table", name := "compare", desc := "(IIII)I" } : Jvm.MethodName)) ∈ lw_all := lw_g (lw_at lw_m1 220 rfl) rfl
theorem q277 : (Jvm.Cond.privateMethod ({ cls := "JoinLoom$Table", name := "compare", desc := "(IIII)I" } : Jvm.MethodName)) ∈ lw_tbl := lw_at lw_m1 221 rfl
theorem q278 : (Jvm.Cond.instanceMethod ({ cls := "JoinLoom$Table", name := "compare", desc := "(IIII)I" } : Jvm.MethodName)) ∈ lw_all := lw_g (lw_at lw_m1 222 rfl) rfl
theorem q279 : (Jvm.Cond.code ({ cls := "JoinLoom$Table", name := "compare", desc := "(IIII)I" } : Jvm.MethodName) prog_10_method_3_code (7 : Nat) (Option.some Jvm.ClassFile.FieldType.int)) ∈ lw_all := lw_g (lw_at lw_m1 223 rfl) rfl
theorem q280 : (Jvm.Cond.methodLink "JoinLoom$Table" (19 : Nat) ({ cls := "JoinLoom$Table", name := "at", desc := "(II)I" } : Jvm.MethodName)) ∈ lw_all := lw_g (lw_at lw_m1 224 rfl) rfl
theorem q281 : (Jvm.Cond.instanceMethod ({ cls := "JoinLoom$Table", name := "at", desc := "(II)I" } : Jvm.MethodName)) ∈ lw_all := lw_g (lw_at lw_m1 225 rfl) rfl
theorem q282 : (Jvm.Cond.selects "JoinLoom$Table" ({ cls := "JoinLoom$Table", name := "at", desc := "(II)I" } : Jvm.MethodName) ({ cls := "JoinLoom$Table", name := "at", desc := "(II)I" } : Jvm.MethodName)) ∈ lw_all := lw_g (lw_at lw_m1 226 rfl) rfl
theorem q283 : (Jvm.Cond.code ({ cls := "JoinLoom$Table", name := "at", desc := "(II)I" } : Jvm.MethodName) prog_10_method_2_code (3 : Nat) (Option.some Jvm.ClassFile.FieldType.int)) ∈ lw_all := lw_g (lw_at lw_m1 227 rfl) rfl
theorem q284 : (Jvm.Cond.methodLinkNest "JoinLoom$Table" (23 : Nat) ({ cls := "JoinLoom", name := "rank", desc := "(I)J" } : Jvm.MethodName) "JoinLoom") ∈ lw_tbl := lw_at lw_m1 228 rfl
theorem q291 : (Jvm.Cond.instanceMethod ({ cls := "JoinLoom$Table", name := "puts", desc := "(IIII)V" } : Jvm.MethodName)) ∈ lw_all := lw_g (lw_at lw_m1 235 rfl) rfl
theorem q292 : (Jvm.Cond.selects "JoinLoom$Table" ({ cls := "JoinLoom$Table", name := "puts", desc := "(IIII)V" } : Jvm.MethodName) ({ cls := "JoinLoom$Table", name := "puts", desc := "(IIII)V" } : Jvm.MethodName)) ∈ lw_all := lw_g (lw_at lw_m1 236 rfl) rfl
theorem q293 : (Jvm.Cond.code ({ cls := "JoinLoom$Table", name := "puts", desc := "(IIII)V" } : Jvm.MethodName) prog_10_method_7_code (6 : Nat) (Option.none : Option Jvm.ClassFile.FieldType)) ∈ lw_all := lw_g (lw_at lw_m1 237 rfl) rfl
theorem q294 : (Jvm.Cond.methodLink "JoinLoom$Table" (38 : Nat) ({ cls := "JoinLoom$Table", name := "moves", desc := "(II)V" } : Jvm.MethodName)) ∈ lw_all := lw_g (lw_at lw_m1 238 rfl) rfl
theorem q295 : (Jvm.Cond.privateMethod ({ cls := "JoinLoom$Table", name := "moves", desc := "(II)V" } : Jvm.MethodName)) ∈ lw_tbl := lw_at lw_m1 239 rfl
theorem q296 : (Jvm.Cond.instanceMethod ({ cls := "JoinLoom$Table", name := "moves", desc := "(II)V" } : Jvm.MethodName)) ∈ lw_all := lw_g (lw_at lw_m2 0 rfl) rfl
theorem q297 : (Jvm.Cond.code ({ cls := "JoinLoom$Table", name := "moves", desc := "(II)V" } : Jvm.MethodName) prog_10_method_6_code (4 : Nat) (Option.none : Option Jvm.ClassFile.FieldType)) ∈ lw_all := lw_g (lw_at lw_m2 1 rfl) rfl
theorem q303 : (Jvm.Cond.instanceMethod ({ cls := "JoinLoom$Table", name := "drops", desc := "(I)V" } : Jvm.MethodName)) ∈ lw_all := lw_g (lw_at lw_m2 7 rfl) rfl
theorem q304 : (Jvm.Cond.selects "JoinLoom$Table" ({ cls := "JoinLoom$Table", name := "drops", desc := "(I)V" } : Jvm.MethodName) ({ cls := "JoinLoom$Table", name := "drops", desc := "(I)V" } : Jvm.MethodName)) ∈ lw_all := lw_g (lw_at lw_m2 8 rfl) rfl
theorem q305 : (Jvm.Cond.code ({ cls := "JoinLoom$Table", name := "drops", desc := "(I)V" } : Jvm.MethodName) prog_10_method_8_code (3 : Nat) (Option.none : Option Jvm.ClassFile.FieldType)) ∈ lw_all := lw_g (lw_at lw_m2 9 rfl) rfl
theorem in_X5 : ∀ w ∈ wsX50, w ∈ lw_all := lw_in wsX50 [253, 255, 257] (by decide +kernel) (by decide +kernel)
/-! JoinLoom$Question -/
set_option maxRecDepth 100000
def RX6 : String := "JoinLoom$Question"
def TX6 : u_T := fun k => match k with
  | 0 => ("JoinLoom$Question", "names", "I", true)
  | 1 => ("JoinLoom$Question", "parts", "[LJoinLoom$Part;", true)
  | 2 => ("JoinLoom$Question", "many", "I", false)
  | 3 => ("JoinLoom$Question", "haves", "I", false)
  | _ => ("JoinLoom$Question", "order", "[I", true)
def tyX6 : Nat → FieldType := fun k => match k with
  | 0 => .int
  | 1 => .array (.object "JoinLoom$Part")
  | 2 => .int
  | 3 => .int
  | _ => .array .int
abbrev wsX60 : List Cond := u_ws RX6 TX6 5
theorem nmX6 : ∀ a, a < 5 → ∀ b, b < 5 → a ≠ b → (TX6 a).2.1 ≠ (TX6 b).2.1 := by decide +kernel
theorem tyX6_ok : ∀ k, k < 5 → parseFieldDescriptor (TX6 k).2.2.1 = some (tyX6 k) := by decide +kernel
abbrev cX6_isOf : ByteArray := prog_8_method_5_code
def yX6_isOf : MethodName := ⟨RX6, "isOf", "(I)Z"⟩
def dkwX6_isOf_2 : List UInt8 := [167, 0, 4, 3, 61, 132, 3, 1, 167, 255, 207, 28, 172]
abbrev dktX6_isOf_2 : List UInt8 := dkwX6_isOf_2 ++ []
def dkwX6_isOf_1 : List UInt8 := [193, 0, 28, 153, 0, 23, 42, 180, 0, 11, 29, 50, 192, 0, 28, 180, 0, 40, 27, 160, 0, 7, 4]
abbrev dktX6_isOf_1 : List UInt8 := dkwX6_isOf_1 ++ dktX6_isOf_2
def dkwX6_isOf_0 : List UInt8 := [3, 61, 3, 62, 29, 42, 180, 0, 25, 162, 0, 47, 28, 154, 0, 31, 42, 180, 0, 11, 29, 50]
abbrev dktX6_isOf_0 : List UInt8 := dkwX6_isOf_0 ++ dktX6_isOf_1
theorem dksX6_isOf_0 : cX6_isOf.data.toList.drop 0 = dktX6_isOf_0 := by decide +kernel
theorem dksX6_isOf_1 : cX6_isOf.data.toList.drop 22 = dktX6_isOf_1 := dk_seg dksX6_isOf_0 22 rfl rfl
theorem dksX6_isOf_2 : cX6_isOf.data.toList.drop 45 = dktX6_isOf_2 := dk_seg dksX6_isOf_1 23 rfl rfl
theorem dX6_isOf_0 : decode cX6_isOf 0 = .ok (.iconst 0, 1) := dk_3 (dk_at dksX6_isOf_0 0 rfl rfl)
theorem dX6_isOf_1 : decode cX6_isOf 1 = .ok (.istore_n 2, 1) := dk_61 (dk_at dksX6_isOf_0 1 rfl rfl)
theorem dX6_isOf_2 : decode cX6_isOf 2 = .ok (.iconst 0, 1) := dk_3 (dk_at dksX6_isOf_0 2 rfl rfl)
theorem dX6_isOf_3 : decode cX6_isOf 3 = .ok (.istore_n 3, 1) := dk_62 (dk_at dksX6_isOf_0 3 rfl rfl)
theorem dX6_isOf_4 : decode cX6_isOf 4 = .ok (.iload_n 3, 1) := dk_29 (dk_at dksX6_isOf_0 4 rfl rfl)
theorem dX6_isOf_5 : decode cX6_isOf 5 = .ok (.aload_n 0, 1) := dk_42 (dk_at dksX6_isOf_0 5 rfl rfl)
theorem dX6_isOf_6 : decode cX6_isOf 6 = .ok (.getfield 25, 3) := dk_180 0 25 (dk_at dksX6_isOf_0 6 rfl rfl)
theorem dX6_isOf_9 : decode cX6_isOf 9 = .ok (.if_icmp .ge 47, 3) := dk_162 0 47 (dk_at dksX6_isOf_0 9 rfl rfl)
theorem dX6_isOf_12 : decode cX6_isOf 12 = .ok (.iload_n 2, 1) := dk_28 (dk_at dksX6_isOf_0 12 rfl rfl)
theorem dX6_isOf_13 : decode cX6_isOf 13 = .ok (.ifCond .ne 31, 3) := dk_154 0 31 (dk_at dksX6_isOf_0 13 rfl rfl)
theorem dX6_isOf_16 : decode cX6_isOf 16 = .ok (.aload_n 0, 1) := dk_42 (dk_at dksX6_isOf_0 16 rfl rfl)
theorem dX6_isOf_17 : decode cX6_isOf 17 = .ok (.getfield 11, 3) := dk_180 0 11 (dk_at dksX6_isOf_0 17 rfl rfl)
theorem dX6_isOf_20 : decode cX6_isOf 20 = .ok (.iload_n 3, 1) := dk_29 (dk_at dksX6_isOf_0 20 rfl rfl)
theorem dX6_isOf_21 : decode cX6_isOf 21 = .ok (.aaload, 1) := dk_50 (dk_at dksX6_isOf_0 21 rfl rfl)
theorem dX6_isOf_22 : decode cX6_isOf 22 = .ok (.instanceof 28, 3) := dk_193 0 28 (dk_at dksX6_isOf_1 0 rfl rfl)
theorem dX6_isOf_25 : decode cX6_isOf 25 = .ok (.ifCond .eq 23, 3) := dk_153 0 23 (dk_at dksX6_isOf_1 3 rfl rfl)
theorem dX6_isOf_28 : decode cX6_isOf 28 = .ok (.aload_n 0, 1) := dk_42 (dk_at dksX6_isOf_1 6 rfl rfl)
theorem dX6_isOf_29 : decode cX6_isOf 29 = .ok (.getfield 11, 3) := dk_180 0 11 (dk_at dksX6_isOf_1 7 rfl rfl)
theorem dX6_isOf_32 : decode cX6_isOf 32 = .ok (.iload_n 3, 1) := dk_29 (dk_at dksX6_isOf_1 10 rfl rfl)
theorem dX6_isOf_33 : decode cX6_isOf 33 = .ok (.aaload, 1) := dk_50 (dk_at dksX6_isOf_1 11 rfl rfl)
theorem dX6_isOf_34 : decode cX6_isOf 34 = .ok (.checkcast 28, 3) := dk_192 0 28 (dk_at dksX6_isOf_1 12 rfl rfl)
theorem dX6_isOf_37 : decode cX6_isOf 37 = .ok (.getfield 40, 3) := dk_180 0 40 (dk_at dksX6_isOf_1 15 rfl rfl)
theorem dX6_isOf_40 : decode cX6_isOf 40 = .ok (.iload_n 1, 1) := dk_27 (dk_at dksX6_isOf_1 18 rfl rfl)
theorem dX6_isOf_41 : decode cX6_isOf 41 = .ok (.if_icmp .ne 7, 3) := dk_160 0 7 (dk_at dksX6_isOf_1 19 rfl rfl)
theorem dX6_isOf_44 : decode cX6_isOf 44 = .ok (.iconst 1, 1) := dk_4 (dk_at dksX6_isOf_1 22 rfl rfl)
theorem dX6_isOf_45 : decode cX6_isOf 45 = .ok (.goto 4, 3) := dk_167 0 4 (dk_at dksX6_isOf_2 0 rfl rfl)
theorem dX6_isOf_48 : decode cX6_isOf 48 = .ok (.iconst 0, 1) := dk_3 (dk_at dksX6_isOf_2 3 rfl rfl)
theorem dX6_isOf_49 : decode cX6_isOf 49 = .ok (.istore_n 2, 1) := dk_61 (dk_at dksX6_isOf_2 4 rfl rfl)
theorem dX6_isOf_50 : decode cX6_isOf 50 = .ok (.iinc 3 1, 3) := dk_132 3 1 (dk_at dksX6_isOf_2 5 rfl rfl)
theorem dX6_isOf_53 : decode cX6_isOf 53 = .ok (.goto (-49), 3) := dk_167 255 207 (dk_at dksX6_isOf_2 8 rfl rfl)
theorem dX6_isOf_56 : decode cX6_isOf 56 = .ok (.iload_n 2, 1) := dk_28 (dk_at dksX6_isOf_2 11 rfl rfl)
theorem dX6_isOf_57 : decode cX6_isOf 57 = .ok (.ireturn, 1) := dk_172 (dk_at dksX6_isOf_2 12 rfl rfl)
abbrev cX6_init : ByteArray := prog_8_method_1_code
def yX6_init : MethodName := ⟨RX6, "<init>", "(I)V"⟩
def dkwX6_init_1 : List UInt8 := [181, 0, 21, 3, 61, 28, 27, 162, 0, 16, 42, 180, 0, 17, 28, 28, 79, 132, 2, 1, 167, 255, 241, 177]
abbrev dktX6_init_1 : List UInt8 := dkwX6_init_1 ++ []
def dkwX6_init_0 : List UInt8 := [42, 183, 0, 3, 42, 16, 10, 189, 0, 9, 181, 0, 11, 42, 16, 6, 188, 10, 181, 0, 17, 42, 27]
abbrev dktX6_init_0 : List UInt8 := dkwX6_init_0 ++ dktX6_init_1
theorem dksX6_init_0 : cX6_init.data.toList.drop 0 = dktX6_init_0 := by decide +kernel
theorem dksX6_init_1 : cX6_init.data.toList.drop 23 = dktX6_init_1 := dk_seg dksX6_init_0 23 rfl rfl
theorem dX6_init_0 : decode cX6_init 0 = .ok (.aload_n 0, 1) := dk_42 (dk_at dksX6_init_0 0 rfl rfl)
theorem dX6_init_1 : decode cX6_init 1 = .ok (.invokespecial 3, 3) := dk_183 0 3 (dk_at dksX6_init_0 1 rfl rfl)
theorem dX6_init_4 : decode cX6_init 4 = .ok (.aload_n 0, 1) := dk_42 (dk_at dksX6_init_0 4 rfl rfl)
theorem dX6_init_5 : decode cX6_init 5 = .ok (.bipush 10, 2) := dk_16 10 (dk_at dksX6_init_0 5 rfl rfl)
theorem dX6_init_7 : decode cX6_init 7 = .ok (.anewarray 9, 3) := dk_189 0 9 (dk_at dksX6_init_0 7 rfl rfl)
theorem dX6_init_10 : decode cX6_init 10 = .ok (.putfield 11, 3) := dk_181 0 11 (dk_at dksX6_init_0 10 rfl rfl)
theorem dX6_init_13 : decode cX6_init 13 = .ok (.aload_n 0, 1) := dk_42 (dk_at dksX6_init_0 13 rfl rfl)
theorem dX6_init_14 : decode cX6_init 14 = .ok (.bipush 6, 2) := dk_16 6 (dk_at dksX6_init_0 14 rfl rfl)
theorem dX6_init_16 : decode cX6_init 16 = .ok (.newarray .int, 2) := dk_188_10 (dk_at dksX6_init_0 16 rfl rfl)
theorem dX6_init_18 : decode cX6_init 18 = .ok (.putfield 17, 3) := dk_181 0 17 (dk_at dksX6_init_0 18 rfl rfl)
theorem dX6_init_21 : decode cX6_init 21 = .ok (.aload_n 0, 1) := dk_42 (dk_at dksX6_init_0 21 rfl rfl)
theorem dX6_init_22 : decode cX6_init 22 = .ok (.iload_n 1, 1) := dk_27 (dk_at dksX6_init_0 22 rfl rfl)
theorem dX6_init_23 : decode cX6_init 23 = .ok (.putfield 21, 3) := dk_181 0 21 (dk_at dksX6_init_1 0 rfl rfl)
theorem dX6_init_26 : decode cX6_init 26 = .ok (.iconst 0, 1) := dk_3 (dk_at dksX6_init_1 3 rfl rfl)
theorem dX6_init_27 : decode cX6_init 27 = .ok (.istore_n 2, 1) := dk_61 (dk_at dksX6_init_1 4 rfl rfl)
theorem dX6_init_28 : decode cX6_init 28 = .ok (.iload_n 2, 1) := dk_28 (dk_at dksX6_init_1 5 rfl rfl)
theorem dX6_init_29 : decode cX6_init 29 = .ok (.iload_n 1, 1) := dk_27 (dk_at dksX6_init_1 6 rfl rfl)
theorem dX6_init_30 : decode cX6_init 30 = .ok (.if_icmp .ge 16, 3) := dk_162 0 16 (dk_at dksX6_init_1 7 rfl rfl)
theorem dX6_init_33 : decode cX6_init 33 = .ok (.aload_n 0, 1) := dk_42 (dk_at dksX6_init_1 10 rfl rfl)
theorem dX6_init_34 : decode cX6_init 34 = .ok (.getfield 17, 3) := dk_180 0 17 (dk_at dksX6_init_1 11 rfl rfl)
theorem dX6_init_37 : decode cX6_init 37 = .ok (.iload_n 2, 1) := dk_28 (dk_at dksX6_init_1 14 rfl rfl)
theorem dX6_init_38 : decode cX6_init 38 = .ok (.iload_n 2, 1) := dk_28 (dk_at dksX6_init_1 15 rfl rfl)
theorem dX6_init_39 : decode cX6_init 39 = .ok (.iastore, 1) := dk_79 (dk_at dksX6_init_1 16 rfl rfl)
theorem dX6_init_40 : decode cX6_init 40 = .ok (.iinc 2 1, 3) := dk_132 2 1 (dk_at dksX6_init_1 17 rfl rfl)
theorem dX6_init_43 : decode cX6_init 43 = .ok (.goto (-15), 3) := dk_167 255 241 (dk_at dksX6_init_1 20 rfl rfl)
theorem dX6_init_46 : decode cX6_init 46 = .ok (.return_, 1) := dk_177 (dk_at dksX6_init_1 23 rfl rfl)
abbrev cX6_adds : ByteArray := prog_8_method_2_code
def yX6_adds : MethodName := ⟨RX6, "adds", "(LJoinLoom$Part;)V"⟩
def dkwX6_adds_0 : List UInt8 := [42, 180, 0, 11, 42, 180, 0, 25, 43, 83, 42, 89, 180, 0, 25, 4, 96, 181, 0, 25, 177]
abbrev dktX6_adds_0 : List UInt8 := dkwX6_adds_0 ++ []
theorem dksX6_adds_0 : cX6_adds.data.toList.drop 0 = dktX6_adds_0 := by decide +kernel
theorem dX6_adds_0 : decode cX6_adds 0 = .ok (.aload_n 0, 1) := dk_42 (dk_at dksX6_adds_0 0 rfl rfl)
theorem dX6_adds_1 : decode cX6_adds 1 = .ok (.getfield 11, 3) := dk_180 0 11 (dk_at dksX6_adds_0 1 rfl rfl)
theorem dX6_adds_4 : decode cX6_adds 4 = .ok (.aload_n 0, 1) := dk_42 (dk_at dksX6_adds_0 4 rfl rfl)
theorem dX6_adds_5 : decode cX6_adds 5 = .ok (.getfield 25, 3) := dk_180 0 25 (dk_at dksX6_adds_0 5 rfl rfl)
theorem dX6_adds_8 : decode cX6_adds 8 = .ok (.aload_n 1, 1) := dk_43 (dk_at dksX6_adds_0 8 rfl rfl)
theorem dX6_adds_9 : decode cX6_adds 9 = .ok (.aastore, 1) := dk_83 (dk_at dksX6_adds_0 9 rfl rfl)
theorem dX6_adds_10 : decode cX6_adds 10 = .ok (.aload_n 0, 1) := dk_42 (dk_at dksX6_adds_0 10 rfl rfl)
theorem dX6_adds_11 : decode cX6_adds 11 = .ok (.dup, 1) := dk_89 (dk_at dksX6_adds_0 11 rfl rfl)
theorem dX6_adds_12 : decode cX6_adds 12 = .ok (.getfield 25, 3) := dk_180 0 25 (dk_at dksX6_adds_0 12 rfl rfl)
theorem dX6_adds_15 : decode cX6_adds 15 = .ok (.iconst 1, 1) := dk_4 (dk_at dksX6_adds_0 15 rfl rfl)
theorem dX6_adds_16 : decode cX6_adds 16 = .ok (.iadd, 1) := dk_96 (dk_at dksX6_adds_0 16 rfl rfl)
theorem dX6_adds_17 : decode cX6_adds 17 = .ok (.putfield 25, 3) := dk_181 0 25 (dk_at dksX6_adds_0 17 rfl rfl)
theorem dX6_adds_20 : decode cX6_adds 20 = .ok (.return_, 1) := dk_177 (dk_at dksX6_adds_0 20 rfl rfl)
abbrev cX6_last : ByteArray := prog_8_method_3_code
def yX6_last : MethodName := ⟨RX6, "last", "()LJoinLoom$Has;"⟩
def dkwX6_last_1 : List UInt8 := [42, 180, 0, 11, 42, 180, 0, 25, 4, 100, 50, 192, 0, 28, 167, 0, 4, 1, 176]
abbrev dktX6_last_1 : List UInt8 := dkwX6_last_1 ++ []
def dkwX6_last_0 : List UInt8 := [42, 180, 0, 25, 158, 0, 37, 42, 180, 0, 11, 42, 180, 0, 25, 4, 100, 50, 193, 0, 28, 153, 0, 20]
abbrev dktX6_last_0 : List UInt8 := dkwX6_last_0 ++ dktX6_last_1
theorem dksX6_last_0 : cX6_last.data.toList.drop 0 = dktX6_last_0 := by decide +kernel
theorem dksX6_last_1 : cX6_last.data.toList.drop 24 = dktX6_last_1 := dk_seg dksX6_last_0 24 rfl rfl
theorem dX6_last_0 : decode cX6_last 0 = .ok (.aload_n 0, 1) := dk_42 (dk_at dksX6_last_0 0 rfl rfl)
theorem dX6_last_1 : decode cX6_last 1 = .ok (.getfield 25, 3) := dk_180 0 25 (dk_at dksX6_last_0 1 rfl rfl)
theorem dX6_last_4 : decode cX6_last 4 = .ok (.ifCond .le 37, 3) := dk_158 0 37 (dk_at dksX6_last_0 4 rfl rfl)
theorem dX6_last_7 : decode cX6_last 7 = .ok (.aload_n 0, 1) := dk_42 (dk_at dksX6_last_0 7 rfl rfl)
theorem dX6_last_8 : decode cX6_last 8 = .ok (.getfield 11, 3) := dk_180 0 11 (dk_at dksX6_last_0 8 rfl rfl)
theorem dX6_last_11 : decode cX6_last 11 = .ok (.aload_n 0, 1) := dk_42 (dk_at dksX6_last_0 11 rfl rfl)
theorem dX6_last_12 : decode cX6_last 12 = .ok (.getfield 25, 3) := dk_180 0 25 (dk_at dksX6_last_0 12 rfl rfl)
theorem dX6_last_15 : decode cX6_last 15 = .ok (.iconst 1, 1) := dk_4 (dk_at dksX6_last_0 15 rfl rfl)
theorem dX6_last_16 : decode cX6_last 16 = .ok (.isub, 1) := dk_100 (dk_at dksX6_last_0 16 rfl rfl)
theorem dX6_last_17 : decode cX6_last 17 = .ok (.aaload, 1) := dk_50 (dk_at dksX6_last_0 17 rfl rfl)
theorem dX6_last_18 : decode cX6_last 18 = .ok (.instanceof 28, 3) := dk_193 0 28 (dk_at dksX6_last_0 18 rfl rfl)
theorem dX6_last_21 : decode cX6_last 21 = .ok (.ifCond .eq 20, 3) := dk_153 0 20 (dk_at dksX6_last_0 21 rfl rfl)
theorem dX6_last_24 : decode cX6_last 24 = .ok (.aload_n 0, 1) := dk_42 (dk_at dksX6_last_1 0 rfl rfl)
theorem dX6_last_25 : decode cX6_last 25 = .ok (.getfield 11, 3) := dk_180 0 11 (dk_at dksX6_last_1 1 rfl rfl)
theorem dX6_last_28 : decode cX6_last 28 = .ok (.aload_n 0, 1) := dk_42 (dk_at dksX6_last_1 4 rfl rfl)
theorem dX6_last_29 : decode cX6_last 29 = .ok (.getfield 25, 3) := dk_180 0 25 (dk_at dksX6_last_1 5 rfl rfl)
theorem dX6_last_32 : decode cX6_last 32 = .ok (.iconst 1, 1) := dk_4 (dk_at dksX6_last_1 8 rfl rfl)
theorem dX6_last_33 : decode cX6_last 33 = .ok (.isub, 1) := dk_100 (dk_at dksX6_last_1 9 rfl rfl)
theorem dX6_last_34 : decode cX6_last 34 = .ok (.aaload, 1) := dk_50 (dk_at dksX6_last_1 10 rfl rfl)
theorem dX6_last_35 : decode cX6_last 35 = .ok (.checkcast 28, 3) := dk_192 0 28 (dk_at dksX6_last_1 11 rfl rfl)
theorem dX6_last_38 : decode cX6_last 38 = .ok (.goto 4, 3) := dk_167 0 4 (dk_at dksX6_last_1 14 rfl rfl)
theorem dX6_last_41 : decode cX6_last 41 = .ok (.aconst_null, 1) := dk_1 (dk_at dksX6_last_1 17 rfl rfl)
theorem dX6_last_42 : decode cX6_last 42 = .ok (.areturn, 1) := dk_176 (dk_at dksX6_last_1 18 rfl rfl)
abbrev cX6_stands : ByteArray := prog_8_method_4_code
def yX6_stands : MethodName := ⟨RX6, "stands", "()Z"⟩
def dkwX6_stands_3 : List UInt8 := [42, 180, 0, 21, 120, 4, 100, 160, 0, 7, 4, 167, 0, 4, 3, 172]
abbrev dktX6_stands_3 : List UInt8 := dkwX6_stands_3 ++ []
def dkwX6_stands_2 : List UInt8 := [27, 42, 180, 0, 11, 29, 50, 182, 0, 37, 128, 60, 132, 3, 1, 167, 255, 199, 28, 153, 0, 19, 27, 4]
abbrev dktX6_stands_2 : List UInt8 := dkwX6_stands_2 ++ dktX6_stands_3
def dkwX6_stands_1 : List UInt8 := [182, 0, 30, 153, 0, 7, 4, 167, 0, 4, 3, 61, 42, 180, 0, 11, 29, 50, 180, 0, 34, 154, 0, 15]
abbrev dktX6_stands_1 : List UInt8 := dkwX6_stands_1 ++ dktX6_stands_2
def dkwX6_stands_0 : List UInt8 := [3, 60, 4, 61, 3, 62, 29, 42, 180, 0, 25, 162, 0, 55, 28, 153, 0, 19, 42, 180, 0, 11, 29, 50]
abbrev dktX6_stands_0 : List UInt8 := dkwX6_stands_0 ++ dktX6_stands_1
theorem dksX6_stands_0 : cX6_stands.data.toList.drop 0 = dktX6_stands_0 := by decide +kernel
theorem dksX6_stands_1 : cX6_stands.data.toList.drop 24 = dktX6_stands_1 := dk_seg dksX6_stands_0 24 rfl rfl
theorem dksX6_stands_2 : cX6_stands.data.toList.drop 48 = dktX6_stands_2 := dk_seg dksX6_stands_1 24 rfl rfl
theorem dksX6_stands_3 : cX6_stands.data.toList.drop 72 = dktX6_stands_3 := dk_seg dksX6_stands_2 24 rfl rfl
theorem dX6_stands_0 : decode cX6_stands 0 = .ok (.iconst 0, 1) := dk_3 (dk_at dksX6_stands_0 0 rfl rfl)
theorem dX6_stands_1 : decode cX6_stands 1 = .ok (.istore_n 1, 1) := dk_60 (dk_at dksX6_stands_0 1 rfl rfl)
theorem dX6_stands_2 : decode cX6_stands 2 = .ok (.iconst 1, 1) := dk_4 (dk_at dksX6_stands_0 2 rfl rfl)
theorem dX6_stands_3 : decode cX6_stands 3 = .ok (.istore_n 2, 1) := dk_61 (dk_at dksX6_stands_0 3 rfl rfl)
theorem dX6_stands_4 : decode cX6_stands 4 = .ok (.iconst 0, 1) := dk_3 (dk_at dksX6_stands_0 4 rfl rfl)
theorem dX6_stands_5 : decode cX6_stands 5 = .ok (.istore_n 3, 1) := dk_62 (dk_at dksX6_stands_0 5 rfl rfl)
theorem dX6_stands_6 : decode cX6_stands 6 = .ok (.iload_n 3, 1) := dk_29 (dk_at dksX6_stands_0 6 rfl rfl)
theorem dX6_stands_7 : decode cX6_stands 7 = .ok (.aload_n 0, 1) := dk_42 (dk_at dksX6_stands_0 7 rfl rfl)
theorem dX6_stands_8 : decode cX6_stands 8 = .ok (.getfield 25, 3) := dk_180 0 25 (dk_at dksX6_stands_0 8 rfl rfl)
theorem dX6_stands_11 : decode cX6_stands 11 = .ok (.if_icmp .ge 55, 3) := dk_162 0 55 (dk_at dksX6_stands_0 11 rfl rfl)
theorem dX6_stands_14 : decode cX6_stands 14 = .ok (.iload_n 2, 1) := dk_28 (dk_at dksX6_stands_0 14 rfl rfl)
theorem dX6_stands_15 : decode cX6_stands 15 = .ok (.ifCond .eq 19, 3) := dk_153 0 19 (dk_at dksX6_stands_0 15 rfl rfl)
theorem dX6_stands_18 : decode cX6_stands 18 = .ok (.aload_n 0, 1) := dk_42 (dk_at dksX6_stands_0 18 rfl rfl)
theorem dX6_stands_19 : decode cX6_stands 19 = .ok (.getfield 11, 3) := dk_180 0 11 (dk_at dksX6_stands_0 19 rfl rfl)
theorem dX6_stands_22 : decode cX6_stands 22 = .ok (.iload_n 3, 1) := dk_29 (dk_at dksX6_stands_0 22 rfl rfl)
theorem dX6_stands_23 : decode cX6_stands 23 = .ok (.aaload, 1) := dk_50 (dk_at dksX6_stands_0 23 rfl rfl)
theorem dX6_stands_24 : decode cX6_stands 24 = .ok (.invokevirtual 30, 3) := dk_182 0 30 (dk_at dksX6_stands_1 0 rfl rfl)
theorem dX6_stands_27 : decode cX6_stands 27 = .ok (.ifCond .eq 7, 3) := dk_153 0 7 (dk_at dksX6_stands_1 3 rfl rfl)
theorem dX6_stands_30 : decode cX6_stands 30 = .ok (.iconst 1, 1) := dk_4 (dk_at dksX6_stands_1 6 rfl rfl)
theorem dX6_stands_31 : decode cX6_stands 31 = .ok (.goto 4, 3) := dk_167 0 4 (dk_at dksX6_stands_1 7 rfl rfl)
theorem dX6_stands_34 : decode cX6_stands 34 = .ok (.iconst 0, 1) := dk_3 (dk_at dksX6_stands_1 10 rfl rfl)
theorem dX6_stands_35 : decode cX6_stands 35 = .ok (.istore_n 2, 1) := dk_61 (dk_at dksX6_stands_1 11 rfl rfl)
theorem dX6_stands_36 : decode cX6_stands 36 = .ok (.aload_n 0, 1) := dk_42 (dk_at dksX6_stands_1 12 rfl rfl)
theorem dX6_stands_37 : decode cX6_stands 37 = .ok (.getfield 11, 3) := dk_180 0 11 (dk_at dksX6_stands_1 13 rfl rfl)
theorem dX6_stands_40 : decode cX6_stands 40 = .ok (.iload_n 3, 1) := dk_29 (dk_at dksX6_stands_1 16 rfl rfl)
theorem dX6_stands_41 : decode cX6_stands 41 = .ok (.aaload, 1) := dk_50 (dk_at dksX6_stands_1 17 rfl rfl)
theorem dX6_stands_42 : decode cX6_stands 42 = .ok (.getfield 34, 3) := dk_180 0 34 (dk_at dksX6_stands_1 18 rfl rfl)
theorem dX6_stands_45 : decode cX6_stands 45 = .ok (.ifCond .ne 15, 3) := dk_154 0 15 (dk_at dksX6_stands_1 21 rfl rfl)
theorem dX6_stands_48 : decode cX6_stands 48 = .ok (.iload_n 1, 1) := dk_27 (dk_at dksX6_stands_2 0 rfl rfl)
theorem dX6_stands_49 : decode cX6_stands 49 = .ok (.aload_n 0, 1) := dk_42 (dk_at dksX6_stands_2 1 rfl rfl)
theorem dX6_stands_50 : decode cX6_stands 50 = .ok (.getfield 11, 3) := dk_180 0 11 (dk_at dksX6_stands_2 2 rfl rfl)
theorem dX6_stands_53 : decode cX6_stands 53 = .ok (.iload_n 3, 1) := dk_29 (dk_at dksX6_stands_2 5 rfl rfl)
theorem dX6_stands_54 : decode cX6_stands 54 = .ok (.aaload, 1) := dk_50 (dk_at dksX6_stands_2 6 rfl rfl)
theorem dX6_stands_55 : decode cX6_stands 55 = .ok (.invokevirtual 37, 3) := dk_182 0 37 (dk_at dksX6_stands_2 7 rfl rfl)
theorem dX6_stands_58 : decode cX6_stands 58 = .ok (.ior, 1) := dk_128 (dk_at dksX6_stands_2 10 rfl rfl)
theorem dX6_stands_59 : decode cX6_stands 59 = .ok (.istore_n 1, 1) := dk_60 (dk_at dksX6_stands_2 11 rfl rfl)
theorem dX6_stands_60 : decode cX6_stands 60 = .ok (.iinc 3 1, 3) := dk_132 3 1 (dk_at dksX6_stands_2 12 rfl rfl)
theorem dX6_stands_63 : decode cX6_stands 63 = .ok (.goto (-57), 3) := dk_167 255 199 (dk_at dksX6_stands_2 15 rfl rfl)
theorem dX6_stands_66 : decode cX6_stands 66 = .ok (.iload_n 2, 1) := dk_28 (dk_at dksX6_stands_2 18 rfl rfl)
theorem dX6_stands_67 : decode cX6_stands 67 = .ok (.ifCond .eq 19, 3) := dk_153 0 19 (dk_at dksX6_stands_2 19 rfl rfl)
theorem dX6_stands_70 : decode cX6_stands 70 = .ok (.iload_n 1, 1) := dk_27 (dk_at dksX6_stands_2 22 rfl rfl)
theorem dX6_stands_71 : decode cX6_stands 71 = .ok (.iconst 1, 1) := dk_4 (dk_at dksX6_stands_2 23 rfl rfl)
theorem dX6_stands_72 : decode cX6_stands 72 = .ok (.aload_n 0, 1) := dk_42 (dk_at dksX6_stands_3 0 rfl rfl)
theorem dX6_stands_73 : decode cX6_stands 73 = .ok (.getfield 21, 3) := dk_180 0 21 (dk_at dksX6_stands_3 1 rfl rfl)
theorem dX6_stands_76 : decode cX6_stands 76 = .ok (.ishl, 1) := dk_120 (dk_at dksX6_stands_3 4 rfl rfl)
theorem dX6_stands_77 : decode cX6_stands 77 = .ok (.iconst 1, 1) := dk_4 (dk_at dksX6_stands_3 5 rfl rfl)
theorem dX6_stands_78 : decode cX6_stands 78 = .ok (.isub, 1) := dk_100 (dk_at dksX6_stands_3 6 rfl rfl)
theorem dX6_stands_79 : decode cX6_stands 79 = .ok (.if_icmp .ne 7, 3) := dk_160 0 7 (dk_at dksX6_stands_3 7 rfl rfl)
theorem dX6_stands_82 : decode cX6_stands 82 = .ok (.iconst 1, 1) := dk_4 (dk_at dksX6_stands_3 10 rfl rfl)
theorem dX6_stands_83 : decode cX6_stands 83 = .ok (.goto 4, 3) := dk_167 0 4 (dk_at dksX6_stands_3 11 rfl rfl)
theorem dX6_stands_86 : decode cX6_stands 86 = .ok (.iconst 0, 1) := dk_3 (dk_at dksX6_stands_3 14 rfl rfl)
theorem dX6_stands_87 : decode cX6_stands 87 = .ok (.ireturn, 1) := dk_172 (dk_at dksX6_stands_3 15 rfl rfl)
theorem q63 : (Jvm.Cond.initialized "JoinLoom$Question") ∈ lw_all := lw_g (lw_at lw_m1 7 rfl) rfl
theorem q237 : (Jvm.Cond.instanceMethod ({ cls := "JoinLoom$Question", name := "isOf", desc := "(I)Z" } : Jvm.MethodName)) ∈ lw_all := lw_g (lw_at lw_m1 181 rfl) rfl
theorem q238 : (Jvm.Cond.selects "JoinLoom$Question" ({ cls := "JoinLoom$Question", name := "isOf", desc := "(I)Z" } : Jvm.MethodName) ({ cls := "JoinLoom$Question", name := "isOf", desc := "(I)Z" } : Jvm.MethodName)) ∈ lw_all := lw_g (lw_at lw_m1 182 rfl) rfl
theorem q239 : (Jvm.Cond.code ({ cls := "JoinLoom$Question", name := "isOf", desc := "(I)Z" } : Jvm.MethodName) prog_8_method_5_code (4 : Nat) (Option.some Jvm.ClassFile.FieldType.boolean)) ∈ lw_all := lw_g (lw_at lw_m1 183 rfl) rfl
theorem q240 : (Jvm.Cond.classLink "JoinLoom$Question" (28 : Nat) "JoinLoom$Has") ∈ lw_all := lw_g (lw_at lw_m1 184 rfl) rfl
theorem q320 : (Jvm.Cond.instantiable "JoinLoom$Question" (5 : Nat)) ∈ lw_all := lw_g (lw_at lw_m2 24 rfl) rfl
theorem q322 : (Jvm.Cond.instanceMethod ({ cls := "JoinLoom$Question", name := "<init>", desc := "(I)V" } : Jvm.MethodName)) ∈ lw_all := lw_g (lw_at lw_m2 26 rfl) rfl
theorem q323 : (Jvm.Cond.code ({ cls := "JoinLoom$Question", name := "<init>", desc := "(I)V" } : Jvm.MethodName) prog_8_method_1_code (3 : Nat) (Option.none : Option Jvm.ClassFile.FieldType)) ∈ lw_all := lw_g (lw_at lw_m2 27 rfl) rfl
theorem q324 : (Jvm.Cond.methodLink "JoinLoom$Question" (3 : Nat) ({ cls := "java/lang/Object", name := "<init>", desc := "()V" } : Jvm.MethodName)) ∈ lw_all := lw_g (lw_at lw_m2 28 rfl) rfl
theorem q325 : (Jvm.Cond.classLink "JoinLoom$Question" (9 : Nat) "JoinLoom$Part") ∈ lw_all := lw_g (lw_at lw_m2 29 rfl) rfl
theorem q327 : (Jvm.Cond.fieldLink "JoinLoom$Question" (21 : Nat) "JoinLoom$Question" "names" "I") ∈ lw_all := lw_g (lw_at lw_m2 31 rfl) rfl
theorem q330 : (Jvm.Cond.fieldLink "JoinLoom$Question" (11 : Nat) "JoinLoom$Question" "parts" "[LJoinLoom$Part;") ∈ lw_all := lw_g (lw_at lw_m2 34 rfl) rfl
theorem q334 : (Jvm.Cond.fieldLink "JoinLoom$Question" (25 : Nat) "JoinLoom$Question" "many" "I") ∈ lw_all := lw_g (lw_at lw_m2 38 rfl) rfl
theorem q339 : (Jvm.Cond.fieldLink "JoinLoom$Question" (17 : Nat) "JoinLoom$Question" "order" "[I") ∈ lw_all := lw_g (lw_at lw_m2 43 rfl) rfl
theorem q341 : (Jvm.Cond.laysFinal "JoinLoom$Question" "JoinLoom$Question" "names" "I") ∈ lw_all := lw_g (lw_at lw_m2 45 rfl) rfl
theorem q342 : (Jvm.Cond.soleField "JoinLoom$Question" "names") ∈ lw_all := lw_g (lw_at lw_m2 46 rfl) rfl
theorem q343 : (Jvm.Cond.laysFinal "JoinLoom$Question" "JoinLoom$Question" "parts" "[LJoinLoom$Part;") ∈ lw_all := lw_g (lw_at lw_m2 47 rfl) rfl
theorem q344 : (Jvm.Cond.soleField "JoinLoom$Question" "parts") ∈ lw_all := lw_g (lw_at lw_m2 48 rfl) rfl
theorem q345 : (Jvm.Cond.lays "JoinLoom$Question" "JoinLoom$Question" "many" "I") ∈ lw_all := lw_g (lw_at lw_m2 49 rfl) rfl
theorem q346 : (Jvm.Cond.soleField "JoinLoom$Question" "many") ∈ lw_all := lw_g (lw_at lw_m2 50 rfl) rfl
theorem q347 : (Jvm.Cond.lays "JoinLoom$Question" "JoinLoom$Question" "haves" "I") ∈ lw_all := lw_g (lw_at lw_m2 51 rfl) rfl
theorem q348 : (Jvm.Cond.soleField "JoinLoom$Question" "haves") ∈ lw_all := lw_g (lw_at lw_m2 52 rfl) rfl
theorem q349 : (Jvm.Cond.laysFinal "JoinLoom$Question" "JoinLoom$Question" "order" "[I") ∈ lw_all := lw_g (lw_at lw_m2 53 rfl) rfl
theorem q350 : (Jvm.Cond.soleField "JoinLoom$Question" "order") ∈ lw_all := lw_g (lw_at lw_m2 54 rfl) rfl
theorem q351 : (Jvm.Cond.superclass "JoinLoom$Question" "java/lang/Object") ∈ lw_all := lw_g (lw_at lw_m2 55 rfl) rfl
theorem q369 : (Jvm.Cond.fieldLink "JoinLoom$Question" (40 : Nat) "JoinLoom$Has" "tableNumber" "I") ∈ lw_all := lw_g (lw_at lw_m2 73 rfl) rfl
theorem q381 : (Jvm.Cond.fieldLink "JoinLoom$Question" (34 : Nat) "JoinLoom$Part" "kind" "I") ∈ lw_all := lw_g (lw_at lw_m2 85 rfl) rfl
theorem q411 : (Jvm.Cond.instanceMethod ({ cls := "JoinLoom$Question", name := "adds", desc := "(LJoinLoom$Part;)V" } : Jvm.MethodName)) ∈ lw_all := lw_g (lw_at lw_m2 115 rfl) rfl
theorem q412 : (Jvm.Cond.selects "JoinLoom$Question" ({ cls := "JoinLoom$Question", name := "adds", desc := "(LJoinLoom$Part;)V" } : Jvm.MethodName) ({ cls := "JoinLoom$Question", name := "adds", desc := "(LJoinLoom$Part;)V" } : Jvm.MethodName)) ∈ lw_all := lw_g (lw_at lw_m2 116 rfl) rfl
theorem q413 : (Jvm.Cond.code ({ cls := "JoinLoom$Question", name := "adds", desc := "(LJoinLoom$Part;)V" } : Jvm.MethodName) prog_8_method_2_code (2 : Nat) (Option.none : Option Jvm.ClassFile.FieldType)) ∈ lw_all := lw_g (lw_at lw_m2 117 rfl) rfl
theorem q423 : (Jvm.Cond.privateMethod ({ cls := "JoinLoom$Question", name := "last", desc := "()LJoinLoom$Has;" } : Jvm.MethodName)) ∈ lw_tbl := lw_at lw_m2 127 rfl
theorem q424 : (Jvm.Cond.instanceMethod ({ cls := "JoinLoom$Question", name := "last", desc := "()LJoinLoom$Has;" } : Jvm.MethodName)) ∈ lw_all := lw_g (lw_at lw_m2 128 rfl) rfl
theorem q425 : (Jvm.Cond.code ({ cls := "JoinLoom$Question", name := "last", desc := "()LJoinLoom$Has;" } : Jvm.MethodName) prog_8_method_3_code (1 : Nat) (Option.some (Jvm.ClassFile.FieldType.object "JoinLoom$Has"))) ∈ lw_all := lw_g (lw_at lw_m2 129 rfl) rfl
theorem q477 : (Jvm.Cond.instanceMethod ({ cls := "JoinLoom$Question", name := "stands", desc := "()Z" } : Jvm.MethodName)) ∈ lw_all := lw_g (lw_at lw_m2 181 rfl) rfl
theorem q478 : (Jvm.Cond.selects "JoinLoom$Question" ({ cls := "JoinLoom$Question", name := "stands", desc := "()Z" } : Jvm.MethodName) ({ cls := "JoinLoom$Question", name := "stands", desc := "()Z" } : Jvm.MethodName)) ∈ lw_all := lw_g (lw_at lw_m2 182 rfl) rfl
theorem q479 : (Jvm.Cond.code ({ cls := "JoinLoom$Question", name := "stands", desc := "()Z" } : Jvm.MethodName) prog_8_method_4_code (4 : Nat) (Option.some Jvm.ClassFile.FieldType.boolean)) ∈ lw_all := lw_g (lw_at lw_m2 183 rfl) rfl
theorem q480 : (Jvm.Cond.methodLink "JoinLoom$Question" (30 : Nat) ({ cls := "JoinLoom$Part", name := "isWhole", desc := "()Z" } : Jvm.MethodName)) ∈ lw_all := lw_g (lw_at lw_m2 184 rfl) rfl
theorem q490 : (Jvm.Cond.methodLink "JoinLoom$Question" (37 : Nat) ({ cls := "JoinLoom$Part", name := "names", desc := "()I" } : Jvm.MethodName)) ∈ lw_all := lw_g (lw_at lw_m2 194 rfl) rfl
theorem in_X6 : ∀ w ∈ wsX60, w ∈ lw_all := lw_in wsX60 [341, 343, 345, 347, 349] (by decide +kernel) (by decide +kernel)
/-! JoinLoom$Cloth -/
set_option maxRecDepth 100000
def RX1 : String := "JoinLoom$Cloth"
def TX1 : u_T := fun k => match k with
  | 0 => ("JoinLoom$Cloth", "names", "I", false)
  | 1 => ("JoinLoom$Cloth", "many", "I", false)
  | 2 => ("JoinLoom$Cloth", "values", "[I", true)
  | 3 => ("JoinLoom$Cloth", "meetings", "[I", true)
  | 4 => ("JoinLoom$Cloth", "witness", "[I", true)
  | 5 => ("JoinLoom$Cloth", "isThere", "Z", false)
  | _ => ("JoinLoom$Cloth", "row", "[I", true)
def tyX1 : Nat → FieldType := fun k => match k with
  | 0 => .int
  | 1 => .int
  | 2 => .array .int
  | 3 => .array .int
  | 4 => .array .int
  | 5 => .boolean
  | _ => .array .int
abbrev wsX10 : List Cond := u_ws RX1 TX1 7
theorem nmX1 : ∀ a, a < 7 → ∀ b, b < 7 → a ≠ b → (TX1 a).2.1 ≠ (TX1 b).2.1 := by decide +kernel
theorem tyX1_ok : ∀ k, k < 7 → parseFieldDescriptor (TX1 k).2.2.1 = some (tyX1 k) := by decide +kernel
abbrev cX1_init : ByteArray := prog_2_method_1_code
def yX1_init : MethodName := ⟨RX1, "<init>", "()V"⟩
def dkwX1_init_1 : List UInt8 := [17, 19, 146, 188, 10, 181, 0, 18, 42, 16, 6, 188, 10, 181, 0, 21, 177]
abbrev dktX1_init_1 : List UInt8 := dkwX1_init_1 ++ []
def dkwX1_init_0 : List UInt8 := [42, 183, 0, 3, 42, 17, 11, 190, 188, 10, 181, 0, 9, 42, 16, 6, 188, 10, 181, 0, 15, 42]
abbrev dktX1_init_0 : List UInt8 := dkwX1_init_0 ++ dktX1_init_1
theorem dksX1_init_0 : cX1_init.data.toList.drop 0 = dktX1_init_0 := by decide +kernel
theorem dksX1_init_1 : cX1_init.data.toList.drop 22 = dktX1_init_1 := dk_seg dksX1_init_0 22 rfl rfl
theorem dX1_init_0 : decode cX1_init 0 = .ok (.aload_n 0, 1) := dk_42 (dk_at dksX1_init_0 0 rfl rfl)
theorem dX1_init_1 : decode cX1_init 1 = .ok (.invokespecial 3, 3) := dk_183 0 3 (dk_at dksX1_init_0 1 rfl rfl)
theorem dX1_init_4 : decode cX1_init 4 = .ok (.aload_n 0, 1) := dk_42 (dk_at dksX1_init_0 4 rfl rfl)
theorem dX1_init_5 : decode cX1_init 5 = .ok (.sipush 3006, 3) := dk_17 11 190 (dk_at dksX1_init_0 5 rfl rfl)
theorem dX1_init_8 : decode cX1_init 8 = .ok (.newarray .int, 2) := dk_188_10 (dk_at dksX1_init_0 8 rfl rfl)
theorem dX1_init_10 : decode cX1_init 10 = .ok (.putfield 9, 3) := dk_181 0 9 (dk_at dksX1_init_0 10 rfl rfl)
theorem dX1_init_13 : decode cX1_init 13 = .ok (.aload_n 0, 1) := dk_42 (dk_at dksX1_init_0 13 rfl rfl)
theorem dX1_init_14 : decode cX1_init 14 = .ok (.bipush 6, 2) := dk_16 6 (dk_at dksX1_init_0 14 rfl rfl)
theorem dX1_init_16 : decode cX1_init 16 = .ok (.newarray .int, 2) := dk_188_10 (dk_at dksX1_init_0 16 rfl rfl)
theorem dX1_init_18 : decode cX1_init 18 = .ok (.putfield 15, 3) := dk_181 0 15 (dk_at dksX1_init_0 18 rfl rfl)
theorem dX1_init_21 : decode cX1_init 21 = .ok (.aload_n 0, 1) := dk_42 (dk_at dksX1_init_0 21 rfl rfl)
theorem dX1_init_22 : decode cX1_init 22 = .ok (.sipush 5010, 3) := dk_17 19 146 (dk_at dksX1_init_1 0 rfl rfl)
theorem dX1_init_25 : decode cX1_init 25 = .ok (.newarray .int, 2) := dk_188_10 (dk_at dksX1_init_1 3 rfl rfl)
theorem dX1_init_27 : decode cX1_init 27 = .ok (.putfield 18, 3) := dk_181 0 18 (dk_at dksX1_init_1 5 rfl rfl)
theorem dX1_init_30 : decode cX1_init 30 = .ok (.aload_n 0, 1) := dk_42 (dk_at dksX1_init_1 8 rfl rfl)
theorem dX1_init_31 : decode cX1_init 31 = .ok (.bipush 6, 2) := dk_16 6 (dk_at dksX1_init_1 9 rfl rfl)
theorem dX1_init_33 : decode cX1_init 33 = .ok (.newarray .int, 2) := dk_188_10 (dk_at dksX1_init_1 11 rfl rfl)
theorem dX1_init_35 : decode cX1_init 35 = .ok (.putfield 21, 3) := dk_181 0 21 (dk_at dksX1_init_1 13 rfl rfl)
theorem dX1_init_38 : decode cX1_init 38 = .ok (.return_, 1) := dk_177 (dk_at dksX1_init_1 16 rfl rfl)
abbrev cX1_comes : ByteArray := prog_2_method_6_code
def yX1_comes : MethodName := ⟨RX1, "comes", "([I)V"⟩
def dkwX1_comes_4 : List UInt8 := [89, 180, 0, 28, 4, 96, 181, 0, 28, 177]
abbrev dktX1_comes_4 : List UInt8 := dkwX1_comes_4 ++ []
def dkwX1_comes_3 : List UInt8 := [162, 0, 23, 42, 180, 0, 9, 28, 16, 6, 104, 29, 96, 43, 29, 46, 79, 132, 3, 1, 167, 255, 231, 42]
abbrev dktX1_comes_3 : List UInt8 := dkwX1_comes_3 ++ dktX1_comes_4
def dkwX1_comes_2 : List UInt8 := [104, 29, 96, 46, 79, 132, 3, 1, 167, 255, 223, 132, 2, 255, 167, 255, 200, 3, 62, 29, 42, 180, 0, 24]
abbrev dktX1_comes_2 : List UInt8 := dkwX1_comes_2 ++ dktX1_comes_3
def dkwX1_comes_1 : List UInt8 := [16, 6, 162, 0, 33, 42, 180, 0, 9, 28, 16, 6, 104, 29, 96, 42, 180, 0, 9, 28, 4, 100, 16, 6]
abbrev dktX1_comes_1 : List UInt8 := dkwX1_comes_1 ++ dktX1_comes_2
def dkwX1_comes_0 : List UInt8 := [42, 180, 0, 28, 61, 28, 158, 0, 58, 42, 28, 4, 100, 43, 182, 0, 49, 158, 0, 47, 3, 62, 29]
abbrev dktX1_comes_0 : List UInt8 := dkwX1_comes_0 ++ dktX1_comes_1
theorem dksX1_comes_0 : cX1_comes.data.toList.drop 0 = dktX1_comes_0 := by decide +kernel
theorem dksX1_comes_1 : cX1_comes.data.toList.drop 23 = dktX1_comes_1 := dk_seg dksX1_comes_0 23 rfl rfl
theorem dksX1_comes_2 : cX1_comes.data.toList.drop 47 = dktX1_comes_2 := dk_seg dksX1_comes_1 24 rfl rfl
theorem dksX1_comes_3 : cX1_comes.data.toList.drop 71 = dktX1_comes_3 := dk_seg dksX1_comes_2 24 rfl rfl
theorem dksX1_comes_4 : cX1_comes.data.toList.drop 95 = dktX1_comes_4 := dk_seg dksX1_comes_3 24 rfl rfl
theorem dX1_comes_0 : decode cX1_comes 0 = .ok (.aload_n 0, 1) := dk_42 (dk_at dksX1_comes_0 0 rfl rfl)
theorem dX1_comes_1 : decode cX1_comes 1 = .ok (.getfield 28, 3) := dk_180 0 28 (dk_at dksX1_comes_0 1 rfl rfl)
theorem dX1_comes_4 : decode cX1_comes 4 = .ok (.istore_n 2, 1) := dk_61 (dk_at dksX1_comes_0 4 rfl rfl)
theorem dX1_comes_5 : decode cX1_comes 5 = .ok (.iload_n 2, 1) := dk_28 (dk_at dksX1_comes_0 5 rfl rfl)
theorem dX1_comes_6 : decode cX1_comes 6 = .ok (.ifCond .le 58, 3) := dk_158 0 58 (dk_at dksX1_comes_0 6 rfl rfl)
theorem dX1_comes_9 : decode cX1_comes 9 = .ok (.aload_n 0, 1) := dk_42 (dk_at dksX1_comes_0 9 rfl rfl)
theorem dX1_comes_10 : decode cX1_comes 10 = .ok (.iload_n 2, 1) := dk_28 (dk_at dksX1_comes_0 10 rfl rfl)
theorem dX1_comes_11 : decode cX1_comes 11 = .ok (.iconst 1, 1) := dk_4 (dk_at dksX1_comes_0 11 rfl rfl)
theorem dX1_comes_12 : decode cX1_comes 12 = .ok (.isub, 1) := dk_100 (dk_at dksX1_comes_0 12 rfl rfl)
theorem dX1_comes_13 : decode cX1_comes 13 = .ok (.aload_n 1, 1) := dk_43 (dk_at dksX1_comes_0 13 rfl rfl)
theorem dX1_comes_14 : decode cX1_comes 14 = .ok (.invokevirtual 49, 3) := dk_182 0 49 (dk_at dksX1_comes_0 14 rfl rfl)
theorem dX1_comes_17 : decode cX1_comes 17 = .ok (.ifCond .le 47, 3) := dk_158 0 47 (dk_at dksX1_comes_0 17 rfl rfl)
theorem dX1_comes_20 : decode cX1_comes 20 = .ok (.iconst 0, 1) := dk_3 (dk_at dksX1_comes_0 20 rfl rfl)
theorem dX1_comes_21 : decode cX1_comes 21 = .ok (.istore_n 3, 1) := dk_62 (dk_at dksX1_comes_0 21 rfl rfl)
theorem dX1_comes_22 : decode cX1_comes 22 = .ok (.iload_n 3, 1) := dk_29 (dk_at dksX1_comes_0 22 rfl rfl)
theorem dX1_comes_23 : decode cX1_comes 23 = .ok (.bipush 6, 2) := dk_16 6 (dk_at dksX1_comes_1 0 rfl rfl)
theorem dX1_comes_25 : decode cX1_comes 25 = .ok (.if_icmp .ge 33, 3) := dk_162 0 33 (dk_at dksX1_comes_1 2 rfl rfl)
theorem dX1_comes_28 : decode cX1_comes 28 = .ok (.aload_n 0, 1) := dk_42 (dk_at dksX1_comes_1 5 rfl rfl)
theorem dX1_comes_29 : decode cX1_comes 29 = .ok (.getfield 9, 3) := dk_180 0 9 (dk_at dksX1_comes_1 6 rfl rfl)
theorem dX1_comes_32 : decode cX1_comes 32 = .ok (.iload_n 2, 1) := dk_28 (dk_at dksX1_comes_1 9 rfl rfl)
theorem dX1_comes_33 : decode cX1_comes 33 = .ok (.bipush 6, 2) := dk_16 6 (dk_at dksX1_comes_1 10 rfl rfl)
theorem dX1_comes_35 : decode cX1_comes 35 = .ok (.imul, 1) := dk_104 (dk_at dksX1_comes_1 12 rfl rfl)
theorem dX1_comes_36 : decode cX1_comes 36 = .ok (.iload_n 3, 1) := dk_29 (dk_at dksX1_comes_1 13 rfl rfl)
theorem dX1_comes_37 : decode cX1_comes 37 = .ok (.iadd, 1) := dk_96 (dk_at dksX1_comes_1 14 rfl rfl)
theorem dX1_comes_38 : decode cX1_comes 38 = .ok (.aload_n 0, 1) := dk_42 (dk_at dksX1_comes_1 15 rfl rfl)
theorem dX1_comes_39 : decode cX1_comes 39 = .ok (.getfield 9, 3) := dk_180 0 9 (dk_at dksX1_comes_1 16 rfl rfl)
theorem dX1_comes_42 : decode cX1_comes 42 = .ok (.iload_n 2, 1) := dk_28 (dk_at dksX1_comes_1 19 rfl rfl)
theorem dX1_comes_43 : decode cX1_comes 43 = .ok (.iconst 1, 1) := dk_4 (dk_at dksX1_comes_1 20 rfl rfl)
theorem dX1_comes_44 : decode cX1_comes 44 = .ok (.isub, 1) := dk_100 (dk_at dksX1_comes_1 21 rfl rfl)
theorem dX1_comes_45 : decode cX1_comes 45 = .ok (.bipush 6, 2) := dk_16 6 (dk_at dksX1_comes_1 22 rfl rfl)
theorem dX1_comes_47 : decode cX1_comes 47 = .ok (.imul, 1) := dk_104 (dk_at dksX1_comes_2 0 rfl rfl)
theorem dX1_comes_48 : decode cX1_comes 48 = .ok (.iload_n 3, 1) := dk_29 (dk_at dksX1_comes_2 1 rfl rfl)
theorem dX1_comes_49 : decode cX1_comes 49 = .ok (.iadd, 1) := dk_96 (dk_at dksX1_comes_2 2 rfl rfl)
theorem dX1_comes_50 : decode cX1_comes 50 = .ok (.iaload, 1) := dk_46 (dk_at dksX1_comes_2 3 rfl rfl)
theorem dX1_comes_51 : decode cX1_comes 51 = .ok (.iastore, 1) := dk_79 (dk_at dksX1_comes_2 4 rfl rfl)
theorem dX1_comes_52 : decode cX1_comes 52 = .ok (.iinc 3 1, 3) := dk_132 3 1 (dk_at dksX1_comes_2 5 rfl rfl)
theorem dX1_comes_55 : decode cX1_comes 55 = .ok (.goto (-33), 3) := dk_167 255 223 (dk_at dksX1_comes_2 8 rfl rfl)
theorem dX1_comes_58 : decode cX1_comes 58 = .ok (.iinc 2 (-1), 3) := dk_132 2 255 (dk_at dksX1_comes_2 11 rfl rfl)
theorem dX1_comes_61 : decode cX1_comes 61 = .ok (.goto (-56), 3) := dk_167 255 200 (dk_at dksX1_comes_2 14 rfl rfl)
theorem dX1_comes_64 : decode cX1_comes 64 = .ok (.iconst 0, 1) := dk_3 (dk_at dksX1_comes_2 17 rfl rfl)
theorem dX1_comes_65 : decode cX1_comes 65 = .ok (.istore_n 3, 1) := dk_62 (dk_at dksX1_comes_2 18 rfl rfl)
theorem dX1_comes_66 : decode cX1_comes 66 = .ok (.iload_n 3, 1) := dk_29 (dk_at dksX1_comes_2 19 rfl rfl)
theorem dX1_comes_67 : decode cX1_comes 67 = .ok (.aload_n 0, 1) := dk_42 (dk_at dksX1_comes_2 20 rfl rfl)
theorem dX1_comes_68 : decode cX1_comes 68 = .ok (.getfield 24, 3) := dk_180 0 24 (dk_at dksX1_comes_2 21 rfl rfl)
theorem dX1_comes_71 : decode cX1_comes 71 = .ok (.if_icmp .ge 23, 3) := dk_162 0 23 (dk_at dksX1_comes_3 0 rfl rfl)
theorem dX1_comes_74 : decode cX1_comes 74 = .ok (.aload_n 0, 1) := dk_42 (dk_at dksX1_comes_3 3 rfl rfl)
theorem dX1_comes_75 : decode cX1_comes 75 = .ok (.getfield 9, 3) := dk_180 0 9 (dk_at dksX1_comes_3 4 rfl rfl)
theorem dX1_comes_78 : decode cX1_comes 78 = .ok (.iload_n 2, 1) := dk_28 (dk_at dksX1_comes_3 7 rfl rfl)
theorem dX1_comes_79 : decode cX1_comes 79 = .ok (.bipush 6, 2) := dk_16 6 (dk_at dksX1_comes_3 8 rfl rfl)
theorem dX1_comes_81 : decode cX1_comes 81 = .ok (.imul, 1) := dk_104 (dk_at dksX1_comes_3 10 rfl rfl)
theorem dX1_comes_82 : decode cX1_comes 82 = .ok (.iload_n 3, 1) := dk_29 (dk_at dksX1_comes_3 11 rfl rfl)
theorem dX1_comes_83 : decode cX1_comes 83 = .ok (.iadd, 1) := dk_96 (dk_at dksX1_comes_3 12 rfl rfl)
theorem dX1_comes_84 : decode cX1_comes 84 = .ok (.aload_n 1, 1) := dk_43 (dk_at dksX1_comes_3 13 rfl rfl)
theorem dX1_comes_85 : decode cX1_comes 85 = .ok (.iload_n 3, 1) := dk_29 (dk_at dksX1_comes_3 14 rfl rfl)
theorem dX1_comes_86 : decode cX1_comes 86 = .ok (.iaload, 1) := dk_46 (dk_at dksX1_comes_3 15 rfl rfl)
theorem dX1_comes_87 : decode cX1_comes 87 = .ok (.iastore, 1) := dk_79 (dk_at dksX1_comes_3 16 rfl rfl)
theorem dX1_comes_88 : decode cX1_comes 88 = .ok (.iinc 3 1, 3) := dk_132 3 1 (dk_at dksX1_comes_3 17 rfl rfl)
theorem dX1_comes_91 : decode cX1_comes 91 = .ok (.goto (-25), 3) := dk_167 255 231 (dk_at dksX1_comes_3 20 rfl rfl)
theorem dX1_comes_94 : decode cX1_comes 94 = .ok (.aload_n 0, 1) := dk_42 (dk_at dksX1_comes_3 23 rfl rfl)
theorem dX1_comes_95 : decode cX1_comes 95 = .ok (.dup, 1) := dk_89 (dk_at dksX1_comes_4 0 rfl rfl)
theorem dX1_comes_96 : decode cX1_comes 96 = .ok (.getfield 28, 3) := dk_180 0 28 (dk_at dksX1_comes_4 1 rfl rfl)
theorem dX1_comes_99 : decode cX1_comes 99 = .ok (.iconst 1, 1) := dk_4 (dk_at dksX1_comes_4 4 rfl rfl)
theorem dX1_comes_100 : decode cX1_comes 100 = .ok (.iadd, 1) := dk_96 (dk_at dksX1_comes_4 5 rfl rfl)
theorem dX1_comes_101 : decode cX1_comes 101 = .ok (.putfield 28, 3) := dk_181 0 28 (dk_at dksX1_comes_4 6 rfl rfl)
theorem dX1_comes_104 : decode cX1_comes 104 = .ok (.return_, 1) := dk_177 (dk_at dksX1_comes_4 9 rfl rfl)
abbrev cX1_compare : ByteArray := prog_2_method_5_code
def yX1_compare : MethodName := ⟨RX1, "compare", "(I[I)I"⟩
def dkwX1_compare_2 : List UInt8 := [132, 3, 1, 167, 255, 208, 3, 172]
abbrev dktX1_compare_2 : List UInt8 := dkwX1_compare_2 ++ []
def dkwX1_compare_1 : List UInt8 := [29, 182, 0, 41, 184, 0, 45, 44, 29, 46, 184, 0, 45, 148, 156, 0, 7, 2, 167, 0, 4, 4, 172]
abbrev dktX1_compare_1 : List UInt8 := dkwX1_compare_1 ++ dktX1_compare_2
def dkwX1_compare_0 : List UInt8 := [3, 62, 29, 42, 180, 0, 24, 162, 0, 46, 42, 27, 29, 182, 0, 41, 44, 29, 46, 159, 0, 28, 42, 27]
abbrev dktX1_compare_0 : List UInt8 := dkwX1_compare_0 ++ dktX1_compare_1
theorem dksX1_compare_0 : cX1_compare.data.toList.drop 0 = dktX1_compare_0 := by decide +kernel
theorem dksX1_compare_1 : cX1_compare.data.toList.drop 24 = dktX1_compare_1 := dk_seg dksX1_compare_0 24 rfl rfl
theorem dksX1_compare_2 : cX1_compare.data.toList.drop 47 = dktX1_compare_2 := dk_seg dksX1_compare_1 23 rfl rfl
theorem dX1_compare_0 : decode cX1_compare 0 = .ok (.iconst 0, 1) := dk_3 (dk_at dksX1_compare_0 0 rfl rfl)
theorem dX1_compare_1 : decode cX1_compare 1 = .ok (.istore_n 3, 1) := dk_62 (dk_at dksX1_compare_0 1 rfl rfl)
theorem dX1_compare_2 : decode cX1_compare 2 = .ok (.iload_n 3, 1) := dk_29 (dk_at dksX1_compare_0 2 rfl rfl)
theorem dX1_compare_3 : decode cX1_compare 3 = .ok (.aload_n 0, 1) := dk_42 (dk_at dksX1_compare_0 3 rfl rfl)
theorem dX1_compare_4 : decode cX1_compare 4 = .ok (.getfield 24, 3) := dk_180 0 24 (dk_at dksX1_compare_0 4 rfl rfl)
theorem dX1_compare_7 : decode cX1_compare 7 = .ok (.if_icmp .ge 46, 3) := dk_162 0 46 (dk_at dksX1_compare_0 7 rfl rfl)
theorem dX1_compare_10 : decode cX1_compare 10 = .ok (.aload_n 0, 1) := dk_42 (dk_at dksX1_compare_0 10 rfl rfl)
theorem dX1_compare_11 : decode cX1_compare 11 = .ok (.iload_n 1, 1) := dk_27 (dk_at dksX1_compare_0 11 rfl rfl)
theorem dX1_compare_12 : decode cX1_compare 12 = .ok (.iload_n 3, 1) := dk_29 (dk_at dksX1_compare_0 12 rfl rfl)
theorem dX1_compare_13 : decode cX1_compare 13 = .ok (.invokevirtual 41, 3) := dk_182 0 41 (dk_at dksX1_compare_0 13 rfl rfl)
theorem dX1_compare_16 : decode cX1_compare 16 = .ok (.aload_n 2, 1) := dk_44 (dk_at dksX1_compare_0 16 rfl rfl)
theorem dX1_compare_17 : decode cX1_compare 17 = .ok (.iload_n 3, 1) := dk_29 (dk_at dksX1_compare_0 17 rfl rfl)
theorem dX1_compare_18 : decode cX1_compare 18 = .ok (.iaload, 1) := dk_46 (dk_at dksX1_compare_0 18 rfl rfl)
theorem dX1_compare_19 : decode cX1_compare 19 = .ok (.if_icmp .eq 28, 3) := dk_159 0 28 (dk_at dksX1_compare_0 19 rfl rfl)
theorem dX1_compare_22 : decode cX1_compare 22 = .ok (.aload_n 0, 1) := dk_42 (dk_at dksX1_compare_0 22 rfl rfl)
theorem dX1_compare_23 : decode cX1_compare 23 = .ok (.iload_n 1, 1) := dk_27 (dk_at dksX1_compare_0 23 rfl rfl)
theorem dX1_compare_24 : decode cX1_compare 24 = .ok (.iload_n 3, 1) := dk_29 (dk_at dksX1_compare_1 0 rfl rfl)
theorem dX1_compare_25 : decode cX1_compare 25 = .ok (.invokevirtual 41, 3) := dk_182 0 41 (dk_at dksX1_compare_1 1 rfl rfl)
theorem dX1_compare_28 : decode cX1_compare 28 = .ok (.invokestatic 45, 3) := dk_184 0 45 (dk_at dksX1_compare_1 4 rfl rfl)
theorem dX1_compare_31 : decode cX1_compare 31 = .ok (.aload_n 2, 1) := dk_44 (dk_at dksX1_compare_1 7 rfl rfl)
theorem dX1_compare_32 : decode cX1_compare 32 = .ok (.iload_n 3, 1) := dk_29 (dk_at dksX1_compare_1 8 rfl rfl)
theorem dX1_compare_33 : decode cX1_compare 33 = .ok (.iaload, 1) := dk_46 (dk_at dksX1_compare_1 9 rfl rfl)
theorem dX1_compare_34 : decode cX1_compare 34 = .ok (.invokestatic 45, 3) := dk_184 0 45 (dk_at dksX1_compare_1 10 rfl rfl)
theorem dX1_compare_37 : decode cX1_compare 37 = .ok (.lcmp, 1) := dk_148 (dk_at dksX1_compare_1 13 rfl rfl)
theorem dX1_compare_38 : decode cX1_compare 38 = .ok (.ifCond .ge 7, 3) := dk_156 0 7 (dk_at dksX1_compare_1 14 rfl rfl)
theorem dX1_compare_41 : decode cX1_compare 41 = .ok (.iconst (-1), 1) := dk_2 (dk_at dksX1_compare_1 17 rfl rfl)
theorem dX1_compare_42 : decode cX1_compare 42 = .ok (.goto 4, 3) := dk_167 0 4 (dk_at dksX1_compare_1 18 rfl rfl)
theorem dX1_compare_45 : decode cX1_compare 45 = .ok (.iconst 1, 1) := dk_4 (dk_at dksX1_compare_1 21 rfl rfl)
theorem dX1_compare_46 : decode cX1_compare 46 = .ok (.ireturn, 1) := dk_172 (dk_at dksX1_compare_1 22 rfl rfl)
theorem dX1_compare_47 : decode cX1_compare 47 = .ok (.iinc 3 1, 3) := dk_132 3 1 (dk_at dksX1_compare_2 0 rfl rfl)
theorem dX1_compare_50 : decode cX1_compare 50 = .ok (.goto (-48), 3) := dk_167 255 208 (dk_at dksX1_compare_2 3 rfl rfl)
theorem dX1_compare_53 : decode cX1_compare 53 = .ok (.iconst 0, 1) := dk_3 (dk_at dksX1_compare_2 6 rfl rfl)
theorem dX1_compare_54 : decode cX1_compare 54 = .ok (.ireturn, 1) := dk_172 (dk_at dksX1_compare_2 7 rfl rfl)
abbrev cX1_at : ByteArray := prog_2_method_2_code
def yX1_at : MethodName := ⟨RX1, "at", "(II)I"⟩
def dkwX1_at_0 : List UInt8 := [42, 180, 0, 9, 27, 16, 6, 104, 28, 96, 46, 172]
abbrev dktX1_at_0 : List UInt8 := dkwX1_at_0 ++ []
theorem dksX1_at_0 : cX1_at.data.toList.drop 0 = dktX1_at_0 := by decide +kernel
theorem dX1_at_0 : decode cX1_at 0 = .ok (.aload_n 0, 1) := dk_42 (dk_at dksX1_at_0 0 rfl rfl)
theorem dX1_at_1 : decode cX1_at 1 = .ok (.getfield 9, 3) := dk_180 0 9 (dk_at dksX1_at_0 1 rfl rfl)
theorem dX1_at_4 : decode cX1_at 4 = .ok (.iload_n 1, 1) := dk_27 (dk_at dksX1_at_0 4 rfl rfl)
theorem dX1_at_5 : decode cX1_at 5 = .ok (.bipush 6, 2) := dk_16 6 (dk_at dksX1_at_0 5 rfl rfl)
theorem dX1_at_7 : decode cX1_at 7 = .ok (.imul, 1) := dk_104 (dk_at dksX1_at_0 7 rfl rfl)
theorem dX1_at_8 : decode cX1_at 8 = .ok (.iload_n 2, 1) := dk_28 (dk_at dksX1_at_0 8 rfl rfl)
theorem dX1_at_9 : decode cX1_at 9 = .ok (.iadd, 1) := dk_96 (dk_at dksX1_at_0 9 rfl rfl)
theorem dX1_at_10 : decode cX1_at 10 = .ok (.iaload, 1) := dk_46 (dk_at dksX1_at_0 10 rfl rfl)
theorem dX1_at_11 : decode cX1_at 11 = .ok (.ireturn, 1) := dk_172 (dk_at dksX1_at_0 11 rfl rfl)
abbrev cX1_tells : ByteArray := prog_2_method_7_code
def yX1_tells : MethodName := ⟨RX1, "tells", "(LJoinLoom$Question;)V"⟩
def dkwX1_tells_4 : List UInt8 := [167, 0, 4, 2, 79, 132, 3, 1, 167, 255, 196, 132, 2, 1, 167, 255, 152, 177]
abbrev dktX1_tells_4 : List UInt8 := dkwX1_tells_4 ++ []
def dkwX1_tells_3 : List UInt8 := [180, 0, 60, 154, 0, 22, 43, 180, 0, 56, 29, 50, 192, 0, 65, 42, 180, 0, 21, 182, 0, 67]
abbrev dktX1_tells_3 : List UInt8 := dkwX1_tells_3 ++ dktX1_tells_4
def dkwX1_tells_2 : List UInt8 := [180, 0, 18, 28, 16, 10, 104, 29, 96, 29, 43, 180, 0, 53, 162, 0, 34, 43, 180, 0, 56, 29, 50]
abbrev dktX1_tells_2 : List UInt8 := dkwX1_tells_2 ++ dktX1_tells_3
def dkwX1_tells_1 : List UInt8 := [29, 42, 28, 29, 182, 0, 41, 79, 132, 3, 1, 167, 255, 233, 3, 62, 29, 16, 10, 162, 0, 60, 42]
abbrev dktX1_tells_1 : List UInt8 := dkwX1_tells_1 ++ dktX1_tells_2
def dkwX1_tells_0 : List UInt8 := [3, 61, 28, 42, 180, 0, 28, 162, 0, 102, 3, 62, 29, 42, 180, 0, 24, 162, 0, 21, 42, 180, 0, 21]
abbrev dktX1_tells_0 : List UInt8 := dkwX1_tells_0 ++ dktX1_tells_1
theorem dksX1_tells_0 : cX1_tells.data.toList.drop 0 = dktX1_tells_0 := by decide +kernel
theorem dksX1_tells_1 : cX1_tells.data.toList.drop 24 = dktX1_tells_1 := dk_seg dksX1_tells_0 24 rfl rfl
theorem dksX1_tells_2 : cX1_tells.data.toList.drop 47 = dktX1_tells_2 := dk_seg dksX1_tells_1 23 rfl rfl
theorem dksX1_tells_3 : cX1_tells.data.toList.drop 70 = dktX1_tells_3 := dk_seg dksX1_tells_2 23 rfl rfl
theorem dksX1_tells_4 : cX1_tells.data.toList.drop 92 = dktX1_tells_4 := dk_seg dksX1_tells_3 22 rfl rfl
theorem dX1_tells_0 : decode cX1_tells 0 = .ok (.iconst 0, 1) := dk_3 (dk_at dksX1_tells_0 0 rfl rfl)
theorem dX1_tells_1 : decode cX1_tells 1 = .ok (.istore_n 2, 1) := dk_61 (dk_at dksX1_tells_0 1 rfl rfl)
theorem dX1_tells_2 : decode cX1_tells 2 = .ok (.iload_n 2, 1) := dk_28 (dk_at dksX1_tells_0 2 rfl rfl)
theorem dX1_tells_3 : decode cX1_tells 3 = .ok (.aload_n 0, 1) := dk_42 (dk_at dksX1_tells_0 3 rfl rfl)
theorem dX1_tells_4 : decode cX1_tells 4 = .ok (.getfield 28, 3) := dk_180 0 28 (dk_at dksX1_tells_0 4 rfl rfl)
theorem dX1_tells_7 : decode cX1_tells 7 = .ok (.if_icmp .ge 102, 3) := dk_162 0 102 (dk_at dksX1_tells_0 7 rfl rfl)
theorem dX1_tells_10 : decode cX1_tells 10 = .ok (.iconst 0, 1) := dk_3 (dk_at dksX1_tells_0 10 rfl rfl)
theorem dX1_tells_11 : decode cX1_tells 11 = .ok (.istore_n 3, 1) := dk_62 (dk_at dksX1_tells_0 11 rfl rfl)
theorem dX1_tells_12 : decode cX1_tells 12 = .ok (.iload_n 3, 1) := dk_29 (dk_at dksX1_tells_0 12 rfl rfl)
theorem dX1_tells_13 : decode cX1_tells 13 = .ok (.aload_n 0, 1) := dk_42 (dk_at dksX1_tells_0 13 rfl rfl)
theorem dX1_tells_14 : decode cX1_tells 14 = .ok (.getfield 24, 3) := dk_180 0 24 (dk_at dksX1_tells_0 14 rfl rfl)
theorem dX1_tells_17 : decode cX1_tells 17 = .ok (.if_icmp .ge 21, 3) := dk_162 0 21 (dk_at dksX1_tells_0 17 rfl rfl)
theorem dX1_tells_20 : decode cX1_tells 20 = .ok (.aload_n 0, 1) := dk_42 (dk_at dksX1_tells_0 20 rfl rfl)
theorem dX1_tells_21 : decode cX1_tells 21 = .ok (.getfield 21, 3) := dk_180 0 21 (dk_at dksX1_tells_0 21 rfl rfl)
theorem dX1_tells_24 : decode cX1_tells 24 = .ok (.iload_n 3, 1) := dk_29 (dk_at dksX1_tells_1 0 rfl rfl)
theorem dX1_tells_25 : decode cX1_tells 25 = .ok (.aload_n 0, 1) := dk_42 (dk_at dksX1_tells_1 1 rfl rfl)
theorem dX1_tells_26 : decode cX1_tells 26 = .ok (.iload_n 2, 1) := dk_28 (dk_at dksX1_tells_1 2 rfl rfl)
theorem dX1_tells_27 : decode cX1_tells 27 = .ok (.iload_n 3, 1) := dk_29 (dk_at dksX1_tells_1 3 rfl rfl)
theorem dX1_tells_28 : decode cX1_tells 28 = .ok (.invokevirtual 41, 3) := dk_182 0 41 (dk_at dksX1_tells_1 4 rfl rfl)
theorem dX1_tells_31 : decode cX1_tells 31 = .ok (.iastore, 1) := dk_79 (dk_at dksX1_tells_1 7 rfl rfl)
theorem dX1_tells_32 : decode cX1_tells 32 = .ok (.iinc 3 1, 3) := dk_132 3 1 (dk_at dksX1_tells_1 8 rfl rfl)
theorem dX1_tells_35 : decode cX1_tells 35 = .ok (.goto (-23), 3) := dk_167 255 233 (dk_at dksX1_tells_1 11 rfl rfl)
theorem dX1_tells_38 : decode cX1_tells 38 = .ok (.iconst 0, 1) := dk_3 (dk_at dksX1_tells_1 14 rfl rfl)
theorem dX1_tells_39 : decode cX1_tells 39 = .ok (.istore_n 3, 1) := dk_62 (dk_at dksX1_tells_1 15 rfl rfl)
theorem dX1_tells_40 : decode cX1_tells 40 = .ok (.iload_n 3, 1) := dk_29 (dk_at dksX1_tells_1 16 rfl rfl)
theorem dX1_tells_41 : decode cX1_tells 41 = .ok (.bipush 10, 2) := dk_16 10 (dk_at dksX1_tells_1 17 rfl rfl)
theorem dX1_tells_43 : decode cX1_tells 43 = .ok (.if_icmp .ge 60, 3) := dk_162 0 60 (dk_at dksX1_tells_1 19 rfl rfl)
theorem dX1_tells_46 : decode cX1_tells 46 = .ok (.aload_n 0, 1) := dk_42 (dk_at dksX1_tells_1 22 rfl rfl)
theorem dX1_tells_47 : decode cX1_tells 47 = .ok (.getfield 18, 3) := dk_180 0 18 (dk_at dksX1_tells_2 0 rfl rfl)
theorem dX1_tells_50 : decode cX1_tells 50 = .ok (.iload_n 2, 1) := dk_28 (dk_at dksX1_tells_2 3 rfl rfl)
theorem dX1_tells_51 : decode cX1_tells 51 = .ok (.bipush 10, 2) := dk_16 10 (dk_at dksX1_tells_2 4 rfl rfl)
theorem dX1_tells_53 : decode cX1_tells 53 = .ok (.imul, 1) := dk_104 (dk_at dksX1_tells_2 6 rfl rfl)
theorem dX1_tells_54 : decode cX1_tells 54 = .ok (.iload_n 3, 1) := dk_29 (dk_at dksX1_tells_2 7 rfl rfl)
theorem dX1_tells_55 : decode cX1_tells 55 = .ok (.iadd, 1) := dk_96 (dk_at dksX1_tells_2 8 rfl rfl)
theorem dX1_tells_56 : decode cX1_tells 56 = .ok (.iload_n 3, 1) := dk_29 (dk_at dksX1_tells_2 9 rfl rfl)
theorem dX1_tells_57 : decode cX1_tells 57 = .ok (.aload_n 1, 1) := dk_43 (dk_at dksX1_tells_2 10 rfl rfl)
theorem dX1_tells_58 : decode cX1_tells 58 = .ok (.getfield 53, 3) := dk_180 0 53 (dk_at dksX1_tells_2 11 rfl rfl)
theorem dX1_tells_61 : decode cX1_tells 61 = .ok (.if_icmp .ge 34, 3) := dk_162 0 34 (dk_at dksX1_tells_2 14 rfl rfl)
theorem dX1_tells_64 : decode cX1_tells 64 = .ok (.aload_n 1, 1) := dk_43 (dk_at dksX1_tells_2 17 rfl rfl)
theorem dX1_tells_65 : decode cX1_tells 65 = .ok (.getfield 56, 3) := dk_180 0 56 (dk_at dksX1_tells_2 18 rfl rfl)
theorem dX1_tells_68 : decode cX1_tells 68 = .ok (.iload_n 3, 1) := dk_29 (dk_at dksX1_tells_2 21 rfl rfl)
theorem dX1_tells_69 : decode cX1_tells 69 = .ok (.aaload, 1) := dk_50 (dk_at dksX1_tells_2 22 rfl rfl)
theorem dX1_tells_70 : decode cX1_tells 70 = .ok (.getfield 60, 3) := dk_180 0 60 (dk_at dksX1_tells_3 0 rfl rfl)
theorem dX1_tells_73 : decode cX1_tells 73 = .ok (.ifCond .ne 22, 3) := dk_154 0 22 (dk_at dksX1_tells_3 3 rfl rfl)
theorem dX1_tells_76 : decode cX1_tells 76 = .ok (.aload_n 1, 1) := dk_43 (dk_at dksX1_tells_3 6 rfl rfl)
theorem dX1_tells_77 : decode cX1_tells 77 = .ok (.getfield 56, 3) := dk_180 0 56 (dk_at dksX1_tells_3 7 rfl rfl)
theorem dX1_tells_80 : decode cX1_tells 80 = .ok (.iload_n 3, 1) := dk_29 (dk_at dksX1_tells_3 10 rfl rfl)
theorem dX1_tells_81 : decode cX1_tells 81 = .ok (.aaload, 1) := dk_50 (dk_at dksX1_tells_3 11 rfl rfl)
theorem dX1_tells_82 : decode cX1_tells 82 = .ok (.checkcast 65, 3) := dk_192 0 65 (dk_at dksX1_tells_3 12 rfl rfl)
theorem dX1_tells_85 : decode cX1_tells 85 = .ok (.aload_n 0, 1) := dk_42 (dk_at dksX1_tells_3 15 rfl rfl)
theorem dX1_tells_86 : decode cX1_tells 86 = .ok (.getfield 21, 3) := dk_180 0 21 (dk_at dksX1_tells_3 16 rfl rfl)
theorem dX1_tells_89 : decode cX1_tells 89 = .ok (.invokevirtual 67, 3) := dk_182 0 67 (dk_at dksX1_tells_3 19 rfl rfl)
theorem dX1_tells_92 : decode cX1_tells 92 = .ok (.goto 4, 3) := dk_167 0 4 (dk_at dksX1_tells_4 0 rfl rfl)
theorem dX1_tells_95 : decode cX1_tells 95 = .ok (.iconst (-1), 1) := dk_2 (dk_at dksX1_tells_4 3 rfl rfl)
theorem dX1_tells_96 : decode cX1_tells 96 = .ok (.iastore, 1) := dk_79 (dk_at dksX1_tells_4 4 rfl rfl)
theorem dX1_tells_97 : decode cX1_tells 97 = .ok (.iinc 3 1, 3) := dk_132 3 1 (dk_at dksX1_tells_4 5 rfl rfl)
theorem dX1_tells_100 : decode cX1_tells 100 = .ok (.goto (-60), 3) := dk_167 255 196 (dk_at dksX1_tells_4 8 rfl rfl)
theorem dX1_tells_103 : decode cX1_tells 103 = .ok (.iinc 2 1, 3) := dk_132 2 1 (dk_at dksX1_tells_4 11 rfl rfl)
theorem dX1_tells_106 : decode cX1_tells 106 = .ok (.goto (-104), 3) := dk_167 255 152 (dk_at dksX1_tells_4 14 rfl rfl)
theorem dX1_tells_109 : decode cX1_tells 109 = .ok (.return_, 1) := dk_177 (dk_at dksX1_tells_4 17 rfl rfl)
abbrev cX1_copy : ByteArray := prog_2_method_3_code
def yX1_copy : MethodName := ⟨RX1, "copy", "(LJoinLoom$Cloth;)V"⟩
def dkwX1_copy_3 : List UInt8 := [184, 0, 35, 177]
abbrev dktX1_copy_3 : List UInt8 := dkwX1_copy_3 ++ []
def dkwX1_copy_2 : List UInt8 := [180, 0, 15, 3, 16, 6, 184, 0, 35, 43, 180, 0, 18, 3, 42, 180, 0, 18, 3, 42, 180, 0, 18, 190]
abbrev dktX1_copy_2 : List UInt8 := dkwX1_copy_2 ++ dktX1_copy_3
def dkwX1_copy_1 : List UInt8 := [43, 180, 0, 9, 3, 42, 180, 0, 9, 3, 42, 180, 0, 9, 190, 184, 0, 35, 43, 180, 0, 15, 3, 42]
abbrev dktX1_copy_1 : List UInt8 := dkwX1_copy_1 ++ dktX1_copy_2
def dkwX1_copy_0 : List UInt8 := [42, 43, 180, 0, 24, 181, 0, 24, 42, 43, 180, 0, 28, 181, 0, 28, 42, 43, 180, 0, 31, 181, 0, 31]
abbrev dktX1_copy_0 : List UInt8 := dkwX1_copy_0 ++ dktX1_copy_1
theorem dksX1_copy_0 : cX1_copy.data.toList.drop 0 = dktX1_copy_0 := by decide +kernel
theorem dksX1_copy_1 : cX1_copy.data.toList.drop 24 = dktX1_copy_1 := dk_seg dksX1_copy_0 24 rfl rfl
theorem dksX1_copy_2 : cX1_copy.data.toList.drop 48 = dktX1_copy_2 := dk_seg dksX1_copy_1 24 rfl rfl
theorem dksX1_copy_3 : cX1_copy.data.toList.drop 72 = dktX1_copy_3 := dk_seg dksX1_copy_2 24 rfl rfl
theorem dX1_copy_0 : decode cX1_copy 0 = .ok (.aload_n 0, 1) := dk_42 (dk_at dksX1_copy_0 0 rfl rfl)
theorem dX1_copy_1 : decode cX1_copy 1 = .ok (.aload_n 1, 1) := dk_43 (dk_at dksX1_copy_0 1 rfl rfl)
theorem dX1_copy_2 : decode cX1_copy 2 = .ok (.getfield 24, 3) := dk_180 0 24 (dk_at dksX1_copy_0 2 rfl rfl)
theorem dX1_copy_5 : decode cX1_copy 5 = .ok (.putfield 24, 3) := dk_181 0 24 (dk_at dksX1_copy_0 5 rfl rfl)
theorem dX1_copy_8 : decode cX1_copy 8 = .ok (.aload_n 0, 1) := dk_42 (dk_at dksX1_copy_0 8 rfl rfl)
theorem dX1_copy_9 : decode cX1_copy 9 = .ok (.aload_n 1, 1) := dk_43 (dk_at dksX1_copy_0 9 rfl rfl)
theorem dX1_copy_10 : decode cX1_copy 10 = .ok (.getfield 28, 3) := dk_180 0 28 (dk_at dksX1_copy_0 10 rfl rfl)
theorem dX1_copy_13 : decode cX1_copy 13 = .ok (.putfield 28, 3) := dk_181 0 28 (dk_at dksX1_copy_0 13 rfl rfl)
theorem dX1_copy_16 : decode cX1_copy 16 = .ok (.aload_n 0, 1) := dk_42 (dk_at dksX1_copy_0 16 rfl rfl)
theorem dX1_copy_17 : decode cX1_copy 17 = .ok (.aload_n 1, 1) := dk_43 (dk_at dksX1_copy_0 17 rfl rfl)
theorem dX1_copy_18 : decode cX1_copy 18 = .ok (.getfield 31, 3) := dk_180 0 31 (dk_at dksX1_copy_0 18 rfl rfl)
theorem dX1_copy_21 : decode cX1_copy 21 = .ok (.putfield 31, 3) := dk_181 0 31 (dk_at dksX1_copy_0 21 rfl rfl)
theorem dX1_copy_24 : decode cX1_copy 24 = .ok (.aload_n 1, 1) := dk_43 (dk_at dksX1_copy_1 0 rfl rfl)
theorem dX1_copy_25 : decode cX1_copy 25 = .ok (.getfield 9, 3) := dk_180 0 9 (dk_at dksX1_copy_1 1 rfl rfl)
theorem dX1_copy_28 : decode cX1_copy 28 = .ok (.iconst 0, 1) := dk_3 (dk_at dksX1_copy_1 4 rfl rfl)
theorem dX1_copy_29 : decode cX1_copy 29 = .ok (.aload_n 0, 1) := dk_42 (dk_at dksX1_copy_1 5 rfl rfl)
theorem dX1_copy_30 : decode cX1_copy 30 = .ok (.getfield 9, 3) := dk_180 0 9 (dk_at dksX1_copy_1 6 rfl rfl)
theorem dX1_copy_33 : decode cX1_copy 33 = .ok (.iconst 0, 1) := dk_3 (dk_at dksX1_copy_1 9 rfl rfl)
theorem dX1_copy_34 : decode cX1_copy 34 = .ok (.aload_n 0, 1) := dk_42 (dk_at dksX1_copy_1 10 rfl rfl)
theorem dX1_copy_35 : decode cX1_copy 35 = .ok (.getfield 9, 3) := dk_180 0 9 (dk_at dksX1_copy_1 11 rfl rfl)
theorem dX1_copy_38 : decode cX1_copy 38 = .ok (.arraylength, 1) := dk_190 (dk_at dksX1_copy_1 14 rfl rfl)
theorem dX1_copy_39 : decode cX1_copy 39 = .ok (.invokestatic 35, 3) := dk_184 0 35 (dk_at dksX1_copy_1 15 rfl rfl)
theorem dX1_copy_42 : decode cX1_copy 42 = .ok (.aload_n 1, 1) := dk_43 (dk_at dksX1_copy_1 18 rfl rfl)
theorem dX1_copy_43 : decode cX1_copy 43 = .ok (.getfield 15, 3) := dk_180 0 15 (dk_at dksX1_copy_1 19 rfl rfl)
theorem dX1_copy_46 : decode cX1_copy 46 = .ok (.iconst 0, 1) := dk_3 (dk_at dksX1_copy_1 22 rfl rfl)
theorem dX1_copy_47 : decode cX1_copy 47 = .ok (.aload_n 0, 1) := dk_42 (dk_at dksX1_copy_1 23 rfl rfl)
theorem dX1_copy_48 : decode cX1_copy 48 = .ok (.getfield 15, 3) := dk_180 0 15 (dk_at dksX1_copy_2 0 rfl rfl)
theorem dX1_copy_51 : decode cX1_copy 51 = .ok (.iconst 0, 1) := dk_3 (dk_at dksX1_copy_2 3 rfl rfl)
theorem dX1_copy_52 : decode cX1_copy 52 = .ok (.bipush 6, 2) := dk_16 6 (dk_at dksX1_copy_2 4 rfl rfl)
theorem dX1_copy_54 : decode cX1_copy 54 = .ok (.invokestatic 35, 3) := dk_184 0 35 (dk_at dksX1_copy_2 6 rfl rfl)
theorem dX1_copy_57 : decode cX1_copy 57 = .ok (.aload_n 1, 1) := dk_43 (dk_at dksX1_copy_2 9 rfl rfl)
theorem dX1_copy_58 : decode cX1_copy 58 = .ok (.getfield 18, 3) := dk_180 0 18 (dk_at dksX1_copy_2 10 rfl rfl)
theorem dX1_copy_61 : decode cX1_copy 61 = .ok (.iconst 0, 1) := dk_3 (dk_at dksX1_copy_2 13 rfl rfl)
theorem dX1_copy_62 : decode cX1_copy 62 = .ok (.aload_n 0, 1) := dk_42 (dk_at dksX1_copy_2 14 rfl rfl)
theorem dX1_copy_63 : decode cX1_copy 63 = .ok (.getfield 18, 3) := dk_180 0 18 (dk_at dksX1_copy_2 15 rfl rfl)
theorem dX1_copy_66 : decode cX1_copy 66 = .ok (.iconst 0, 1) := dk_3 (dk_at dksX1_copy_2 18 rfl rfl)
theorem dX1_copy_67 : decode cX1_copy 67 = .ok (.aload_n 0, 1) := dk_42 (dk_at dksX1_copy_2 19 rfl rfl)
theorem dX1_copy_68 : decode cX1_copy 68 = .ok (.getfield 18, 3) := dk_180 0 18 (dk_at dksX1_copy_2 20 rfl rfl)
theorem dX1_copy_71 : decode cX1_copy 71 = .ok (.arraylength, 1) := dk_190 (dk_at dksX1_copy_2 23 rfl rfl)
theorem dX1_copy_72 : decode cX1_copy 72 = .ok (.invokestatic 35, 3) := dk_184 0 35 (dk_at dksX1_copy_3 0 rfl rfl)
theorem dX1_copy_75 : decode cX1_copy 75 = .ok (.return_, 1) := dk_177 (dk_at dksX1_copy_3 3 rfl rfl)
abbrev cX1_compare_2 : ByteArray := prog_2_method_4_code
def yX1_compare_2 : MethodName := ⟨RX1, "compare", "(ILJoinLoom$Cloth;I)I"⟩
def dkwX1_compare_2_2 : List UInt8 := [184, 0, 45, 148, 156, 0, 7, 2, 167, 0, 4, 4, 172, 132, 4, 1, 167, 255, 197, 3, 172]
abbrev dktX1_compare_2_2 : List UInt8 := dkwX1_compare_2_2 ++ []
def dkwX1_compare_2_1 : List UInt8 := [182, 0, 41, 159, 0, 33, 42, 27, 21, 4, 182, 0, 41, 184, 0, 45, 44, 29, 21, 4, 182, 0, 41]
abbrev dktX1_compare_2_1 : List UInt8 := dkwX1_compare_2_1 ++ dktX1_compare_2_2
def dkwX1_compare_2_0 : List UInt8 := [3, 54, 4, 21, 4, 42, 180, 0, 24, 162, 0, 56, 42, 27, 21, 4, 182, 0, 41, 44, 29, 21, 4]
abbrev dktX1_compare_2_0 : List UInt8 := dkwX1_compare_2_0 ++ dktX1_compare_2_1
theorem dksX1_compare_2_0 : cX1_compare_2.data.toList.drop 0 = dktX1_compare_2_0 := by decide +kernel
theorem dksX1_compare_2_1 : cX1_compare_2.data.toList.drop 23 = dktX1_compare_2_1 := dk_seg dksX1_compare_2_0 23 rfl rfl
theorem dksX1_compare_2_2 : cX1_compare_2.data.toList.drop 46 = dktX1_compare_2_2 := dk_seg dksX1_compare_2_1 23 rfl rfl
theorem dX1_compare_2_0 : decode cX1_compare_2 0 = .ok (.iconst 0, 1) := dk_3 (dk_at dksX1_compare_2_0 0 rfl rfl)
theorem dX1_compare_2_1 : decode cX1_compare_2 1 = .ok (.istore 4, 2) := dk_54 4 (dk_at dksX1_compare_2_0 1 rfl rfl)
theorem dX1_compare_2_3 : decode cX1_compare_2 3 = .ok (.iload 4, 2) := dk_21 4 (dk_at dksX1_compare_2_0 3 rfl rfl)
theorem dX1_compare_2_5 : decode cX1_compare_2 5 = .ok (.aload_n 0, 1) := dk_42 (dk_at dksX1_compare_2_0 5 rfl rfl)
theorem dX1_compare_2_6 : decode cX1_compare_2 6 = .ok (.getfield 24, 3) := dk_180 0 24 (dk_at dksX1_compare_2_0 6 rfl rfl)
theorem dX1_compare_2_9 : decode cX1_compare_2 9 = .ok (.if_icmp .ge 56, 3) := dk_162 0 56 (dk_at dksX1_compare_2_0 9 rfl rfl)
theorem dX1_compare_2_12 : decode cX1_compare_2 12 = .ok (.aload_n 0, 1) := dk_42 (dk_at dksX1_compare_2_0 12 rfl rfl)
theorem dX1_compare_2_13 : decode cX1_compare_2 13 = .ok (.iload_n 1, 1) := dk_27 (dk_at dksX1_compare_2_0 13 rfl rfl)
theorem dX1_compare_2_14 : decode cX1_compare_2 14 = .ok (.iload 4, 2) := dk_21 4 (dk_at dksX1_compare_2_0 14 rfl rfl)
theorem dX1_compare_2_16 : decode cX1_compare_2 16 = .ok (.invokevirtual 41, 3) := dk_182 0 41 (dk_at dksX1_compare_2_0 16 rfl rfl)
theorem dX1_compare_2_19 : decode cX1_compare_2 19 = .ok (.aload_n 2, 1) := dk_44 (dk_at dksX1_compare_2_0 19 rfl rfl)
theorem dX1_compare_2_20 : decode cX1_compare_2 20 = .ok (.iload_n 3, 1) := dk_29 (dk_at dksX1_compare_2_0 20 rfl rfl)
theorem dX1_compare_2_21 : decode cX1_compare_2 21 = .ok (.iload 4, 2) := dk_21 4 (dk_at dksX1_compare_2_0 21 rfl rfl)
theorem dX1_compare_2_23 : decode cX1_compare_2 23 = .ok (.invokevirtual 41, 3) := dk_182 0 41 (dk_at dksX1_compare_2_1 0 rfl rfl)
theorem dX1_compare_2_26 : decode cX1_compare_2 26 = .ok (.if_icmp .eq 33, 3) := dk_159 0 33 (dk_at dksX1_compare_2_1 3 rfl rfl)
theorem dX1_compare_2_29 : decode cX1_compare_2 29 = .ok (.aload_n 0, 1) := dk_42 (dk_at dksX1_compare_2_1 6 rfl rfl)
theorem dX1_compare_2_30 : decode cX1_compare_2 30 = .ok (.iload_n 1, 1) := dk_27 (dk_at dksX1_compare_2_1 7 rfl rfl)
theorem dX1_compare_2_31 : decode cX1_compare_2 31 = .ok (.iload 4, 2) := dk_21 4 (dk_at dksX1_compare_2_1 8 rfl rfl)
theorem dX1_compare_2_33 : decode cX1_compare_2 33 = .ok (.invokevirtual 41, 3) := dk_182 0 41 (dk_at dksX1_compare_2_1 10 rfl rfl)
theorem dX1_compare_2_36 : decode cX1_compare_2 36 = .ok (.invokestatic 45, 3) := dk_184 0 45 (dk_at dksX1_compare_2_1 13 rfl rfl)
theorem dX1_compare_2_39 : decode cX1_compare_2 39 = .ok (.aload_n 2, 1) := dk_44 (dk_at dksX1_compare_2_1 16 rfl rfl)
theorem dX1_compare_2_40 : decode cX1_compare_2 40 = .ok (.iload_n 3, 1) := dk_29 (dk_at dksX1_compare_2_1 17 rfl rfl)
theorem dX1_compare_2_41 : decode cX1_compare_2 41 = .ok (.iload 4, 2) := dk_21 4 (dk_at dksX1_compare_2_1 18 rfl rfl)
theorem dX1_compare_2_43 : decode cX1_compare_2 43 = .ok (.invokevirtual 41, 3) := dk_182 0 41 (dk_at dksX1_compare_2_1 20 rfl rfl)
theorem dX1_compare_2_46 : decode cX1_compare_2 46 = .ok (.invokestatic 45, 3) := dk_184 0 45 (dk_at dksX1_compare_2_2 0 rfl rfl)
theorem dX1_compare_2_49 : decode cX1_compare_2 49 = .ok (.lcmp, 1) := dk_148 (dk_at dksX1_compare_2_2 3 rfl rfl)
theorem dX1_compare_2_50 : decode cX1_compare_2 50 = .ok (.ifCond .ge 7, 3) := dk_156 0 7 (dk_at dksX1_compare_2_2 4 rfl rfl)
theorem dX1_compare_2_53 : decode cX1_compare_2 53 = .ok (.iconst (-1), 1) := dk_2 (dk_at dksX1_compare_2_2 7 rfl rfl)
theorem dX1_compare_2_54 : decode cX1_compare_2 54 = .ok (.goto 4, 3) := dk_167 0 4 (dk_at dksX1_compare_2_2 8 rfl rfl)
theorem dX1_compare_2_57 : decode cX1_compare_2 57 = .ok (.iconst 1, 1) := dk_4 (dk_at dksX1_compare_2_2 11 rfl rfl)
theorem dX1_compare_2_58 : decode cX1_compare_2 58 = .ok (.ireturn, 1) := dk_172 (dk_at dksX1_compare_2_2 12 rfl rfl)
theorem dX1_compare_2_59 : decode cX1_compare_2 59 = .ok (.iinc 4 1, 3) := dk_132 4 1 (dk_at dksX1_compare_2_2 13 rfl rfl)
theorem dX1_compare_2_62 : decode cX1_compare_2 62 = .ok (.goto (-59), 3) := dk_167 255 197 (dk_at dksX1_compare_2_2 16 rfl rfl)
theorem dX1_compare_2_65 : decode cX1_compare_2 65 = .ok (.iconst 0, 1) := dk_3 (dk_at dksX1_compare_2_2 19 rfl rfl)
theorem dX1_compare_2_66 : decode cX1_compare_2 66 = .ok (.ireturn, 1) := dk_172 (dk_at dksX1_compare_2_2 20 rfl rfl)
theorem q58 : (Jvm.Cond.initialized "JoinLoom$Cloth") ∈ lw_all := lw_g (lw_at lw_m1 2 rfl) rfl
theorem q82 : (Jvm.Cond.instantiable "JoinLoom$Cloth" (7 : Nat)) ∈ lw_all := lw_g (lw_at lw_m1 26 rfl) rfl
theorem q84 : (Jvm.Cond.instanceMethod ({ cls := "JoinLoom$Cloth", name := "<init>", desc := "()V" } : Jvm.MethodName)) ∈ lw_all := lw_g (lw_at lw_m1 28 rfl) rfl
theorem q85 : (Jvm.Cond.code ({ cls := "JoinLoom$Cloth", name := "<init>", desc := "()V" } : Jvm.MethodName) prog_2_method_1_code (1 : Nat) (Option.none : Option Jvm.ClassFile.FieldType)) ∈ lw_all := lw_g (lw_at lw_m1 29 rfl) rfl
theorem q86 : (Jvm.Cond.methodLink "JoinLoom$Cloth" (3 : Nat) ({ cls := "java/lang/Object", name := "<init>", desc := "()V" } : Jvm.MethodName)) ∈ lw_all := lw_g (lw_at lw_m1 30 rfl) rfl
theorem q88 : (Jvm.Cond.fieldLink "JoinLoom$Cloth" (24 : Nat) "JoinLoom$Cloth" "names" "I") ∈ lw_all := lw_g (lw_at lw_m1 32 rfl) rfl
theorem q91 : (Jvm.Cond.fieldLink "JoinLoom$Cloth" (28 : Nat) "JoinLoom$Cloth" "many" "I") ∈ lw_all := lw_g (lw_at lw_m1 35 rfl) rfl
theorem q93 : (Jvm.Cond.fieldLink "JoinLoom$Cloth" (9 : Nat) "JoinLoom$Cloth" "values" "[I") ∈ lw_all := lw_g (lw_at lw_m1 37 rfl) rfl
theorem q94 : (Jvm.Cond.fieldLink "JoinLoom$Cloth" (15 : Nat) "JoinLoom$Cloth" "meetings" "[I") ∈ lw_all := lw_g (lw_at lw_m1 38 rfl) rfl
theorem q97 : (Jvm.Cond.fieldLink "JoinLoom$Cloth" (18 : Nat) "JoinLoom$Cloth" "witness" "[I") ∈ lw_all := lw_g (lw_at lw_m1 41 rfl) rfl
theorem q100 : (Jvm.Cond.fieldLink "JoinLoom$Cloth" (31 : Nat) "JoinLoom$Cloth" "isThere" "Z") ∈ lw_all := lw_g (lw_at lw_m1 44 rfl) rfl
theorem q102 : (Jvm.Cond.fieldLink "JoinLoom$Cloth" (21 : Nat) "JoinLoom$Cloth" "row" "[I") ∈ lw_all := lw_g (lw_at lw_m1 46 rfl) rfl
theorem q103 : (Jvm.Cond.lays "JoinLoom$Cloth" "JoinLoom$Cloth" "names" "I") ∈ lw_all := lw_g (lw_at lw_m1 47 rfl) rfl
theorem q104 : (Jvm.Cond.soleField "JoinLoom$Cloth" "names") ∈ lw_all := lw_g (lw_at lw_m1 48 rfl) rfl
theorem q105 : (Jvm.Cond.lays "JoinLoom$Cloth" "JoinLoom$Cloth" "many" "I") ∈ lw_all := lw_g (lw_at lw_m1 49 rfl) rfl
theorem q106 : (Jvm.Cond.soleField "JoinLoom$Cloth" "many") ∈ lw_all := lw_g (lw_at lw_m1 50 rfl) rfl
theorem q107 : (Jvm.Cond.laysFinal "JoinLoom$Cloth" "JoinLoom$Cloth" "values" "[I") ∈ lw_all := lw_g (lw_at lw_m1 51 rfl) rfl
theorem q108 : (Jvm.Cond.soleField "JoinLoom$Cloth" "values") ∈ lw_all := lw_g (lw_at lw_m1 52 rfl) rfl
theorem q109 : (Jvm.Cond.laysFinal "JoinLoom$Cloth" "JoinLoom$Cloth" "meetings" "[I") ∈ lw_all := lw_g (lw_at lw_m1 53 rfl) rfl
theorem q110 : (Jvm.Cond.soleField "JoinLoom$Cloth" "meetings") ∈ lw_all := lw_g (lw_at lw_m1 54 rfl) rfl
theorem q111 : (Jvm.Cond.laysFinal "JoinLoom$Cloth" "JoinLoom$Cloth" "witness" "[I") ∈ lw_all := lw_g (lw_at lw_m1 55 rfl) rfl
theorem q112 : (Jvm.Cond.soleField "JoinLoom$Cloth" "witness") ∈ lw_all := lw_g (lw_at lw_m1 56 rfl) rfl
theorem q113 : (Jvm.Cond.lays "JoinLoom$Cloth" "JoinLoom$Cloth" "isThere" "Z") ∈ lw_all := lw_g (lw_at lw_m1 57 rfl) rfl
theorem q114 : (Jvm.Cond.soleField "JoinLoom$Cloth" "isThere") ∈ lw_all := lw_g (lw_at lw_m1 58 rfl) rfl
theorem q115 : (Jvm.Cond.laysFinal "JoinLoom$Cloth" "JoinLoom$Cloth" "row" "[I") ∈ lw_all := lw_g (lw_at lw_m1 59 rfl) rfl
theorem q116 : (Jvm.Cond.soleField "JoinLoom$Cloth" "row") ∈ lw_all := lw_g (lw_at lw_m1 60 rfl) rfl
theorem q117 : (Jvm.Cond.superclass "JoinLoom$Cloth" "java/lang/Object") ∈ lw_all := lw_g (lw_at lw_m1 61 rfl) rfl
theorem q332 : (Jvm.Cond.fieldLinkNest "JoinLoom$Cloth" (56 : Nat) "JoinLoom$Question" "parts" "[LJoinLoom$Part;" "JoinLoom") ∈ lw_tbl := lw_at lw_m2 36 rfl
theorem q336 : (Jvm.Cond.fieldLinkNest "JoinLoom$Cloth" (53 : Nat) "JoinLoom$Question" "many" "I" "JoinLoom") ∈ lw_tbl := lw_at lw_m2 40 rfl
theorem q382 : (Jvm.Cond.fieldLink "JoinLoom$Cloth" (60 : Nat) "JoinLoom$Part" "kind" "I") ∈ lw_all := lw_g (lw_at lw_m2 86 rfl) rfl
theorem q530 : (Jvm.Cond.instanceMethod ({ cls := "JoinLoom$Cloth", name := "comes", desc := "([I)V" } : Jvm.MethodName)) ∈ lw_all := lw_g (lw_at lw_m2 234 rfl) rfl
theorem q531 : (Jvm.Cond.selects "JoinLoom$Cloth" ({ cls := "JoinLoom$Cloth", name := "comes", desc := "([I)V" } : Jvm.MethodName) ({ cls := "JoinLoom$Cloth", name := "comes", desc := "([I)V" } : Jvm.MethodName)) ∈ lw_all := lw_g (lw_at lw_m2 235 rfl) rfl
theorem q532 : (Jvm.Cond.code ({ cls := "JoinLoom$Cloth", name := "comes", desc := "([I)V" } : Jvm.MethodName) prog_2_method_6_code (4 : Nat) (Option.none : Option Jvm.ClassFile.FieldType)) ∈ lw_all := lw_g (lw_at lw_m2 236 rfl) rfl
theorem q533 : (Jvm.Cond.methodLink "JoinLoom$Cloth" (49 : Nat) ({ cls := "JoinLoom$Cloth", name := "compare", desc := "(I[I)I" } : Jvm.MethodName)) ∈ lw_all := lw_g (lw_at lw_m2 237 rfl) rfl
theorem q534 : (Jvm.Cond.privateMethod ({ cls := "JoinLoom$Cloth", name := "compare", desc := "(I[I)I" } : Jvm.MethodName)) ∈ lw_tbl := lw_at lw_m2 238 rfl
theorem q535 : (Jvm.Cond.instanceMethod ({ cls := "JoinLoom$Cloth", name := "compare", desc := "(I[I)I" } : Jvm.MethodName)) ∈ lw_all := lw_g (lw_at lw_m2 239 rfl) rfl
theorem q536 : (Jvm.Cond.code ({ cls := "JoinLoom$Cloth", name := "compare", desc := "(I[I)I" } : Jvm.MethodName) prog_2_method_5_code (4 : Nat) (Option.some Jvm.ClassFile.FieldType.int)) ∈ lw_all := lw_g (lw_at lw_m3 0 rfl) rfl
theorem q537 : (Jvm.Cond.methodLink "JoinLoom$Cloth" (41 : Nat) ({ cls := "JoinLoom$Cloth", name := "at", desc := "(II)I" } : Jvm.MethodName)) ∈ lw_all := lw_g (lw_at lw_m3 1 rfl) rfl
theorem q538 : (Jvm.Cond.instanceMethod ({ cls := "JoinLoom$Cloth", name := "at", desc := "(II)I" } : Jvm.MethodName)) ∈ lw_all := lw_g (lw_at lw_m3 2 rfl) rfl
theorem q539 : (Jvm.Cond.selects "JoinLoom$Cloth" ({ cls := "JoinLoom$Cloth", name := "at", desc := "(II)I" } : Jvm.MethodName) ({ cls := "JoinLoom$Cloth", name := "at", desc := "(II)I" } : Jvm.MethodName)) ∈ lw_all := lw_g (lw_at lw_m3 3 rfl) rfl
theorem q540 : (Jvm.Cond.code ({ cls := "JoinLoom$Cloth", name := "at", desc := "(II)I" } : Jvm.MethodName) prog_2_method_2_code (3 : Nat) (Option.some Jvm.ClassFile.FieldType.int)) ∈ lw_all := lw_g (lw_at lw_m3 4 rfl) rfl
theorem q541 : (Jvm.Cond.methodLinkNest "JoinLoom$Cloth" (45 : Nat) ({ cls := "JoinLoom", name := "rank", desc := "(I)J" } : Jvm.MethodName) "JoinLoom") ∈ lw_tbl := lw_at lw_m3 5 rfl
theorem q634 : (Jvm.Cond.instanceMethod ({ cls := "JoinLoom$Cloth", name := "tells", desc := "(LJoinLoom$Question;)V" } : Jvm.MethodName)) ∈ lw_all := lw_g (lw_at lw_m3 98 rfl) rfl
theorem q635 : (Jvm.Cond.selects "JoinLoom$Cloth" ({ cls := "JoinLoom$Cloth", name := "tells", desc := "(LJoinLoom$Question;)V" } : Jvm.MethodName) ({ cls := "JoinLoom$Cloth", name := "tells", desc := "(LJoinLoom$Question;)V" } : Jvm.MethodName)) ∈ lw_all := lw_g (lw_at lw_m3 99 rfl) rfl
theorem q636 : (Jvm.Cond.code ({ cls := "JoinLoom$Cloth", name := "tells", desc := "(LJoinLoom$Question;)V" } : Jvm.MethodName) prog_2_method_7_code (4 : Nat) (Option.none : Option Jvm.ClassFile.FieldType)) ∈ lw_all := lw_g (lw_at lw_m3 100 rfl) rfl
theorem q637 : (Jvm.Cond.classLink "JoinLoom$Cloth" (65 : Nat) "JoinLoom$Has") ∈ lw_all := lw_g (lw_at lw_m3 101 rfl) rfl
theorem q638 : (Jvm.Cond.methodLink "JoinLoom$Cloth" (67 : Nat) ({ cls := "JoinLoom$Has", name := "row", desc := "([I)I" } : Jvm.MethodName)) ∈ lw_all := lw_g (lw_at lw_m3 102 rfl) rfl
theorem q640 : (Jvm.Cond.instanceMethod ({ cls := "JoinLoom$Cloth", name := "copy", desc := "(LJoinLoom$Cloth;)V" } : Jvm.MethodName)) ∈ lw_all := lw_g (lw_at lw_m3 104 rfl) rfl
theorem q641 : (Jvm.Cond.selects "JoinLoom$Cloth" ({ cls := "JoinLoom$Cloth", name := "copy", desc := "(LJoinLoom$Cloth;)V" } : Jvm.MethodName) ({ cls := "JoinLoom$Cloth", name := "copy", desc := "(LJoinLoom$Cloth;)V" } : Jvm.MethodName)) ∈ lw_all := lw_g (lw_at lw_m3 105 rfl) rfl
theorem q642 : (Jvm.Cond.code ({ cls := "JoinLoom$Cloth", name := "copy", desc := "(LJoinLoom$Cloth;)V" } : Jvm.MethodName) prog_2_method_3_code (2 : Nat) (Option.none : Option Jvm.ClassFile.FieldType)) ∈ lw_all := lw_g (lw_at lw_m3 106 rfl) rfl
theorem q643 : (Jvm.Cond.methodLink "JoinLoom$Cloth" (35 : Nat) ({ cls := "java/lang/System", name := "arraycopy", desc := "(Ljava/lang/Object;ILjava/lang/Object;II)V" } : Jvm.MethodName)) ∈ lw_all := lw_g (lw_at lw_m3 107 rfl) rfl
theorem q700 : (Jvm.Cond.instanceMethod ({ cls := "JoinLoom$Cloth", name := "compare", desc := "(ILJoinLoom$Cloth;I)I" } : Jvm.MethodName)) ∈ lw_all := lw_g (lw_at lw_m3 164 rfl) rfl
theorem q701 : (Jvm.Cond.selects "JoinLoom$Cloth" ({ cls := "JoinLoom$Cloth", name := "compare", desc := "(ILJoinLoom$Cloth;I)I" } : Jvm.MethodName) ({ cls := "JoinLoom$Cloth", name := "compare", desc := "(ILJoinLoom$Cloth;I)I" } : Jvm.MethodName)) ∈ lw_all := lw_g (lw_at lw_m3 165 rfl) rfl
theorem q702 : (Jvm.Cond.code ({ cls := "JoinLoom$Cloth", name := "compare", desc := "(ILJoinLoom$Cloth;I)I" } : Jvm.MethodName) prog_2_method_4_code (5 : Nat) (Option.some Jvm.ClassFile.FieldType.int)) ∈ lw_all := lw_g (lw_at lw_m3 166 rfl) rfl
theorem in_X1 : ∀ w ∈ wsX10, w ∈ lw_all := lw_in wsX10 [103, 105, 107, 109, 111, 113, 115] (by decide +kernel) (by decide +kernel)
