/-! JoinLoom -/
set_option maxRecDepth 100000
def RX0 : String := "JoinLoom"
def TX0 : u_T := fun k => match k with
  | 0 => ("JoinLoom", "tables", "[LJoinLoom$Table;", true)
  | 1 => ("JoinLoom", "question", "LJoinLoom$Question;", false)
  | 2 => ("JoinLoom", "woven", "LJoinLoom$Cloth;", true)
  | 3 => ("JoinLoom", "tried", "LJoinLoom$Cloth;", true)
  | 4 => ("JoinLoom", "kept", "LJoinLoom$Cloth;", true)
  | 5 => ("JoinLoom", "loom", "LJoinLoom$Loom;", true)
  | 6 => ("JoinLoom", "share", "[I", true)
  | 7 => ("JoinLoom", "cover", "[I", true)
  | 8 => ("JoinLoom", "way", "[I", true)
  | 9 => ("JoinLoom", "bestWay", "[I", true)
  | _ => ("JoinLoom", "bestMeetings", "I", false)
def tyX0 : Nat → FieldType := fun k => match k with
  | 0 => .array (.object "JoinLoom$Table")
  | 1 => .object "JoinLoom$Question"
  | 2 => .object "JoinLoom$Cloth"
  | 3 => .object "JoinLoom$Cloth"
  | 4 => .object "JoinLoom$Cloth"
  | 5 => .object "JoinLoom$Loom"
  | 6 => .array .int
  | 7 => .array .int
  | 8 => .array .int
  | 9 => .array .int
  | _ => .int
abbrev wsX00 : List Cond := u_ws RX0 TX0 11
theorem nmX0 : ∀ a, a < 11 → ∀ b, b < 11 → a ≠ b → (TX0 a).2.1 ≠ (TX0 b).2.1 := by decide +kernel
theorem tyX0_ok : ∀ k, k < 11 → parseFieldDescriptor (TX0 k).2.2.1 = some (tyX0 k) := by decide +kernel
abbrev cX0_init : ByteArray := prog_1_method_3_code
def yX0_init : MethodName := ⟨RX0, "<init>", "()V"⟩
def dkwX0_init_3 : List UInt8 := [181, 0, 42, 42, 16, 6, 188, 10, 181, 0, 45, 42, 16, 6, 188, 10, 181, 0, 48, 177]
abbrev dktX0_init_3 : List UInt8 := dkwX0_init_3 ++ []
def dkwX0_init_2 : List UInt8 := [187, 0, 31, 89, 183, 0, 33, 181, 0, 34, 42, 16, 10, 188, 10, 181, 0, 38, 42, 16, 10, 188, 10]
abbrev dktX0_init_2 : List UInt8 := dkwX0_init_2 ++ dktX0_init_3
def dkwX0_init_1 : List UInt8 := [42, 187, 0, 18, 89, 183, 0, 20, 181, 0, 25, 42, 187, 0, 18, 89, 183, 0, 20, 181, 0, 28, 42]
abbrev dktX0_init_1 : List UInt8 := dkwX0_init_1 ++ dktX0_init_2
def dkwX0_init_0 : List UInt8 := [42, 183, 0, 6, 42, 16, 8, 189, 0, 12, 181, 0, 14, 42, 187, 0, 18, 89, 183, 0, 20, 181, 0, 21]
abbrev dktX0_init_0 : List UInt8 := dkwX0_init_0 ++ dktX0_init_1
theorem dksX0_init_0 : cX0_init.data.toList.drop 0 = dktX0_init_0 := by decide +kernel
theorem dksX0_init_1 : cX0_init.data.toList.drop 24 = dktX0_init_1 := dk_seg dksX0_init_0 24 rfl rfl
theorem dksX0_init_2 : cX0_init.data.toList.drop 47 = dktX0_init_2 := dk_seg dksX0_init_1 23 rfl rfl
theorem dksX0_init_3 : cX0_init.data.toList.drop 70 = dktX0_init_3 := dk_seg dksX0_init_2 23 rfl rfl
theorem dX0_init_0 : decode cX0_init 0 = .ok (.aload_n 0, 1) := dk_42 (dk_at dksX0_init_0 0 rfl rfl)
theorem dX0_init_1 : decode cX0_init 1 = .ok (.invokespecial 6, 3) := dk_183 0 6 (dk_at dksX0_init_0 1 rfl rfl)
theorem dX0_init_4 : decode cX0_init 4 = .ok (.aload_n 0, 1) := dk_42 (dk_at dksX0_init_0 4 rfl rfl)
theorem dX0_init_5 : decode cX0_init 5 = .ok (.bipush 8, 2) := dk_16 8 (dk_at dksX0_init_0 5 rfl rfl)
theorem dX0_init_7 : decode cX0_init 7 = .ok (.anewarray 12, 3) := dk_189 0 12 (dk_at dksX0_init_0 7 rfl rfl)
theorem dX0_init_10 : decode cX0_init 10 = .ok (.putfield 14, 3) := dk_181 0 14 (dk_at dksX0_init_0 10 rfl rfl)
theorem dX0_init_13 : decode cX0_init 13 = .ok (.aload_n 0, 1) := dk_42 (dk_at dksX0_init_0 13 rfl rfl)
theorem dX0_init_14 : decode cX0_init 14 = .ok (.new 18, 3) := dk_187 0 18 (dk_at dksX0_init_0 14 rfl rfl)
theorem dX0_init_17 : decode cX0_init 17 = .ok (.dup, 1) := dk_89 (dk_at dksX0_init_0 17 rfl rfl)
theorem dX0_init_18 : decode cX0_init 18 = .ok (.invokespecial 20, 3) := dk_183 0 20 (dk_at dksX0_init_0 18 rfl rfl)
theorem dX0_init_21 : decode cX0_init 21 = .ok (.putfield 21, 3) := dk_181 0 21 (dk_at dksX0_init_0 21 rfl rfl)
theorem dX0_init_24 : decode cX0_init 24 = .ok (.aload_n 0, 1) := dk_42 (dk_at dksX0_init_1 0 rfl rfl)
theorem dX0_init_25 : decode cX0_init 25 = .ok (.new 18, 3) := dk_187 0 18 (dk_at dksX0_init_1 1 rfl rfl)
theorem dX0_init_28 : decode cX0_init 28 = .ok (.dup, 1) := dk_89 (dk_at dksX0_init_1 4 rfl rfl)
theorem dX0_init_29 : decode cX0_init 29 = .ok (.invokespecial 20, 3) := dk_183 0 20 (dk_at dksX0_init_1 5 rfl rfl)
theorem dX0_init_32 : decode cX0_init 32 = .ok (.putfield 25, 3) := dk_181 0 25 (dk_at dksX0_init_1 8 rfl rfl)
theorem dX0_init_35 : decode cX0_init 35 = .ok (.aload_n 0, 1) := dk_42 (dk_at dksX0_init_1 11 rfl rfl)
theorem dX0_init_36 : decode cX0_init 36 = .ok (.new 18, 3) := dk_187 0 18 (dk_at dksX0_init_1 12 rfl rfl)
theorem dX0_init_39 : decode cX0_init 39 = .ok (.dup, 1) := dk_89 (dk_at dksX0_init_1 15 rfl rfl)
theorem dX0_init_40 : decode cX0_init 40 = .ok (.invokespecial 20, 3) := dk_183 0 20 (dk_at dksX0_init_1 16 rfl rfl)
theorem dX0_init_43 : decode cX0_init 43 = .ok (.putfield 28, 3) := dk_181 0 28 (dk_at dksX0_init_1 19 rfl rfl)
theorem dX0_init_46 : decode cX0_init 46 = .ok (.aload_n 0, 1) := dk_42 (dk_at dksX0_init_1 22 rfl rfl)
theorem dX0_init_47 : decode cX0_init 47 = .ok (.new 31, 3) := dk_187 0 31 (dk_at dksX0_init_2 0 rfl rfl)
theorem dX0_init_50 : decode cX0_init 50 = .ok (.dup, 1) := dk_89 (dk_at dksX0_init_2 3 rfl rfl)
theorem dX0_init_51 : decode cX0_init 51 = .ok (.invokespecial 33, 3) := dk_183 0 33 (dk_at dksX0_init_2 4 rfl rfl)
theorem dX0_init_54 : decode cX0_init 54 = .ok (.putfield 34, 3) := dk_181 0 34 (dk_at dksX0_init_2 7 rfl rfl)
theorem dX0_init_57 : decode cX0_init 57 = .ok (.aload_n 0, 1) := dk_42 (dk_at dksX0_init_2 10 rfl rfl)
theorem dX0_init_58 : decode cX0_init 58 = .ok (.bipush 10, 2) := dk_16 10 (dk_at dksX0_init_2 11 rfl rfl)
theorem dX0_init_60 : decode cX0_init 60 = .ok (.newarray .int, 2) := dk_188_10 (dk_at dksX0_init_2 13 rfl rfl)
theorem dX0_init_62 : decode cX0_init 62 = .ok (.putfield 38, 3) := dk_181 0 38 (dk_at dksX0_init_2 15 rfl rfl)
theorem dX0_init_65 : decode cX0_init 65 = .ok (.aload_n 0, 1) := dk_42 (dk_at dksX0_init_2 18 rfl rfl)
theorem dX0_init_66 : decode cX0_init 66 = .ok (.bipush 10, 2) := dk_16 10 (dk_at dksX0_init_2 19 rfl rfl)
theorem dX0_init_68 : decode cX0_init 68 = .ok (.newarray .int, 2) := dk_188_10 (dk_at dksX0_init_2 21 rfl rfl)
theorem dX0_init_70 : decode cX0_init 70 = .ok (.putfield 42, 3) := dk_181 0 42 (dk_at dksX0_init_3 0 rfl rfl)
theorem dX0_init_73 : decode cX0_init 73 = .ok (.aload_n 0, 1) := dk_42 (dk_at dksX0_init_3 3 rfl rfl)
theorem dX0_init_74 : decode cX0_init 74 = .ok (.bipush 6, 2) := dk_16 6 (dk_at dksX0_init_3 4 rfl rfl)
theorem dX0_init_76 : decode cX0_init 76 = .ok (.newarray .int, 2) := dk_188_10 (dk_at dksX0_init_3 6 rfl rfl)
theorem dX0_init_78 : decode cX0_init 78 = .ok (.putfield 45, 3) := dk_181 0 45 (dk_at dksX0_init_3 8 rfl rfl)
theorem dX0_init_81 : decode cX0_init 81 = .ok (.aload_n 0, 1) := dk_42 (dk_at dksX0_init_3 11 rfl rfl)
theorem dX0_init_82 : decode cX0_init 82 = .ok (.bipush 6, 2) := dk_16 6 (dk_at dksX0_init_3 12 rfl rfl)
theorem dX0_init_84 : decode cX0_init 84 = .ok (.newarray .int, 2) := dk_188_10 (dk_at dksX0_init_3 14 rfl rfl)
theorem dX0_init_86 : decode cX0_init 86 = .ok (.putfield 48, 3) := dk_181 0 48 (dk_at dksX0_init_3 16 rfl rfl)
theorem dX0_init_89 : decode cX0_init 89 = .ok (.return_, 1) := dk_177 (dk_at dksX0_init_3 19 rfl rfl)
abbrev cX0_table : ByteArray := prog_1_method_5_code
def yX0_table : MethodName := ⟨RX0, "table", "(II)Z"⟩
def dkwX0_table_2 : List UInt8 := [89, 28, 183, 0, 65, 83, 4, 172]
abbrev dktX0_table_2 : List UInt8 := dkwX0_table_2 ++ []
def dkwX0_table_1 : List UInt8 := [198, 0, 16, 42, 180, 0, 55, 27, 182, 0, 59, 153, 0, 5, 3, 172, 42, 180, 0, 14, 27, 187, 0, 12]
abbrev dktX0_table_1 : List UInt8 := dkwX0_table_1 ++ dktX0_table_2
def dkwX0_table_0 : List UInt8 := [27, 3, 16, 7, 184, 0, 51, 153, 0, 30, 28, 4, 6, 184, 0, 51, 153, 0, 21, 42, 180, 0, 55]
abbrev dktX0_table_0 : List UInt8 := dkwX0_table_0 ++ dktX0_table_1
theorem dksX0_table_0 : cX0_table.data.toList.drop 0 = dktX0_table_0 := by decide +kernel
theorem dksX0_table_1 : cX0_table.data.toList.drop 23 = dktX0_table_1 := dk_seg dksX0_table_0 23 rfl rfl
theorem dksX0_table_2 : cX0_table.data.toList.drop 47 = dktX0_table_2 := dk_seg dksX0_table_1 24 rfl rfl
theorem dX0_table_0 : decode cX0_table 0 = .ok (.iload_n 1, 1) := dk_27 (dk_at dksX0_table_0 0 rfl rfl)
theorem dX0_table_1 : decode cX0_table 1 = .ok (.iconst 0, 1) := dk_3 (dk_at dksX0_table_0 1 rfl rfl)
theorem dX0_table_2 : decode cX0_table 2 = .ok (.bipush 7, 2) := dk_16 7 (dk_at dksX0_table_0 2 rfl rfl)
theorem dX0_table_4 : decode cX0_table 4 = .ok (.invokestatic 51, 3) := dk_184 0 51 (dk_at dksX0_table_0 4 rfl rfl)
theorem dX0_table_7 : decode cX0_table 7 = .ok (.ifCond .eq 30, 3) := dk_153 0 30 (dk_at dksX0_table_0 7 rfl rfl)
theorem dX0_table_10 : decode cX0_table 10 = .ok (.iload_n 2, 1) := dk_28 (dk_at dksX0_table_0 10 rfl rfl)
theorem dX0_table_11 : decode cX0_table 11 = .ok (.iconst 1, 1) := dk_4 (dk_at dksX0_table_0 11 rfl rfl)
theorem dX0_table_12 : decode cX0_table 12 = .ok (.iconst 3, 1) := dk_6 (dk_at dksX0_table_0 12 rfl rfl)
theorem dX0_table_13 : decode cX0_table 13 = .ok (.invokestatic 51, 3) := dk_184 0 51 (dk_at dksX0_table_0 13 rfl rfl)
theorem dX0_table_16 : decode cX0_table 16 = .ok (.ifCond .eq 21, 3) := dk_153 0 21 (dk_at dksX0_table_0 16 rfl rfl)
theorem dX0_table_19 : decode cX0_table 19 = .ok (.aload_n 0, 1) := dk_42 (dk_at dksX0_table_0 19 rfl rfl)
theorem dX0_table_20 : decode cX0_table 20 = .ok (.getfield 55, 3) := dk_180 0 55 (dk_at dksX0_table_0 20 rfl rfl)
theorem dX0_table_23 : decode cX0_table 23 = .ok (.ifnull 16, 3) := dk_198 0 16 (dk_at dksX0_table_1 0 rfl rfl)
theorem dX0_table_26 : decode cX0_table 26 = .ok (.aload_n 0, 1) := dk_42 (dk_at dksX0_table_1 3 rfl rfl)
theorem dX0_table_27 : decode cX0_table 27 = .ok (.getfield 55, 3) := dk_180 0 55 (dk_at dksX0_table_1 4 rfl rfl)
theorem dX0_table_30 : decode cX0_table 30 = .ok (.iload_n 1, 1) := dk_27 (dk_at dksX0_table_1 7 rfl rfl)
theorem dX0_table_31 : decode cX0_table 31 = .ok (.invokevirtual 59, 3) := dk_182 0 59 (dk_at dksX0_table_1 8 rfl rfl)
theorem dX0_table_34 : decode cX0_table 34 = .ok (.ifCond .eq 5, 3) := dk_153 0 5 (dk_at dksX0_table_1 11 rfl rfl)
theorem dX0_table_37 : decode cX0_table 37 = .ok (.iconst 0, 1) := dk_3 (dk_at dksX0_table_1 14 rfl rfl)
theorem dX0_table_38 : decode cX0_table 38 = .ok (.ireturn, 1) := dk_172 (dk_at dksX0_table_1 15 rfl rfl)
theorem dX0_table_39 : decode cX0_table 39 = .ok (.aload_n 0, 1) := dk_42 (dk_at dksX0_table_1 16 rfl rfl)
theorem dX0_table_40 : decode cX0_table 40 = .ok (.getfield 14, 3) := dk_180 0 14 (dk_at dksX0_table_1 17 rfl rfl)
theorem dX0_table_43 : decode cX0_table 43 = .ok (.iload_n 1, 1) := dk_27 (dk_at dksX0_table_1 20 rfl rfl)
theorem dX0_table_44 : decode cX0_table 44 = .ok (.new 12, 3) := dk_187 0 12 (dk_at dksX0_table_1 21 rfl rfl)
theorem dX0_table_47 : decode cX0_table 47 = .ok (.dup, 1) := dk_89 (dk_at dksX0_table_2 0 rfl rfl)
theorem dX0_table_48 : decode cX0_table 48 = .ok (.iload_n 2, 1) := dk_28 (dk_at dksX0_table_2 1 rfl rfl)
theorem dX0_table_49 : decode cX0_table 49 = .ok (.invokespecial 65, 3) := dk_183 0 65 (dk_at dksX0_table_2 2 rfl rfl)
theorem dX0_table_52 : decode cX0_table 52 = .ok (.aastore, 1) := dk_83 (dk_at dksX0_table_2 5 rfl rfl)
theorem dX0_table_53 : decode cX0_table 53 = .ok (.iconst 1, 1) := dk_4 (dk_at dksX0_table_2 6 rfl rfl)
theorem dX0_table_54 : decode cX0_table 54 = .ok (.ireturn, 1) := dk_172 (dk_at dksX0_table_2 7 rfl rfl)
abbrev cX0_in : ByteArray := prog_1_method_1_code
def yX0_in : MethodName := ⟨RX0, "in", "(III)Z"⟩
def dkwX0_in_0 : List UInt8 := [26, 27, 161, 0, 12, 26, 28, 163, 0, 7, 4, 167, 0, 4, 3, 172]
abbrev dktX0_in_0 : List UInt8 := dkwX0_in_0 ++ []
theorem dksX0_in_0 : cX0_in.data.toList.drop 0 = dktX0_in_0 := by decide +kernel
theorem dX0_in_0 : decode cX0_in 0 = .ok (.iload_n 0, 1) := dk_26 (dk_at dksX0_in_0 0 rfl rfl)
theorem dX0_in_1 : decode cX0_in 1 = .ok (.iload_n 1, 1) := dk_27 (dk_at dksX0_in_0 1 rfl rfl)
theorem dX0_in_2 : decode cX0_in 2 = .ok (.if_icmp .lt 12, 3) := dk_161 0 12 (dk_at dksX0_in_0 2 rfl rfl)
theorem dX0_in_5 : decode cX0_in 5 = .ok (.iload_n 0, 1) := dk_26 (dk_at dksX0_in_0 5 rfl rfl)
theorem dX0_in_6 : decode cX0_in 6 = .ok (.iload_n 2, 1) := dk_28 (dk_at dksX0_in_0 6 rfl rfl)
theorem dX0_in_7 : decode cX0_in 7 = .ok (.if_icmp .gt 7, 3) := dk_163 0 7 (dk_at dksX0_in_0 7 rfl rfl)
theorem dX0_in_10 : decode cX0_in 10 = .ok (.iconst 1, 1) := dk_4 (dk_at dksX0_in_0 10 rfl rfl)
theorem dX0_in_11 : decode cX0_in 11 = .ok (.goto 4, 3) := dk_167 0 4 (dk_at dksX0_in_0 11 rfl rfl)
theorem dX0_in_14 : decode cX0_in 14 = .ok (.iconst 0, 1) := dk_3 (dk_at dksX0_in_0 14 rfl rfl)
theorem dX0_in_15 : decode cX0_in 15 = .ok (.ireturn, 1) := dk_172 (dk_at dksX0_in_0 15 rfl rfl)
abbrev cX0_put : ByteArray := prog_1_method_6_code
def yX0_put : MethodName := ⟨RX0, "put", "(IIII)I"⟩
def dkwX0_put_2 : List UInt8 := [21, 4, 182, 0, 79, 28, 29, 21, 4, 182, 0, 82, 4, 172]
abbrev dktX0_put_2 : List UInt8 := dkwX0_put_2 ++ []
def dkwX0_put_1 : List UInt8 := [159, 0, 5, 3, 172, 25, 5, 180, 0, 75, 16, 40, 160, 0, 5, 2, 172, 25, 5, 25, 5, 28, 29]
abbrev dktX0_put_1 : List UInt8 := dkwX0_put_1 ++ dktX0_put_2
def dkwX0_put_0 : List UInt8 := [42, 27, 182, 0, 68, 58, 5, 25, 5, 199, 0, 5, 2, 172, 25, 5, 28, 29, 21, 4, 182, 0, 72, 2]
abbrev dktX0_put_0 : List UInt8 := dkwX0_put_0 ++ dktX0_put_1
theorem dksX0_put_0 : cX0_put.data.toList.drop 0 = dktX0_put_0 := by decide +kernel
theorem dksX0_put_1 : cX0_put.data.toList.drop 24 = dktX0_put_1 := dk_seg dksX0_put_0 24 rfl rfl
theorem dksX0_put_2 : cX0_put.data.toList.drop 47 = dktX0_put_2 := dk_seg dksX0_put_1 23 rfl rfl
theorem dX0_put_0 : decode cX0_put 0 = .ok (.aload_n 0, 1) := dk_42 (dk_at dksX0_put_0 0 rfl rfl)
theorem dX0_put_1 : decode cX0_put 1 = .ok (.iload_n 1, 1) := dk_27 (dk_at dksX0_put_0 1 rfl rfl)
theorem dX0_put_2 : decode cX0_put 2 = .ok (.invokevirtual 68, 3) := dk_182 0 68 (dk_at dksX0_put_0 2 rfl rfl)
theorem dX0_put_5 : decode cX0_put 5 = .ok (.astore 5, 2) := dk_58 5 (dk_at dksX0_put_0 5 rfl rfl)
theorem dX0_put_7 : decode cX0_put 7 = .ok (.aload 5, 2) := dk_25 5 (dk_at dksX0_put_0 7 rfl rfl)
theorem dX0_put_9 : decode cX0_put 9 = .ok (.ifnonnull 5, 3) := dk_199 0 5 (dk_at dksX0_put_0 9 rfl rfl)
theorem dX0_put_12 : decode cX0_put 12 = .ok (.iconst (-1), 1) := dk_2 (dk_at dksX0_put_0 12 rfl rfl)
theorem dX0_put_13 : decode cX0_put 13 = .ok (.ireturn, 1) := dk_172 (dk_at dksX0_put_0 13 rfl rfl)
theorem dX0_put_14 : decode cX0_put 14 = .ok (.aload 5, 2) := dk_25 5 (dk_at dksX0_put_0 14 rfl rfl)
theorem dX0_put_16 : decode cX0_put 16 = .ok (.iload_n 2, 1) := dk_28 (dk_at dksX0_put_0 16 rfl rfl)
theorem dX0_put_17 : decode cX0_put 17 = .ok (.iload_n 3, 1) := dk_29 (dk_at dksX0_put_0 17 rfl rfl)
theorem dX0_put_18 : decode cX0_put 18 = .ok (.iload 4, 2) := dk_21 4 (dk_at dksX0_put_0 18 rfl rfl)
theorem dX0_put_20 : decode cX0_put 20 = .ok (.invokevirtual 72, 3) := dk_182 0 72 (dk_at dksX0_put_0 20 rfl rfl)
theorem dX0_put_23 : decode cX0_put 23 = .ok (.iconst (-1), 1) := dk_2 (dk_at dksX0_put_0 23 rfl rfl)
theorem dX0_put_24 : decode cX0_put 24 = .ok (.if_icmp .eq 5, 3) := dk_159 0 5 (dk_at dksX0_put_1 0 rfl rfl)
theorem dX0_put_27 : decode cX0_put 27 = .ok (.iconst 0, 1) := dk_3 (dk_at dksX0_put_1 3 rfl rfl)
theorem dX0_put_28 : decode cX0_put 28 = .ok (.ireturn, 1) := dk_172 (dk_at dksX0_put_1 4 rfl rfl)
theorem dX0_put_29 : decode cX0_put 29 = .ok (.aload 5, 2) := dk_25 5 (dk_at dksX0_put_1 5 rfl rfl)
theorem dX0_put_31 : decode cX0_put 31 = .ok (.getfield 75, 3) := dk_180 0 75 (dk_at dksX0_put_1 7 rfl rfl)
theorem dX0_put_34 : decode cX0_put 34 = .ok (.bipush 40, 2) := dk_16 40 (dk_at dksX0_put_1 10 rfl rfl)
theorem dX0_put_36 : decode cX0_put 36 = .ok (.if_icmp .ne 5, 3) := dk_160 0 5 (dk_at dksX0_put_1 12 rfl rfl)
theorem dX0_put_39 : decode cX0_put 39 = .ok (.iconst (-1), 1) := dk_2 (dk_at dksX0_put_1 15 rfl rfl)
theorem dX0_put_40 : decode cX0_put 40 = .ok (.ireturn, 1) := dk_172 (dk_at dksX0_put_1 16 rfl rfl)
theorem dX0_put_41 : decode cX0_put 41 = .ok (.aload 5, 2) := dk_25 5 (dk_at dksX0_put_1 17 rfl rfl)
theorem dX0_put_43 : decode cX0_put 43 = .ok (.aload 5, 2) := dk_25 5 (dk_at dksX0_put_1 19 rfl rfl)
theorem dX0_put_45 : decode cX0_put 45 = .ok (.iload_n 2, 1) := dk_28 (dk_at dksX0_put_1 21 rfl rfl)
theorem dX0_put_46 : decode cX0_put 46 = .ok (.iload_n 3, 1) := dk_29 (dk_at dksX0_put_1 22 rfl rfl)
theorem dX0_put_47 : decode cX0_put 47 = .ok (.iload 4, 2) := dk_21 4 (dk_at dksX0_put_2 0 rfl rfl)
theorem dX0_put_49 : decode cX0_put 49 = .ok (.invokevirtual 79, 3) := dk_182 0 79 (dk_at dksX0_put_2 2 rfl rfl)
theorem dX0_put_52 : decode cX0_put 52 = .ok (.iload_n 2, 1) := dk_28 (dk_at dksX0_put_2 5 rfl rfl)
theorem dX0_put_53 : decode cX0_put 53 = .ok (.iload_n 3, 1) := dk_29 (dk_at dksX0_put_2 6 rfl rfl)
theorem dX0_put_54 : decode cX0_put 54 = .ok (.iload 4, 2) := dk_21 4 (dk_at dksX0_put_2 7 rfl rfl)
theorem dX0_put_56 : decode cX0_put 56 = .ok (.invokevirtual 82, 3) := dk_182 0 82 (dk_at dksX0_put_2 9 rfl rfl)
theorem dX0_put_59 : decode cX0_put 59 = .ok (.iconst 1, 1) := dk_4 (dk_at dksX0_put_2 12 rfl rfl)
theorem dX0_put_60 : decode cX0_put 60 = .ok (.ireturn, 1) := dk_172 (dk_at dksX0_put_2 13 rfl rfl)
abbrev cX0_find : ByteArray := prog_1_method_4_code
def yX0_find : MethodName := ⟨RX0, "find", "(I)LJoinLoom$Table;"⟩
def dkwX0_find_0 : List UInt8 := [27, 3, 16, 7, 184, 0, 51, 153, 0, 12, 42, 180, 0, 14, 27, 50, 167, 0, 4, 1, 176]
abbrev dktX0_find_0 : List UInt8 := dkwX0_find_0 ++ []
theorem dksX0_find_0 : cX0_find.data.toList.drop 0 = dktX0_find_0 := by decide +kernel
theorem dX0_find_0 : decode cX0_find 0 = .ok (.iload_n 1, 1) := dk_27 (dk_at dksX0_find_0 0 rfl rfl)
theorem dX0_find_1 : decode cX0_find 1 = .ok (.iconst 0, 1) := dk_3 (dk_at dksX0_find_0 1 rfl rfl)
theorem dX0_find_2 : decode cX0_find 2 = .ok (.bipush 7, 2) := dk_16 7 (dk_at dksX0_find_0 2 rfl rfl)
theorem dX0_find_4 : decode cX0_find 4 = .ok (.invokestatic 51, 3) := dk_184 0 51 (dk_at dksX0_find_0 4 rfl rfl)
theorem dX0_find_7 : decode cX0_find 7 = .ok (.ifCond .eq 12, 3) := dk_153 0 12 (dk_at dksX0_find_0 7 rfl rfl)
theorem dX0_find_10 : decode cX0_find 10 = .ok (.aload_n 0, 1) := dk_42 (dk_at dksX0_find_0 10 rfl rfl)
theorem dX0_find_11 : decode cX0_find 11 = .ok (.getfield 14, 3) := dk_180 0 14 (dk_at dksX0_find_0 11 rfl rfl)
theorem dX0_find_14 : decode cX0_find 14 = .ok (.iload_n 1, 1) := dk_27 (dk_at dksX0_find_0 14 rfl rfl)
theorem dX0_find_15 : decode cX0_find 15 = .ok (.aaload, 1) := dk_50 (dk_at dksX0_find_0 15 rfl rfl)
theorem dX0_find_16 : decode cX0_find 16 = .ok (.goto 4, 3) := dk_167 0 4 (dk_at dksX0_find_0 16 rfl rfl)
theorem dX0_find_19 : decode cX0_find 19 = .ok (.aconst_null, 1) := dk_1 (dk_at dksX0_find_0 19 rfl rfl)
theorem dX0_find_20 : decode cX0_find 20 = .ok (.areturn, 1) := dk_176 (dk_at dksX0_find_0 20 rfl rfl)
abbrev cX0_rank : ByteArray := prog_1_method_2_code
def yX0_rank : MethodName := ⟨RX0, "rank", "(I)J"⟩
def dkwX0_rank_0 : List UInt8 := [26, 18, 3, 160, 0, 9, 20, 0, 4, 167, 0, 5, 26, 133, 173]
abbrev dktX0_rank_0 : List UInt8 := dkwX0_rank_0 ++ []
theorem dksX0_rank_0 : cX0_rank.data.toList.drop 0 = dktX0_rank_0 := by decide +kernel
theorem dX0_rank_0 : decode cX0_rank 0 = .ok (.iload_n 0, 1) := dk_26 (dk_at dksX0_rank_0 0 rfl rfl)
theorem dX0_rank_1 : decode cX0_rank 1 = .ok (.ldc 3, 2) := dk_18 3 (dk_at dksX0_rank_0 1 rfl rfl)
theorem dX0_rank_3 : decode cX0_rank 3 = .ok (.if_icmp .ne 9, 3) := dk_160 0 9 (dk_at dksX0_rank_0 3 rfl rfl)
theorem dX0_rank_6 : decode cX0_rank 6 = .ok (.ldc2_w 4, 3) := dk_20 0 4 (dk_at dksX0_rank_0 6 rfl rfl)
theorem dX0_rank_9 : decode cX0_rank 9 = .ok (.goto 5, 3) := dk_167 0 5 (dk_at dksX0_rank_0 9 rfl rfl)
theorem dX0_rank_12 : decode cX0_rank 12 = .ok (.iload_n 0, 1) := dk_26 (dk_at dksX0_rank_0 12 rfl rfl)
theorem dX0_rank_13 : decode cX0_rank 13 = .ok (.i2l, 1) := dk_133 (dk_at dksX0_rank_0 13 rfl rfl)
theorem dX0_rank_14 : decode cX0_rank 14 = .ok (.lreturn, 1) := dk_173 (dk_at dksX0_rank_0 14 rfl rfl)
abbrev cX0_drop : ByteArray := prog_1_method_7_code
def yX0_drop : MethodName := ⟨RX0, "drop", "(IIII)Z"⟩
def dkwX0_drop_1 : List UInt8 := [160, 0, 5, 3, 172, 25, 5, 25, 5, 28, 29, 21, 4, 182, 0, 72, 182, 0, 86, 4, 172]
abbrev dktX0_drop_1 : List UInt8 := dkwX0_drop_1 ++ []
def dkwX0_drop_0 : List UInt8 := [42, 27, 182, 0, 68, 58, 5, 25, 5, 198, 0, 16, 25, 5, 28, 29, 21, 4, 182, 0, 72, 2]
abbrev dktX0_drop_0 : List UInt8 := dkwX0_drop_0 ++ dktX0_drop_1
theorem dksX0_drop_0 : cX0_drop.data.toList.drop 0 = dktX0_drop_0 := by decide +kernel
theorem dksX0_drop_1 : cX0_drop.data.toList.drop 22 = dktX0_drop_1 := dk_seg dksX0_drop_0 22 rfl rfl
theorem dX0_drop_0 : decode cX0_drop 0 = .ok (.aload_n 0, 1) := dk_42 (dk_at dksX0_drop_0 0 rfl rfl)
theorem dX0_drop_1 : decode cX0_drop 1 = .ok (.iload_n 1, 1) := dk_27 (dk_at dksX0_drop_0 1 rfl rfl)
theorem dX0_drop_2 : decode cX0_drop 2 = .ok (.invokevirtual 68, 3) := dk_182 0 68 (dk_at dksX0_drop_0 2 rfl rfl)
theorem dX0_drop_5 : decode cX0_drop 5 = .ok (.astore 5, 2) := dk_58 5 (dk_at dksX0_drop_0 5 rfl rfl)
theorem dX0_drop_7 : decode cX0_drop 7 = .ok (.aload 5, 2) := dk_25 5 (dk_at dksX0_drop_0 7 rfl rfl)
theorem dX0_drop_9 : decode cX0_drop 9 = .ok (.ifnull 16, 3) := dk_198 0 16 (dk_at dksX0_drop_0 9 rfl rfl)
theorem dX0_drop_12 : decode cX0_drop 12 = .ok (.aload 5, 2) := dk_25 5 (dk_at dksX0_drop_0 12 rfl rfl)
theorem dX0_drop_14 : decode cX0_drop 14 = .ok (.iload_n 2, 1) := dk_28 (dk_at dksX0_drop_0 14 rfl rfl)
theorem dX0_drop_15 : decode cX0_drop 15 = .ok (.iload_n 3, 1) := dk_29 (dk_at dksX0_drop_0 15 rfl rfl)
theorem dX0_drop_16 : decode cX0_drop 16 = .ok (.iload 4, 2) := dk_21 4 (dk_at dksX0_drop_0 16 rfl rfl)
theorem dX0_drop_18 : decode cX0_drop 18 = .ok (.invokevirtual 72, 3) := dk_182 0 72 (dk_at dksX0_drop_0 18 rfl rfl)
theorem dX0_drop_21 : decode cX0_drop 21 = .ok (.iconst (-1), 1) := dk_2 (dk_at dksX0_drop_0 21 rfl rfl)
theorem dX0_drop_22 : decode cX0_drop 22 = .ok (.if_icmp .ne 5, 3) := dk_160 0 5 (dk_at dksX0_drop_1 0 rfl rfl)
theorem dX0_drop_25 : decode cX0_drop 25 = .ok (.iconst 0, 1) := dk_3 (dk_at dksX0_drop_1 3 rfl rfl)
theorem dX0_drop_26 : decode cX0_drop 26 = .ok (.ireturn, 1) := dk_172 (dk_at dksX0_drop_1 4 rfl rfl)
theorem dX0_drop_27 : decode cX0_drop 27 = .ok (.aload 5, 2) := dk_25 5 (dk_at dksX0_drop_1 5 rfl rfl)
theorem dX0_drop_29 : decode cX0_drop 29 = .ok (.aload 5, 2) := dk_25 5 (dk_at dksX0_drop_1 7 rfl rfl)
theorem dX0_drop_31 : decode cX0_drop 31 = .ok (.iload_n 2, 1) := dk_28 (dk_at dksX0_drop_1 9 rfl rfl)
theorem dX0_drop_32 : decode cX0_drop 32 = .ok (.iload_n 3, 1) := dk_29 (dk_at dksX0_drop_1 10 rfl rfl)
theorem dX0_drop_33 : decode cX0_drop 33 = .ok (.iload 4, 2) := dk_21 4 (dk_at dksX0_drop_1 11 rfl rfl)
theorem dX0_drop_35 : decode cX0_drop 35 = .ok (.invokevirtual 72, 3) := dk_182 0 72 (dk_at dksX0_drop_1 13 rfl rfl)
theorem dX0_drop_38 : decode cX0_drop 38 = .ok (.invokevirtual 86, 3) := dk_182 0 86 (dk_at dksX0_drop_1 16 rfl rfl)
theorem dX0_drop_41 : decode cX0_drop 41 = .ok (.iconst 1, 1) := dk_4 (dk_at dksX0_drop_1 19 rfl rfl)
theorem dX0_drop_42 : decode cX0_drop 42 = .ok (.ireturn, 1) := dk_172 (dk_at dksX0_drop_1 20 rfl rfl)
abbrev cX0_rows : ByteArray := prog_1_method_8_code
def yX0_rows : MethodName := ⟨RX0, "rows", "(I)I"⟩
def dkwX0_rows_0 : List UInt8 := [42, 27, 182, 0, 68, 199, 0, 7, 2, 167, 0, 11, 42, 27, 182, 0, 68, 180, 0, 75, 172]
abbrev dktX0_rows_0 : List UInt8 := dkwX0_rows_0 ++ []
theorem dksX0_rows_0 : cX0_rows.data.toList.drop 0 = dktX0_rows_0 := by decide +kernel
theorem dX0_rows_0 : decode cX0_rows 0 = .ok (.aload_n 0, 1) := dk_42 (dk_at dksX0_rows_0 0 rfl rfl)
theorem dX0_rows_1 : decode cX0_rows 1 = .ok (.iload_n 1, 1) := dk_27 (dk_at dksX0_rows_0 1 rfl rfl)
theorem dX0_rows_2 : decode cX0_rows 2 = .ok (.invokevirtual 68, 3) := dk_182 0 68 (dk_at dksX0_rows_0 2 rfl rfl)
theorem dX0_rows_5 : decode cX0_rows 5 = .ok (.ifnonnull 7, 3) := dk_199 0 7 (dk_at dksX0_rows_0 5 rfl rfl)
theorem dX0_rows_8 : decode cX0_rows 8 = .ok (.iconst (-1), 1) := dk_2 (dk_at dksX0_rows_0 8 rfl rfl)
theorem dX0_rows_9 : decode cX0_rows 9 = .ok (.goto 11, 3) := dk_167 0 11 (dk_at dksX0_rows_0 9 rfl rfl)
theorem dX0_rows_12 : decode cX0_rows 12 = .ok (.aload_n 0, 1) := dk_42 (dk_at dksX0_rows_0 12 rfl rfl)
theorem dX0_rows_13 : decode cX0_rows 13 = .ok (.iload_n 1, 1) := dk_27 (dk_at dksX0_rows_0 13 rfl rfl)
theorem dX0_rows_14 : decode cX0_rows 14 = .ok (.invokevirtual 68, 3) := dk_182 0 68 (dk_at dksX0_rows_0 14 rfl rfl)
theorem dX0_rows_17 : decode cX0_rows 17 = .ok (.getfield 75, 3) := dk_180 0 75 (dk_at dksX0_rows_0 17 rfl rfl)
theorem dX0_rows_20 : decode cX0_rows 20 = .ok (.ireturn, 1) := dk_172 (dk_at dksX0_rows_0 20 rfl rfl)
abbrev cX0_row : ByteArray := prog_1_method_9_code
def yX0_row : MethodName := ⟨RX0, "row", "(III)I"⟩
def dkwX0_row_2 : List UInt8 := [182, 0, 92, 167, 0, 4, 3, 172]
abbrev dktX0_row_2 : List UInt8 := dkwX0_row_2 ++ []
def dkwX0_row_1 : List UInt8 := [153, 0, 28, 29, 3, 25, 4, 180, 0, 89, 4, 100, 184, 0, 51, 153, 0, 13, 25, 4, 28, 29]
abbrev dktX0_row_1 : List UInt8 := dkwX0_row_1 ++ dktX0_row_2
def dkwX0_row_0 : List UInt8 := [42, 27, 182, 0, 68, 58, 4, 25, 4, 198, 0, 43, 28, 3, 25, 4, 180, 0, 75, 4, 100, 184, 0, 51]
abbrev dktX0_row_0 : List UInt8 := dkwX0_row_0 ++ dktX0_row_1
theorem dksX0_row_0 : cX0_row.data.toList.drop 0 = dktX0_row_0 := by decide +kernel
theorem dksX0_row_1 : cX0_row.data.toList.drop 24 = dktX0_row_1 := dk_seg dksX0_row_0 24 rfl rfl
theorem dksX0_row_2 : cX0_row.data.toList.drop 46 = dktX0_row_2 := dk_seg dksX0_row_1 22 rfl rfl
theorem dX0_row_0 : decode cX0_row 0 = .ok (.aload_n 0, 1) := dk_42 (dk_at dksX0_row_0 0 rfl rfl)
theorem dX0_row_1 : decode cX0_row 1 = .ok (.iload_n 1, 1) := dk_27 (dk_at dksX0_row_0 1 rfl rfl)
theorem dX0_row_2 : decode cX0_row 2 = .ok (.invokevirtual 68, 3) := dk_182 0 68 (dk_at dksX0_row_0 2 rfl rfl)
theorem dX0_row_5 : decode cX0_row 5 = .ok (.astore 4, 2) := dk_58 4 (dk_at dksX0_row_0 5 rfl rfl)
theorem dX0_row_7 : decode cX0_row 7 = .ok (.aload 4, 2) := dk_25 4 (dk_at dksX0_row_0 7 rfl rfl)
theorem dX0_row_9 : decode cX0_row 9 = .ok (.ifnull 43, 3) := dk_198 0 43 (dk_at dksX0_row_0 9 rfl rfl)
theorem dX0_row_12 : decode cX0_row 12 = .ok (.iload_n 2, 1) := dk_28 (dk_at dksX0_row_0 12 rfl rfl)
theorem dX0_row_13 : decode cX0_row 13 = .ok (.iconst 0, 1) := dk_3 (dk_at dksX0_row_0 13 rfl rfl)
theorem dX0_row_14 : decode cX0_row 14 = .ok (.aload 4, 2) := dk_25 4 (dk_at dksX0_row_0 14 rfl rfl)
theorem dX0_row_16 : decode cX0_row 16 = .ok (.getfield 75, 3) := dk_180 0 75 (dk_at dksX0_row_0 16 rfl rfl)
theorem dX0_row_19 : decode cX0_row 19 = .ok (.iconst 1, 1) := dk_4 (dk_at dksX0_row_0 19 rfl rfl)
theorem dX0_row_20 : decode cX0_row 20 = .ok (.isub, 1) := dk_100 (dk_at dksX0_row_0 20 rfl rfl)
theorem dX0_row_21 : decode cX0_row 21 = .ok (.invokestatic 51, 3) := dk_184 0 51 (dk_at dksX0_row_0 21 rfl rfl)
theorem dX0_row_24 : decode cX0_row 24 = .ok (.ifCond .eq 28, 3) := dk_153 0 28 (dk_at dksX0_row_1 0 rfl rfl)
theorem dX0_row_27 : decode cX0_row 27 = .ok (.iload_n 3, 1) := dk_29 (dk_at dksX0_row_1 3 rfl rfl)
theorem dX0_row_28 : decode cX0_row 28 = .ok (.iconst 0, 1) := dk_3 (dk_at dksX0_row_1 4 rfl rfl)
theorem dX0_row_29 : decode cX0_row 29 = .ok (.aload 4, 2) := dk_25 4 (dk_at dksX0_row_1 5 rfl rfl)
theorem dX0_row_31 : decode cX0_row 31 = .ok (.getfield 89, 3) := dk_180 0 89 (dk_at dksX0_row_1 7 rfl rfl)
theorem dX0_row_34 : decode cX0_row 34 = .ok (.iconst 1, 1) := dk_4 (dk_at dksX0_row_1 10 rfl rfl)
theorem dX0_row_35 : decode cX0_row 35 = .ok (.isub, 1) := dk_100 (dk_at dksX0_row_1 11 rfl rfl)
theorem dX0_row_36 : decode cX0_row 36 = .ok (.invokestatic 51, 3) := dk_184 0 51 (dk_at dksX0_row_1 12 rfl rfl)
theorem dX0_row_39 : decode cX0_row 39 = .ok (.ifCond .eq 13, 3) := dk_153 0 13 (dk_at dksX0_row_1 15 rfl rfl)
theorem dX0_row_42 : decode cX0_row 42 = .ok (.aload 4, 2) := dk_25 4 (dk_at dksX0_row_1 18 rfl rfl)
theorem dX0_row_44 : decode cX0_row 44 = .ok (.iload_n 2, 1) := dk_28 (dk_at dksX0_row_1 20 rfl rfl)
theorem dX0_row_45 : decode cX0_row 45 = .ok (.iload_n 3, 1) := dk_29 (dk_at dksX0_row_1 21 rfl rfl)
theorem dX0_row_46 : decode cX0_row 46 = .ok (.invokevirtual 92, 3) := dk_182 0 92 (dk_at dksX0_row_2 0 rfl rfl)
theorem dX0_row_49 : decode cX0_row 49 = .ok (.goto 4, 3) := dk_167 0 4 (dk_at dksX0_row_2 3 rfl rfl)
theorem dX0_row_52 : decode cX0_row 52 = .ok (.iconst 0, 1) := dk_3 (dk_at dksX0_row_2 6 rfl rfl)
theorem dX0_row_53 : decode cX0_row 53 = .ok (.ireturn, 1) := dk_172 (dk_at dksX0_row_2 7 rfl rfl)
abbrev cX0_ask : ByteArray := prog_1_method_10_code
def yX0_ask : MethodName := ⟨RX0, "ask", "(I)Z"⟩
def dkwX0_ask_1 : List UInt8 := [4, 172]
abbrev dktX0_ask_1 : List UInt8 := dkwX0_ask_1 ++ []
def dkwX0_ask_0 : List UInt8 := [27, 4, 16, 6, 184, 0, 51, 154, 0, 5, 3, 172, 42, 187, 0, 60, 89, 27, 183, 0, 96, 181, 0, 55]
abbrev dktX0_ask_0 : List UInt8 := dkwX0_ask_0 ++ dktX0_ask_1
theorem dksX0_ask_0 : cX0_ask.data.toList.drop 0 = dktX0_ask_0 := by decide +kernel
theorem dksX0_ask_1 : cX0_ask.data.toList.drop 24 = dktX0_ask_1 := dk_seg dksX0_ask_0 24 rfl rfl
theorem dX0_ask_0 : decode cX0_ask 0 = .ok (.iload_n 1, 1) := dk_27 (dk_at dksX0_ask_0 0 rfl rfl)
theorem dX0_ask_1 : decode cX0_ask 1 = .ok (.iconst 1, 1) := dk_4 (dk_at dksX0_ask_0 1 rfl rfl)
theorem dX0_ask_2 : decode cX0_ask 2 = .ok (.bipush 6, 2) := dk_16 6 (dk_at dksX0_ask_0 2 rfl rfl)
theorem dX0_ask_4 : decode cX0_ask 4 = .ok (.invokestatic 51, 3) := dk_184 0 51 (dk_at dksX0_ask_0 4 rfl rfl)
theorem dX0_ask_7 : decode cX0_ask 7 = .ok (.ifCond .ne 5, 3) := dk_154 0 5 (dk_at dksX0_ask_0 7 rfl rfl)
theorem dX0_ask_10 : decode cX0_ask 10 = .ok (.iconst 0, 1) := dk_3 (dk_at dksX0_ask_0 10 rfl rfl)
theorem dX0_ask_11 : decode cX0_ask 11 = .ok (.ireturn, 1) := dk_172 (dk_at dksX0_ask_0 11 rfl rfl)
theorem dX0_ask_12 : decode cX0_ask 12 = .ok (.aload_n 0, 1) := dk_42 (dk_at dksX0_ask_0 12 rfl rfl)
theorem dX0_ask_13 : decode cX0_ask 13 = .ok (.new 60, 3) := dk_187 0 60 (dk_at dksX0_ask_0 13 rfl rfl)
theorem dX0_ask_16 : decode cX0_ask 16 = .ok (.dup, 1) := dk_89 (dk_at dksX0_ask_0 16 rfl rfl)
theorem dX0_ask_17 : decode cX0_ask 17 = .ok (.iload_n 1, 1) := dk_27 (dk_at dksX0_ask_0 17 rfl rfl)
theorem dX0_ask_18 : decode cX0_ask 18 = .ok (.invokespecial 96, 3) := dk_183 0 96 (dk_at dksX0_ask_0 18 rfl rfl)
theorem dX0_ask_21 : decode cX0_ask 21 = .ok (.putfield 55, 3) := dk_181 0 55 (dk_at dksX0_ask_0 21 rfl rfl)
theorem dX0_ask_24 : decode cX0_ask 24 = .ok (.iconst 1, 1) := dk_4 (dk_at dksX0_ask_1 0 rfl rfl)
theorem dX0_ask_25 : decode cX0_ask 25 = .ok (.ireturn, 1) := dk_172 (dk_at dksX0_ask_1 1 rfl rfl)
abbrev cX0_part : ByteArray := prog_1_method_11_code
def yX0_part : MethodName := ⟨RX0, "part", "(II)I"⟩
def dkwX0_part_4 : List UInt8 := [154, 0, 7, 4, 167, 0, 4, 3, 96, 181, 0, 98, 45, 180, 0, 97, 4, 100, 172]
abbrev dktX0_part_4 : List UInt8 := dkwX0_part_4 ++ []
def dkwX0_part_3 : List UInt8 := [187, 0, 106, 89, 42, 28, 182, 0, 68, 28, 183, 0, 108, 182, 0, 111, 45, 89, 180, 0, 98, 27]
abbrev dktX0_part_3 : List UInt8 := dkwX0_part_3 ++ dktX0_part_4
def dkwX0_part_2 : List UInt8 := [2, 172, 45, 27, 154, 0, 20, 187, 0, 101, 89, 3, 42, 28, 182, 0, 68, 28, 183, 0, 103, 167, 0, 16]
abbrev dktX0_part_2 : List UInt8 := dkwX0_part_2 ++ dktX0_part_3
def dkwX0_part_1 : List UInt8 := [198, 0, 24, 45, 180, 0, 97, 16, 10, 159, 0, 15, 27, 154, 0, 13, 45, 180, 0, 98, 8, 160, 0, 5]
abbrev dktX0_part_1 : List UInt8 := dkwX0_part_1 ++ dktX0_part_2
def dkwX0_part_0 : List UInt8 := [42, 180, 0, 55, 78, 45, 198, 0, 41, 27, 3, 4, 184, 0, 51, 153, 0, 32, 42, 28, 182, 0, 68]
abbrev dktX0_part_0 : List UInt8 := dkwX0_part_0 ++ dktX0_part_1
theorem dksX0_part_0 : cX0_part.data.toList.drop 0 = dktX0_part_0 := by decide +kernel
theorem dksX0_part_1 : cX0_part.data.toList.drop 23 = dktX0_part_1 := dk_seg dksX0_part_0 23 rfl rfl
theorem dksX0_part_2 : cX0_part.data.toList.drop 47 = dktX0_part_2 := dk_seg dksX0_part_1 24 rfl rfl
theorem dksX0_part_3 : cX0_part.data.toList.drop 71 = dktX0_part_3 := dk_seg dksX0_part_2 24 rfl rfl
theorem dksX0_part_4 : cX0_part.data.toList.drop 93 = dktX0_part_4 := dk_seg dksX0_part_3 22 rfl rfl
theorem dX0_part_0 : decode cX0_part 0 = .ok (.aload_n 0, 1) := dk_42 (dk_at dksX0_part_0 0 rfl rfl)
theorem dX0_part_1 : decode cX0_part 1 = .ok (.getfield 55, 3) := dk_180 0 55 (dk_at dksX0_part_0 1 rfl rfl)
theorem dX0_part_4 : decode cX0_part 4 = .ok (.astore_n 3, 1) := dk_78 (dk_at dksX0_part_0 4 rfl rfl)
theorem dX0_part_5 : decode cX0_part 5 = .ok (.aload_n 3, 1) := dk_45 (dk_at dksX0_part_0 5 rfl rfl)
theorem dX0_part_6 : decode cX0_part 6 = .ok (.ifnull 41, 3) := dk_198 0 41 (dk_at dksX0_part_0 6 rfl rfl)
theorem dX0_part_9 : decode cX0_part 9 = .ok (.iload_n 1, 1) := dk_27 (dk_at dksX0_part_0 9 rfl rfl)
theorem dX0_part_10 : decode cX0_part 10 = .ok (.iconst 0, 1) := dk_3 (dk_at dksX0_part_0 10 rfl rfl)
theorem dX0_part_11 : decode cX0_part 11 = .ok (.iconst 1, 1) := dk_4 (dk_at dksX0_part_0 11 rfl rfl)
theorem dX0_part_12 : decode cX0_part 12 = .ok (.invokestatic 51, 3) := dk_184 0 51 (dk_at dksX0_part_0 12 rfl rfl)
theorem dX0_part_15 : decode cX0_part 15 = .ok (.ifCond .eq 32, 3) := dk_153 0 32 (dk_at dksX0_part_0 15 rfl rfl)
theorem dX0_part_18 : decode cX0_part 18 = .ok (.aload_n 0, 1) := dk_42 (dk_at dksX0_part_0 18 rfl rfl)
theorem dX0_part_19 : decode cX0_part 19 = .ok (.iload_n 2, 1) := dk_28 (dk_at dksX0_part_0 19 rfl rfl)
theorem dX0_part_20 : decode cX0_part 20 = .ok (.invokevirtual 68, 3) := dk_182 0 68 (dk_at dksX0_part_0 20 rfl rfl)
theorem dX0_part_23 : decode cX0_part 23 = .ok (.ifnull 24, 3) := dk_198 0 24 (dk_at dksX0_part_1 0 rfl rfl)
theorem dX0_part_26 : decode cX0_part 26 = .ok (.aload_n 3, 1) := dk_45 (dk_at dksX0_part_1 3 rfl rfl)
theorem dX0_part_27 : decode cX0_part 27 = .ok (.getfield 97, 3) := dk_180 0 97 (dk_at dksX0_part_1 4 rfl rfl)
theorem dX0_part_30 : decode cX0_part 30 = .ok (.bipush 10, 2) := dk_16 10 (dk_at dksX0_part_1 7 rfl rfl)
theorem dX0_part_32 : decode cX0_part 32 = .ok (.if_icmp .eq 15, 3) := dk_159 0 15 (dk_at dksX0_part_1 9 rfl rfl)
theorem dX0_part_35 : decode cX0_part 35 = .ok (.iload_n 1, 1) := dk_27 (dk_at dksX0_part_1 12 rfl rfl)
theorem dX0_part_36 : decode cX0_part 36 = .ok (.ifCond .ne 13, 3) := dk_154 0 13 (dk_at dksX0_part_1 13 rfl rfl)
theorem dX0_part_39 : decode cX0_part 39 = .ok (.aload_n 3, 1) := dk_45 (dk_at dksX0_part_1 16 rfl rfl)
theorem dX0_part_40 : decode cX0_part 40 = .ok (.getfield 98, 3) := dk_180 0 98 (dk_at dksX0_part_1 17 rfl rfl)
theorem dX0_part_43 : decode cX0_part 43 = .ok (.iconst 5, 1) := dk_8 (dk_at dksX0_part_1 20 rfl rfl)
theorem dX0_part_44 : decode cX0_part 44 = .ok (.if_icmp .ne 5, 3) := dk_160 0 5 (dk_at dksX0_part_1 21 rfl rfl)
theorem dX0_part_47 : decode cX0_part 47 = .ok (.iconst (-1), 1) := dk_2 (dk_at dksX0_part_2 0 rfl rfl)
theorem dX0_part_48 : decode cX0_part 48 = .ok (.ireturn, 1) := dk_172 (dk_at dksX0_part_2 1 rfl rfl)
theorem dX0_part_49 : decode cX0_part 49 = .ok (.aload_n 3, 1) := dk_45 (dk_at dksX0_part_2 2 rfl rfl)
theorem dX0_part_50 : decode cX0_part 50 = .ok (.iload_n 1, 1) := dk_27 (dk_at dksX0_part_2 3 rfl rfl)
theorem dX0_part_51 : decode cX0_part 51 = .ok (.ifCond .ne 20, 3) := dk_154 0 20 (dk_at dksX0_part_2 4 rfl rfl)
theorem dX0_part_54 : decode cX0_part 54 = .ok (.new 101, 3) := dk_187 0 101 (dk_at dksX0_part_2 7 rfl rfl)
theorem dX0_part_57 : decode cX0_part 57 = .ok (.dup, 1) := dk_89 (dk_at dksX0_part_2 10 rfl rfl)
theorem dX0_part_58 : decode cX0_part 58 = .ok (.iconst 0, 1) := dk_3 (dk_at dksX0_part_2 11 rfl rfl)
theorem dX0_part_59 : decode cX0_part 59 = .ok (.aload_n 0, 1) := dk_42 (dk_at dksX0_part_2 12 rfl rfl)
theorem dX0_part_60 : decode cX0_part 60 = .ok (.iload_n 2, 1) := dk_28 (dk_at dksX0_part_2 13 rfl rfl)
theorem dX0_part_61 : decode cX0_part 61 = .ok (.invokevirtual 68, 3) := dk_182 0 68 (dk_at dksX0_part_2 14 rfl rfl)
theorem dX0_part_64 : decode cX0_part 64 = .ok (.iload_n 2, 1) := dk_28 (dk_at dksX0_part_2 17 rfl rfl)
theorem dX0_part_65 : decode cX0_part 65 = .ok (.invokespecial 103, 3) := dk_183 0 103 (dk_at dksX0_part_2 18 rfl rfl)
theorem dX0_part_68 : decode cX0_part 68 = .ok (.goto 16, 3) := dk_167 0 16 (dk_at dksX0_part_2 21 rfl rfl)
theorem dX0_part_71 : decode cX0_part 71 = .ok (.new 106, 3) := dk_187 0 106 (dk_at dksX0_part_3 0 rfl rfl)
theorem dX0_part_74 : decode cX0_part 74 = .ok (.dup, 1) := dk_89 (dk_at dksX0_part_3 3 rfl rfl)
theorem dX0_part_75 : decode cX0_part 75 = .ok (.aload_n 0, 1) := dk_42 (dk_at dksX0_part_3 4 rfl rfl)
theorem dX0_part_76 : decode cX0_part 76 = .ok (.iload_n 2, 1) := dk_28 (dk_at dksX0_part_3 5 rfl rfl)
theorem dX0_part_77 : decode cX0_part 77 = .ok (.invokevirtual 68, 3) := dk_182 0 68 (dk_at dksX0_part_3 6 rfl rfl)
theorem dX0_part_80 : decode cX0_part 80 = .ok (.iload_n 2, 1) := dk_28 (dk_at dksX0_part_3 9 rfl rfl)
theorem dX0_part_81 : decode cX0_part 81 = .ok (.invokespecial 108, 3) := dk_183 0 108 (dk_at dksX0_part_3 10 rfl rfl)
theorem dX0_part_84 : decode cX0_part 84 = .ok (.invokevirtual 111, 3) := dk_182 0 111 (dk_at dksX0_part_3 13 rfl rfl)
theorem dX0_part_87 : decode cX0_part 87 = .ok (.aload_n 3, 1) := dk_45 (dk_at dksX0_part_3 16 rfl rfl)
theorem dX0_part_88 : decode cX0_part 88 = .ok (.dup, 1) := dk_89 (dk_at dksX0_part_3 17 rfl rfl)
theorem dX0_part_89 : decode cX0_part 89 = .ok (.getfield 98, 3) := dk_180 0 98 (dk_at dksX0_part_3 18 rfl rfl)
theorem dX0_part_92 : decode cX0_part 92 = .ok (.iload_n 1, 1) := dk_27 (dk_at dksX0_part_3 21 rfl rfl)
theorem dX0_part_93 : decode cX0_part 93 = .ok (.ifCond .ne 7, 3) := dk_154 0 7 (dk_at dksX0_part_4 0 rfl rfl)
theorem dX0_part_96 : decode cX0_part 96 = .ok (.iconst 1, 1) := dk_4 (dk_at dksX0_part_4 3 rfl rfl)
theorem dX0_part_97 : decode cX0_part 97 = .ok (.goto 4, 3) := dk_167 0 4 (dk_at dksX0_part_4 4 rfl rfl)
theorem dX0_part_100 : decode cX0_part 100 = .ok (.iconst 0, 1) := dk_3 (dk_at dksX0_part_4 7 rfl rfl)
theorem dX0_part_101 : decode cX0_part 101 = .ok (.iadd, 1) := dk_96 (dk_at dksX0_part_4 8 rfl rfl)
theorem dX0_part_102 : decode cX0_part 102 = .ok (.putfield 98, 3) := dk_181 0 98 (dk_at dksX0_part_4 9 rfl rfl)
theorem dX0_part_105 : decode cX0_part 105 = .ok (.aload_n 3, 1) := dk_45 (dk_at dksX0_part_4 12 rfl rfl)
theorem dX0_part_106 : decode cX0_part 106 = .ok (.getfield 97, 3) := dk_180 0 97 (dk_at dksX0_part_4 13 rfl rfl)
theorem dX0_part_109 : decode cX0_part 109 = .ok (.iconst 1, 1) := dk_4 (dk_at dksX0_part_4 16 rfl rfl)
theorem dX0_part_110 : decode cX0_part 110 = .ok (.isub, 1) := dk_100 (dk_at dksX0_part_4 17 rfl rfl)
theorem dX0_part_111 : decode cX0_part 111 = .ok (.ireturn, 1) := dk_172 (dk_at dksX0_part_4 18 rfl rfl)
abbrev cX0_name : ByteArray := prog_1_method_13_code
def yX0_name : MethodName := ⟨RX0, "name", "(I)I"⟩
def dkwX0_name_0 : List UInt8 := [42, 4, 27, 182, 0, 135, 172]
abbrev dktX0_name_0 : List UInt8 := dkwX0_name_0 ++ []
theorem dksX0_name_0 : cX0_name.data.toList.drop 0 = dktX0_name_0 := by decide +kernel
theorem dX0_name_0 : decode cX0_name 0 = .ok (.aload_n 0, 1) := dk_42 (dk_at dksX0_name_0 0 rfl rfl)
theorem dX0_name_1 : decode cX0_name 1 = .ok (.iconst 1, 1) := dk_4 (dk_at dksX0_name_0 1 rfl rfl)
theorem dX0_name_2 : decode cX0_name 2 = .ok (.iload_n 1, 1) := dk_27 (dk_at dksX0_name_0 2 rfl rfl)
theorem dX0_name_3 : decode cX0_name 3 = .ok (.invokevirtual 135, 3) := dk_182 0 135 (dk_at dksX0_name_0 3 rfl rfl)
theorem dX0_name_6 : decode cX0_name 6 = .ok (.ireturn, 1) := dk_172 (dk_at dksX0_name_0 6 rfl rfl)
abbrev cX0_place : ByteArray := prog_1_method_12_code
def yX0_place : MethodName := ⟨RX0, "place", "(ZI)I"⟩
def dkwX0_place_4 : List UInt8 := [4, 96, 181, 0, 119, 45, 180, 0, 119, 172]
abbrev dktX0_place_4 : List UInt8 := dkwX0_place_4 ++ []
def dkwX0_place_3 : List UInt8 := [153, 0, 7, 28, 167, 0, 4, 2, 79, 45, 180, 0, 132, 45, 180, 0, 119, 28, 79, 45, 89, 180, 0, 119]
abbrev dktX0_place_3 : List UInt8 := dkwX0_place_3 ++ dktX0_place_4
def dkwX0_place_2 : List UInt8 := [180, 0, 126, 4, 100, 184, 0, 51, 154, 0, 5, 2, 172, 45, 180, 0, 129, 45, 180, 0, 119, 27]
abbrev dktX0_place_2 : List UInt8 := dkwX0_place_2 ++ dktX0_place_3
def dkwX0_place_1 : List UInt8 := [180, 0, 119, 45, 180, 0, 122, 180, 0, 89, 159, 0, 24, 27, 153, 0, 22, 28, 3, 42, 180, 0, 55]
abbrev dktX0_place_1 : List UInt8 := dkwX0_place_1 ++ dktX0_place_2
def dkwX0_place_0 : List UInt8 := [42, 180, 0, 55, 199, 0, 7, 1, 167, 0, 10, 42, 180, 0, 55, 182, 0, 115, 78, 45, 198, 0, 38, 45]
abbrev dktX0_place_0 : List UInt8 := dkwX0_place_0 ++ dktX0_place_1
theorem dksX0_place_0 : cX0_place.data.toList.drop 0 = dktX0_place_0 := by decide +kernel
theorem dksX0_place_1 : cX0_place.data.toList.drop 24 = dktX0_place_1 := dk_seg dksX0_place_0 24 rfl rfl
theorem dksX0_place_2 : cX0_place.data.toList.drop 47 = dktX0_place_2 := dk_seg dksX0_place_1 23 rfl rfl
theorem dksX0_place_3 : cX0_place.data.toList.drop 69 = dktX0_place_3 := dk_seg dksX0_place_2 22 rfl rfl
theorem dksX0_place_4 : cX0_place.data.toList.drop 93 = dktX0_place_4 := dk_seg dksX0_place_3 24 rfl rfl
theorem dX0_place_0 : decode cX0_place 0 = .ok (.aload_n 0, 1) := dk_42 (dk_at dksX0_place_0 0 rfl rfl)
theorem dX0_place_1 : decode cX0_place 1 = .ok (.getfield 55, 3) := dk_180 0 55 (dk_at dksX0_place_0 1 rfl rfl)
theorem dX0_place_4 : decode cX0_place 4 = .ok (.ifnonnull 7, 3) := dk_199 0 7 (dk_at dksX0_place_0 4 rfl rfl)
theorem dX0_place_7 : decode cX0_place 7 = .ok (.aconst_null, 1) := dk_1 (dk_at dksX0_place_0 7 rfl rfl)
theorem dX0_place_8 : decode cX0_place 8 = .ok (.goto 10, 3) := dk_167 0 10 (dk_at dksX0_place_0 8 rfl rfl)
theorem dX0_place_11 : decode cX0_place 11 = .ok (.aload_n 0, 1) := dk_42 (dk_at dksX0_place_0 11 rfl rfl)
theorem dX0_place_12 : decode cX0_place 12 = .ok (.getfield 55, 3) := dk_180 0 55 (dk_at dksX0_place_0 12 rfl rfl)
theorem dX0_place_15 : decode cX0_place 15 = .ok (.invokevirtual 115, 3) := dk_182 0 115 (dk_at dksX0_place_0 15 rfl rfl)
theorem dX0_place_18 : decode cX0_place 18 = .ok (.astore_n 3, 1) := dk_78 (dk_at dksX0_place_0 18 rfl rfl)
theorem dX0_place_19 : decode cX0_place 19 = .ok (.aload_n 3, 1) := dk_45 (dk_at dksX0_place_0 19 rfl rfl)
theorem dX0_place_20 : decode cX0_place 20 = .ok (.ifnull 38, 3) := dk_198 0 38 (dk_at dksX0_place_0 20 rfl rfl)
theorem dX0_place_23 : decode cX0_place 23 = .ok (.aload_n 3, 1) := dk_45 (dk_at dksX0_place_0 23 rfl rfl)
theorem dX0_place_24 : decode cX0_place 24 = .ok (.getfield 119, 3) := dk_180 0 119 (dk_at dksX0_place_1 0 rfl rfl)
theorem dX0_place_27 : decode cX0_place 27 = .ok (.aload_n 3, 1) := dk_45 (dk_at dksX0_place_1 3 rfl rfl)
theorem dX0_place_28 : decode cX0_place 28 = .ok (.getfield 122, 3) := dk_180 0 122 (dk_at dksX0_place_1 4 rfl rfl)
theorem dX0_place_31 : decode cX0_place 31 = .ok (.getfield 89, 3) := dk_180 0 89 (dk_at dksX0_place_1 7 rfl rfl)
theorem dX0_place_34 : decode cX0_place 34 = .ok (.if_icmp .eq 24, 3) := dk_159 0 24 (dk_at dksX0_place_1 10 rfl rfl)
theorem dX0_place_37 : decode cX0_place 37 = .ok (.iload_n 1, 1) := dk_27 (dk_at dksX0_place_1 13 rfl rfl)
theorem dX0_place_38 : decode cX0_place 38 = .ok (.ifCond .eq 22, 3) := dk_153 0 22 (dk_at dksX0_place_1 14 rfl rfl)
theorem dX0_place_41 : decode cX0_place 41 = .ok (.iload_n 2, 1) := dk_28 (dk_at dksX0_place_1 17 rfl rfl)
theorem dX0_place_42 : decode cX0_place 42 = .ok (.iconst 0, 1) := dk_3 (dk_at dksX0_place_1 18 rfl rfl)
theorem dX0_place_43 : decode cX0_place 43 = .ok (.aload_n 0, 1) := dk_42 (dk_at dksX0_place_1 19 rfl rfl)
theorem dX0_place_44 : decode cX0_place 44 = .ok (.getfield 55, 3) := dk_180 0 55 (dk_at dksX0_place_1 20 rfl rfl)
theorem dX0_place_47 : decode cX0_place 47 = .ok (.getfield 126, 3) := dk_180 0 126 (dk_at dksX0_place_2 0 rfl rfl)
theorem dX0_place_50 : decode cX0_place 50 = .ok (.iconst 1, 1) := dk_4 (dk_at dksX0_place_2 3 rfl rfl)
theorem dX0_place_51 : decode cX0_place 51 = .ok (.isub, 1) := dk_100 (dk_at dksX0_place_2 4 rfl rfl)
theorem dX0_place_52 : decode cX0_place 52 = .ok (.invokestatic 51, 3) := dk_184 0 51 (dk_at dksX0_place_2 5 rfl rfl)
theorem dX0_place_55 : decode cX0_place 55 = .ok (.ifCond .ne 5, 3) := dk_154 0 5 (dk_at dksX0_place_2 8 rfl rfl)
theorem dX0_place_58 : decode cX0_place 58 = .ok (.iconst (-1), 1) := dk_2 (dk_at dksX0_place_2 11 rfl rfl)
theorem dX0_place_59 : decode cX0_place 59 = .ok (.ireturn, 1) := dk_172 (dk_at dksX0_place_2 12 rfl rfl)
theorem dX0_place_60 : decode cX0_place 60 = .ok (.aload_n 3, 1) := dk_45 (dk_at dksX0_place_2 13 rfl rfl)
theorem dX0_place_61 : decode cX0_place 61 = .ok (.getfield 129, 3) := dk_180 0 129 (dk_at dksX0_place_2 14 rfl rfl)
theorem dX0_place_64 : decode cX0_place 64 = .ok (.aload_n 3, 1) := dk_45 (dk_at dksX0_place_2 17 rfl rfl)
theorem dX0_place_65 : decode cX0_place 65 = .ok (.getfield 119, 3) := dk_180 0 119 (dk_at dksX0_place_2 18 rfl rfl)
theorem dX0_place_68 : decode cX0_place 68 = .ok (.iload_n 1, 1) := dk_27 (dk_at dksX0_place_2 21 rfl rfl)
theorem dX0_place_69 : decode cX0_place 69 = .ok (.ifCond .eq 7, 3) := dk_153 0 7 (dk_at dksX0_place_3 0 rfl rfl)
theorem dX0_place_72 : decode cX0_place 72 = .ok (.iload_n 2, 1) := dk_28 (dk_at dksX0_place_3 3 rfl rfl)
theorem dX0_place_73 : decode cX0_place 73 = .ok (.goto 4, 3) := dk_167 0 4 (dk_at dksX0_place_3 4 rfl rfl)
theorem dX0_place_76 : decode cX0_place 76 = .ok (.iconst (-1), 1) := dk_2 (dk_at dksX0_place_3 7 rfl rfl)
theorem dX0_place_77 : decode cX0_place 77 = .ok (.iastore, 1) := dk_79 (dk_at dksX0_place_3 8 rfl rfl)
theorem dX0_place_78 : decode cX0_place 78 = .ok (.aload_n 3, 1) := dk_45 (dk_at dksX0_place_3 9 rfl rfl)
theorem dX0_place_79 : decode cX0_place 79 = .ok (.getfield 132, 3) := dk_180 0 132 (dk_at dksX0_place_3 10 rfl rfl)
theorem dX0_place_82 : decode cX0_place 82 = .ok (.aload_n 3, 1) := dk_45 (dk_at dksX0_place_3 13 rfl rfl)
theorem dX0_place_83 : decode cX0_place 83 = .ok (.getfield 119, 3) := dk_180 0 119 (dk_at dksX0_place_3 14 rfl rfl)
theorem dX0_place_86 : decode cX0_place 86 = .ok (.iload_n 2, 1) := dk_28 (dk_at dksX0_place_3 17 rfl rfl)
theorem dX0_place_87 : decode cX0_place 87 = .ok (.iastore, 1) := dk_79 (dk_at dksX0_place_3 18 rfl rfl)
theorem dX0_place_88 : decode cX0_place 88 = .ok (.aload_n 3, 1) := dk_45 (dk_at dksX0_place_3 19 rfl rfl)
theorem dX0_place_89 : decode cX0_place 89 = .ok (.dup, 1) := dk_89 (dk_at dksX0_place_3 20 rfl rfl)
theorem dX0_place_90 : decode cX0_place 90 = .ok (.getfield 119, 3) := dk_180 0 119 (dk_at dksX0_place_3 21 rfl rfl)
theorem dX0_place_93 : decode cX0_place 93 = .ok (.iconst 1, 1) := dk_4 (dk_at dksX0_place_4 0 rfl rfl)
theorem dX0_place_94 : decode cX0_place 94 = .ok (.iadd, 1) := dk_96 (dk_at dksX0_place_4 1 rfl rfl)
theorem dX0_place_95 : decode cX0_place 95 = .ok (.putfield 119, 3) := dk_181 0 119 (dk_at dksX0_place_4 2 rfl rfl)
theorem dX0_place_98 : decode cX0_place 98 = .ok (.aload_n 3, 1) := dk_45 (dk_at dksX0_place_4 5 rfl rfl)
theorem dX0_place_99 : decode cX0_place 99 = .ok (.getfield 119, 3) := dk_180 0 119 (dk_at dksX0_place_4 6 rfl rfl)
theorem dX0_place_102 : decode cX0_place 102 = .ok (.ireturn, 1) := dk_172 (dk_at dksX0_place_4 9 rfl rfl)
abbrev cX0_value : ByteArray := prog_1_method_14_code
def yX0_value : MethodName := ⟨RX0, "value", "(I)I"⟩
def dkwX0_value_0 : List UInt8 := [42, 3, 27, 182, 0, 135, 172]
abbrev dktX0_value_0 : List UInt8 := dkwX0_value_0 ++ []
theorem dksX0_value_0 : cX0_value.data.toList.drop 0 = dktX0_value_0 := by decide +kernel
theorem dX0_value_0 : decode cX0_value 0 = .ok (.aload_n 0, 1) := dk_42 (dk_at dksX0_value_0 0 rfl rfl)
theorem dX0_value_1 : decode cX0_value 1 = .ok (.iconst 0, 1) := dk_3 (dk_at dksX0_value_0 1 rfl rfl)
theorem dX0_value_2 : decode cX0_value 2 = .ok (.iload_n 1, 1) := dk_27 (dk_at dksX0_value_0 2 rfl rfl)
theorem dX0_value_3 : decode cX0_value 3 = .ok (.invokevirtual 135, 3) := dk_182 0 135 (dk_at dksX0_value_0 3 rfl rfl)
theorem dX0_value_6 : decode cX0_value 6 = .ok (.ireturn, 1) := dk_172 (dk_at dksX0_value_0 6 rfl rfl)
abbrev cX0_compare : ByteArray := prog_1_method_15_code
def yX0_compare : MethodName := ⟨RX0, "compare", "(IIZI)I"⟩
def dkwX0_compare_5 : List UInt8 := [25, 5, 180, 0, 97, 4, 100, 172]
abbrev dktX0_compare_5 : List UInt8 := dkwX0_compare_5 ++ []
def dkwX0_compare_4 : List UInt8 := [21, 4, 183, 0, 140, 167, 0, 15, 187, 0, 142, 89, 28, 21, 6, 21, 4, 183, 0, 144, 182, 0, 111]
abbrev dktX0_compare_4 : List UInt8 := dkwX0_compare_4 ++ dktX0_compare_5
def dkwX0_compare_3 : List UInt8 := [21, 4, 167, 0, 4, 2, 54, 6, 25, 5, 27, 5, 160, 0, 19, 187, 0, 138, 89, 5, 28, 21, 6]
abbrev dktX0_compare_3 : List UInt8 := dkwX0_compare_3 ++ dktX0_compare_4
def dkwX0_compare_2 : List UInt8 := [100, 184, 0, 51, 153, 0, 13, 25, 5, 180, 0, 97, 16, 10, 160, 0, 5, 2, 172, 29, 153, 0, 8]
abbrev dktX0_compare_2 : List UInt8 := dkwX0_compare_2 ++ dktX0_compare_3
def dkwX0_compare_1 : List UInt8 := [180, 0, 126, 4, 100, 184, 0, 51, 153, 0, 33, 29, 153, 0, 19, 21, 4, 3, 25, 5, 180, 0, 126, 4]
abbrev dktX0_compare_1 : List UInt8 := dkwX0_compare_1 ++ dktX0_compare_2
def dkwX0_compare_0 : List UInt8 := [42, 180, 0, 55, 58, 5, 25, 5, 198, 0, 57, 27, 5, 6, 184, 0, 51, 153, 0, 48, 28, 3, 25, 5]
abbrev dktX0_compare_0 : List UInt8 := dkwX0_compare_0 ++ dktX0_compare_1
theorem dksX0_compare_0 : cX0_compare.data.toList.drop 0 = dktX0_compare_0 := by decide +kernel
theorem dksX0_compare_1 : cX0_compare.data.toList.drop 24 = dktX0_compare_1 := dk_seg dksX0_compare_0 24 rfl rfl
theorem dksX0_compare_2 : cX0_compare.data.toList.drop 48 = dktX0_compare_2 := dk_seg dksX0_compare_1 24 rfl rfl
theorem dksX0_compare_3 : cX0_compare.data.toList.drop 71 = dktX0_compare_3 := dk_seg dksX0_compare_2 23 rfl rfl
theorem dksX0_compare_4 : cX0_compare.data.toList.drop 94 = dktX0_compare_4 := dk_seg dksX0_compare_3 23 rfl rfl
theorem dksX0_compare_5 : cX0_compare.data.toList.drop 117 = dktX0_compare_5 := dk_seg dksX0_compare_4 23 rfl rfl
theorem dX0_compare_0 : decode cX0_compare 0 = .ok (.aload_n 0, 1) := dk_42 (dk_at dksX0_compare_0 0 rfl rfl)
theorem dX0_compare_1 : decode cX0_compare 1 = .ok (.getfield 55, 3) := dk_180 0 55 (dk_at dksX0_compare_0 1 rfl rfl)
theorem dX0_compare_4 : decode cX0_compare 4 = .ok (.astore 5, 2) := dk_58 5 (dk_at dksX0_compare_0 4 rfl rfl)
theorem dX0_compare_6 : decode cX0_compare 6 = .ok (.aload 5, 2) := dk_25 5 (dk_at dksX0_compare_0 6 rfl rfl)
theorem dX0_compare_8 : decode cX0_compare 8 = .ok (.ifnull 57, 3) := dk_198 0 57 (dk_at dksX0_compare_0 8 rfl rfl)
theorem dX0_compare_11 : decode cX0_compare 11 = .ok (.iload_n 1, 1) := dk_27 (dk_at dksX0_compare_0 11 rfl rfl)
theorem dX0_compare_12 : decode cX0_compare 12 = .ok (.iconst 2, 1) := dk_5 (dk_at dksX0_compare_0 12 rfl rfl)
theorem dX0_compare_13 : decode cX0_compare 13 = .ok (.iconst 3, 1) := dk_6 (dk_at dksX0_compare_0 13 rfl rfl)
theorem dX0_compare_14 : decode cX0_compare 14 = .ok (.invokestatic 51, 3) := dk_184 0 51 (dk_at dksX0_compare_0 14 rfl rfl)
theorem dX0_compare_17 : decode cX0_compare 17 = .ok (.ifCond .eq 48, 3) := dk_153 0 48 (dk_at dksX0_compare_0 17 rfl rfl)
theorem dX0_compare_20 : decode cX0_compare 20 = .ok (.iload_n 2, 1) := dk_28 (dk_at dksX0_compare_0 20 rfl rfl)
theorem dX0_compare_21 : decode cX0_compare 21 = .ok (.iconst 0, 1) := dk_3 (dk_at dksX0_compare_0 21 rfl rfl)
theorem dX0_compare_22 : decode cX0_compare 22 = .ok (.aload 5, 2) := dk_25 5 (dk_at dksX0_compare_0 22 rfl rfl)
theorem dX0_compare_24 : decode cX0_compare 24 = .ok (.getfield 126, 3) := dk_180 0 126 (dk_at dksX0_compare_1 0 rfl rfl)
theorem dX0_compare_27 : decode cX0_compare 27 = .ok (.iconst 1, 1) := dk_4 (dk_at dksX0_compare_1 3 rfl rfl)
theorem dX0_compare_28 : decode cX0_compare 28 = .ok (.isub, 1) := dk_100 (dk_at dksX0_compare_1 4 rfl rfl)
theorem dX0_compare_29 : decode cX0_compare 29 = .ok (.invokestatic 51, 3) := dk_184 0 51 (dk_at dksX0_compare_1 5 rfl rfl)
theorem dX0_compare_32 : decode cX0_compare 32 = .ok (.ifCond .eq 33, 3) := dk_153 0 33 (dk_at dksX0_compare_1 8 rfl rfl)
theorem dX0_compare_35 : decode cX0_compare 35 = .ok (.iload_n 3, 1) := dk_29 (dk_at dksX0_compare_1 11 rfl rfl)
theorem dX0_compare_36 : decode cX0_compare 36 = .ok (.ifCond .eq 19, 3) := dk_153 0 19 (dk_at dksX0_compare_1 12 rfl rfl)
theorem dX0_compare_39 : decode cX0_compare 39 = .ok (.iload 4, 2) := dk_21 4 (dk_at dksX0_compare_1 15 rfl rfl)
theorem dX0_compare_41 : decode cX0_compare 41 = .ok (.iconst 0, 1) := dk_3 (dk_at dksX0_compare_1 17 rfl rfl)
theorem dX0_compare_42 : decode cX0_compare 42 = .ok (.aload 5, 2) := dk_25 5 (dk_at dksX0_compare_1 18 rfl rfl)
theorem dX0_compare_44 : decode cX0_compare 44 = .ok (.getfield 126, 3) := dk_180 0 126 (dk_at dksX0_compare_1 20 rfl rfl)
theorem dX0_compare_47 : decode cX0_compare 47 = .ok (.iconst 1, 1) := dk_4 (dk_at dksX0_compare_1 23 rfl rfl)
theorem dX0_compare_48 : decode cX0_compare 48 = .ok (.isub, 1) := dk_100 (dk_at dksX0_compare_2 0 rfl rfl)
theorem dX0_compare_49 : decode cX0_compare 49 = .ok (.invokestatic 51, 3) := dk_184 0 51 (dk_at dksX0_compare_2 1 rfl rfl)
theorem dX0_compare_52 : decode cX0_compare 52 = .ok (.ifCond .eq 13, 3) := dk_153 0 13 (dk_at dksX0_compare_2 4 rfl rfl)
theorem dX0_compare_55 : decode cX0_compare 55 = .ok (.aload 5, 2) := dk_25 5 (dk_at dksX0_compare_2 7 rfl rfl)
theorem dX0_compare_57 : decode cX0_compare 57 = .ok (.getfield 97, 3) := dk_180 0 97 (dk_at dksX0_compare_2 9 rfl rfl)
theorem dX0_compare_60 : decode cX0_compare 60 = .ok (.bipush 10, 2) := dk_16 10 (dk_at dksX0_compare_2 12 rfl rfl)
theorem dX0_compare_62 : decode cX0_compare 62 = .ok (.if_icmp .ne 5, 3) := dk_160 0 5 (dk_at dksX0_compare_2 14 rfl rfl)
theorem dX0_compare_65 : decode cX0_compare 65 = .ok (.iconst (-1), 1) := dk_2 (dk_at dksX0_compare_2 17 rfl rfl)
theorem dX0_compare_66 : decode cX0_compare 66 = .ok (.ireturn, 1) := dk_172 (dk_at dksX0_compare_2 18 rfl rfl)
theorem dX0_compare_67 : decode cX0_compare 67 = .ok (.iload_n 3, 1) := dk_29 (dk_at dksX0_compare_2 19 rfl rfl)
theorem dX0_compare_68 : decode cX0_compare 68 = .ok (.ifCond .eq 8, 3) := dk_153 0 8 (dk_at dksX0_compare_2 20 rfl rfl)
theorem dX0_compare_71 : decode cX0_compare 71 = .ok (.iload 4, 2) := dk_21 4 (dk_at dksX0_compare_3 0 rfl rfl)
theorem dX0_compare_73 : decode cX0_compare 73 = .ok (.goto 4, 3) := dk_167 0 4 (dk_at dksX0_compare_3 2 rfl rfl)
theorem dX0_compare_76 : decode cX0_compare 76 = .ok (.iconst (-1), 1) := dk_2 (dk_at dksX0_compare_3 5 rfl rfl)
theorem dX0_compare_77 : decode cX0_compare 77 = .ok (.istore 6, 2) := dk_54 6 (dk_at dksX0_compare_3 6 rfl rfl)
theorem dX0_compare_79 : decode cX0_compare 79 = .ok (.aload 5, 2) := dk_25 5 (dk_at dksX0_compare_3 8 rfl rfl)
theorem dX0_compare_81 : decode cX0_compare 81 = .ok (.iload_n 1, 1) := dk_27 (dk_at dksX0_compare_3 10 rfl rfl)
theorem dX0_compare_82 : decode cX0_compare 82 = .ok (.iconst 2, 1) := dk_5 (dk_at dksX0_compare_3 11 rfl rfl)
theorem dX0_compare_83 : decode cX0_compare 83 = .ok (.if_icmp .ne 19, 3) := dk_160 0 19 (dk_at dksX0_compare_3 12 rfl rfl)
theorem dX0_compare_86 : decode cX0_compare 86 = .ok (.new 138, 3) := dk_187 0 138 (dk_at dksX0_compare_3 15 rfl rfl)
theorem dX0_compare_89 : decode cX0_compare 89 = .ok (.dup, 1) := dk_89 (dk_at dksX0_compare_3 18 rfl rfl)
theorem dX0_compare_90 : decode cX0_compare 90 = .ok (.iconst 2, 1) := dk_5 (dk_at dksX0_compare_3 19 rfl rfl)
theorem dX0_compare_91 : decode cX0_compare 91 = .ok (.iload_n 2, 1) := dk_28 (dk_at dksX0_compare_3 20 rfl rfl)
theorem dX0_compare_92 : decode cX0_compare 92 = .ok (.iload 6, 2) := dk_21 6 (dk_at dksX0_compare_3 21 rfl rfl)
theorem dX0_compare_94 : decode cX0_compare 94 = .ok (.iload 4, 2) := dk_21 4 (dk_at dksX0_compare_4 0 rfl rfl)
theorem dX0_compare_96 : decode cX0_compare 96 = .ok (.invokespecial 140, 3) := dk_183 0 140 (dk_at dksX0_compare_4 2 rfl rfl)
theorem dX0_compare_99 : decode cX0_compare 99 = .ok (.goto 15, 3) := dk_167 0 15 (dk_at dksX0_compare_4 5 rfl rfl)
theorem dX0_compare_102 : decode cX0_compare 102 = .ok (.new 142, 3) := dk_187 0 142 (dk_at dksX0_compare_4 8 rfl rfl)
theorem dX0_compare_105 : decode cX0_compare 105 = .ok (.dup, 1) := dk_89 (dk_at dksX0_compare_4 11 rfl rfl)
theorem dX0_compare_106 : decode cX0_compare 106 = .ok (.iload_n 2, 1) := dk_28 (dk_at dksX0_compare_4 12 rfl rfl)
theorem dX0_compare_107 : decode cX0_compare 107 = .ok (.iload 6, 2) := dk_21 6 (dk_at dksX0_compare_4 13 rfl rfl)
theorem dX0_compare_109 : decode cX0_compare 109 = .ok (.iload 4, 2) := dk_21 4 (dk_at dksX0_compare_4 15 rfl rfl)
theorem dX0_compare_111 : decode cX0_compare 111 = .ok (.invokespecial 144, 3) := dk_183 0 144 (dk_at dksX0_compare_4 17 rfl rfl)
theorem dX0_compare_114 : decode cX0_compare 114 = .ok (.invokevirtual 111, 3) := dk_182 0 111 (dk_at dksX0_compare_4 20 rfl rfl)
theorem dX0_compare_117 : decode cX0_compare 117 = .ok (.aload 5, 2) := dk_25 5 (dk_at dksX0_compare_5 0 rfl rfl)
theorem dX0_compare_119 : decode cX0_compare 119 = .ok (.getfield 97, 3) := dk_180 0 97 (dk_at dksX0_compare_5 2 rfl rfl)
theorem dX0_compare_122 : decode cX0_compare 122 = .ok (.iconst 1, 1) := dk_4 (dk_at dksX0_compare_5 5 rfl rfl)
theorem dX0_compare_123 : decode cX0_compare 123 = .ok (.isub, 1) := dk_100 (dk_at dksX0_compare_5 6 rfl rfl)
theorem dX0_compare_124 : decode cX0_compare 124 = .ok (.ireturn, 1) := dk_172 (dk_at dksX0_compare_5 7 rfl rfl)
abbrev cX0_order : ByteArray := prog_1_method_16_code
def yX0_order : MethodName := ⟨RX0, "order", "(II)Z"⟩
def dkwX0_order_3 : List UInt8 := [45, 180, 0, 147, 27, 28, 79, 4, 172]
abbrev dktX0_order_3 : List UInt8 := dkwX0_order_3 ++ []
def dkwX0_order_2 : List UInt8 := [46, 28, 159, 0, 9, 132, 4, 1, 167, 255, 242, 45, 180, 0, 147, 21, 4, 45, 180, 0, 147, 27, 46, 79]
abbrev dktX0_order_2 : List UInt8 := dkwX0_order_2 ++ dktX0_order_3
def dkwX0_order_1 : List UInt8 := [3, 45, 180, 0, 126, 4, 100, 184, 0, 51, 154, 0, 5, 3, 172, 3, 54, 4, 45, 180, 0, 147, 21, 4]
abbrev dktX0_order_1 : List UInt8 := dkwX0_order_1 ++ dktX0_order_2
def dkwX0_order_0 : List UInt8 := [42, 180, 0, 55, 78, 45, 198, 0, 31, 27, 3, 45, 180, 0, 126, 4, 100, 184, 0, 51, 153, 0, 17, 28]
abbrev dktX0_order_0 : List UInt8 := dkwX0_order_0 ++ dktX0_order_1
theorem dksX0_order_0 : cX0_order.data.toList.drop 0 = dktX0_order_0 := by decide +kernel
theorem dksX0_order_1 : cX0_order.data.toList.drop 24 = dktX0_order_1 := dk_seg dksX0_order_0 24 rfl rfl
theorem dksX0_order_2 : cX0_order.data.toList.drop 48 = dktX0_order_2 := dk_seg dksX0_order_1 24 rfl rfl
theorem dksX0_order_3 : cX0_order.data.toList.drop 72 = dktX0_order_3 := dk_seg dksX0_order_2 24 rfl rfl
theorem dX0_order_0 : decode cX0_order 0 = .ok (.aload_n 0, 1) := dk_42 (dk_at dksX0_order_0 0 rfl rfl)
theorem dX0_order_1 : decode cX0_order 1 = .ok (.getfield 55, 3) := dk_180 0 55 (dk_at dksX0_order_0 1 rfl rfl)
theorem dX0_order_4 : decode cX0_order 4 = .ok (.astore_n 3, 1) := dk_78 (dk_at dksX0_order_0 4 rfl rfl)
theorem dX0_order_5 : decode cX0_order 5 = .ok (.aload_n 3, 1) := dk_45 (dk_at dksX0_order_0 5 rfl rfl)
theorem dX0_order_6 : decode cX0_order 6 = .ok (.ifnull 31, 3) := dk_198 0 31 (dk_at dksX0_order_0 6 rfl rfl)
theorem dX0_order_9 : decode cX0_order 9 = .ok (.iload_n 1, 1) := dk_27 (dk_at dksX0_order_0 9 rfl rfl)
theorem dX0_order_10 : decode cX0_order 10 = .ok (.iconst 0, 1) := dk_3 (dk_at dksX0_order_0 10 rfl rfl)
theorem dX0_order_11 : decode cX0_order 11 = .ok (.aload_n 3, 1) := dk_45 (dk_at dksX0_order_0 11 rfl rfl)
theorem dX0_order_12 : decode cX0_order 12 = .ok (.getfield 126, 3) := dk_180 0 126 (dk_at dksX0_order_0 12 rfl rfl)
theorem dX0_order_15 : decode cX0_order 15 = .ok (.iconst 1, 1) := dk_4 (dk_at dksX0_order_0 15 rfl rfl)
theorem dX0_order_16 : decode cX0_order 16 = .ok (.isub, 1) := dk_100 (dk_at dksX0_order_0 16 rfl rfl)
theorem dX0_order_17 : decode cX0_order 17 = .ok (.invokestatic 51, 3) := dk_184 0 51 (dk_at dksX0_order_0 17 rfl rfl)
theorem dX0_order_20 : decode cX0_order 20 = .ok (.ifCond .eq 17, 3) := dk_153 0 17 (dk_at dksX0_order_0 20 rfl rfl)
theorem dX0_order_23 : decode cX0_order 23 = .ok (.iload_n 2, 1) := dk_28 (dk_at dksX0_order_0 23 rfl rfl)
theorem dX0_order_24 : decode cX0_order 24 = .ok (.iconst 0, 1) := dk_3 (dk_at dksX0_order_1 0 rfl rfl)
theorem dX0_order_25 : decode cX0_order 25 = .ok (.aload_n 3, 1) := dk_45 (dk_at dksX0_order_1 1 rfl rfl)
theorem dX0_order_26 : decode cX0_order 26 = .ok (.getfield 126, 3) := dk_180 0 126 (dk_at dksX0_order_1 2 rfl rfl)
theorem dX0_order_29 : decode cX0_order 29 = .ok (.iconst 1, 1) := dk_4 (dk_at dksX0_order_1 5 rfl rfl)
theorem dX0_order_30 : decode cX0_order 30 = .ok (.isub, 1) := dk_100 (dk_at dksX0_order_1 6 rfl rfl)
theorem dX0_order_31 : decode cX0_order 31 = .ok (.invokestatic 51, 3) := dk_184 0 51 (dk_at dksX0_order_1 7 rfl rfl)
theorem dX0_order_34 : decode cX0_order 34 = .ok (.ifCond .ne 5, 3) := dk_154 0 5 (dk_at dksX0_order_1 10 rfl rfl)
theorem dX0_order_37 : decode cX0_order 37 = .ok (.iconst 0, 1) := dk_3 (dk_at dksX0_order_1 13 rfl rfl)
theorem dX0_order_38 : decode cX0_order 38 = .ok (.ireturn, 1) := dk_172 (dk_at dksX0_order_1 14 rfl rfl)
theorem dX0_order_39 : decode cX0_order 39 = .ok (.iconst 0, 1) := dk_3 (dk_at dksX0_order_1 15 rfl rfl)
theorem dX0_order_40 : decode cX0_order 40 = .ok (.istore 4, 2) := dk_54 4 (dk_at dksX0_order_1 16 rfl rfl)
theorem dX0_order_42 : decode cX0_order 42 = .ok (.aload_n 3, 1) := dk_45 (dk_at dksX0_order_1 18 rfl rfl)
theorem dX0_order_43 : decode cX0_order 43 = .ok (.getfield 147, 3) := dk_180 0 147 (dk_at dksX0_order_1 19 rfl rfl)
theorem dX0_order_46 : decode cX0_order 46 = .ok (.iload 4, 2) := dk_21 4 (dk_at dksX0_order_1 22 rfl rfl)
theorem dX0_order_48 : decode cX0_order 48 = .ok (.iaload, 1) := dk_46 (dk_at dksX0_order_2 0 rfl rfl)
theorem dX0_order_49 : decode cX0_order 49 = .ok (.iload_n 2, 1) := dk_28 (dk_at dksX0_order_2 1 rfl rfl)
theorem dX0_order_50 : decode cX0_order 50 = .ok (.if_icmp .eq 9, 3) := dk_159 0 9 (dk_at dksX0_order_2 2 rfl rfl)
theorem dX0_order_53 : decode cX0_order 53 = .ok (.iinc 4 1, 3) := dk_132 4 1 (dk_at dksX0_order_2 5 rfl rfl)
theorem dX0_order_56 : decode cX0_order 56 = .ok (.goto (-14), 3) := dk_167 255 242 (dk_at dksX0_order_2 8 rfl rfl)
theorem dX0_order_59 : decode cX0_order 59 = .ok (.aload_n 3, 1) := dk_45 (dk_at dksX0_order_2 11 rfl rfl)
theorem dX0_order_60 : decode cX0_order 60 = .ok (.getfield 147, 3) := dk_180 0 147 (dk_at dksX0_order_2 12 rfl rfl)
theorem dX0_order_63 : decode cX0_order 63 = .ok (.iload 4, 2) := dk_21 4 (dk_at dksX0_order_2 15 rfl rfl)
theorem dX0_order_65 : decode cX0_order 65 = .ok (.aload_n 3, 1) := dk_45 (dk_at dksX0_order_2 17 rfl rfl)
theorem dX0_order_66 : decode cX0_order 66 = .ok (.getfield 147, 3) := dk_180 0 147 (dk_at dksX0_order_2 18 rfl rfl)
theorem dX0_order_69 : decode cX0_order 69 = .ok (.iload_n 1, 1) := dk_27 (dk_at dksX0_order_2 21 rfl rfl)
theorem dX0_order_70 : decode cX0_order 70 = .ok (.iaload, 1) := dk_46 (dk_at dksX0_order_2 22 rfl rfl)
theorem dX0_order_71 : decode cX0_order 71 = .ok (.iastore, 1) := dk_79 (dk_at dksX0_order_2 23 rfl rfl)
theorem dX0_order_72 : decode cX0_order 72 = .ok (.aload_n 3, 1) := dk_45 (dk_at dksX0_order_3 0 rfl rfl)
theorem dX0_order_73 : decode cX0_order 73 = .ok (.getfield 147, 3) := dk_180 0 147 (dk_at dksX0_order_3 1 rfl rfl)
theorem dX0_order_76 : decode cX0_order 76 = .ok (.iload_n 1, 1) := dk_27 (dk_at dksX0_order_3 4 rfl rfl)
theorem dX0_order_77 : decode cX0_order 77 = .ok (.iload_n 2, 1) := dk_28 (dk_at dksX0_order_3 5 rfl rfl)
theorem dX0_order_78 : decode cX0_order 78 = .ok (.iastore, 1) := dk_79 (dk_at dksX0_order_3 6 rfl rfl)
theorem dX0_order_79 : decode cX0_order 79 = .ok (.iconst 1, 1) := dk_4 (dk_at dksX0_order_3 7 rfl rfl)
theorem dX0_order_80 : decode cX0_order 80 = .ok (.ireturn, 1) := dk_172 (dk_at dksX0_order_3 8 rfl rfl)
abbrev cX0_weave : ByteArray := prog_1_method_18_code
def yX0_weave : MethodName := ⟨RX0, "weave", "()I"⟩
def dkwX0_weave_2 : List UInt8 := [182, 0, 159, 42, 180, 0, 21, 42, 180, 0, 25, 182, 0, 163, 27, 172]
abbrev dktX0_weave_2 : List UInt8 := dkwX0_weave_2 ++ []
def dkwX0_weave_1 : List UInt8 := [42, 180, 0, 25, 182, 0, 155, 60, 27, 156, 0, 5, 27, 172, 42, 180, 0, 25, 42, 180, 0, 55]
abbrev dktX0_weave_1 : List UInt8 := dkwX0_weave_1 ++ dktX0_weave_2
def dkwX0_weave_0 : List UInt8 := [42, 182, 0, 154, 154, 0, 5, 2, 172, 42, 180, 0, 34, 42, 180, 0, 55, 42, 180, 0, 55, 180, 0, 147]
abbrev dktX0_weave_0 : List UInt8 := dkwX0_weave_0 ++ dktX0_weave_1
theorem dksX0_weave_0 : cX0_weave.data.toList.drop 0 = dktX0_weave_0 := by decide +kernel
theorem dksX0_weave_1 : cX0_weave.data.toList.drop 24 = dktX0_weave_1 := dk_seg dksX0_weave_0 24 rfl rfl
theorem dksX0_weave_2 : cX0_weave.data.toList.drop 46 = dktX0_weave_2 := dk_seg dksX0_weave_1 22 rfl rfl
theorem dX0_weave_0 : decode cX0_weave 0 = .ok (.aload_n 0, 1) := dk_42 (dk_at dksX0_weave_0 0 rfl rfl)
theorem dX0_weave_1 : decode cX0_weave 1 = .ok (.invokevirtual 154, 3) := dk_182 0 154 (dk_at dksX0_weave_0 1 rfl rfl)
theorem dX0_weave_4 : decode cX0_weave 4 = .ok (.ifCond .ne 5, 3) := dk_154 0 5 (dk_at dksX0_weave_0 4 rfl rfl)
theorem dX0_weave_7 : decode cX0_weave 7 = .ok (.iconst (-1), 1) := dk_2 (dk_at dksX0_weave_0 7 rfl rfl)
theorem dX0_weave_8 : decode cX0_weave 8 = .ok (.ireturn, 1) := dk_172 (dk_at dksX0_weave_0 8 rfl rfl)
theorem dX0_weave_9 : decode cX0_weave 9 = .ok (.aload_n 0, 1) := dk_42 (dk_at dksX0_weave_0 9 rfl rfl)
theorem dX0_weave_10 : decode cX0_weave 10 = .ok (.getfield 34, 3) := dk_180 0 34 (dk_at dksX0_weave_0 10 rfl rfl)
theorem dX0_weave_13 : decode cX0_weave 13 = .ok (.aload_n 0, 1) := dk_42 (dk_at dksX0_weave_0 13 rfl rfl)
theorem dX0_weave_14 : decode cX0_weave 14 = .ok (.getfield 55, 3) := dk_180 0 55 (dk_at dksX0_weave_0 14 rfl rfl)
theorem dX0_weave_17 : decode cX0_weave 17 = .ok (.aload_n 0, 1) := dk_42 (dk_at dksX0_weave_0 17 rfl rfl)
theorem dX0_weave_18 : decode cX0_weave 18 = .ok (.getfield 55, 3) := dk_180 0 55 (dk_at dksX0_weave_0 18 rfl rfl)
theorem dX0_weave_21 : decode cX0_weave 21 = .ok (.getfield 147, 3) := dk_180 0 147 (dk_at dksX0_weave_0 21 rfl rfl)
theorem dX0_weave_24 : decode cX0_weave 24 = .ok (.aload_n 0, 1) := dk_42 (dk_at dksX0_weave_1 0 rfl rfl)
theorem dX0_weave_25 : decode cX0_weave 25 = .ok (.getfield 25, 3) := dk_180 0 25 (dk_at dksX0_weave_1 1 rfl rfl)
theorem dX0_weave_28 : decode cX0_weave 28 = .ok (.invokevirtual 155, 3) := dk_182 0 155 (dk_at dksX0_weave_1 4 rfl rfl)
theorem dX0_weave_31 : decode cX0_weave 31 = .ok (.istore_n 1, 1) := dk_60 (dk_at dksX0_weave_1 7 rfl rfl)
theorem dX0_weave_32 : decode cX0_weave 32 = .ok (.iload_n 1, 1) := dk_27 (dk_at dksX0_weave_1 8 rfl rfl)
theorem dX0_weave_33 : decode cX0_weave 33 = .ok (.ifCond .ge 5, 3) := dk_156 0 5 (dk_at dksX0_weave_1 9 rfl rfl)
theorem dX0_weave_36 : decode cX0_weave 36 = .ok (.iload_n 1, 1) := dk_27 (dk_at dksX0_weave_1 12 rfl rfl)
theorem dX0_weave_37 : decode cX0_weave 37 = .ok (.ireturn, 1) := dk_172 (dk_at dksX0_weave_1 13 rfl rfl)
theorem dX0_weave_38 : decode cX0_weave 38 = .ok (.aload_n 0, 1) := dk_42 (dk_at dksX0_weave_1 14 rfl rfl)
theorem dX0_weave_39 : decode cX0_weave 39 = .ok (.getfield 25, 3) := dk_180 0 25 (dk_at dksX0_weave_1 15 rfl rfl)
theorem dX0_weave_42 : decode cX0_weave 42 = .ok (.aload_n 0, 1) := dk_42 (dk_at dksX0_weave_1 18 rfl rfl)
theorem dX0_weave_43 : decode cX0_weave 43 = .ok (.getfield 55, 3) := dk_180 0 55 (dk_at dksX0_weave_1 19 rfl rfl)
theorem dX0_weave_46 : decode cX0_weave 46 = .ok (.invokevirtual 159, 3) := dk_182 0 159 (dk_at dksX0_weave_2 0 rfl rfl)
theorem dX0_weave_49 : decode cX0_weave 49 = .ok (.aload_n 0, 1) := dk_42 (dk_at dksX0_weave_2 3 rfl rfl)
theorem dX0_weave_50 : decode cX0_weave 50 = .ok (.getfield 21, 3) := dk_180 0 21 (dk_at dksX0_weave_2 4 rfl rfl)
theorem dX0_weave_53 : decode cX0_weave 53 = .ok (.aload_n 0, 1) := dk_42 (dk_at dksX0_weave_2 7 rfl rfl)
theorem dX0_weave_54 : decode cX0_weave 54 = .ok (.getfield 25, 3) := dk_180 0 25 (dk_at dksX0_weave_2 8 rfl rfl)
theorem dX0_weave_57 : decode cX0_weave 57 = .ok (.invokevirtual 163, 3) := dk_182 0 163 (dk_at dksX0_weave_2 11 rfl rfl)
theorem dX0_weave_60 : decode cX0_weave 60 = .ok (.iload_n 1, 1) := dk_27 (dk_at dksX0_weave_2 14 rfl rfl)
theorem dX0_weave_61 : decode cX0_weave 61 = .ok (.ireturn, 1) := dk_172 (dk_at dksX0_weave_2 15 rfl rfl)
abbrev cX0_stands : ByteArray := prog_1_method_17_code
def yX0_stands : MethodName := ⟨RX0, "stands", "()Z"⟩
def dkwX0_stands_0 : List UInt8 := [42, 180, 0, 55, 198, 0, 17, 42, 180, 0, 55, 182, 0, 150, 153, 0, 7, 4, 167, 0, 4, 3, 172]
abbrev dktX0_stands_0 : List UInt8 := dkwX0_stands_0 ++ []
theorem dksX0_stands_0 : cX0_stands.data.toList.drop 0 = dktX0_stands_0 := by decide +kernel
theorem dX0_stands_0 : decode cX0_stands 0 = .ok (.aload_n 0, 1) := dk_42 (dk_at dksX0_stands_0 0 rfl rfl)
theorem dX0_stands_1 : decode cX0_stands 1 = .ok (.getfield 55, 3) := dk_180 0 55 (dk_at dksX0_stands_0 1 rfl rfl)
theorem dX0_stands_4 : decode cX0_stands 4 = .ok (.ifnull 17, 3) := dk_198 0 17 (dk_at dksX0_stands_0 4 rfl rfl)
theorem dX0_stands_7 : decode cX0_stands 7 = .ok (.aload_n 0, 1) := dk_42 (dk_at dksX0_stands_0 7 rfl rfl)
theorem dX0_stands_8 : decode cX0_stands 8 = .ok (.getfield 55, 3) := dk_180 0 55 (dk_at dksX0_stands_0 8 rfl rfl)
theorem dX0_stands_11 : decode cX0_stands 11 = .ok (.invokevirtual 150, 3) := dk_182 0 150 (dk_at dksX0_stands_0 11 rfl rfl)
theorem dX0_stands_14 : decode cX0_stands 14 = .ok (.ifCond .eq 7, 3) := dk_153 0 7 (dk_at dksX0_stands_0 14 rfl rfl)
theorem dX0_stands_17 : decode cX0_stands 17 = .ok (.iconst 1, 1) := dk_4 (dk_at dksX0_stands_0 17 rfl rfl)
theorem dX0_stands_18 : decode cX0_stands 18 = .ok (.goto 4, 3) := dk_167 0 4 (dk_at dksX0_stands_0 18 rfl rfl)
theorem dX0_stands_21 : decode cX0_stands 21 = .ok (.iconst 0, 1) := dk_3 (dk_at dksX0_stands_0 21 rfl rfl)
theorem dX0_stands_22 : decode cX0_stands 22 = .ok (.ireturn, 1) := dk_172 (dk_at dksX0_stands_0 22 rfl rfl)
abbrev cX0_answer : ByteArray := prog_1_method_21_code
def yX0_answer : MethodName := ⟨RX0, "answer", "(II)I"⟩
def dkwX0_answer_1 : List UInt8 := [182, 0, 179, 167, 0, 4, 3, 172]
abbrev dktX0_answer_1 : List UInt8 := dkwX0_answer_1 ++ []
def dkwX0_answer_0 : List UInt8 := [42, 27, 182, 0, 173, 153, 0, 23, 42, 28, 182, 0, 176, 153, 0, 15, 42, 180, 0, 21, 27, 28]
abbrev dktX0_answer_0 : List UInt8 := dkwX0_answer_0 ++ dktX0_answer_1
theorem dksX0_answer_0 : cX0_answer.data.toList.drop 0 = dktX0_answer_0 := by decide +kernel
theorem dksX0_answer_1 : cX0_answer.data.toList.drop 22 = dktX0_answer_1 := dk_seg dksX0_answer_0 22 rfl rfl
theorem dX0_answer_0 : decode cX0_answer 0 = .ok (.aload_n 0, 1) := dk_42 (dk_at dksX0_answer_0 0 rfl rfl)
theorem dX0_answer_1 : decode cX0_answer 1 = .ok (.iload_n 1, 1) := dk_27 (dk_at dksX0_answer_0 1 rfl rfl)
theorem dX0_answer_2 : decode cX0_answer 2 = .ok (.invokevirtual 173, 3) := dk_182 0 173 (dk_at dksX0_answer_0 2 rfl rfl)
theorem dX0_answer_5 : decode cX0_answer 5 = .ok (.ifCond .eq 23, 3) := dk_153 0 23 (dk_at dksX0_answer_0 5 rfl rfl)
theorem dX0_answer_8 : decode cX0_answer 8 = .ok (.aload_n 0, 1) := dk_42 (dk_at dksX0_answer_0 8 rfl rfl)
theorem dX0_answer_9 : decode cX0_answer 9 = .ok (.iload_n 2, 1) := dk_28 (dk_at dksX0_answer_0 9 rfl rfl)
theorem dX0_answer_10 : decode cX0_answer 10 = .ok (.invokevirtual 176, 3) := dk_182 0 176 (dk_at dksX0_answer_0 10 rfl rfl)
theorem dX0_answer_13 : decode cX0_answer 13 = .ok (.ifCond .eq 15, 3) := dk_153 0 15 (dk_at dksX0_answer_0 13 rfl rfl)
theorem dX0_answer_16 : decode cX0_answer 16 = .ok (.aload_n 0, 1) := dk_42 (dk_at dksX0_answer_0 16 rfl rfl)
theorem dX0_answer_17 : decode cX0_answer 17 = .ok (.getfield 21, 3) := dk_180 0 21 (dk_at dksX0_answer_0 17 rfl rfl)
theorem dX0_answer_20 : decode cX0_answer 20 = .ok (.iload_n 1, 1) := dk_27 (dk_at dksX0_answer_0 20 rfl rfl)
theorem dX0_answer_21 : decode cX0_answer 21 = .ok (.iload_n 2, 1) := dk_28 (dk_at dksX0_answer_0 21 rfl rfl)
theorem dX0_answer_22 : decode cX0_answer 22 = .ok (.invokevirtual 179, 3) := dk_182 0 179 (dk_at dksX0_answer_1 0 rfl rfl)
theorem dX0_answer_25 : decode cX0_answer 25 = .ok (.goto 4, 3) := dk_167 0 4 (dk_at dksX0_answer_1 3 rfl rfl)
theorem dX0_answer_28 : decode cX0_answer 28 = .ok (.iconst 0, 1) := dk_3 (dk_at dksX0_answer_1 6 rfl rfl)
theorem dX0_answer_29 : decode cX0_answer 29 = .ok (.ireturn, 1) := dk_172 (dk_at dksX0_answer_1 7 rfl rfl)
abbrev cX0_isAnswer : ByteArray := prog_1_method_19_code
def yX0_isAnswer : MethodName := ⟨RX0, "isAnswer", "(I)Z"⟩
def dkwX0_isAnswer_0 : List UInt8 := [27, 3, 42, 180, 0, 21, 180, 0, 167, 4, 100, 184, 0, 51, 172]
abbrev dktX0_isAnswer_0 : List UInt8 := dkwX0_isAnswer_0 ++ []
theorem dksX0_isAnswer_0 : cX0_isAnswer.data.toList.drop 0 = dktX0_isAnswer_0 := by decide +kernel
theorem dX0_isAnswer_0 : decode cX0_isAnswer 0 = .ok (.iload_n 1, 1) := dk_27 (dk_at dksX0_isAnswer_0 0 rfl rfl)
theorem dX0_isAnswer_1 : decode cX0_isAnswer 1 = .ok (.iconst 0, 1) := dk_3 (dk_at dksX0_isAnswer_0 1 rfl rfl)
theorem dX0_isAnswer_2 : decode cX0_isAnswer 2 = .ok (.aload_n 0, 1) := dk_42 (dk_at dksX0_isAnswer_0 2 rfl rfl)
theorem dX0_isAnswer_3 : decode cX0_isAnswer 3 = .ok (.getfield 21, 3) := dk_180 0 21 (dk_at dksX0_isAnswer_0 3 rfl rfl)
theorem dX0_isAnswer_6 : decode cX0_isAnswer 6 = .ok (.getfield 167, 3) := dk_180 0 167 (dk_at dksX0_isAnswer_0 6 rfl rfl)
theorem dX0_isAnswer_9 : decode cX0_isAnswer 9 = .ok (.iconst 1, 1) := dk_4 (dk_at dksX0_isAnswer_0 9 rfl rfl)
theorem dX0_isAnswer_10 : decode cX0_isAnswer 10 = .ok (.isub, 1) := dk_100 (dk_at dksX0_isAnswer_0 10 rfl rfl)
theorem dX0_isAnswer_11 : decode cX0_isAnswer 11 = .ok (.invokestatic 51, 3) := dk_184 0 51 (dk_at dksX0_isAnswer_0 11 rfl rfl)
theorem dX0_isAnswer_14 : decode cX0_isAnswer 14 = .ok (.ireturn, 1) := dk_172 (dk_at dksX0_isAnswer_0 14 rfl rfl)
abbrev cX0_isName : ByteArray := prog_1_method_20_code
def yX0_isName : MethodName := ⟨RX0, "isName", "(I)Z"⟩
def dkwX0_isName_1 : List UInt8 := [153, 0, 7, 4, 167, 0, 4, 3, 172]
abbrev dktX0_isName_1 : List UInt8 := dkwX0_isName_1 ++ []
def dkwX0_isName_0 : List UInt8 := [42, 180, 0, 21, 180, 0, 168, 153, 0, 24, 27, 3, 42, 180, 0, 21, 180, 0, 172, 4, 100, 184, 0, 51]
abbrev dktX0_isName_0 : List UInt8 := dkwX0_isName_0 ++ dktX0_isName_1
theorem dksX0_isName_0 : cX0_isName.data.toList.drop 0 = dktX0_isName_0 := by decide +kernel
theorem dksX0_isName_1 : cX0_isName.data.toList.drop 24 = dktX0_isName_1 := dk_seg dksX0_isName_0 24 rfl rfl
theorem dX0_isName_0 : decode cX0_isName 0 = .ok (.aload_n 0, 1) := dk_42 (dk_at dksX0_isName_0 0 rfl rfl)
theorem dX0_isName_1 : decode cX0_isName 1 = .ok (.getfield 21, 3) := dk_180 0 21 (dk_at dksX0_isName_0 1 rfl rfl)
theorem dX0_isName_4 : decode cX0_isName 4 = .ok (.getfield 168, 3) := dk_180 0 168 (dk_at dksX0_isName_0 4 rfl rfl)
theorem dX0_isName_7 : decode cX0_isName 7 = .ok (.ifCond .eq 24, 3) := dk_153 0 24 (dk_at dksX0_isName_0 7 rfl rfl)
theorem dX0_isName_10 : decode cX0_isName 10 = .ok (.iload_n 1, 1) := dk_27 (dk_at dksX0_isName_0 10 rfl rfl)
theorem dX0_isName_11 : decode cX0_isName 11 = .ok (.iconst 0, 1) := dk_3 (dk_at dksX0_isName_0 11 rfl rfl)
theorem dX0_isName_12 : decode cX0_isName 12 = .ok (.aload_n 0, 1) := dk_42 (dk_at dksX0_isName_0 12 rfl rfl)
theorem dX0_isName_13 : decode cX0_isName 13 = .ok (.getfield 21, 3) := dk_180 0 21 (dk_at dksX0_isName_0 13 rfl rfl)
theorem dX0_isName_16 : decode cX0_isName 16 = .ok (.getfield 172, 3) := dk_180 0 172 (dk_at dksX0_isName_0 16 rfl rfl)
theorem dX0_isName_19 : decode cX0_isName 19 = .ok (.iconst 1, 1) := dk_4 (dk_at dksX0_isName_0 19 rfl rfl)
theorem dX0_isName_20 : decode cX0_isName 20 = .ok (.isub, 1) := dk_100 (dk_at dksX0_isName_0 20 rfl rfl)
theorem dX0_isName_21 : decode cX0_isName 21 = .ok (.invokestatic 51, 3) := dk_184 0 51 (dk_at dksX0_isName_0 21 rfl rfl)
theorem dX0_isName_24 : decode cX0_isName 24 = .ok (.ifCond .eq 7, 3) := dk_153 0 7 (dk_at dksX0_isName_1 0 rfl rfl)
theorem dX0_isName_27 : decode cX0_isName 27 = .ok (.iconst 1, 1) := dk_4 (dk_at dksX0_isName_1 3 rfl rfl)
theorem dX0_isName_28 : decode cX0_isName 28 = .ok (.goto 4, 3) := dk_167 0 4 (dk_at dksX0_isName_1 4 rfl rfl)
theorem dX0_isName_31 : decode cX0_isName 31 = .ok (.iconst 0, 1) := dk_3 (dk_at dksX0_isName_1 7 rfl rfl)
theorem dX0_isName_32 : decode cX0_isName 32 = .ok (.ireturn, 1) := dk_172 (dk_at dksX0_isName_1 8 rfl rfl)
abbrev cX0_meetings : ByteArray := prog_1_method_22_code
def yX0_meetings : MethodName := ⟨RX0, "meetings", "(I)I"⟩
def dkwX0_meetings_0 : List UInt8 := [42, 27, 182, 0, 176, 153, 0, 15, 42, 180, 0, 21, 180, 0, 180, 27, 46, 167, 0, 4, 2, 172]
abbrev dktX0_meetings_0 : List UInt8 := dkwX0_meetings_0 ++ []
theorem dksX0_meetings_0 : cX0_meetings.data.toList.drop 0 = dktX0_meetings_0 := by decide +kernel
theorem dX0_meetings_0 : decode cX0_meetings 0 = .ok (.aload_n 0, 1) := dk_42 (dk_at dksX0_meetings_0 0 rfl rfl)
theorem dX0_meetings_1 : decode cX0_meetings 1 = .ok (.iload_n 1, 1) := dk_27 (dk_at dksX0_meetings_0 1 rfl rfl)
theorem dX0_meetings_2 : decode cX0_meetings 2 = .ok (.invokevirtual 176, 3) := dk_182 0 176 (dk_at dksX0_meetings_0 2 rfl rfl)
theorem dX0_meetings_5 : decode cX0_meetings 5 = .ok (.ifCond .eq 15, 3) := dk_153 0 15 (dk_at dksX0_meetings_0 5 rfl rfl)
theorem dX0_meetings_8 : decode cX0_meetings 8 = .ok (.aload_n 0, 1) := dk_42 (dk_at dksX0_meetings_0 8 rfl rfl)
theorem dX0_meetings_9 : decode cX0_meetings 9 = .ok (.getfield 21, 3) := dk_180 0 21 (dk_at dksX0_meetings_0 9 rfl rfl)
theorem dX0_meetings_12 : decode cX0_meetings 12 = .ok (.getfield 180, 3) := dk_180 0 180 (dk_at dksX0_meetings_0 12 rfl rfl)
theorem dX0_meetings_15 : decode cX0_meetings 15 = .ok (.iload_n 1, 1) := dk_27 (dk_at dksX0_meetings_0 15 rfl rfl)
theorem dX0_meetings_16 : decode cX0_meetings 16 = .ok (.iaload, 1) := dk_46 (dk_at dksX0_meetings_0 16 rfl rfl)
theorem dX0_meetings_17 : decode cX0_meetings 17 = .ok (.goto 4, 3) := dk_167 0 4 (dk_at dksX0_meetings_0 17 rfl rfl)
theorem dX0_meetings_20 : decode cX0_meetings 20 = .ok (.iconst (-1), 1) := dk_2 (dk_at dksX0_meetings_0 20 rfl rfl)
theorem dX0_meetings_21 : decode cX0_meetings 21 = .ok (.ireturn, 1) := dk_172 (dk_at dksX0_meetings_0 21 rfl rfl)
abbrev cX0_witness : ByteArray := prog_1_method_23_code
def yX0_witness : MethodName := ⟨RX0, "witness", "(II)I"⟩
def dkwX0_witness_1 : List UInt8 := [180, 0, 183, 27, 16, 10, 104, 28, 96, 46, 167, 0, 4, 2, 172]
abbrev dktX0_witness_1 : List UInt8 := dkwX0_witness_1 ++ []
def dkwX0_witness_0 : List UInt8 := [42, 27, 182, 0, 173, 153, 0, 30, 28, 3, 16, 9, 184, 0, 51, 153, 0, 20, 42, 180, 0, 21]
abbrev dktX0_witness_0 : List UInt8 := dkwX0_witness_0 ++ dktX0_witness_1
theorem dksX0_witness_0 : cX0_witness.data.toList.drop 0 = dktX0_witness_0 := by decide +kernel
theorem dksX0_witness_1 : cX0_witness.data.toList.drop 22 = dktX0_witness_1 := dk_seg dksX0_witness_0 22 rfl rfl
theorem dX0_witness_0 : decode cX0_witness 0 = .ok (.aload_n 0, 1) := dk_42 (dk_at dksX0_witness_0 0 rfl rfl)
theorem dX0_witness_1 : decode cX0_witness 1 = .ok (.iload_n 1, 1) := dk_27 (dk_at dksX0_witness_0 1 rfl rfl)
theorem dX0_witness_2 : decode cX0_witness 2 = .ok (.invokevirtual 173, 3) := dk_182 0 173 (dk_at dksX0_witness_0 2 rfl rfl)
theorem dX0_witness_5 : decode cX0_witness 5 = .ok (.ifCond .eq 30, 3) := dk_153 0 30 (dk_at dksX0_witness_0 5 rfl rfl)
theorem dX0_witness_8 : decode cX0_witness 8 = .ok (.iload_n 2, 1) := dk_28 (dk_at dksX0_witness_0 8 rfl rfl)
theorem dX0_witness_9 : decode cX0_witness 9 = .ok (.iconst 0, 1) := dk_3 (dk_at dksX0_witness_0 9 rfl rfl)
theorem dX0_witness_10 : decode cX0_witness 10 = .ok (.bipush 9, 2) := dk_16 9 (dk_at dksX0_witness_0 10 rfl rfl)
theorem dX0_witness_12 : decode cX0_witness 12 = .ok (.invokestatic 51, 3) := dk_184 0 51 (dk_at dksX0_witness_0 12 rfl rfl)
theorem dX0_witness_15 : decode cX0_witness 15 = .ok (.ifCond .eq 20, 3) := dk_153 0 20 (dk_at dksX0_witness_0 15 rfl rfl)
theorem dX0_witness_18 : decode cX0_witness 18 = .ok (.aload_n 0, 1) := dk_42 (dk_at dksX0_witness_0 18 rfl rfl)
theorem dX0_witness_19 : decode cX0_witness 19 = .ok (.getfield 21, 3) := dk_180 0 21 (dk_at dksX0_witness_0 19 rfl rfl)
theorem dX0_witness_22 : decode cX0_witness 22 = .ok (.getfield 183, 3) := dk_180 0 183 (dk_at dksX0_witness_1 0 rfl rfl)
theorem dX0_witness_25 : decode cX0_witness 25 = .ok (.iload_n 1, 1) := dk_27 (dk_at dksX0_witness_1 3 rfl rfl)
theorem dX0_witness_26 : decode cX0_witness 26 = .ok (.bipush 10, 2) := dk_16 10 (dk_at dksX0_witness_1 4 rfl rfl)
theorem dX0_witness_28 : decode cX0_witness 28 = .ok (.imul, 1) := dk_104 (dk_at dksX0_witness_1 6 rfl rfl)
theorem dX0_witness_29 : decode cX0_witness 29 = .ok (.iload_n 2, 1) := dk_28 (dk_at dksX0_witness_1 7 rfl rfl)
theorem dX0_witness_30 : decode cX0_witness 30 = .ok (.iadd, 1) := dk_96 (dk_at dksX0_witness_1 8 rfl rfl)
theorem dX0_witness_31 : decode cX0_witness 31 = .ok (.iaload, 1) := dk_46 (dk_at dksX0_witness_1 9 rfl rfl)
theorem dX0_witness_32 : decode cX0_witness 32 = .ok (.goto 4, 3) := dk_167 0 4 (dk_at dksX0_witness_1 10 rfl rfl)
theorem dX0_witness_35 : decode cX0_witness 35 = .ok (.iconst (-1), 1) := dk_2 (dk_at dksX0_witness_1 13 rfl rfl)
theorem dX0_witness_36 : decode cX0_witness 36 = .ok (.ireturn, 1) := dk_172 (dk_at dksX0_witness_1 14 rfl rfl)
abbrev cX0_sum : ByteArray := prog_1_method_24_code
def yX0_sum : MethodName := ⟨RX0, "sum", "(II)J"⟩
def dkwX0_sum_7 : List UInt8 := [33, 173, 21, 5, 133, 173, 21, 6, 133, 173, 21, 7, 133, 173, 42, 27, 182, 0, 194, 133, 173]
abbrev dktX0_sum_7 : List UInt8 := dkwX0_sum_7 ++ []
def dkwX0_sum_6 : List UInt8 := [170, 0, 0, 0, 43, 0, 0, 0, 0, 0, 0, 0, 3, 0, 0, 0, 29, 0, 0, 0, 31, 0, 0, 0, 35, 0, 0, 0, 39]
abbrev dktX0_sum_6 : List UInt8 := dkwX0_sum_6 ++ dktX0_sum_7
def dkwX0_sum_5 : List UInt8 := [167, 255, 172, 28]
abbrev dktX0_sum_5 : List UInt8 := dkwX0_sum_5 ++ dktX0_sum_6
def dkwX0_sum_4 : List UInt8 := [167, 0, 10, 21, 7, 21, 9, 184, 0, 191, 54, 7, 33, 21, 9, 133, 97, 66, 132, 5, 1, 132, 8, 1]
abbrev dktX0_sum_4 : List UInt8 := dkwX0_sum_4 ++ dktX0_sum_5
def dkwX0_sum_3 : List UInt8 := [154, 0, 8, 21, 9, 167, 0, 10, 21, 6, 21, 9, 184, 0, 186, 54, 6, 21, 5, 154, 0, 8, 21, 9]
abbrev dktX0_sum_3 : List UInt8 := dkwX0_sum_3 ++ dktX0_sum_4
def dkwX0_sum_2 : List UInt8 := [180, 0, 21, 21, 8, 27, 182, 0, 179, 54, 9, 21, 9, 18, 3, 160, 0, 6, 167, 0, 50, 21, 5]
abbrev dktX0_sum_2 : List UInt8 := dkwX0_sum_2 ++ dktX0_sum_3
def dkwX0_sum_1 : List UInt8 := [18, 3, 54, 6, 18, 3, 54, 7, 3, 54, 8, 21, 8, 42, 180, 0, 21, 180, 0, 167, 162, 0, 78, 42]
abbrev dktX0_sum_1 : List UInt8 := dkwX0_sum_1 ++ dktX0_sum_2
def dkwX0_sum_0 : List UInt8 := [42, 27, 182, 0, 176, 153, 0, 12, 28, 3, 7, 184, 0, 51, 154, 0, 5, 9, 173, 9, 66, 3, 54, 5]
abbrev dktX0_sum_0 : List UInt8 := dkwX0_sum_0 ++ dktX0_sum_1
theorem dksX0_sum_0 : cX0_sum.data.toList.drop 0 = dktX0_sum_0 := by decide +kernel
theorem dksX0_sum_1 : cX0_sum.data.toList.drop 24 = dktX0_sum_1 := dk_seg dksX0_sum_0 24 rfl rfl
theorem dksX0_sum_2 : cX0_sum.data.toList.drop 48 = dktX0_sum_2 := dk_seg dksX0_sum_1 24 rfl rfl
theorem dksX0_sum_3 : cX0_sum.data.toList.drop 71 = dktX0_sum_3 := dk_seg dksX0_sum_2 23 rfl rfl
theorem dksX0_sum_4 : cX0_sum.data.toList.drop 95 = dktX0_sum_4 := dk_seg dksX0_sum_3 24 rfl rfl
theorem dksX0_sum_5 : cX0_sum.data.toList.drop 119 = dktX0_sum_5 := dk_seg dksX0_sum_4 24 rfl rfl
theorem dksX0_sum_6 : cX0_sum.data.toList.drop 123 = dktX0_sum_6 := dk_seg dksX0_sum_5 4 rfl rfl
theorem dksX0_sum_7 : cX0_sum.data.toList.drop 152 = dktX0_sum_7 := dk_seg dksX0_sum_6 29 rfl rfl
theorem dX0_sum_0 : decode cX0_sum 0 = .ok (.aload_n 0, 1) := dk_42 (dk_at dksX0_sum_0 0 rfl rfl)
theorem dX0_sum_1 : decode cX0_sum 1 = .ok (.iload_n 1, 1) := dk_27 (dk_at dksX0_sum_0 1 rfl rfl)
theorem dX0_sum_2 : decode cX0_sum 2 = .ok (.invokevirtual 176, 3) := dk_182 0 176 (dk_at dksX0_sum_0 2 rfl rfl)
theorem dX0_sum_5 : decode cX0_sum 5 = .ok (.ifCond .eq 12, 3) := dk_153 0 12 (dk_at dksX0_sum_0 5 rfl rfl)
theorem dX0_sum_8 : decode cX0_sum 8 = .ok (.iload_n 2, 1) := dk_28 (dk_at dksX0_sum_0 8 rfl rfl)
theorem dX0_sum_9 : decode cX0_sum 9 = .ok (.iconst 0, 1) := dk_3 (dk_at dksX0_sum_0 9 rfl rfl)
theorem dX0_sum_10 : decode cX0_sum 10 = .ok (.iconst 4, 1) := dk_7 (dk_at dksX0_sum_0 10 rfl rfl)
theorem dX0_sum_11 : decode cX0_sum 11 = .ok (.invokestatic 51, 3) := dk_184 0 51 (dk_at dksX0_sum_0 11 rfl rfl)
theorem dX0_sum_14 : decode cX0_sum 14 = .ok (.ifCond .ne 5, 3) := dk_154 0 5 (dk_at dksX0_sum_0 14 rfl rfl)
theorem dX0_sum_17 : decode cX0_sum 17 = .ok (.lconst 0, 1) := dk_9 (dk_at dksX0_sum_0 17 rfl rfl)
theorem dX0_sum_18 : decode cX0_sum 18 = .ok (.lreturn, 1) := dk_173 (dk_at dksX0_sum_0 18 rfl rfl)
theorem dX0_sum_19 : decode cX0_sum 19 = .ok (.lconst 0, 1) := dk_9 (dk_at dksX0_sum_0 19 rfl rfl)
theorem dX0_sum_20 : decode cX0_sum 20 = .ok (.lstore_n 3, 1) := dk_66 (dk_at dksX0_sum_0 20 rfl rfl)
theorem dX0_sum_21 : decode cX0_sum 21 = .ok (.iconst 0, 1) := dk_3 (dk_at dksX0_sum_0 21 rfl rfl)
theorem dX0_sum_22 : decode cX0_sum 22 = .ok (.istore 5, 2) := dk_54 5 (dk_at dksX0_sum_0 22 rfl rfl)
theorem dX0_sum_24 : decode cX0_sum 24 = .ok (.ldc 3, 2) := dk_18 3 (dk_at dksX0_sum_1 0 rfl rfl)
theorem dX0_sum_26 : decode cX0_sum 26 = .ok (.istore 6, 2) := dk_54 6 (dk_at dksX0_sum_1 2 rfl rfl)
theorem dX0_sum_28 : decode cX0_sum 28 = .ok (.ldc 3, 2) := dk_18 3 (dk_at dksX0_sum_1 4 rfl rfl)
theorem dX0_sum_30 : decode cX0_sum 30 = .ok (.istore 7, 2) := dk_54 7 (dk_at dksX0_sum_1 6 rfl rfl)
theorem dX0_sum_32 : decode cX0_sum 32 = .ok (.iconst 0, 1) := dk_3 (dk_at dksX0_sum_1 8 rfl rfl)
theorem dX0_sum_33 : decode cX0_sum 33 = .ok (.istore 8, 2) := dk_54 8 (dk_at dksX0_sum_1 9 rfl rfl)
theorem dX0_sum_35 : decode cX0_sum 35 = .ok (.iload 8, 2) := dk_21 8 (dk_at dksX0_sum_1 11 rfl rfl)
theorem dX0_sum_37 : decode cX0_sum 37 = .ok (.aload_n 0, 1) := dk_42 (dk_at dksX0_sum_1 13 rfl rfl)
theorem dX0_sum_38 : decode cX0_sum 38 = .ok (.getfield 21, 3) := dk_180 0 21 (dk_at dksX0_sum_1 14 rfl rfl)
theorem dX0_sum_41 : decode cX0_sum 41 = .ok (.getfield 167, 3) := dk_180 0 167 (dk_at dksX0_sum_1 17 rfl rfl)
theorem dX0_sum_44 : decode cX0_sum 44 = .ok (.if_icmp .ge 78, 3) := dk_162 0 78 (dk_at dksX0_sum_1 20 rfl rfl)
theorem dX0_sum_47 : decode cX0_sum 47 = .ok (.aload_n 0, 1) := dk_42 (dk_at dksX0_sum_1 23 rfl rfl)
theorem dX0_sum_48 : decode cX0_sum 48 = .ok (.getfield 21, 3) := dk_180 0 21 (dk_at dksX0_sum_2 0 rfl rfl)
theorem dX0_sum_51 : decode cX0_sum 51 = .ok (.iload 8, 2) := dk_21 8 (dk_at dksX0_sum_2 3 rfl rfl)
theorem dX0_sum_53 : decode cX0_sum 53 = .ok (.iload_n 1, 1) := dk_27 (dk_at dksX0_sum_2 5 rfl rfl)
theorem dX0_sum_54 : decode cX0_sum 54 = .ok (.invokevirtual 179, 3) := dk_182 0 179 (dk_at dksX0_sum_2 6 rfl rfl)
theorem dX0_sum_57 : decode cX0_sum 57 = .ok (.istore 9, 2) := dk_54 9 (dk_at dksX0_sum_2 9 rfl rfl)
theorem dX0_sum_59 : decode cX0_sum 59 = .ok (.iload 9, 2) := dk_21 9 (dk_at dksX0_sum_2 11 rfl rfl)
theorem dX0_sum_61 : decode cX0_sum 61 = .ok (.ldc 3, 2) := dk_18 3 (dk_at dksX0_sum_2 13 rfl rfl)
theorem dX0_sum_63 : decode cX0_sum 63 = .ok (.if_icmp .ne 6, 3) := dk_160 0 6 (dk_at dksX0_sum_2 15 rfl rfl)
theorem dX0_sum_66 : decode cX0_sum 66 = .ok (.goto 50, 3) := dk_167 0 50 (dk_at dksX0_sum_2 18 rfl rfl)
theorem dX0_sum_69 : decode cX0_sum 69 = .ok (.iload 5, 2) := dk_21 5 (dk_at dksX0_sum_2 21 rfl rfl)
theorem dX0_sum_71 : decode cX0_sum 71 = .ok (.ifCond .ne 8, 3) := dk_154 0 8 (dk_at dksX0_sum_3 0 rfl rfl)
theorem dX0_sum_74 : decode cX0_sum 74 = .ok (.iload 9, 2) := dk_21 9 (dk_at dksX0_sum_3 3 rfl rfl)
theorem dX0_sum_76 : decode cX0_sum 76 = .ok (.goto 10, 3) := dk_167 0 10 (dk_at dksX0_sum_3 5 rfl rfl)
theorem dX0_sum_79 : decode cX0_sum 79 = .ok (.iload 6, 2) := dk_21 6 (dk_at dksX0_sum_3 8 rfl rfl)
theorem dX0_sum_81 : decode cX0_sum 81 = .ok (.iload 9, 2) := dk_21 9 (dk_at dksX0_sum_3 10 rfl rfl)
theorem dX0_sum_83 : decode cX0_sum 83 = .ok (.invokestatic 186, 3) := dk_184 0 186 (dk_at dksX0_sum_3 12 rfl rfl)
theorem dX0_sum_86 : decode cX0_sum 86 = .ok (.istore 6, 2) := dk_54 6 (dk_at dksX0_sum_3 15 rfl rfl)
theorem dX0_sum_88 : decode cX0_sum 88 = .ok (.iload 5, 2) := dk_21 5 (dk_at dksX0_sum_3 17 rfl rfl)
theorem dX0_sum_90 : decode cX0_sum 90 = .ok (.ifCond .ne 8, 3) := dk_154 0 8 (dk_at dksX0_sum_3 19 rfl rfl)
theorem dX0_sum_93 : decode cX0_sum 93 = .ok (.iload 9, 2) := dk_21 9 (dk_at dksX0_sum_3 22 rfl rfl)
theorem dX0_sum_95 : decode cX0_sum 95 = .ok (.goto 10, 3) := dk_167 0 10 (dk_at dksX0_sum_4 0 rfl rfl)
theorem dX0_sum_98 : decode cX0_sum 98 = .ok (.iload 7, 2) := dk_21 7 (dk_at dksX0_sum_4 3 rfl rfl)
theorem dX0_sum_100 : decode cX0_sum 100 = .ok (.iload 9, 2) := dk_21 9 (dk_at dksX0_sum_4 5 rfl rfl)
theorem dX0_sum_102 : decode cX0_sum 102 = .ok (.invokestatic 191, 3) := dk_184 0 191 (dk_at dksX0_sum_4 7 rfl rfl)
theorem dX0_sum_105 : decode cX0_sum 105 = .ok (.istore 7, 2) := dk_54 7 (dk_at dksX0_sum_4 10 rfl rfl)
theorem dX0_sum_107 : decode cX0_sum 107 = .ok (.lload_n 3, 1) := dk_33 (dk_at dksX0_sum_4 12 rfl rfl)
theorem dX0_sum_108 : decode cX0_sum 108 = .ok (.iload 9, 2) := dk_21 9 (dk_at dksX0_sum_4 13 rfl rfl)
theorem dX0_sum_110 : decode cX0_sum 110 = .ok (.i2l, 1) := dk_133 (dk_at dksX0_sum_4 15 rfl rfl)
theorem dX0_sum_111 : decode cX0_sum 111 = .ok (.ladd, 1) := dk_97 (dk_at dksX0_sum_4 16 rfl rfl)
theorem dX0_sum_112 : decode cX0_sum 112 = .ok (.lstore_n 3, 1) := dk_66 (dk_at dksX0_sum_4 17 rfl rfl)
theorem dX0_sum_113 : decode cX0_sum 113 = .ok (.iinc 5 1, 3) := dk_132 5 1 (dk_at dksX0_sum_4 18 rfl rfl)
theorem dX0_sum_116 : decode cX0_sum 116 = .ok (.iinc 8 1, 3) := dk_132 8 1 (dk_at dksX0_sum_4 21 rfl rfl)
theorem dX0_sum_119 : decode cX0_sum 119 = .ok (.goto (-84), 3) := dk_167 255 172 (dk_at dksX0_sum_5 0 rfl rfl)
theorem dX0_sum_122 : decode cX0_sum 122 = .ok (.iload_n 2, 1) := dk_28 (dk_at dksX0_sum_5 3 rfl rfl)
theorem dX0_sum_123 : decode cX0_sum 123 = .ok (.tableswitch 43 0 3 #[29, 31, 35, 39], 29) := by decide +kernel
theorem dX0_sum_152 : decode cX0_sum 152 = .ok (.lload_n 3, 1) := dk_33 (dk_at dksX0_sum_7 0 rfl rfl)
theorem dX0_sum_153 : decode cX0_sum 153 = .ok (.lreturn, 1) := dk_173 (dk_at dksX0_sum_7 1 rfl rfl)
theorem dX0_sum_154 : decode cX0_sum 154 = .ok (.iload 5, 2) := dk_21 5 (dk_at dksX0_sum_7 2 rfl rfl)
theorem dX0_sum_156 : decode cX0_sum 156 = .ok (.i2l, 1) := dk_133 (dk_at dksX0_sum_7 4 rfl rfl)
theorem dX0_sum_157 : decode cX0_sum 157 = .ok (.lreturn, 1) := dk_173 (dk_at dksX0_sum_7 5 rfl rfl)
theorem dX0_sum_158 : decode cX0_sum 158 = .ok (.iload 6, 2) := dk_21 6 (dk_at dksX0_sum_7 6 rfl rfl)
theorem dX0_sum_160 : decode cX0_sum 160 = .ok (.i2l, 1) := dk_133 (dk_at dksX0_sum_7 8 rfl rfl)
theorem dX0_sum_161 : decode cX0_sum 161 = .ok (.lreturn, 1) := dk_173 (dk_at dksX0_sum_7 9 rfl rfl)
theorem dX0_sum_162 : decode cX0_sum 162 = .ok (.iload 7, 2) := dk_21 7 (dk_at dksX0_sum_7 10 rfl rfl)
theorem dX0_sum_164 : decode cX0_sum 164 = .ok (.i2l, 1) := dk_133 (dk_at dksX0_sum_7 12 rfl rfl)
theorem dX0_sum_165 : decode cX0_sum 165 = .ok (.lreturn, 1) := dk_173 (dk_at dksX0_sum_7 13 rfl rfl)
theorem dX0_sum_166 : decode cX0_sum 166 = .ok (.aload_n 0, 1) := dk_42 (dk_at dksX0_sum_7 14 rfl rfl)
theorem dX0_sum_167 : decode cX0_sum 167 = .ok (.iload_n 1, 1) := dk_27 (dk_at dksX0_sum_7 15 rfl rfl)
theorem dX0_sum_168 : decode cX0_sum 168 = .ok (.invokevirtual 194, 3) := dk_182 0 194 (dk_at dksX0_sum_7 16 rfl rfl)
theorem dX0_sum_171 : decode cX0_sum 171 = .ok (.i2l, 1) := dk_133 (dk_at dksX0_sum_7 19 rfl rfl)
theorem dX0_sum_172 : decode cX0_sum 172 = .ok (.lreturn, 1) := dk_173 (dk_at dksX0_sum_7 20 rfl rfl)
abbrev cX0_different : ByteArray := prog_1_method_25_code
def yX0_different : MethodName := ⟨RX0, "different", "(I)I"⟩
def dkwX0_different_3 : List UInt8 := [153, 0, 7, 4, 167, 0, 4, 3, 96, 61, 132, 3, 1, 167, 255, 177, 28, 172]
abbrev dktX0_different_3 : List UInt8 := dkwX0_different_3 ++ []
def dkwX0_different_2 : List UInt8 := [182, 0, 179, 159, 0, 7, 4, 167, 0, 4, 3, 54, 4, 132, 5, 1, 167, 255, 213, 28, 21, 4]
abbrev dktX0_different_2 : List UInt8 := dkwX0_different_2 ++ dktX0_different_3
def dkwX0_different_1 : List UInt8 := [162, 0, 43, 21, 4, 153, 0, 38, 42, 180, 0, 21, 21, 5, 27, 182, 0, 179, 42, 180, 0, 21, 29, 27]
abbrev dktX0_different_1 : List UInt8 := dkwX0_different_1 ++ dktX0_different_2
def dkwX0_different_0 : List UInt8 := [3, 61, 3, 62, 29, 42, 180, 0, 21, 180, 0, 167, 162, 0, 74, 4, 54, 4, 3, 54, 5, 21, 5, 29]
abbrev dktX0_different_0 : List UInt8 := dkwX0_different_0 ++ dktX0_different_1
theorem dksX0_different_0 : cX0_different.data.toList.drop 0 = dktX0_different_0 := by decide +kernel
theorem dksX0_different_1 : cX0_different.data.toList.drop 24 = dktX0_different_1 := dk_seg dksX0_different_0 24 rfl rfl
theorem dksX0_different_2 : cX0_different.data.toList.drop 48 = dktX0_different_2 := dk_seg dksX0_different_1 24 rfl rfl
theorem dksX0_different_3 : cX0_different.data.toList.drop 70 = dktX0_different_3 := dk_seg dksX0_different_2 22 rfl rfl
theorem dX0_different_0 : decode cX0_different 0 = .ok (.iconst 0, 1) := dk_3 (dk_at dksX0_different_0 0 rfl rfl)
theorem dX0_different_1 : decode cX0_different 1 = .ok (.istore_n 2, 1) := dk_61 (dk_at dksX0_different_0 1 rfl rfl)
theorem dX0_different_2 : decode cX0_different 2 = .ok (.iconst 0, 1) := dk_3 (dk_at dksX0_different_0 2 rfl rfl)
theorem dX0_different_3 : decode cX0_different 3 = .ok (.istore_n 3, 1) := dk_62 (dk_at dksX0_different_0 3 rfl rfl)
theorem dX0_different_4 : decode cX0_different 4 = .ok (.iload_n 3, 1) := dk_29 (dk_at dksX0_different_0 4 rfl rfl)
theorem dX0_different_5 : decode cX0_different 5 = .ok (.aload_n 0, 1) := dk_42 (dk_at dksX0_different_0 5 rfl rfl)
theorem dX0_different_6 : decode cX0_different 6 = .ok (.getfield 21, 3) := dk_180 0 21 (dk_at dksX0_different_0 6 rfl rfl)
theorem dX0_different_9 : decode cX0_different 9 = .ok (.getfield 167, 3) := dk_180 0 167 (dk_at dksX0_different_0 9 rfl rfl)
theorem dX0_different_12 : decode cX0_different 12 = .ok (.if_icmp .ge 74, 3) := dk_162 0 74 (dk_at dksX0_different_0 12 rfl rfl)
theorem dX0_different_15 : decode cX0_different 15 = .ok (.iconst 1, 1) := dk_4 (dk_at dksX0_different_0 15 rfl rfl)
theorem dX0_different_16 : decode cX0_different 16 = .ok (.istore 4, 2) := dk_54 4 (dk_at dksX0_different_0 16 rfl rfl)
theorem dX0_different_18 : decode cX0_different 18 = .ok (.iconst 0, 1) := dk_3 (dk_at dksX0_different_0 18 rfl rfl)
theorem dX0_different_19 : decode cX0_different 19 = .ok (.istore 5, 2) := dk_54 5 (dk_at dksX0_different_0 19 rfl rfl)
theorem dX0_different_21 : decode cX0_different 21 = .ok (.iload 5, 2) := dk_21 5 (dk_at dksX0_different_0 21 rfl rfl)
theorem dX0_different_23 : decode cX0_different 23 = .ok (.iload_n 3, 1) := dk_29 (dk_at dksX0_different_0 23 rfl rfl)
theorem dX0_different_24 : decode cX0_different 24 = .ok (.if_icmp .ge 43, 3) := dk_162 0 43 (dk_at dksX0_different_1 0 rfl rfl)
theorem dX0_different_27 : decode cX0_different 27 = .ok (.iload 4, 2) := dk_21 4 (dk_at dksX0_different_1 3 rfl rfl)
theorem dX0_different_29 : decode cX0_different 29 = .ok (.ifCond .eq 38, 3) := dk_153 0 38 (dk_at dksX0_different_1 5 rfl rfl)
theorem dX0_different_32 : decode cX0_different 32 = .ok (.aload_n 0, 1) := dk_42 (dk_at dksX0_different_1 8 rfl rfl)
theorem dX0_different_33 : decode cX0_different 33 = .ok (.getfield 21, 3) := dk_180 0 21 (dk_at dksX0_different_1 9 rfl rfl)
theorem dX0_different_36 : decode cX0_different 36 = .ok (.iload 5, 2) := dk_21 5 (dk_at dksX0_different_1 12 rfl rfl)
theorem dX0_different_38 : decode cX0_different 38 = .ok (.iload_n 1, 1) := dk_27 (dk_at dksX0_different_1 14 rfl rfl)
theorem dX0_different_39 : decode cX0_different 39 = .ok (.invokevirtual 179, 3) := dk_182 0 179 (dk_at dksX0_different_1 15 rfl rfl)
theorem dX0_different_42 : decode cX0_different 42 = .ok (.aload_n 0, 1) := dk_42 (dk_at dksX0_different_1 18 rfl rfl)
theorem dX0_different_43 : decode cX0_different 43 = .ok (.getfield 21, 3) := dk_180 0 21 (dk_at dksX0_different_1 19 rfl rfl)
theorem dX0_different_46 : decode cX0_different 46 = .ok (.iload_n 3, 1) := dk_29 (dk_at dksX0_different_1 22 rfl rfl)
theorem dX0_different_47 : decode cX0_different 47 = .ok (.iload_n 1, 1) := dk_27 (dk_at dksX0_different_1 23 rfl rfl)
theorem dX0_different_48 : decode cX0_different 48 = .ok (.invokevirtual 179, 3) := dk_182 0 179 (dk_at dksX0_different_2 0 rfl rfl)
theorem dX0_different_51 : decode cX0_different 51 = .ok (.if_icmp .eq 7, 3) := dk_159 0 7 (dk_at dksX0_different_2 3 rfl rfl)
theorem dX0_different_54 : decode cX0_different 54 = .ok (.iconst 1, 1) := dk_4 (dk_at dksX0_different_2 6 rfl rfl)
theorem dX0_different_55 : decode cX0_different 55 = .ok (.goto 4, 3) := dk_167 0 4 (dk_at dksX0_different_2 7 rfl rfl)
theorem dX0_different_58 : decode cX0_different 58 = .ok (.iconst 0, 1) := dk_3 (dk_at dksX0_different_2 10 rfl rfl)
theorem dX0_different_59 : decode cX0_different 59 = .ok (.istore 4, 2) := dk_54 4 (dk_at dksX0_different_2 11 rfl rfl)
theorem dX0_different_61 : decode cX0_different 61 = .ok (.iinc 5 1, 3) := dk_132 5 1 (dk_at dksX0_different_2 13 rfl rfl)
theorem dX0_different_64 : decode cX0_different 64 = .ok (.goto (-43), 3) := dk_167 255 213 (dk_at dksX0_different_2 16 rfl rfl)
theorem dX0_different_67 : decode cX0_different 67 = .ok (.iload_n 2, 1) := dk_28 (dk_at dksX0_different_2 19 rfl rfl)
theorem dX0_different_68 : decode cX0_different 68 = .ok (.iload 4, 2) := dk_21 4 (dk_at dksX0_different_2 20 rfl rfl)
theorem dX0_different_70 : decode cX0_different 70 = .ok (.ifCond .eq 7, 3) := dk_153 0 7 (dk_at dksX0_different_3 0 rfl rfl)
theorem dX0_different_73 : decode cX0_different 73 = .ok (.iconst 1, 1) := dk_4 (dk_at dksX0_different_3 3 rfl rfl)
theorem dX0_different_74 : decode cX0_different 74 = .ok (.goto 4, 3) := dk_167 0 4 (dk_at dksX0_different_3 4 rfl rfl)
theorem dX0_different_77 : decode cX0_different 77 = .ok (.iconst 0, 1) := dk_3 (dk_at dksX0_different_3 7 rfl rfl)
theorem dX0_different_78 : decode cX0_different 78 = .ok (.iadd, 1) := dk_96 (dk_at dksX0_different_3 8 rfl rfl)
theorem dX0_different_79 : decode cX0_different 79 = .ok (.istore_n 2, 1) := dk_61 (dk_at dksX0_different_3 9 rfl rfl)
theorem dX0_different_80 : decode cX0_different 80 = .ok (.iinc 3 1, 3) := dk_132 3 1 (dk_at dksX0_different_3 10 rfl rfl)
theorem dX0_different_83 : decode cX0_different 83 = .ok (.goto (-79), 3) := dk_167 255 177 (dk_at dksX0_different_3 13 rfl rfl)
theorem dX0_different_86 : decode cX0_different 86 = .ok (.iload_n 2, 1) := dk_28 (dk_at dksX0_different_3 16 rfl rfl)
theorem dX0_different_87 : decode cX0_different 87 = .ok (.ireturn, 1) := dk_172 (dk_at dksX0_different_3 17 rfl rfl)
abbrev cX0_group : ByteArray := prog_1_method_26_code
def yX0_group : MethodName := ⟨RX0, "group", "(IIII)J"⟩
def dkwX0_group_4 : List UInt8 := [18, 3, 160, 0, 7, 9, 167, 0, 6, 21, 8, 133, 97, 55, 5, 132, 7, 1, 167, 255, 184, 22, 5, 173]
abbrev dktX0_group_4 : List UInt8 := dkwX0_group_4 ++ []
def dkwX0_group_3 : List UInt8 := [154, 0, 7, 4, 167, 0, 14, 42, 180, 0, 21, 21, 7, 21, 4, 182, 0, 179, 54, 8, 22, 5, 21, 8]
abbrev dktX0_group_3 : List UInt8 := dkwX0_group_3 ++ dktX0_group_4
def dkwX0_group_2 : List UInt8 := [180, 0, 167, 162, 0, 66, 42, 180, 0, 21, 21, 7, 27, 182, 0, 179, 28, 159, 0, 6, 167, 0, 43, 29]
abbrev dktX0_group_2 : List UInt8 := dkwX0_group_2 ++ dktX0_group_3
def dkwX0_group_1 : List UInt8 := [21, 4, 182, 0, 176, 154, 0, 5, 9, 173, 9, 55, 5, 3, 54, 7, 21, 7, 42, 180, 0, 21]
abbrev dktX0_group_1 : List UInt8 := dkwX0_group_1 ++ dktX0_group_2
def dkwX0_group_0 : List UInt8 := [42, 27, 182, 0, 176, 153, 0, 26, 29, 3, 4, 184, 0, 51, 153, 0, 17, 29, 4, 160, 0, 14, 42]
abbrev dktX0_group_0 : List UInt8 := dkwX0_group_0 ++ dktX0_group_1
theorem dksX0_group_0 : cX0_group.data.toList.drop 0 = dktX0_group_0 := by decide +kernel
theorem dksX0_group_1 : cX0_group.data.toList.drop 23 = dktX0_group_1 := dk_seg dksX0_group_0 23 rfl rfl
theorem dksX0_group_2 : cX0_group.data.toList.drop 45 = dktX0_group_2 := dk_seg dksX0_group_1 22 rfl rfl
theorem dksX0_group_3 : cX0_group.data.toList.drop 69 = dktX0_group_3 := dk_seg dksX0_group_2 24 rfl rfl
theorem dksX0_group_4 : cX0_group.data.toList.drop 93 = dktX0_group_4 := dk_seg dksX0_group_3 24 rfl rfl
theorem dX0_group_0 : decode cX0_group 0 = .ok (.aload_n 0, 1) := dk_42 (dk_at dksX0_group_0 0 rfl rfl)
theorem dX0_group_1 : decode cX0_group 1 = .ok (.iload_n 1, 1) := dk_27 (dk_at dksX0_group_0 1 rfl rfl)
theorem dX0_group_2 : decode cX0_group 2 = .ok (.invokevirtual 176, 3) := dk_182 0 176 (dk_at dksX0_group_0 2 rfl rfl)
theorem dX0_group_5 : decode cX0_group 5 = .ok (.ifCond .eq 26, 3) := dk_153 0 26 (dk_at dksX0_group_0 5 rfl rfl)
theorem dX0_group_8 : decode cX0_group 8 = .ok (.iload_n 3, 1) := dk_29 (dk_at dksX0_group_0 8 rfl rfl)
theorem dX0_group_9 : decode cX0_group 9 = .ok (.iconst 0, 1) := dk_3 (dk_at dksX0_group_0 9 rfl rfl)
theorem dX0_group_10 : decode cX0_group 10 = .ok (.iconst 1, 1) := dk_4 (dk_at dksX0_group_0 10 rfl rfl)
theorem dX0_group_11 : decode cX0_group 11 = .ok (.invokestatic 51, 3) := dk_184 0 51 (dk_at dksX0_group_0 11 rfl rfl)
theorem dX0_group_14 : decode cX0_group 14 = .ok (.ifCond .eq 17, 3) := dk_153 0 17 (dk_at dksX0_group_0 14 rfl rfl)
theorem dX0_group_17 : decode cX0_group 17 = .ok (.iload_n 3, 1) := dk_29 (dk_at dksX0_group_0 17 rfl rfl)
theorem dX0_group_18 : decode cX0_group 18 = .ok (.iconst 1, 1) := dk_4 (dk_at dksX0_group_0 18 rfl rfl)
theorem dX0_group_19 : decode cX0_group 19 = .ok (.if_icmp .ne 14, 3) := dk_160 0 14 (dk_at dksX0_group_0 19 rfl rfl)
theorem dX0_group_22 : decode cX0_group 22 = .ok (.aload_n 0, 1) := dk_42 (dk_at dksX0_group_0 22 rfl rfl)
theorem dX0_group_23 : decode cX0_group 23 = .ok (.iload 4, 2) := dk_21 4 (dk_at dksX0_group_1 0 rfl rfl)
theorem dX0_group_25 : decode cX0_group 25 = .ok (.invokevirtual 176, 3) := dk_182 0 176 (dk_at dksX0_group_1 2 rfl rfl)
theorem dX0_group_28 : decode cX0_group 28 = .ok (.ifCond .ne 5, 3) := dk_154 0 5 (dk_at dksX0_group_1 5 rfl rfl)
theorem dX0_group_31 : decode cX0_group 31 = .ok (.lconst 0, 1) := dk_9 (dk_at dksX0_group_1 8 rfl rfl)
theorem dX0_group_32 : decode cX0_group 32 = .ok (.lreturn, 1) := dk_173 (dk_at dksX0_group_1 9 rfl rfl)
theorem dX0_group_33 : decode cX0_group 33 = .ok (.lconst 0, 1) := dk_9 (dk_at dksX0_group_1 10 rfl rfl)
theorem dX0_group_34 : decode cX0_group 34 = .ok (.lstore 5, 2) := dk_55 5 (dk_at dksX0_group_1 11 rfl rfl)
theorem dX0_group_36 : decode cX0_group 36 = .ok (.iconst 0, 1) := dk_3 (dk_at dksX0_group_1 13 rfl rfl)
theorem dX0_group_37 : decode cX0_group 37 = .ok (.istore 7, 2) := dk_54 7 (dk_at dksX0_group_1 14 rfl rfl)
theorem dX0_group_39 : decode cX0_group 39 = .ok (.iload 7, 2) := dk_21 7 (dk_at dksX0_group_1 16 rfl rfl)
theorem dX0_group_41 : decode cX0_group 41 = .ok (.aload_n 0, 1) := dk_42 (dk_at dksX0_group_1 18 rfl rfl)
theorem dX0_group_42 : decode cX0_group 42 = .ok (.getfield 21, 3) := dk_180 0 21 (dk_at dksX0_group_1 19 rfl rfl)
theorem dX0_group_45 : decode cX0_group 45 = .ok (.getfield 167, 3) := dk_180 0 167 (dk_at dksX0_group_2 0 rfl rfl)
theorem dX0_group_48 : decode cX0_group 48 = .ok (.if_icmp .ge 66, 3) := dk_162 0 66 (dk_at dksX0_group_2 3 rfl rfl)
theorem dX0_group_51 : decode cX0_group 51 = .ok (.aload_n 0, 1) := dk_42 (dk_at dksX0_group_2 6 rfl rfl)
theorem dX0_group_52 : decode cX0_group 52 = .ok (.getfield 21, 3) := dk_180 0 21 (dk_at dksX0_group_2 7 rfl rfl)
theorem dX0_group_55 : decode cX0_group 55 = .ok (.iload 7, 2) := dk_21 7 (dk_at dksX0_group_2 10 rfl rfl)
theorem dX0_group_57 : decode cX0_group 57 = .ok (.iload_n 1, 1) := dk_27 (dk_at dksX0_group_2 12 rfl rfl)
theorem dX0_group_58 : decode cX0_group 58 = .ok (.invokevirtual 179, 3) := dk_182 0 179 (dk_at dksX0_group_2 13 rfl rfl)
theorem dX0_group_61 : decode cX0_group 61 = .ok (.iload_n 2, 1) := dk_28 (dk_at dksX0_group_2 16 rfl rfl)
theorem dX0_group_62 : decode cX0_group 62 = .ok (.if_icmp .eq 6, 3) := dk_159 0 6 (dk_at dksX0_group_2 17 rfl rfl)
theorem dX0_group_65 : decode cX0_group 65 = .ok (.goto 43, 3) := dk_167 0 43 (dk_at dksX0_group_2 20 rfl rfl)
theorem dX0_group_68 : decode cX0_group 68 = .ok (.iload_n 3, 1) := dk_29 (dk_at dksX0_group_2 23 rfl rfl)
theorem dX0_group_69 : decode cX0_group 69 = .ok (.ifCond .ne 7, 3) := dk_154 0 7 (dk_at dksX0_group_3 0 rfl rfl)
theorem dX0_group_72 : decode cX0_group 72 = .ok (.iconst 1, 1) := dk_4 (dk_at dksX0_group_3 3 rfl rfl)
theorem dX0_group_73 : decode cX0_group 73 = .ok (.goto 14, 3) := dk_167 0 14 (dk_at dksX0_group_3 4 rfl rfl)
theorem dX0_group_76 : decode cX0_group 76 = .ok (.aload_n 0, 1) := dk_42 (dk_at dksX0_group_3 7 rfl rfl)
theorem dX0_group_77 : decode cX0_group 77 = .ok (.getfield 21, 3) := dk_180 0 21 (dk_at dksX0_group_3 8 rfl rfl)
theorem dX0_group_80 : decode cX0_group 80 = .ok (.iload 7, 2) := dk_21 7 (dk_at dksX0_group_3 11 rfl rfl)
theorem dX0_group_82 : decode cX0_group 82 = .ok (.iload 4, 2) := dk_21 4 (dk_at dksX0_group_3 13 rfl rfl)
theorem dX0_group_84 : decode cX0_group 84 = .ok (.invokevirtual 179, 3) := dk_182 0 179 (dk_at dksX0_group_3 15 rfl rfl)
theorem dX0_group_87 : decode cX0_group 87 = .ok (.istore 8, 2) := dk_54 8 (dk_at dksX0_group_3 18 rfl rfl)
theorem dX0_group_89 : decode cX0_group 89 = .ok (.lload 5, 2) := dk_22 5 (dk_at dksX0_group_3 20 rfl rfl)
theorem dX0_group_91 : decode cX0_group 91 = .ok (.iload 8, 2) := dk_21 8 (dk_at dksX0_group_3 22 rfl rfl)
theorem dX0_group_93 : decode cX0_group 93 = .ok (.ldc 3, 2) := dk_18 3 (dk_at dksX0_group_4 0 rfl rfl)
theorem dX0_group_95 : decode cX0_group 95 = .ok (.if_icmp .ne 7, 3) := dk_160 0 7 (dk_at dksX0_group_4 2 rfl rfl)
theorem dX0_group_98 : decode cX0_group 98 = .ok (.lconst 0, 1) := dk_9 (dk_at dksX0_group_4 5 rfl rfl)
theorem dX0_group_99 : decode cX0_group 99 = .ok (.goto 6, 3) := dk_167 0 6 (dk_at dksX0_group_4 6 rfl rfl)
theorem dX0_group_102 : decode cX0_group 102 = .ok (.iload 8, 2) := dk_21 8 (dk_at dksX0_group_4 9 rfl rfl)
theorem dX0_group_104 : decode cX0_group 104 = .ok (.i2l, 1) := dk_133 (dk_at dksX0_group_4 11 rfl rfl)
theorem dX0_group_105 : decode cX0_group 105 = .ok (.ladd, 1) := dk_97 (dk_at dksX0_group_4 12 rfl rfl)
theorem dX0_group_106 : decode cX0_group 106 = .ok (.lstore 5, 2) := dk_55 5 (dk_at dksX0_group_4 13 rfl rfl)
theorem dX0_group_108 : decode cX0_group 108 = .ok (.iinc 7 1, 3) := dk_132 7 1 (dk_at dksX0_group_4 15 rfl rfl)
theorem dX0_group_111 : decode cX0_group 111 = .ok (.goto (-72), 3) := dk_167 255 184 (dk_at dksX0_group_4 18 rfl rfl)
theorem dX0_group_114 : decode cX0_group 114 = .ok (.lload 5, 2) := dk_22 5 (dk_at dksX0_group_4 21 rfl rfl)
theorem dX0_group_116 : decode cX0_group 116 = .ok (.lreturn, 1) := dk_173 (dk_at dksX0_group_4 23 rfl rfl)
abbrev cX0_keep : ByteArray := prog_1_method_27_code
def yX0_keep : MethodName := ⟨RX0, "keep", "()I"⟩
def dkwX0_keep_1 : List UInt8 := [180, 0, 28, 180, 0, 167, 172]
abbrev dktX0_keep_1 : List UInt8 := dkwX0_keep_1 ++ []
def dkwX0_keep_0 : List UInt8 := [42, 180, 0, 21, 180, 0, 168, 154, 0, 5, 2, 172, 42, 180, 0, 28, 42, 180, 0, 21, 182, 0, 163, 42]
abbrev dktX0_keep_0 : List UInt8 := dkwX0_keep_0 ++ dktX0_keep_1
theorem dksX0_keep_0 : cX0_keep.data.toList.drop 0 = dktX0_keep_0 := by decide +kernel
theorem dksX0_keep_1 : cX0_keep.data.toList.drop 24 = dktX0_keep_1 := dk_seg dksX0_keep_0 24 rfl rfl
theorem dX0_keep_0 : decode cX0_keep 0 = .ok (.aload_n 0, 1) := dk_42 (dk_at dksX0_keep_0 0 rfl rfl)
theorem dX0_keep_1 : decode cX0_keep 1 = .ok (.getfield 21, 3) := dk_180 0 21 (dk_at dksX0_keep_0 1 rfl rfl)
theorem dX0_keep_4 : decode cX0_keep 4 = .ok (.getfield 168, 3) := dk_180 0 168 (dk_at dksX0_keep_0 4 rfl rfl)
theorem dX0_keep_7 : decode cX0_keep 7 = .ok (.ifCond .ne 5, 3) := dk_154 0 5 (dk_at dksX0_keep_0 7 rfl rfl)
theorem dX0_keep_10 : decode cX0_keep 10 = .ok (.iconst (-1), 1) := dk_2 (dk_at dksX0_keep_0 10 rfl rfl)
theorem dX0_keep_11 : decode cX0_keep 11 = .ok (.ireturn, 1) := dk_172 (dk_at dksX0_keep_0 11 rfl rfl)
theorem dX0_keep_12 : decode cX0_keep 12 = .ok (.aload_n 0, 1) := dk_42 (dk_at dksX0_keep_0 12 rfl rfl)
theorem dX0_keep_13 : decode cX0_keep 13 = .ok (.getfield 28, 3) := dk_180 0 28 (dk_at dksX0_keep_0 13 rfl rfl)
theorem dX0_keep_16 : decode cX0_keep 16 = .ok (.aload_n 0, 1) := dk_42 (dk_at dksX0_keep_0 16 rfl rfl)
theorem dX0_keep_17 : decode cX0_keep 17 = .ok (.getfield 21, 3) := dk_180 0 21 (dk_at dksX0_keep_0 17 rfl rfl)
theorem dX0_keep_20 : decode cX0_keep 20 = .ok (.invokevirtual 163, 3) := dk_182 0 163 (dk_at dksX0_keep_0 20 rfl rfl)
theorem dX0_keep_23 : decode cX0_keep 23 = .ok (.aload_n 0, 1) := dk_42 (dk_at dksX0_keep_0 23 rfl rfl)
theorem dX0_keep_24 : decode cX0_keep 24 = .ok (.getfield 28, 3) := dk_180 0 28 (dk_at dksX0_keep_1 0 rfl rfl)
theorem dX0_keep_27 : decode cX0_keep 27 = .ok (.getfield 167, 3) := dk_180 0 167 (dk_at dksX0_keep_1 3 rfl rfl)
theorem dX0_keep_30 : decode cX0_keep 30 = .ok (.ireturn, 1) := dk_172 (dk_at dksX0_keep_1 6 rfl rfl)
abbrev cX0_delta : ByteArray := prog_1_method_30_code
def yX0_delta : MethodName := ⟨RX0, "delta", "(I)I"⟩
def dkwX0_delta_2 : List UInt8 := [182, 0, 205, 172]
abbrev dktX0_delta_2 : List UInt8 := dkwX0_delta_2 ++ []
def dkwX0_delta_1 : List UInt8 := [180, 0, 21, 42, 180, 0, 28, 2, 182, 0, 205, 167, 0, 16, 42, 42, 180, 0, 28, 42, 180, 0, 21, 2]
abbrev dktX0_delta_1 : List UInt8 := dkwX0_delta_1 ++ dktX0_delta_2
def dkwX0_delta_0 : List UInt8 := [42, 182, 0, 202, 153, 0, 12, 27, 3, 4, 184, 0, 51, 154, 0, 5, 2, 172, 27, 154, 0, 19, 42, 42]
abbrev dktX0_delta_0 : List UInt8 := dkwX0_delta_0 ++ dktX0_delta_1
theorem dksX0_delta_0 : cX0_delta.data.toList.drop 0 = dktX0_delta_0 := by decide +kernel
theorem dksX0_delta_1 : cX0_delta.data.toList.drop 24 = dktX0_delta_1 := dk_seg dksX0_delta_0 24 rfl rfl
theorem dksX0_delta_2 : cX0_delta.data.toList.drop 48 = dktX0_delta_2 := dk_seg dksX0_delta_1 24 rfl rfl
theorem dX0_delta_0 : decode cX0_delta 0 = .ok (.aload_n 0, 1) := dk_42 (dk_at dksX0_delta_0 0 rfl rfl)
theorem dX0_delta_1 : decode cX0_delta 1 = .ok (.invokevirtual 202, 3) := dk_182 0 202 (dk_at dksX0_delta_0 1 rfl rfl)
theorem dX0_delta_4 : decode cX0_delta 4 = .ok (.ifCond .eq 12, 3) := dk_153 0 12 (dk_at dksX0_delta_0 4 rfl rfl)
theorem dX0_delta_7 : decode cX0_delta 7 = .ok (.iload_n 1, 1) := dk_27 (dk_at dksX0_delta_0 7 rfl rfl)
theorem dX0_delta_8 : decode cX0_delta 8 = .ok (.iconst 0, 1) := dk_3 (dk_at dksX0_delta_0 8 rfl rfl)
theorem dX0_delta_9 : decode cX0_delta 9 = .ok (.iconst 1, 1) := dk_4 (dk_at dksX0_delta_0 9 rfl rfl)
theorem dX0_delta_10 : decode cX0_delta 10 = .ok (.invokestatic 51, 3) := dk_184 0 51 (dk_at dksX0_delta_0 10 rfl rfl)
theorem dX0_delta_13 : decode cX0_delta 13 = .ok (.ifCond .ne 5, 3) := dk_154 0 5 (dk_at dksX0_delta_0 13 rfl rfl)
theorem dX0_delta_16 : decode cX0_delta 16 = .ok (.iconst (-1), 1) := dk_2 (dk_at dksX0_delta_0 16 rfl rfl)
theorem dX0_delta_17 : decode cX0_delta 17 = .ok (.ireturn, 1) := dk_172 (dk_at dksX0_delta_0 17 rfl rfl)
theorem dX0_delta_18 : decode cX0_delta 18 = .ok (.iload_n 1, 1) := dk_27 (dk_at dksX0_delta_0 18 rfl rfl)
theorem dX0_delta_19 : decode cX0_delta 19 = .ok (.ifCond .ne 19, 3) := dk_154 0 19 (dk_at dksX0_delta_0 19 rfl rfl)
theorem dX0_delta_22 : decode cX0_delta 22 = .ok (.aload_n 0, 1) := dk_42 (dk_at dksX0_delta_0 22 rfl rfl)
theorem dX0_delta_23 : decode cX0_delta 23 = .ok (.aload_n 0, 1) := dk_42 (dk_at dksX0_delta_0 23 rfl rfl)
theorem dX0_delta_24 : decode cX0_delta 24 = .ok (.getfield 21, 3) := dk_180 0 21 (dk_at dksX0_delta_1 0 rfl rfl)
theorem dX0_delta_27 : decode cX0_delta 27 = .ok (.aload_n 0, 1) := dk_42 (dk_at dksX0_delta_1 3 rfl rfl)
theorem dX0_delta_28 : decode cX0_delta 28 = .ok (.getfield 28, 3) := dk_180 0 28 (dk_at dksX0_delta_1 4 rfl rfl)
theorem dX0_delta_31 : decode cX0_delta 31 = .ok (.iconst (-1), 1) := dk_2 (dk_at dksX0_delta_1 7 rfl rfl)
theorem dX0_delta_32 : decode cX0_delta 32 = .ok (.invokevirtual 205, 3) := dk_182 0 205 (dk_at dksX0_delta_1 8 rfl rfl)
theorem dX0_delta_35 : decode cX0_delta 35 = .ok (.goto 16, 3) := dk_167 0 16 (dk_at dksX0_delta_1 11 rfl rfl)
theorem dX0_delta_38 : decode cX0_delta 38 = .ok (.aload_n 0, 1) := dk_42 (dk_at dksX0_delta_1 14 rfl rfl)
theorem dX0_delta_39 : decode cX0_delta 39 = .ok (.aload_n 0, 1) := dk_42 (dk_at dksX0_delta_1 15 rfl rfl)
theorem dX0_delta_40 : decode cX0_delta 40 = .ok (.getfield 28, 3) := dk_180 0 28 (dk_at dksX0_delta_1 16 rfl rfl)
theorem dX0_delta_43 : decode cX0_delta 43 = .ok (.aload_n 0, 1) := dk_42 (dk_at dksX0_delta_1 19 rfl rfl)
theorem dX0_delta_44 : decode cX0_delta 44 = .ok (.getfield 21, 3) := dk_180 0 21 (dk_at dksX0_delta_1 20 rfl rfl)
theorem dX0_delta_47 : decode cX0_delta 47 = .ok (.iconst (-1), 1) := dk_2 (dk_at dksX0_delta_1 23 rfl rfl)
theorem dX0_delta_48 : decode cX0_delta 48 = .ok (.invokevirtual 205, 3) := dk_182 0 205 (dk_at dksX0_delta_2 0 rfl rfl)
theorem dX0_delta_51 : decode cX0_delta 51 = .ok (.ireturn, 1) := dk_172 (dk_at dksX0_delta_2 3 rfl rfl)
abbrev cX0_isCompared : ByteArray := prog_1_method_29_code
def yX0_isCompared : MethodName := ⟨RX0, "isCompared", "()Z"⟩
def dkwX0_isCompared_1 : List UInt8 := [160, 0, 7, 4, 167, 0, 4, 3, 172]
abbrev dktX0_isCompared_1 : List UInt8 := dkwX0_isCompared_1 ++ []
def dkwX0_isCompared_0 : List UInt8 := [42, 180, 0, 28, 180, 0, 168, 153, 0, 24, 42, 180, 0, 28, 180, 0, 172, 42, 180, 0, 21, 180, 0, 172]
abbrev dktX0_isCompared_0 : List UInt8 := dkwX0_isCompared_0 ++ dktX0_isCompared_1
theorem dksX0_isCompared_0 : cX0_isCompared.data.toList.drop 0 = dktX0_isCompared_0 := by decide +kernel
theorem dksX0_isCompared_1 : cX0_isCompared.data.toList.drop 24 = dktX0_isCompared_1 := dk_seg dksX0_isCompared_0 24 rfl rfl
theorem dX0_isCompared_0 : decode cX0_isCompared 0 = .ok (.aload_n 0, 1) := dk_42 (dk_at dksX0_isCompared_0 0 rfl rfl)
theorem dX0_isCompared_1 : decode cX0_isCompared 1 = .ok (.getfield 28, 3) := dk_180 0 28 (dk_at dksX0_isCompared_0 1 rfl rfl)
theorem dX0_isCompared_4 : decode cX0_isCompared 4 = .ok (.getfield 168, 3) := dk_180 0 168 (dk_at dksX0_isCompared_0 4 rfl rfl)
theorem dX0_isCompared_7 : decode cX0_isCompared 7 = .ok (.ifCond .eq 24, 3) := dk_153 0 24 (dk_at dksX0_isCompared_0 7 rfl rfl)
theorem dX0_isCompared_10 : decode cX0_isCompared 10 = .ok (.aload_n 0, 1) := dk_42 (dk_at dksX0_isCompared_0 10 rfl rfl)
theorem dX0_isCompared_11 : decode cX0_isCompared 11 = .ok (.getfield 28, 3) := dk_180 0 28 (dk_at dksX0_isCompared_0 11 rfl rfl)
theorem dX0_isCompared_14 : decode cX0_isCompared 14 = .ok (.getfield 172, 3) := dk_180 0 172 (dk_at dksX0_isCompared_0 14 rfl rfl)
theorem dX0_isCompared_17 : decode cX0_isCompared 17 = .ok (.aload_n 0, 1) := dk_42 (dk_at dksX0_isCompared_0 17 rfl rfl)
theorem dX0_isCompared_18 : decode cX0_isCompared 18 = .ok (.getfield 21, 3) := dk_180 0 21 (dk_at dksX0_isCompared_0 18 rfl rfl)
theorem dX0_isCompared_21 : decode cX0_isCompared 21 = .ok (.getfield 172, 3) := dk_180 0 172 (dk_at dksX0_isCompared_0 21 rfl rfl)
theorem dX0_isCompared_24 : decode cX0_isCompared 24 = .ok (.if_icmp .ne 7, 3) := dk_160 0 7 (dk_at dksX0_isCompared_1 0 rfl rfl)
theorem dX0_isCompared_27 : decode cX0_isCompared 27 = .ok (.iconst 1, 1) := dk_4 (dk_at dksX0_isCompared_1 3 rfl rfl)
theorem dX0_isCompared_28 : decode cX0_isCompared 28 = .ok (.goto 4, 3) := dk_167 0 4 (dk_at dksX0_isCompared_1 4 rfl rfl)
theorem dX0_isCompared_31 : decode cX0_isCompared 31 = .ok (.iconst 0, 1) := dk_3 (dk_at dksX0_isCompared_1 7 rfl rfl)
theorem dX0_isCompared_32 : decode cX0_isCompared 32 = .ok (.ireturn, 1) := dk_172 (dk_at dksX0_isCompared_1 8 rfl rfl)
abbrev cX0_alone : ByteArray := prog_1_method_28_code
def yX0_alone : MethodName := ⟨RX0, "alone", "(LJoinLoom$Cloth;LJoinLoom$Cloth;I)I"⟩
def dkwX0_alone_4 : List UInt8 := [167, 0, 4, 2, 172]
abbrev dktX0_alone_4 : List UInt8 := dkwX0_alone_4 ++ []
def dkwX0_alone_3 : List UInt8 := [160, 0, 6, 21, 6, 172, 132, 4, 1, 132, 6, 1, 167, 255, 181, 29, 2, 160, 0, 8, 21, 4]
abbrev dktX0_alone_3 : List UInt8 := dkwX0_alone_3 ++ dktX0_alone_4
def dkwX0_alone_2 : List UInt8 := [180, 0, 167, 162, 0, 18, 44, 21, 5, 43, 21, 6, 182, 0, 198, 154, 0, 6, 167, 0, 15, 21, 4, 29]
abbrev dktX0_alone_2 : List UInt8 := dkwX0_alone_2 ++ dktX0_alone_3
def dkwX0_alone_1 : List UInt8 := [162, 0, 21, 44, 21, 5, 43, 21, 6, 182, 0, 198, 156, 0, 9, 132, 5, 1, 167, 255, 232, 21, 5, 44]
abbrev dktX0_alone_1 : List UInt8 := dkwX0_alone_1 ++ dktX0_alone_2
def dkwX0_alone_0 : List UInt8 := [3, 54, 4, 3, 54, 5, 3, 54, 6, 21, 6, 43, 180, 0, 167, 162, 0, 72, 21, 5, 44, 180, 0, 167]
abbrev dktX0_alone_0 : List UInt8 := dkwX0_alone_0 ++ dktX0_alone_1
theorem dksX0_alone_0 : cX0_alone.data.toList.drop 0 = dktX0_alone_0 := by decide +kernel
theorem dksX0_alone_1 : cX0_alone.data.toList.drop 24 = dktX0_alone_1 := dk_seg dksX0_alone_0 24 rfl rfl
theorem dksX0_alone_2 : cX0_alone.data.toList.drop 48 = dktX0_alone_2 := dk_seg dksX0_alone_1 24 rfl rfl
theorem dksX0_alone_3 : cX0_alone.data.toList.drop 72 = dktX0_alone_3 := dk_seg dksX0_alone_2 24 rfl rfl
theorem dksX0_alone_4 : cX0_alone.data.toList.drop 94 = dktX0_alone_4 := dk_seg dksX0_alone_3 22 rfl rfl
theorem dX0_alone_0 : decode cX0_alone 0 = .ok (.iconst 0, 1) := dk_3 (dk_at dksX0_alone_0 0 rfl rfl)
theorem dX0_alone_1 : decode cX0_alone 1 = .ok (.istore 4, 2) := dk_54 4 (dk_at dksX0_alone_0 1 rfl rfl)
theorem dX0_alone_3 : decode cX0_alone 3 = .ok (.iconst 0, 1) := dk_3 (dk_at dksX0_alone_0 3 rfl rfl)
theorem dX0_alone_4 : decode cX0_alone 4 = .ok (.istore 5, 2) := dk_54 5 (dk_at dksX0_alone_0 4 rfl rfl)
theorem dX0_alone_6 : decode cX0_alone 6 = .ok (.iconst 0, 1) := dk_3 (dk_at dksX0_alone_0 6 rfl rfl)
theorem dX0_alone_7 : decode cX0_alone 7 = .ok (.istore 6, 2) := dk_54 6 (dk_at dksX0_alone_0 7 rfl rfl)
theorem dX0_alone_9 : decode cX0_alone 9 = .ok (.iload 6, 2) := dk_21 6 (dk_at dksX0_alone_0 9 rfl rfl)
theorem dX0_alone_11 : decode cX0_alone 11 = .ok (.aload_n 1, 1) := dk_43 (dk_at dksX0_alone_0 11 rfl rfl)
theorem dX0_alone_12 : decode cX0_alone 12 = .ok (.getfield 167, 3) := dk_180 0 167 (dk_at dksX0_alone_0 12 rfl rfl)
theorem dX0_alone_15 : decode cX0_alone 15 = .ok (.if_icmp .ge 72, 3) := dk_162 0 72 (dk_at dksX0_alone_0 15 rfl rfl)
theorem dX0_alone_18 : decode cX0_alone 18 = .ok (.iload 5, 2) := dk_21 5 (dk_at dksX0_alone_0 18 rfl rfl)
theorem dX0_alone_20 : decode cX0_alone 20 = .ok (.aload_n 2, 1) := dk_44 (dk_at dksX0_alone_0 20 rfl rfl)
theorem dX0_alone_21 : decode cX0_alone 21 = .ok (.getfield 167, 3) := dk_180 0 167 (dk_at dksX0_alone_0 21 rfl rfl)
theorem dX0_alone_24 : decode cX0_alone 24 = .ok (.if_icmp .ge 21, 3) := dk_162 0 21 (dk_at dksX0_alone_1 0 rfl rfl)
theorem dX0_alone_27 : decode cX0_alone 27 = .ok (.aload_n 2, 1) := dk_44 (dk_at dksX0_alone_1 3 rfl rfl)
theorem dX0_alone_28 : decode cX0_alone 28 = .ok (.iload 5, 2) := dk_21 5 (dk_at dksX0_alone_1 4 rfl rfl)
theorem dX0_alone_30 : decode cX0_alone 30 = .ok (.aload_n 1, 1) := dk_43 (dk_at dksX0_alone_1 6 rfl rfl)
theorem dX0_alone_31 : decode cX0_alone 31 = .ok (.iload 6, 2) := dk_21 6 (dk_at dksX0_alone_1 7 rfl rfl)
theorem dX0_alone_33 : decode cX0_alone 33 = .ok (.invokevirtual 198, 3) := dk_182 0 198 (dk_at dksX0_alone_1 9 rfl rfl)
theorem dX0_alone_36 : decode cX0_alone 36 = .ok (.ifCond .ge 9, 3) := dk_156 0 9 (dk_at dksX0_alone_1 12 rfl rfl)
theorem dX0_alone_39 : decode cX0_alone 39 = .ok (.iinc 5 1, 3) := dk_132 5 1 (dk_at dksX0_alone_1 15 rfl rfl)
theorem dX0_alone_42 : decode cX0_alone 42 = .ok (.goto (-24), 3) := dk_167 255 232 (dk_at dksX0_alone_1 18 rfl rfl)
theorem dX0_alone_45 : decode cX0_alone 45 = .ok (.iload 5, 2) := dk_21 5 (dk_at dksX0_alone_1 21 rfl rfl)
theorem dX0_alone_47 : decode cX0_alone 47 = .ok (.aload_n 2, 1) := dk_44 (dk_at dksX0_alone_1 23 rfl rfl)
theorem dX0_alone_48 : decode cX0_alone 48 = .ok (.getfield 167, 3) := dk_180 0 167 (dk_at dksX0_alone_2 0 rfl rfl)
theorem dX0_alone_51 : decode cX0_alone 51 = .ok (.if_icmp .ge 18, 3) := dk_162 0 18 (dk_at dksX0_alone_2 3 rfl rfl)
theorem dX0_alone_54 : decode cX0_alone 54 = .ok (.aload_n 2, 1) := dk_44 (dk_at dksX0_alone_2 6 rfl rfl)
theorem dX0_alone_55 : decode cX0_alone 55 = .ok (.iload 5, 2) := dk_21 5 (dk_at dksX0_alone_2 7 rfl rfl)
theorem dX0_alone_57 : decode cX0_alone 57 = .ok (.aload_n 1, 1) := dk_43 (dk_at dksX0_alone_2 9 rfl rfl)
theorem dX0_alone_58 : decode cX0_alone 58 = .ok (.iload 6, 2) := dk_21 6 (dk_at dksX0_alone_2 10 rfl rfl)
theorem dX0_alone_60 : decode cX0_alone 60 = .ok (.invokevirtual 198, 3) := dk_182 0 198 (dk_at dksX0_alone_2 12 rfl rfl)
theorem dX0_alone_63 : decode cX0_alone 63 = .ok (.ifCond .ne 6, 3) := dk_154 0 6 (dk_at dksX0_alone_2 15 rfl rfl)
theorem dX0_alone_66 : decode cX0_alone 66 = .ok (.goto 15, 3) := dk_167 0 15 (dk_at dksX0_alone_2 18 rfl rfl)
theorem dX0_alone_69 : decode cX0_alone 69 = .ok (.iload 4, 2) := dk_21 4 (dk_at dksX0_alone_2 21 rfl rfl)
theorem dX0_alone_71 : decode cX0_alone 71 = .ok (.iload_n 3, 1) := dk_29 (dk_at dksX0_alone_2 23 rfl rfl)
theorem dX0_alone_72 : decode cX0_alone 72 = .ok (.if_icmp .ne 6, 3) := dk_160 0 6 (dk_at dksX0_alone_3 0 rfl rfl)
theorem dX0_alone_75 : decode cX0_alone 75 = .ok (.iload 6, 2) := dk_21 6 (dk_at dksX0_alone_3 3 rfl rfl)
theorem dX0_alone_77 : decode cX0_alone 77 = .ok (.ireturn, 1) := dk_172 (dk_at dksX0_alone_3 5 rfl rfl)
theorem dX0_alone_78 : decode cX0_alone 78 = .ok (.iinc 4 1, 3) := dk_132 4 1 (dk_at dksX0_alone_3 6 rfl rfl)
theorem dX0_alone_81 : decode cX0_alone 81 = .ok (.iinc 6 1, 3) := dk_132 6 1 (dk_at dksX0_alone_3 9 rfl rfl)
theorem dX0_alone_84 : decode cX0_alone 84 = .ok (.goto (-75), 3) := dk_167 255 181 (dk_at dksX0_alone_3 12 rfl rfl)
theorem dX0_alone_87 : decode cX0_alone 87 = .ok (.iload_n 3, 1) := dk_29 (dk_at dksX0_alone_3 15 rfl rfl)
theorem dX0_alone_88 : decode cX0_alone 88 = .ok (.iconst (-1), 1) := dk_2 (dk_at dksX0_alone_3 16 rfl rfl)
theorem dX0_alone_89 : decode cX0_alone 89 = .ok (.if_icmp .ne 8, 3) := dk_160 0 8 (dk_at dksX0_alone_3 17 rfl rfl)
theorem dX0_alone_92 : decode cX0_alone 92 = .ok (.iload 4, 2) := dk_21 4 (dk_at dksX0_alone_3 20 rfl rfl)
theorem dX0_alone_94 : decode cX0_alone 94 = .ok (.goto 4, 3) := dk_167 0 4 (dk_at dksX0_alone_4 0 rfl rfl)
theorem dX0_alone_97 : decode cX0_alone 97 = .ok (.iconst (-1), 1) := dk_2 (dk_at dksX0_alone_4 3 rfl rfl)
theorem dX0_alone_98 : decode cX0_alone 98 = .ok (.ireturn, 1) := dk_172 (dk_at dksX0_alone_4 4 rfl rfl)
abbrev cX0_change : ByteArray := prog_1_method_31_code
def yX0_change : MethodName := ⟨RX0, "change", "(III)I"⟩
def dkwX0_change_3 : List UInt8 := [54, 5, 21, 5, 2, 160, 0, 7, 3, 167, 0, 11, 25, 4, 21, 5, 29, 182, 0, 179, 172]
abbrev dktX0_change_3 : List UInt8 := dkwX0_change_3 ++ []
def dkwX0_change_2 : List UInt8 := [58, 4, 42, 25, 4, 27, 154, 0, 10, 42, 180, 0, 28, 167, 0, 7, 42, 180, 0, 21, 28, 182, 0, 205]
abbrev dktX0_change_2 : List UInt8 := dkwX0_change_2 ++ dktX0_change_3
def dkwX0_change_1 : List UInt8 := [182, 0, 176, 154, 0, 5, 3, 172, 27, 154, 0, 10, 42, 180, 0, 21, 167, 0, 7, 42, 180, 0, 28]
abbrev dktX0_change_1 : List UInt8 := dkwX0_change_1 ++ dktX0_change_2
def dkwX0_change_0 : List UInt8 := [42, 182, 0, 202, 153, 0, 24, 27, 3, 4, 184, 0, 51, 153, 0, 15, 28, 155, 0, 11, 42, 29]
abbrev dktX0_change_0 : List UInt8 := dkwX0_change_0 ++ dktX0_change_1
theorem dksX0_change_0 : cX0_change.data.toList.drop 0 = dktX0_change_0 := by decide +kernel
theorem dksX0_change_1 : cX0_change.data.toList.drop 22 = dktX0_change_1 := dk_seg dksX0_change_0 22 rfl rfl
theorem dksX0_change_2 : cX0_change.data.toList.drop 45 = dktX0_change_2 := dk_seg dksX0_change_1 23 rfl rfl
theorem dksX0_change_3 : cX0_change.data.toList.drop 69 = dktX0_change_3 := dk_seg dksX0_change_2 24 rfl rfl
theorem dX0_change_0 : decode cX0_change 0 = .ok (.aload_n 0, 1) := dk_42 (dk_at dksX0_change_0 0 rfl rfl)
theorem dX0_change_1 : decode cX0_change 1 = .ok (.invokevirtual 202, 3) := dk_182 0 202 (dk_at dksX0_change_0 1 rfl rfl)
theorem dX0_change_4 : decode cX0_change 4 = .ok (.ifCond .eq 24, 3) := dk_153 0 24 (dk_at dksX0_change_0 4 rfl rfl)
theorem dX0_change_7 : decode cX0_change 7 = .ok (.iload_n 1, 1) := dk_27 (dk_at dksX0_change_0 7 rfl rfl)
theorem dX0_change_8 : decode cX0_change 8 = .ok (.iconst 0, 1) := dk_3 (dk_at dksX0_change_0 8 rfl rfl)
theorem dX0_change_9 : decode cX0_change 9 = .ok (.iconst 1, 1) := dk_4 (dk_at dksX0_change_0 9 rfl rfl)
theorem dX0_change_10 : decode cX0_change 10 = .ok (.invokestatic 51, 3) := dk_184 0 51 (dk_at dksX0_change_0 10 rfl rfl)
theorem dX0_change_13 : decode cX0_change 13 = .ok (.ifCond .eq 15, 3) := dk_153 0 15 (dk_at dksX0_change_0 13 rfl rfl)
theorem dX0_change_16 : decode cX0_change 16 = .ok (.iload_n 2, 1) := dk_28 (dk_at dksX0_change_0 16 rfl rfl)
theorem dX0_change_17 : decode cX0_change 17 = .ok (.ifCond .lt 11, 3) := dk_155 0 11 (dk_at dksX0_change_0 17 rfl rfl)
theorem dX0_change_20 : decode cX0_change 20 = .ok (.aload_n 0, 1) := dk_42 (dk_at dksX0_change_0 20 rfl rfl)
theorem dX0_change_21 : decode cX0_change 21 = .ok (.iload_n 3, 1) := dk_29 (dk_at dksX0_change_0 21 rfl rfl)
theorem dX0_change_22 : decode cX0_change 22 = .ok (.invokevirtual 176, 3) := dk_182 0 176 (dk_at dksX0_change_1 0 rfl rfl)
theorem dX0_change_25 : decode cX0_change 25 = .ok (.ifCond .ne 5, 3) := dk_154 0 5 (dk_at dksX0_change_1 3 rfl rfl)
theorem dX0_change_28 : decode cX0_change 28 = .ok (.iconst 0, 1) := dk_3 (dk_at dksX0_change_1 6 rfl rfl)
theorem dX0_change_29 : decode cX0_change 29 = .ok (.ireturn, 1) := dk_172 (dk_at dksX0_change_1 7 rfl rfl)
theorem dX0_change_30 : decode cX0_change 30 = .ok (.iload_n 1, 1) := dk_27 (dk_at dksX0_change_1 8 rfl rfl)
theorem dX0_change_31 : decode cX0_change 31 = .ok (.ifCond .ne 10, 3) := dk_154 0 10 (dk_at dksX0_change_1 9 rfl rfl)
theorem dX0_change_34 : decode cX0_change 34 = .ok (.aload_n 0, 1) := dk_42 (dk_at dksX0_change_1 12 rfl rfl)
theorem dX0_change_35 : decode cX0_change 35 = .ok (.getfield 21, 3) := dk_180 0 21 (dk_at dksX0_change_1 13 rfl rfl)
theorem dX0_change_38 : decode cX0_change 38 = .ok (.goto 7, 3) := dk_167 0 7 (dk_at dksX0_change_1 16 rfl rfl)
theorem dX0_change_41 : decode cX0_change 41 = .ok (.aload_n 0, 1) := dk_42 (dk_at dksX0_change_1 19 rfl rfl)
theorem dX0_change_42 : decode cX0_change 42 = .ok (.getfield 28, 3) := dk_180 0 28 (dk_at dksX0_change_1 20 rfl rfl)
theorem dX0_change_45 : decode cX0_change 45 = .ok (.astore 4, 2) := dk_58 4 (dk_at dksX0_change_2 0 rfl rfl)
theorem dX0_change_47 : decode cX0_change 47 = .ok (.aload_n 0, 1) := dk_42 (dk_at dksX0_change_2 2 rfl rfl)
theorem dX0_change_48 : decode cX0_change 48 = .ok (.aload 4, 2) := dk_25 4 (dk_at dksX0_change_2 3 rfl rfl)
theorem dX0_change_50 : decode cX0_change 50 = .ok (.iload_n 1, 1) := dk_27 (dk_at dksX0_change_2 5 rfl rfl)
theorem dX0_change_51 : decode cX0_change 51 = .ok (.ifCond .ne 10, 3) := dk_154 0 10 (dk_at dksX0_change_2 6 rfl rfl)
theorem dX0_change_54 : decode cX0_change 54 = .ok (.aload_n 0, 1) := dk_42 (dk_at dksX0_change_2 9 rfl rfl)
theorem dX0_change_55 : decode cX0_change 55 = .ok (.getfield 28, 3) := dk_180 0 28 (dk_at dksX0_change_2 10 rfl rfl)
theorem dX0_change_58 : decode cX0_change 58 = .ok (.goto 7, 3) := dk_167 0 7 (dk_at dksX0_change_2 13 rfl rfl)
theorem dX0_change_61 : decode cX0_change 61 = .ok (.aload_n 0, 1) := dk_42 (dk_at dksX0_change_2 16 rfl rfl)
theorem dX0_change_62 : decode cX0_change 62 = .ok (.getfield 21, 3) := dk_180 0 21 (dk_at dksX0_change_2 17 rfl rfl)
theorem dX0_change_65 : decode cX0_change 65 = .ok (.iload_n 2, 1) := dk_28 (dk_at dksX0_change_2 20 rfl rfl)
theorem dX0_change_66 : decode cX0_change 66 = .ok (.invokevirtual 205, 3) := dk_182 0 205 (dk_at dksX0_change_2 21 rfl rfl)
theorem dX0_change_69 : decode cX0_change 69 = .ok (.istore 5, 2) := dk_54 5 (dk_at dksX0_change_3 0 rfl rfl)
theorem dX0_change_71 : decode cX0_change 71 = .ok (.iload 5, 2) := dk_21 5 (dk_at dksX0_change_3 2 rfl rfl)
theorem dX0_change_73 : decode cX0_change 73 = .ok (.iconst (-1), 1) := dk_2 (dk_at dksX0_change_3 4 rfl rfl)
theorem dX0_change_74 : decode cX0_change 74 = .ok (.if_icmp .ne 7, 3) := dk_160 0 7 (dk_at dksX0_change_3 5 rfl rfl)
theorem dX0_change_77 : decode cX0_change 77 = .ok (.iconst 0, 1) := dk_3 (dk_at dksX0_change_3 8 rfl rfl)
theorem dX0_change_78 : decode cX0_change 78 = .ok (.goto 11, 3) := dk_167 0 11 (dk_at dksX0_change_3 9 rfl rfl)
theorem dX0_change_81 : decode cX0_change 81 = .ok (.aload 4, 2) := dk_25 4 (dk_at dksX0_change_3 12 rfl rfl)
theorem dX0_change_83 : decode cX0_change 83 = .ok (.iload 5, 2) := dk_21 5 (dk_at dksX0_change_3 14 rfl rfl)
theorem dX0_change_85 : decode cX0_change 85 = .ok (.iload_n 3, 1) := dk_29 (dk_at dksX0_change_3 16 rfl rfl)
theorem dX0_change_86 : decode cX0_change 86 = .ok (.invokevirtual 179, 3) := dk_182 0 179 (dk_at dksX0_change_3 17 rfl rfl)
theorem dX0_change_89 : decode cX0_change 89 = .ok (.ireturn, 1) := dk_172 (dk_at dksX0_change_3 20 rfl rfl)
abbrev cX0_bound : ByteArray := prog_1_method_35_code
def yX0_bound : MethodName := ⟨RX0, "bound", "()J"⟩
def dkwX0_bound_0 : List UInt8 := [42, 182, 0, 154, 153, 0, 15, 42, 3, 10, 20, 0, 224, 182, 0, 229, 167, 0, 6, 20, 0, 224, 173]
abbrev dktX0_bound_0 : List UInt8 := dkwX0_bound_0 ++ []
theorem dksX0_bound_0 : cX0_bound.data.toList.drop 0 = dktX0_bound_0 := by decide +kernel
theorem dX0_bound_0 : decode cX0_bound 0 = .ok (.aload_n 0, 1) := dk_42 (dk_at dksX0_bound_0 0 rfl rfl)
theorem dX0_bound_1 : decode cX0_bound 1 = .ok (.invokevirtual 154, 3) := dk_182 0 154 (dk_at dksX0_bound_0 1 rfl rfl)
theorem dX0_bound_4 : decode cX0_bound 4 = .ok (.ifCond .eq 15, 3) := dk_153 0 15 (dk_at dksX0_bound_0 4 rfl rfl)
theorem dX0_bound_7 : decode cX0_bound 7 = .ok (.aload_n 0, 1) := dk_42 (dk_at dksX0_bound_0 7 rfl rfl)
theorem dX0_bound_8 : decode cX0_bound 8 = .ok (.iconst 0, 1) := dk_3 (dk_at dksX0_bound_0 8 rfl rfl)
theorem dX0_bound_9 : decode cX0_bound 9 = .ok (.lconst 1, 1) := dk_10 (dk_at dksX0_bound_0 9 rfl rfl)
theorem dX0_bound_10 : decode cX0_bound 10 = .ok (.ldc2_w 224, 3) := dk_20 0 224 (dk_at dksX0_bound_0 10 rfl rfl)
theorem dX0_bound_13 : decode cX0_bound 13 = .ok (.invokevirtual 229, 3) := dk_182 0 229 (dk_at dksX0_bound_0 13 rfl rfl)
theorem dX0_bound_16 : decode cX0_bound 16 = .ok (.goto 6, 3) := dk_167 0 6 (dk_at dksX0_bound_0 16 rfl rfl)
theorem dX0_bound_19 : decode cX0_bound 19 = .ok (.ldc2_w 224, 3) := dk_20 0 224 (dk_at dksX0_bound_0 19 rfl rfl)
theorem dX0_bound_22 : decode cX0_bound 22 = .ok (.lreturn, 1) := dk_173 (dk_at dksX0_bound_0 22 rfl rfl)
abbrev cX0_covers : ByteArray := prog_1_method_33_code
def yX0_covers : MethodName := ⟨RX0, "covers", "(IJJ)J"⟩
def dkwX0_covers_9 : List UInt8 := [22, 9, 173]
abbrev dktX0_covers_9 : List UInt8 := dkwX0_covers_9 ++ []
def dkwX0_covers_8 : List UInt8 := [27, 4, 96, 32, 22, 7, 105, 22, 7, 105, 22, 9, 182, 0, 229, 55, 9, 42, 180, 0, 38, 27, 3, 79]
abbrev dktX0_covers_8 : List UInt8 := dkwX0_covers_8 ++ dktX0_covers_9
def dkwX0_covers_7 : List UInt8 := [79, 42, 27, 4, 96, 32, 22, 7, 105, 22, 9, 182, 0, 229, 55, 9, 42, 180, 0, 38, 27, 5, 79, 42]
abbrev dktX0_covers_7 : List UInt8 := dkwX0_covers_7 ++ dktX0_covers_8
def dkwX0_covers_6 : List UInt8 := [180, 0, 75, 133, 55, 7, 42, 27, 4, 96, 32, 22, 4, 182, 0, 229, 55, 9, 42, 180, 0, 38, 27, 4]
abbrev dktX0_covers_6 : List UInt8 := dkwX0_covers_6 ++ dktX0_covers_7
def dkwX0_covers_5 : List UInt8 := [27, 4, 96, 32, 22, 4, 182, 0, 229, 173, 25, 6, 180, 0, 209, 27, 50, 192, 0, 101, 180, 0, 122]
abbrev dktX0_covers_5 : List UInt8 := dkwX0_covers_5 ++ dktX0_covers_6
def dkwX0_covers_4 : List UInt8 := [132, 7, 1, 167, 255, 232, 32, 173, 42, 180, 0, 38, 27, 3, 79, 42, 27, 182, 0, 226, 154, 0, 14, 42]
abbrev dktX0_covers_4 : List UInt8 := dkwX0_covers_4 ++ dktX0_covers_5
def dkwX0_covers_3 : List UInt8 := [54, 7, 21, 7, 16, 10, 162, 0, 23, 42, 180, 0, 42, 21, 7, 42, 180, 0, 38, 21, 7, 46, 79]
abbrev dktX0_covers_3 : List UInt8 := dkwX0_covers_3 ++ dktX0_covers_4
def dkwX0_covers_2 : List UInt8 := [167, 255, 230, 22, 4, 20, 0, 224, 148, 153, 0, 13, 32, 22, 4, 148, 155, 0, 6, 22, 4, 173, 3]
abbrev dktX0_covers_2 : List UInt8 := dkwX0_covers_2 ++ dktX0_covers_3
def dkwX0_covers_1 : List UInt8 := [180, 0, 126, 162, 0, 22, 42, 21, 7, 182, 0, 221, 5, 162, 0, 6, 22, 4, 173, 132, 7, 1]
abbrev dktX0_covers_1 : List UInt8 := dkwX0_covers_1 ++ dktX0_covers_2
def dkwX0_covers_0 : List UInt8 := [42, 180, 0, 55, 58, 6, 27, 25, 6, 180, 0, 97, 160, 0, 86, 3, 54, 7, 21, 7, 25, 6]
abbrev dktX0_covers_0 : List UInt8 := dkwX0_covers_0 ++ dktX0_covers_1
theorem dksX0_covers_0 : cX0_covers.data.toList.drop 0 = dktX0_covers_0 := by decide +kernel
theorem dksX0_covers_1 : cX0_covers.data.toList.drop 22 = dktX0_covers_1 := dk_seg dksX0_covers_0 22 rfl rfl
theorem dksX0_covers_2 : cX0_covers.data.toList.drop 44 = dktX0_covers_2 := dk_seg dksX0_covers_1 22 rfl rfl
theorem dksX0_covers_3 : cX0_covers.data.toList.drop 67 = dktX0_covers_3 := dk_seg dksX0_covers_2 23 rfl rfl
theorem dksX0_covers_4 : cX0_covers.data.toList.drop 90 = dktX0_covers_4 := dk_seg dksX0_covers_3 23 rfl rfl
theorem dksX0_covers_5 : cX0_covers.data.toList.drop 114 = dktX0_covers_5 := dk_seg dksX0_covers_4 24 rfl rfl
theorem dksX0_covers_6 : cX0_covers.data.toList.drop 137 = dktX0_covers_6 := dk_seg dksX0_covers_5 23 rfl rfl
theorem dksX0_covers_7 : cX0_covers.data.toList.drop 161 = dktX0_covers_7 := dk_seg dksX0_covers_6 24 rfl rfl
theorem dksX0_covers_8 : cX0_covers.data.toList.drop 185 = dktX0_covers_8 := dk_seg dksX0_covers_7 24 rfl rfl
theorem dksX0_covers_9 : cX0_covers.data.toList.drop 209 = dktX0_covers_9 := dk_seg dksX0_covers_8 24 rfl rfl
theorem dX0_covers_0 : decode cX0_covers 0 = .ok (.aload_n 0, 1) := dk_42 (dk_at dksX0_covers_0 0 rfl rfl)
theorem dX0_covers_1 : decode cX0_covers 1 = .ok (.getfield 55, 3) := dk_180 0 55 (dk_at dksX0_covers_0 1 rfl rfl)
theorem dX0_covers_4 : decode cX0_covers 4 = .ok (.astore 6, 2) := dk_58 6 (dk_at dksX0_covers_0 4 rfl rfl)
theorem dX0_covers_6 : decode cX0_covers 6 = .ok (.iload_n 1, 1) := dk_27 (dk_at dksX0_covers_0 6 rfl rfl)
theorem dX0_covers_7 : decode cX0_covers 7 = .ok (.aload 6, 2) := dk_25 6 (dk_at dksX0_covers_0 7 rfl rfl)
theorem dX0_covers_9 : decode cX0_covers 9 = .ok (.getfield 97, 3) := dk_180 0 97 (dk_at dksX0_covers_0 9 rfl rfl)
theorem dX0_covers_12 : decode cX0_covers 12 = .ok (.if_icmp .ne 86, 3) := dk_160 0 86 (dk_at dksX0_covers_0 12 rfl rfl)
theorem dX0_covers_15 : decode cX0_covers 15 = .ok (.iconst 0, 1) := dk_3 (dk_at dksX0_covers_0 15 rfl rfl)
theorem dX0_covers_16 : decode cX0_covers 16 = .ok (.istore 7, 2) := dk_54 7 (dk_at dksX0_covers_0 16 rfl rfl)
theorem dX0_covers_18 : decode cX0_covers 18 = .ok (.iload 7, 2) := dk_21 7 (dk_at dksX0_covers_0 18 rfl rfl)
theorem dX0_covers_20 : decode cX0_covers 20 = .ok (.aload 6, 2) := dk_25 6 (dk_at dksX0_covers_0 20 rfl rfl)
theorem dX0_covers_22 : decode cX0_covers 22 = .ok (.getfield 126, 3) := dk_180 0 126 (dk_at dksX0_covers_1 0 rfl rfl)
theorem dX0_covers_25 : decode cX0_covers 25 = .ok (.if_icmp .ge 22, 3) := dk_162 0 22 (dk_at dksX0_covers_1 3 rfl rfl)
theorem dX0_covers_28 : decode cX0_covers 28 = .ok (.aload_n 0, 1) := dk_42 (dk_at dksX0_covers_1 6 rfl rfl)
theorem dX0_covers_29 : decode cX0_covers 29 = .ok (.iload 7, 2) := dk_21 7 (dk_at dksX0_covers_1 7 rfl rfl)
theorem dX0_covers_31 : decode cX0_covers 31 = .ok (.invokevirtual 221, 3) := dk_182 0 221 (dk_at dksX0_covers_1 9 rfl rfl)
theorem dX0_covers_34 : decode cX0_covers 34 = .ok (.iconst 2, 1) := dk_5 (dk_at dksX0_covers_1 12 rfl rfl)
theorem dX0_covers_35 : decode cX0_covers 35 = .ok (.if_icmp .ge 6, 3) := dk_162 0 6 (dk_at dksX0_covers_1 13 rfl rfl)
theorem dX0_covers_38 : decode cX0_covers 38 = .ok (.lload 4, 2) := dk_22 4 (dk_at dksX0_covers_1 16 rfl rfl)
theorem dX0_covers_40 : decode cX0_covers 40 = .ok (.lreturn, 1) := dk_173 (dk_at dksX0_covers_1 18 rfl rfl)
theorem dX0_covers_41 : decode cX0_covers 41 = .ok (.iinc 7 1, 3) := dk_132 7 1 (dk_at dksX0_covers_1 19 rfl rfl)
theorem dX0_covers_44 : decode cX0_covers 44 = .ok (.goto (-26), 3) := dk_167 255 230 (dk_at dksX0_covers_2 0 rfl rfl)
theorem dX0_covers_47 : decode cX0_covers 47 = .ok (.lload 4, 2) := dk_22 4 (dk_at dksX0_covers_2 3 rfl rfl)
theorem dX0_covers_49 : decode cX0_covers 49 = .ok (.ldc2_w 224, 3) := dk_20 0 224 (dk_at dksX0_covers_2 5 rfl rfl)
theorem dX0_covers_52 : decode cX0_covers 52 = .ok (.lcmp, 1) := dk_148 (dk_at dksX0_covers_2 8 rfl rfl)
theorem dX0_covers_53 : decode cX0_covers 53 = .ok (.ifCond .eq 13, 3) := dk_153 0 13 (dk_at dksX0_covers_2 9 rfl rfl)
theorem dX0_covers_56 : decode cX0_covers 56 = .ok (.lload_n 2, 1) := dk_32 (dk_at dksX0_covers_2 12 rfl rfl)
theorem dX0_covers_57 : decode cX0_covers 57 = .ok (.lload 4, 2) := dk_22 4 (dk_at dksX0_covers_2 13 rfl rfl)
theorem dX0_covers_59 : decode cX0_covers 59 = .ok (.lcmp, 1) := dk_148 (dk_at dksX0_covers_2 15 rfl rfl)
theorem dX0_covers_60 : decode cX0_covers 60 = .ok (.ifCond .lt 6, 3) := dk_155 0 6 (dk_at dksX0_covers_2 16 rfl rfl)
theorem dX0_covers_63 : decode cX0_covers 63 = .ok (.lload 4, 2) := dk_22 4 (dk_at dksX0_covers_2 19 rfl rfl)
theorem dX0_covers_65 : decode cX0_covers 65 = .ok (.lreturn, 1) := dk_173 (dk_at dksX0_covers_2 21 rfl rfl)
theorem dX0_covers_66 : decode cX0_covers 66 = .ok (.iconst 0, 1) := dk_3 (dk_at dksX0_covers_2 22 rfl rfl)
theorem dX0_covers_67 : decode cX0_covers 67 = .ok (.istore 7, 2) := dk_54 7 (dk_at dksX0_covers_3 0 rfl rfl)
theorem dX0_covers_69 : decode cX0_covers 69 = .ok (.iload 7, 2) := dk_21 7 (dk_at dksX0_covers_3 2 rfl rfl)
theorem dX0_covers_71 : decode cX0_covers 71 = .ok (.bipush 10, 2) := dk_16 10 (dk_at dksX0_covers_3 4 rfl rfl)
theorem dX0_covers_73 : decode cX0_covers 73 = .ok (.if_icmp .ge 23, 3) := dk_162 0 23 (dk_at dksX0_covers_3 6 rfl rfl)
theorem dX0_covers_76 : decode cX0_covers 76 = .ok (.aload_n 0, 1) := dk_42 (dk_at dksX0_covers_3 9 rfl rfl)
theorem dX0_covers_77 : decode cX0_covers 77 = .ok (.getfield 42, 3) := dk_180 0 42 (dk_at dksX0_covers_3 10 rfl rfl)
theorem dX0_covers_80 : decode cX0_covers 80 = .ok (.iload 7, 2) := dk_21 7 (dk_at dksX0_covers_3 13 rfl rfl)
theorem dX0_covers_82 : decode cX0_covers 82 = .ok (.aload_n 0, 1) := dk_42 (dk_at dksX0_covers_3 15 rfl rfl)
theorem dX0_covers_83 : decode cX0_covers 83 = .ok (.getfield 38, 3) := dk_180 0 38 (dk_at dksX0_covers_3 16 rfl rfl)
theorem dX0_covers_86 : decode cX0_covers 86 = .ok (.iload 7, 2) := dk_21 7 (dk_at dksX0_covers_3 19 rfl rfl)
theorem dX0_covers_88 : decode cX0_covers 88 = .ok (.iaload, 1) := dk_46 (dk_at dksX0_covers_3 21 rfl rfl)
theorem dX0_covers_89 : decode cX0_covers 89 = .ok (.iastore, 1) := dk_79 (dk_at dksX0_covers_3 22 rfl rfl)
theorem dX0_covers_90 : decode cX0_covers 90 = .ok (.iinc 7 1, 3) := dk_132 7 1 (dk_at dksX0_covers_4 0 rfl rfl)
theorem dX0_covers_93 : decode cX0_covers 93 = .ok (.goto (-24), 3) := dk_167 255 232 (dk_at dksX0_covers_4 3 rfl rfl)
theorem dX0_covers_96 : decode cX0_covers 96 = .ok (.lload_n 2, 1) := dk_32 (dk_at dksX0_covers_4 6 rfl rfl)
theorem dX0_covers_97 : decode cX0_covers 97 = .ok (.lreturn, 1) := dk_173 (dk_at dksX0_covers_4 7 rfl rfl)
theorem dX0_covers_98 : decode cX0_covers 98 = .ok (.aload_n 0, 1) := dk_42 (dk_at dksX0_covers_4 8 rfl rfl)
theorem dX0_covers_99 : decode cX0_covers 99 = .ok (.getfield 38, 3) := dk_180 0 38 (dk_at dksX0_covers_4 9 rfl rfl)
theorem dX0_covers_102 : decode cX0_covers 102 = .ok (.iload_n 1, 1) := dk_27 (dk_at dksX0_covers_4 12 rfl rfl)
theorem dX0_covers_103 : decode cX0_covers 103 = .ok (.iconst 0, 1) := dk_3 (dk_at dksX0_covers_4 13 rfl rfl)
theorem dX0_covers_104 : decode cX0_covers 104 = .ok (.iastore, 1) := dk_79 (dk_at dksX0_covers_4 14 rfl rfl)
theorem dX0_covers_105 : decode cX0_covers 105 = .ok (.aload_n 0, 1) := dk_42 (dk_at dksX0_covers_4 15 rfl rfl)
theorem dX0_covers_106 : decode cX0_covers 106 = .ok (.iload_n 1, 1) := dk_27 (dk_at dksX0_covers_4 16 rfl rfl)
theorem dX0_covers_107 : decode cX0_covers 107 = .ok (.invokevirtual 226, 3) := dk_182 0 226 (dk_at dksX0_covers_4 17 rfl rfl)
theorem dX0_covers_110 : decode cX0_covers 110 = .ok (.ifCond .ne 14, 3) := dk_154 0 14 (dk_at dksX0_covers_4 20 rfl rfl)
theorem dX0_covers_113 : decode cX0_covers 113 = .ok (.aload_n 0, 1) := dk_42 (dk_at dksX0_covers_4 23 rfl rfl)
theorem dX0_covers_114 : decode cX0_covers 114 = .ok (.iload_n 1, 1) := dk_27 (dk_at dksX0_covers_5 0 rfl rfl)
theorem dX0_covers_115 : decode cX0_covers 115 = .ok (.iconst 1, 1) := dk_4 (dk_at dksX0_covers_5 1 rfl rfl)
theorem dX0_covers_116 : decode cX0_covers 116 = .ok (.iadd, 1) := dk_96 (dk_at dksX0_covers_5 2 rfl rfl)
theorem dX0_covers_117 : decode cX0_covers 117 = .ok (.lload_n 2, 1) := dk_32 (dk_at dksX0_covers_5 3 rfl rfl)
theorem dX0_covers_118 : decode cX0_covers 118 = .ok (.lload 4, 2) := dk_22 4 (dk_at dksX0_covers_5 4 rfl rfl)
theorem dX0_covers_120 : decode cX0_covers 120 = .ok (.invokevirtual 229, 3) := dk_182 0 229 (dk_at dksX0_covers_5 6 rfl rfl)
theorem dX0_covers_123 : decode cX0_covers 123 = .ok (.lreturn, 1) := dk_173 (dk_at dksX0_covers_5 9 rfl rfl)
theorem dX0_covers_124 : decode cX0_covers 124 = .ok (.aload 6, 2) := dk_25 6 (dk_at dksX0_covers_5 10 rfl rfl)
theorem dX0_covers_126 : decode cX0_covers 126 = .ok (.getfield 209, 3) := dk_180 0 209 (dk_at dksX0_covers_5 12 rfl rfl)
theorem dX0_covers_129 : decode cX0_covers 129 = .ok (.iload_n 1, 1) := dk_27 (dk_at dksX0_covers_5 15 rfl rfl)
theorem dX0_covers_130 : decode cX0_covers 130 = .ok (.aaload, 1) := dk_50 (dk_at dksX0_covers_5 16 rfl rfl)
theorem dX0_covers_131 : decode cX0_covers 131 = .ok (.checkcast 101, 3) := dk_192 0 101 (dk_at dksX0_covers_5 17 rfl rfl)
theorem dX0_covers_134 : decode cX0_covers 134 = .ok (.getfield 122, 3) := dk_180 0 122 (dk_at dksX0_covers_5 20 rfl rfl)
theorem dX0_covers_137 : decode cX0_covers 137 = .ok (.getfield 75, 3) := dk_180 0 75 (dk_at dksX0_covers_6 0 rfl rfl)
theorem dX0_covers_140 : decode cX0_covers 140 = .ok (.i2l, 1) := dk_133 (dk_at dksX0_covers_6 3 rfl rfl)
theorem dX0_covers_141 : decode cX0_covers 141 = .ok (.lstore 7, 2) := dk_55 7 (dk_at dksX0_covers_6 4 rfl rfl)
theorem dX0_covers_143 : decode cX0_covers 143 = .ok (.aload_n 0, 1) := dk_42 (dk_at dksX0_covers_6 6 rfl rfl)
theorem dX0_covers_144 : decode cX0_covers 144 = .ok (.iload_n 1, 1) := dk_27 (dk_at dksX0_covers_6 7 rfl rfl)
theorem dX0_covers_145 : decode cX0_covers 145 = .ok (.iconst 1, 1) := dk_4 (dk_at dksX0_covers_6 8 rfl rfl)
theorem dX0_covers_146 : decode cX0_covers 146 = .ok (.iadd, 1) := dk_96 (dk_at dksX0_covers_6 9 rfl rfl)
theorem dX0_covers_147 : decode cX0_covers 147 = .ok (.lload_n 2, 1) := dk_32 (dk_at dksX0_covers_6 10 rfl rfl)
theorem dX0_covers_148 : decode cX0_covers 148 = .ok (.lload 4, 2) := dk_22 4 (dk_at dksX0_covers_6 11 rfl rfl)
theorem dX0_covers_150 : decode cX0_covers 150 = .ok (.invokevirtual 229, 3) := dk_182 0 229 (dk_at dksX0_covers_6 13 rfl rfl)
theorem dX0_covers_153 : decode cX0_covers 153 = .ok (.lstore 9, 2) := dk_55 9 (dk_at dksX0_covers_6 16 rfl rfl)
theorem dX0_covers_155 : decode cX0_covers 155 = .ok (.aload_n 0, 1) := dk_42 (dk_at dksX0_covers_6 18 rfl rfl)
theorem dX0_covers_156 : decode cX0_covers 156 = .ok (.getfield 38, 3) := dk_180 0 38 (dk_at dksX0_covers_6 19 rfl rfl)
theorem dX0_covers_159 : decode cX0_covers 159 = .ok (.iload_n 1, 1) := dk_27 (dk_at dksX0_covers_6 22 rfl rfl)
theorem dX0_covers_160 : decode cX0_covers 160 = .ok (.iconst 1, 1) := dk_4 (dk_at dksX0_covers_6 23 rfl rfl)
theorem dX0_covers_161 : decode cX0_covers 161 = .ok (.iastore, 1) := dk_79 (dk_at dksX0_covers_7 0 rfl rfl)
theorem dX0_covers_162 : decode cX0_covers 162 = .ok (.aload_n 0, 1) := dk_42 (dk_at dksX0_covers_7 1 rfl rfl)
theorem dX0_covers_163 : decode cX0_covers 163 = .ok (.iload_n 1, 1) := dk_27 (dk_at dksX0_covers_7 2 rfl rfl)
theorem dX0_covers_164 : decode cX0_covers 164 = .ok (.iconst 1, 1) := dk_4 (dk_at dksX0_covers_7 3 rfl rfl)
theorem dX0_covers_165 : decode cX0_covers 165 = .ok (.iadd, 1) := dk_96 (dk_at dksX0_covers_7 4 rfl rfl)
theorem dX0_covers_166 : decode cX0_covers 166 = .ok (.lload_n 2, 1) := dk_32 (dk_at dksX0_covers_7 5 rfl rfl)
theorem dX0_covers_167 : decode cX0_covers 167 = .ok (.lload 7, 2) := dk_22 7 (dk_at dksX0_covers_7 6 rfl rfl)
theorem dX0_covers_169 : decode cX0_covers 169 = .ok (.lmul, 1) := dk_105 (dk_at dksX0_covers_7 8 rfl rfl)
theorem dX0_covers_170 : decode cX0_covers 170 = .ok (.lload 9, 2) := dk_22 9 (dk_at dksX0_covers_7 9 rfl rfl)
theorem dX0_covers_172 : decode cX0_covers 172 = .ok (.invokevirtual 229, 3) := dk_182 0 229 (dk_at dksX0_covers_7 11 rfl rfl)
theorem dX0_covers_175 : decode cX0_covers 175 = .ok (.lstore 9, 2) := dk_55 9 (dk_at dksX0_covers_7 14 rfl rfl)
theorem dX0_covers_177 : decode cX0_covers 177 = .ok (.aload_n 0, 1) := dk_42 (dk_at dksX0_covers_7 16 rfl rfl)
theorem dX0_covers_178 : decode cX0_covers 178 = .ok (.getfield 38, 3) := dk_180 0 38 (dk_at dksX0_covers_7 17 rfl rfl)
theorem dX0_covers_181 : decode cX0_covers 181 = .ok (.iload_n 1, 1) := dk_27 (dk_at dksX0_covers_7 20 rfl rfl)
theorem dX0_covers_182 : decode cX0_covers 182 = .ok (.iconst 2, 1) := dk_5 (dk_at dksX0_covers_7 21 rfl rfl)
theorem dX0_covers_183 : decode cX0_covers 183 = .ok (.iastore, 1) := dk_79 (dk_at dksX0_covers_7 22 rfl rfl)
theorem dX0_covers_184 : decode cX0_covers 184 = .ok (.aload_n 0, 1) := dk_42 (dk_at dksX0_covers_7 23 rfl rfl)
theorem dX0_covers_185 : decode cX0_covers 185 = .ok (.iload_n 1, 1) := dk_27 (dk_at dksX0_covers_8 0 rfl rfl)
theorem dX0_covers_186 : decode cX0_covers 186 = .ok (.iconst 1, 1) := dk_4 (dk_at dksX0_covers_8 1 rfl rfl)
theorem dX0_covers_187 : decode cX0_covers 187 = .ok (.iadd, 1) := dk_96 (dk_at dksX0_covers_8 2 rfl rfl)
theorem dX0_covers_188 : decode cX0_covers 188 = .ok (.lload_n 2, 1) := dk_32 (dk_at dksX0_covers_8 3 rfl rfl)
theorem dX0_covers_189 : decode cX0_covers 189 = .ok (.lload 7, 2) := dk_22 7 (dk_at dksX0_covers_8 4 rfl rfl)
theorem dX0_covers_191 : decode cX0_covers 191 = .ok (.lmul, 1) := dk_105 (dk_at dksX0_covers_8 6 rfl rfl)
theorem dX0_covers_192 : decode cX0_covers 192 = .ok (.lload 7, 2) := dk_22 7 (dk_at dksX0_covers_8 7 rfl rfl)
theorem dX0_covers_194 : decode cX0_covers 194 = .ok (.lmul, 1) := dk_105 (dk_at dksX0_covers_8 9 rfl rfl)
theorem dX0_covers_195 : decode cX0_covers 195 = .ok (.lload 9, 2) := dk_22 9 (dk_at dksX0_covers_8 10 rfl rfl)
theorem dX0_covers_197 : decode cX0_covers 197 = .ok (.invokevirtual 229, 3) := dk_182 0 229 (dk_at dksX0_covers_8 12 rfl rfl)
theorem dX0_covers_200 : decode cX0_covers 200 = .ok (.lstore 9, 2) := dk_55 9 (dk_at dksX0_covers_8 15 rfl rfl)
theorem dX0_covers_202 : decode cX0_covers 202 = .ok (.aload_n 0, 1) := dk_42 (dk_at dksX0_covers_8 17 rfl rfl)
theorem dX0_covers_203 : decode cX0_covers 203 = .ok (.getfield 38, 3) := dk_180 0 38 (dk_at dksX0_covers_8 18 rfl rfl)
theorem dX0_covers_206 : decode cX0_covers 206 = .ok (.iload_n 1, 1) := dk_27 (dk_at dksX0_covers_8 21 rfl rfl)
theorem dX0_covers_207 : decode cX0_covers 207 = .ok (.iconst 0, 1) := dk_3 (dk_at dksX0_covers_8 22 rfl rfl)
theorem dX0_covers_208 : decode cX0_covers 208 = .ok (.iastore, 1) := dk_79 (dk_at dksX0_covers_8 23 rfl rfl)
theorem dX0_covers_209 : decode cX0_covers 209 = .ok (.lload 9, 2) := dk_22 9 (dk_at dksX0_covers_9 0 rfl rfl)
theorem dX0_covers_211 : decode cX0_covers 211 = .ok (.lreturn, 1) := dk_173 (dk_at dksX0_covers_9 2 rfl rfl)
abbrev cX0_sharesOf : ByteArray := prog_1_method_34_code
def yX0_sharesOf : MethodName := ⟨RX0, "sharesOf", "(I)I"⟩
def dkwX0_sharesOf_2 : List UInt8 := [29, 46, 96, 61, 132, 3, 1, 167, 255, 205, 28, 172]
abbrev dktX0_sharesOf_2 : List UInt8 := dkwX0_sharesOf_2 ++ []
def dkwX0_sharesOf_1 : List UInt8 := [180, 0, 55, 180, 0, 209, 29, 50, 182, 0, 218, 27, 122, 4, 126, 4, 160, 0, 12, 28, 42, 180, 0, 38]
abbrev dktX0_sharesOf_1 : List UInt8 := dkwX0_sharesOf_1 ++ dktX0_sharesOf_2
def dkwX0_sharesOf_0 : List UInt8 := [3, 61, 3, 62, 29, 42, 180, 0, 55, 180, 0, 97, 162, 0, 46, 42, 29, 182, 0, 226, 153, 0, 32, 42]
abbrev dktX0_sharesOf_0 : List UInt8 := dkwX0_sharesOf_0 ++ dktX0_sharesOf_1
theorem dksX0_sharesOf_0 : cX0_sharesOf.data.toList.drop 0 = dktX0_sharesOf_0 := by decide +kernel
theorem dksX0_sharesOf_1 : cX0_sharesOf.data.toList.drop 24 = dktX0_sharesOf_1 := dk_seg dksX0_sharesOf_0 24 rfl rfl
theorem dksX0_sharesOf_2 : cX0_sharesOf.data.toList.drop 48 = dktX0_sharesOf_2 := dk_seg dksX0_sharesOf_1 24 rfl rfl
theorem dX0_sharesOf_0 : decode cX0_sharesOf 0 = .ok (.iconst 0, 1) := dk_3 (dk_at dksX0_sharesOf_0 0 rfl rfl)
theorem dX0_sharesOf_1 : decode cX0_sharesOf 1 = .ok (.istore_n 2, 1) := dk_61 (dk_at dksX0_sharesOf_0 1 rfl rfl)
theorem dX0_sharesOf_2 : decode cX0_sharesOf 2 = .ok (.iconst 0, 1) := dk_3 (dk_at dksX0_sharesOf_0 2 rfl rfl)
theorem dX0_sharesOf_3 : decode cX0_sharesOf 3 = .ok (.istore_n 3, 1) := dk_62 (dk_at dksX0_sharesOf_0 3 rfl rfl)
theorem dX0_sharesOf_4 : decode cX0_sharesOf 4 = .ok (.iload_n 3, 1) := dk_29 (dk_at dksX0_sharesOf_0 4 rfl rfl)
theorem dX0_sharesOf_5 : decode cX0_sharesOf 5 = .ok (.aload_n 0, 1) := dk_42 (dk_at dksX0_sharesOf_0 5 rfl rfl)
theorem dX0_sharesOf_6 : decode cX0_sharesOf 6 = .ok (.getfield 55, 3) := dk_180 0 55 (dk_at dksX0_sharesOf_0 6 rfl rfl)
theorem dX0_sharesOf_9 : decode cX0_sharesOf 9 = .ok (.getfield 97, 3) := dk_180 0 97 (dk_at dksX0_sharesOf_0 9 rfl rfl)
theorem dX0_sharesOf_12 : decode cX0_sharesOf 12 = .ok (.if_icmp .ge 46, 3) := dk_162 0 46 (dk_at dksX0_sharesOf_0 12 rfl rfl)
theorem dX0_sharesOf_15 : decode cX0_sharesOf 15 = .ok (.aload_n 0, 1) := dk_42 (dk_at dksX0_sharesOf_0 15 rfl rfl)
theorem dX0_sharesOf_16 : decode cX0_sharesOf 16 = .ok (.iload_n 3, 1) := dk_29 (dk_at dksX0_sharesOf_0 16 rfl rfl)
theorem dX0_sharesOf_17 : decode cX0_sharesOf 17 = .ok (.invokevirtual 226, 3) := dk_182 0 226 (dk_at dksX0_sharesOf_0 17 rfl rfl)
theorem dX0_sharesOf_20 : decode cX0_sharesOf 20 = .ok (.ifCond .eq 32, 3) := dk_153 0 32 (dk_at dksX0_sharesOf_0 20 rfl rfl)
theorem dX0_sharesOf_23 : decode cX0_sharesOf 23 = .ok (.aload_n 0, 1) := dk_42 (dk_at dksX0_sharesOf_0 23 rfl rfl)
theorem dX0_sharesOf_24 : decode cX0_sharesOf 24 = .ok (.getfield 55, 3) := dk_180 0 55 (dk_at dksX0_sharesOf_1 0 rfl rfl)
theorem dX0_sharesOf_27 : decode cX0_sharesOf 27 = .ok (.getfield 209, 3) := dk_180 0 209 (dk_at dksX0_sharesOf_1 3 rfl rfl)
theorem dX0_sharesOf_30 : decode cX0_sharesOf 30 = .ok (.iload_n 3, 1) := dk_29 (dk_at dksX0_sharesOf_1 6 rfl rfl)
theorem dX0_sharesOf_31 : decode cX0_sharesOf 31 = .ok (.aaload, 1) := dk_50 (dk_at dksX0_sharesOf_1 7 rfl rfl)
theorem dX0_sharesOf_32 : decode cX0_sharesOf 32 = .ok (.invokevirtual 218, 3) := dk_182 0 218 (dk_at dksX0_sharesOf_1 8 rfl rfl)
theorem dX0_sharesOf_35 : decode cX0_sharesOf 35 = .ok (.iload_n 1, 1) := dk_27 (dk_at dksX0_sharesOf_1 11 rfl rfl)
theorem dX0_sharesOf_36 : decode cX0_sharesOf 36 = .ok (.ishr, 1) := dk_122 (dk_at dksX0_sharesOf_1 12 rfl rfl)
theorem dX0_sharesOf_37 : decode cX0_sharesOf 37 = .ok (.iconst 1, 1) := dk_4 (dk_at dksX0_sharesOf_1 13 rfl rfl)
theorem dX0_sharesOf_38 : decode cX0_sharesOf 38 = .ok (.iand, 1) := dk_126 (dk_at dksX0_sharesOf_1 14 rfl rfl)
theorem dX0_sharesOf_39 : decode cX0_sharesOf 39 = .ok (.iconst 1, 1) := dk_4 (dk_at dksX0_sharesOf_1 15 rfl rfl)
theorem dX0_sharesOf_40 : decode cX0_sharesOf 40 = .ok (.if_icmp .ne 12, 3) := dk_160 0 12 (dk_at dksX0_sharesOf_1 16 rfl rfl)
theorem dX0_sharesOf_43 : decode cX0_sharesOf 43 = .ok (.iload_n 2, 1) := dk_28 (dk_at dksX0_sharesOf_1 19 rfl rfl)
theorem dX0_sharesOf_44 : decode cX0_sharesOf 44 = .ok (.aload_n 0, 1) := dk_42 (dk_at dksX0_sharesOf_1 20 rfl rfl)
theorem dX0_sharesOf_45 : decode cX0_sharesOf 45 = .ok (.getfield 38, 3) := dk_180 0 38 (dk_at dksX0_sharesOf_1 21 rfl rfl)
theorem dX0_sharesOf_48 : decode cX0_sharesOf 48 = .ok (.iload_n 3, 1) := dk_29 (dk_at dksX0_sharesOf_2 0 rfl rfl)
theorem dX0_sharesOf_49 : decode cX0_sharesOf 49 = .ok (.iaload, 1) := dk_46 (dk_at dksX0_sharesOf_2 1 rfl rfl)
theorem dX0_sharesOf_50 : decode cX0_sharesOf 50 = .ok (.iadd, 1) := dk_96 (dk_at dksX0_sharesOf_2 2 rfl rfl)
theorem dX0_sharesOf_51 : decode cX0_sharesOf 51 = .ok (.istore_n 2, 1) := dk_61 (dk_at dksX0_sharesOf_2 3 rfl rfl)
theorem dX0_sharesOf_52 : decode cX0_sharesOf 52 = .ok (.iinc 3 1, 3) := dk_132 3 1 (dk_at dksX0_sharesOf_2 4 rfl rfl)
theorem dX0_sharesOf_55 : decode cX0_sharesOf 55 = .ok (.goto (-51), 3) := dk_167 255 205 (dk_at dksX0_sharesOf_2 7 rfl rfl)
theorem dX0_sharesOf_58 : decode cX0_sharesOf 58 = .ok (.iload_n 2, 1) := dk_28 (dk_at dksX0_sharesOf_2 10 rfl rfl)
theorem dX0_sharesOf_59 : decode cX0_sharesOf 59 = .ok (.ireturn, 1) := dk_172 (dk_at dksX0_sharesOf_2 11 rfl rfl)
abbrev cX0_isShared : ByteArray := prog_1_method_32_code
def yX0_isShared : MethodName := ⟨RX0, "isShared", "(I)Z"⟩
def dkwX0_isShared_1 : List UInt8 := [182, 0, 218, 153, 0, 7, 4, 167, 0, 4, 3, 172]
abbrev dktX0_isShared_1 : List UInt8 := dkwX0_isShared_1 ++ []
def dkwX0_isShared_0 : List UInt8 := [42, 180, 0, 55, 180, 0, 209, 27, 50, 180, 0, 213, 154, 0, 22, 42, 180, 0, 55, 180, 0, 209, 27, 50]
abbrev dktX0_isShared_0 : List UInt8 := dkwX0_isShared_0 ++ dktX0_isShared_1
theorem dksX0_isShared_0 : cX0_isShared.data.toList.drop 0 = dktX0_isShared_0 := by decide +kernel
theorem dksX0_isShared_1 : cX0_isShared.data.toList.drop 24 = dktX0_isShared_1 := dk_seg dksX0_isShared_0 24 rfl rfl
theorem dX0_isShared_0 : decode cX0_isShared 0 = .ok (.aload_n 0, 1) := dk_42 (dk_at dksX0_isShared_0 0 rfl rfl)
theorem dX0_isShared_1 : decode cX0_isShared 1 = .ok (.getfield 55, 3) := dk_180 0 55 (dk_at dksX0_isShared_0 1 rfl rfl)
theorem dX0_isShared_4 : decode cX0_isShared 4 = .ok (.getfield 209, 3) := dk_180 0 209 (dk_at dksX0_isShared_0 4 rfl rfl)
theorem dX0_isShared_7 : decode cX0_isShared 7 = .ok (.iload_n 1, 1) := dk_27 (dk_at dksX0_isShared_0 7 rfl rfl)
theorem dX0_isShared_8 : decode cX0_isShared 8 = .ok (.aaload, 1) := dk_50 (dk_at dksX0_isShared_0 8 rfl rfl)
theorem dX0_isShared_9 : decode cX0_isShared 9 = .ok (.getfield 213, 3) := dk_180 0 213 (dk_at dksX0_isShared_0 9 rfl rfl)
theorem dX0_isShared_12 : decode cX0_isShared 12 = .ok (.ifCond .ne 22, 3) := dk_154 0 22 (dk_at dksX0_isShared_0 12 rfl rfl)
theorem dX0_isShared_15 : decode cX0_isShared 15 = .ok (.aload_n 0, 1) := dk_42 (dk_at dksX0_isShared_0 15 rfl rfl)
theorem dX0_isShared_16 : decode cX0_isShared 16 = .ok (.getfield 55, 3) := dk_180 0 55 (dk_at dksX0_isShared_0 16 rfl rfl)
theorem dX0_isShared_19 : decode cX0_isShared 19 = .ok (.getfield 209, 3) := dk_180 0 209 (dk_at dksX0_isShared_0 19 rfl rfl)
theorem dX0_isShared_22 : decode cX0_isShared 22 = .ok (.iload_n 1, 1) := dk_27 (dk_at dksX0_isShared_0 22 rfl rfl)
theorem dX0_isShared_23 : decode cX0_isShared 23 = .ok (.aaload, 1) := dk_50 (dk_at dksX0_isShared_0 23 rfl rfl)
theorem dX0_isShared_24 : decode cX0_isShared 24 = .ok (.invokevirtual 218, 3) := dk_182 0 218 (dk_at dksX0_isShared_1 0 rfl rfl)
theorem dX0_isShared_27 : decode cX0_isShared 27 = .ok (.ifCond .eq 7, 3) := dk_153 0 7 (dk_at dksX0_isShared_1 3 rfl rfl)
theorem dX0_isShared_30 : decode cX0_isShared 30 = .ok (.iconst 1, 1) := dk_4 (dk_at dksX0_isShared_1 6 rfl rfl)
theorem dX0_isShared_31 : decode cX0_isShared 31 = .ok (.goto 4, 3) := dk_167 0 4 (dk_at dksX0_isShared_1 7 rfl rfl)
theorem dX0_isShared_34 : decode cX0_isShared 34 = .ok (.iconst 0, 1) := dk_3 (dk_at dksX0_isShared_1 10 rfl rfl)
theorem dX0_isShared_35 : decode cX0_isShared 35 = .ok (.ireturn, 1) := dk_172 (dk_at dksX0_isShared_1 11 rfl rfl)
abbrev cX0_cover : ByteArray := prog_1_method_36_code
def yX0_cover : MethodName := ⟨RX0, "cover", "(I)I"⟩
def dkwX0_cover_2 : List UInt8 := [27, 46, 172]
abbrev dktX0_cover_2 : List UInt8 := dkwX0_cover_2 ++ []
def dkwX0_cover_1 : List UInt8 := [42, 27, 182, 0, 226, 154, 0, 5, 2, 172, 42, 3, 10, 20, 0, 224, 182, 0, 229, 88, 42, 180, 0, 42]
abbrev dktX0_cover_1 : List UInt8 := dkwX0_cover_1 ++ dktX0_cover_2
def dkwX0_cover_0 : List UInt8 := [42, 182, 0, 154, 153, 0, 28, 27, 3, 42, 180, 0, 55, 180, 0, 97, 4, 100, 184, 0, 51, 153, 0, 11]
abbrev dktX0_cover_0 : List UInt8 := dkwX0_cover_0 ++ dktX0_cover_1
theorem dksX0_cover_0 : cX0_cover.data.toList.drop 0 = dktX0_cover_0 := by decide +kernel
theorem dksX0_cover_1 : cX0_cover.data.toList.drop 24 = dktX0_cover_1 := dk_seg dksX0_cover_0 24 rfl rfl
theorem dksX0_cover_2 : cX0_cover.data.toList.drop 48 = dktX0_cover_2 := dk_seg dksX0_cover_1 24 rfl rfl
theorem dX0_cover_0 : decode cX0_cover 0 = .ok (.aload_n 0, 1) := dk_42 (dk_at dksX0_cover_0 0 rfl rfl)
theorem dX0_cover_1 : decode cX0_cover 1 = .ok (.invokevirtual 154, 3) := dk_182 0 154 (dk_at dksX0_cover_0 1 rfl rfl)
theorem dX0_cover_4 : decode cX0_cover 4 = .ok (.ifCond .eq 28, 3) := dk_153 0 28 (dk_at dksX0_cover_0 4 rfl rfl)
theorem dX0_cover_7 : decode cX0_cover 7 = .ok (.iload_n 1, 1) := dk_27 (dk_at dksX0_cover_0 7 rfl rfl)
theorem dX0_cover_8 : decode cX0_cover 8 = .ok (.iconst 0, 1) := dk_3 (dk_at dksX0_cover_0 8 rfl rfl)
theorem dX0_cover_9 : decode cX0_cover 9 = .ok (.aload_n 0, 1) := dk_42 (dk_at dksX0_cover_0 9 rfl rfl)
theorem dX0_cover_10 : decode cX0_cover 10 = .ok (.getfield 55, 3) := dk_180 0 55 (dk_at dksX0_cover_0 10 rfl rfl)
theorem dX0_cover_13 : decode cX0_cover 13 = .ok (.getfield 97, 3) := dk_180 0 97 (dk_at dksX0_cover_0 13 rfl rfl)
theorem dX0_cover_16 : decode cX0_cover 16 = .ok (.iconst 1, 1) := dk_4 (dk_at dksX0_cover_0 16 rfl rfl)
theorem dX0_cover_17 : decode cX0_cover 17 = .ok (.isub, 1) := dk_100 (dk_at dksX0_cover_0 17 rfl rfl)
theorem dX0_cover_18 : decode cX0_cover 18 = .ok (.invokestatic 51, 3) := dk_184 0 51 (dk_at dksX0_cover_0 18 rfl rfl)
theorem dX0_cover_21 : decode cX0_cover 21 = .ok (.ifCond .eq 11, 3) := dk_153 0 11 (dk_at dksX0_cover_0 21 rfl rfl)
theorem dX0_cover_24 : decode cX0_cover 24 = .ok (.aload_n 0, 1) := dk_42 (dk_at dksX0_cover_1 0 rfl rfl)
theorem dX0_cover_25 : decode cX0_cover 25 = .ok (.iload_n 1, 1) := dk_27 (dk_at dksX0_cover_1 1 rfl rfl)
theorem dX0_cover_26 : decode cX0_cover 26 = .ok (.invokevirtual 226, 3) := dk_182 0 226 (dk_at dksX0_cover_1 2 rfl rfl)
theorem dX0_cover_29 : decode cX0_cover 29 = .ok (.ifCond .ne 5, 3) := dk_154 0 5 (dk_at dksX0_cover_1 5 rfl rfl)
theorem dX0_cover_32 : decode cX0_cover 32 = .ok (.iconst (-1), 1) := dk_2 (dk_at dksX0_cover_1 8 rfl rfl)
theorem dX0_cover_33 : decode cX0_cover 33 = .ok (.ireturn, 1) := dk_172 (dk_at dksX0_cover_1 9 rfl rfl)
theorem dX0_cover_34 : decode cX0_cover 34 = .ok (.aload_n 0, 1) := dk_42 (dk_at dksX0_cover_1 10 rfl rfl)
theorem dX0_cover_35 : decode cX0_cover 35 = .ok (.iconst 0, 1) := dk_3 (dk_at dksX0_cover_1 11 rfl rfl)
theorem dX0_cover_36 : decode cX0_cover 36 = .ok (.lconst 1, 1) := dk_10 (dk_at dksX0_cover_1 12 rfl rfl)
theorem dX0_cover_37 : decode cX0_cover 37 = .ok (.ldc2_w 224, 3) := dk_20 0 224 (dk_at dksX0_cover_1 13 rfl rfl)
theorem dX0_cover_40 : decode cX0_cover 40 = .ok (.invokevirtual 229, 3) := dk_182 0 229 (dk_at dksX0_cover_1 16 rfl rfl)
theorem dX0_cover_43 : decode cX0_cover 43 = .ok (.pop2, 1) := dk_88 (dk_at dksX0_cover_1 19 rfl rfl)
theorem dX0_cover_44 : decode cX0_cover 44 = .ok (.aload_n 0, 1) := dk_42 (dk_at dksX0_cover_1 20 rfl rfl)
theorem dX0_cover_45 : decode cX0_cover 45 = .ok (.getfield 42, 3) := dk_180 0 42 (dk_at dksX0_cover_1 21 rfl rfl)
theorem dX0_cover_48 : decode cX0_cover 48 = .ok (.iload_n 1, 1) := dk_27 (dk_at dksX0_cover_2 0 rfl rfl)
theorem dX0_cover_49 : decode cX0_cover 49 = .ok (.iaload, 1) := dk_46 (dk_at dksX0_cover_2 1 rfl rfl)
theorem dX0_cover_50 : decode cX0_cover 50 = .ok (.ireturn, 1) := dk_172 (dk_at dksX0_cover_2 2 rfl rfl)
abbrev cX0_best : ByteArray := prog_1_method_38_code
def yX0_best : MethodName := ⟨RX0, "best", "()I"⟩
def dkwX0_best_3 : List UInt8 := [132, 1, 1, 167, 255, 227, 42, 180, 0, 233, 172]
abbrev dktX0_best_3 : List UInt8 := dkwX0_best_3 ++ []
def dkwX0_best_2 : List UInt8 := [180, 0, 55, 180, 0, 126, 162, 0, 24, 42, 180, 0, 55, 180, 0, 147, 27, 42, 180, 0, 48, 27, 46, 79]
abbrev dktX0_best_2 : List UInt8 := dkwX0_best_2 ++ dktX0_best_3
def dkwX0_best_1 : List UInt8 := [181, 0, 233, 42, 3, 3, 182, 0, 236, 42, 180, 0, 233, 2, 160, 0, 6, 16, 254, 172, 3, 60, 27, 42]
abbrev dktX0_best_1 : List UInt8 := dkwX0_best_1 ++ dktX0_best_2
def dkwX0_best_0 : List UInt8 := [42, 182, 0, 154, 153, 0, 14, 42, 180, 0, 55, 180, 0, 126, 7, 164, 0, 5, 2, 172, 42, 2]
abbrev dktX0_best_0 : List UInt8 := dkwX0_best_0 ++ dktX0_best_1
theorem dksX0_best_0 : cX0_best.data.toList.drop 0 = dktX0_best_0 := by decide +kernel
theorem dksX0_best_1 : cX0_best.data.toList.drop 22 = dktX0_best_1 := dk_seg dksX0_best_0 22 rfl rfl
theorem dksX0_best_2 : cX0_best.data.toList.drop 46 = dktX0_best_2 := dk_seg dksX0_best_1 24 rfl rfl
theorem dksX0_best_3 : cX0_best.data.toList.drop 70 = dktX0_best_3 := dk_seg dksX0_best_2 24 rfl rfl
theorem dX0_best_0 : decode cX0_best 0 = .ok (.aload_n 0, 1) := dk_42 (dk_at dksX0_best_0 0 rfl rfl)
theorem dX0_best_1 : decode cX0_best 1 = .ok (.invokevirtual 154, 3) := dk_182 0 154 (dk_at dksX0_best_0 1 rfl rfl)
theorem dX0_best_4 : decode cX0_best 4 = .ok (.ifCond .eq 14, 3) := dk_153 0 14 (dk_at dksX0_best_0 4 rfl rfl)
theorem dX0_best_7 : decode cX0_best 7 = .ok (.aload_n 0, 1) := dk_42 (dk_at dksX0_best_0 7 rfl rfl)
theorem dX0_best_8 : decode cX0_best 8 = .ok (.getfield 55, 3) := dk_180 0 55 (dk_at dksX0_best_0 8 rfl rfl)
theorem dX0_best_11 : decode cX0_best 11 = .ok (.getfield 126, 3) := dk_180 0 126 (dk_at dksX0_best_0 11 rfl rfl)
theorem dX0_best_14 : decode cX0_best 14 = .ok (.iconst 4, 1) := dk_7 (dk_at dksX0_best_0 14 rfl rfl)
theorem dX0_best_15 : decode cX0_best 15 = .ok (.if_icmp .le 5, 3) := dk_164 0 5 (dk_at dksX0_best_0 15 rfl rfl)
theorem dX0_best_18 : decode cX0_best 18 = .ok (.iconst (-1), 1) := dk_2 (dk_at dksX0_best_0 18 rfl rfl)
theorem dX0_best_19 : decode cX0_best 19 = .ok (.ireturn, 1) := dk_172 (dk_at dksX0_best_0 19 rfl rfl)
theorem dX0_best_20 : decode cX0_best 20 = .ok (.aload_n 0, 1) := dk_42 (dk_at dksX0_best_0 20 rfl rfl)
theorem dX0_best_21 : decode cX0_best 21 = .ok (.iconst (-1), 1) := dk_2 (dk_at dksX0_best_0 21 rfl rfl)
theorem dX0_best_22 : decode cX0_best 22 = .ok (.putfield 233, 3) := dk_181 0 233 (dk_at dksX0_best_1 0 rfl rfl)
theorem dX0_best_25 : decode cX0_best 25 = .ok (.aload_n 0, 1) := dk_42 (dk_at dksX0_best_1 3 rfl rfl)
theorem dX0_best_26 : decode cX0_best 26 = .ok (.iconst 0, 1) := dk_3 (dk_at dksX0_best_1 4 rfl rfl)
theorem dX0_best_27 : decode cX0_best 27 = .ok (.iconst 0, 1) := dk_3 (dk_at dksX0_best_1 5 rfl rfl)
theorem dX0_best_28 : decode cX0_best 28 = .ok (.invokevirtual 236, 3) := dk_182 0 236 (dk_at dksX0_best_1 6 rfl rfl)
theorem dX0_best_31 : decode cX0_best 31 = .ok (.aload_n 0, 1) := dk_42 (dk_at dksX0_best_1 9 rfl rfl)
theorem dX0_best_32 : decode cX0_best 32 = .ok (.getfield 233, 3) := dk_180 0 233 (dk_at dksX0_best_1 10 rfl rfl)
theorem dX0_best_35 : decode cX0_best 35 = .ok (.iconst (-1), 1) := dk_2 (dk_at dksX0_best_1 13 rfl rfl)
theorem dX0_best_36 : decode cX0_best 36 = .ok (.if_icmp .ne 6, 3) := dk_160 0 6 (dk_at dksX0_best_1 14 rfl rfl)
theorem dX0_best_39 : decode cX0_best 39 = .ok (.bipush (-2), 2) := dk_16 254 (dk_at dksX0_best_1 17 rfl rfl)
theorem dX0_best_41 : decode cX0_best 41 = .ok (.ireturn, 1) := dk_172 (dk_at dksX0_best_1 19 rfl rfl)
theorem dX0_best_42 : decode cX0_best 42 = .ok (.iconst 0, 1) := dk_3 (dk_at dksX0_best_1 20 rfl rfl)
theorem dX0_best_43 : decode cX0_best 43 = .ok (.istore_n 1, 1) := dk_60 (dk_at dksX0_best_1 21 rfl rfl)
theorem dX0_best_44 : decode cX0_best 44 = .ok (.iload_n 1, 1) := dk_27 (dk_at dksX0_best_1 22 rfl rfl)
theorem dX0_best_45 : decode cX0_best 45 = .ok (.aload_n 0, 1) := dk_42 (dk_at dksX0_best_1 23 rfl rfl)
theorem dX0_best_46 : decode cX0_best 46 = .ok (.getfield 55, 3) := dk_180 0 55 (dk_at dksX0_best_2 0 rfl rfl)
theorem dX0_best_49 : decode cX0_best 49 = .ok (.getfield 126, 3) := dk_180 0 126 (dk_at dksX0_best_2 3 rfl rfl)
theorem dX0_best_52 : decode cX0_best 52 = .ok (.if_icmp .ge 24, 3) := dk_162 0 24 (dk_at dksX0_best_2 6 rfl rfl)
theorem dX0_best_55 : decode cX0_best 55 = .ok (.aload_n 0, 1) := dk_42 (dk_at dksX0_best_2 9 rfl rfl)
theorem dX0_best_56 : decode cX0_best 56 = .ok (.getfield 55, 3) := dk_180 0 55 (dk_at dksX0_best_2 10 rfl rfl)
theorem dX0_best_59 : decode cX0_best 59 = .ok (.getfield 147, 3) := dk_180 0 147 (dk_at dksX0_best_2 13 rfl rfl)
theorem dX0_best_62 : decode cX0_best 62 = .ok (.iload_n 1, 1) := dk_27 (dk_at dksX0_best_2 16 rfl rfl)
theorem dX0_best_63 : decode cX0_best 63 = .ok (.aload_n 0, 1) := dk_42 (dk_at dksX0_best_2 17 rfl rfl)
theorem dX0_best_64 : decode cX0_best 64 = .ok (.getfield 48, 3) := dk_180 0 48 (dk_at dksX0_best_2 18 rfl rfl)
theorem dX0_best_67 : decode cX0_best 67 = .ok (.iload_n 1, 1) := dk_27 (dk_at dksX0_best_2 21 rfl rfl)
theorem dX0_best_68 : decode cX0_best 68 = .ok (.iaload, 1) := dk_46 (dk_at dksX0_best_2 22 rfl rfl)
theorem dX0_best_69 : decode cX0_best 69 = .ok (.iastore, 1) := dk_79 (dk_at dksX0_best_2 23 rfl rfl)
theorem dX0_best_70 : decode cX0_best 70 = .ok (.iinc 1 1, 3) := dk_132 1 1 (dk_at dksX0_best_3 0 rfl rfl)
theorem dX0_best_73 : decode cX0_best 73 = .ok (.goto (-29), 3) := dk_167 255 227 (dk_at dksX0_best_3 3 rfl rfl)
theorem dX0_best_76 : decode cX0_best 76 = .ok (.aload_n 0, 1) := dk_42 (dk_at dksX0_best_3 6 rfl rfl)
theorem dX0_best_77 : decode cX0_best 77 = .ok (.getfield 233, 3) := dk_180 0 233 (dk_at dksX0_best_3 7 rfl rfl)
theorem dX0_best_80 : decode cX0_best 80 = .ok (.ireturn, 1) := dk_172 (dk_at dksX0_best_3 10 rfl rfl)
abbrev cX0_tries : ByteArray := prog_1_method_37_code
def yX0_tries : MethodName := ⟨RX0, "tries", "(II)V"⟩
def dkwX0_tries_7 : List UInt8 := [182, 0, 236, 132, 4, 1, 167, 255, 213, 177]
abbrev dktX0_tries_7 : List UInt8 := dkwX0_tries_7 ++ []
def dkwX0_tries_6 : List UInt8 := [160, 0, 6, 167, 0, 24, 42, 180, 0, 45, 27, 21, 4, 79, 42, 27, 4, 96, 28, 4, 21, 4, 120, 128]
abbrev dktX0_tries_6 : List UInt8 := dkwX0_tries_6 ++ dktX0_tries_7
def dkwX0_tries_5 : List UInt8 := [132, 5, 1, 167, 255, 233, 177, 3, 54, 4, 21, 4, 29, 162, 0, 43, 28, 21, 4, 122, 4, 126, 4]
abbrev dktX0_tries_5 : List UInt8 := dkwX0_tries_5 ++ dktX0_tries_6
def dkwX0_tries_4 : List UInt8 := [3, 54, 5, 21, 5, 29, 162, 0, 23, 42, 180, 0, 48, 21, 5, 42, 180, 0, 45, 21, 5, 46, 79]
abbrev dktX0_tries_4 : List UInt8 := dkwX0_tries_4 ++ dktX0_tries_5
def dkwX0_tries_3 : List UInt8 := [42, 180, 0, 233, 2, 159, 0, 13, 21, 4, 42, 180, 0, 233, 161, 0, 4, 177, 42, 21, 4, 181, 0, 233]
abbrev dktX0_tries_3 : List UInt8 := dkwX0_tries_3 ++ dktX0_tries_4
def dkwX0_tries_2 : List UInt8 := [162, 0, 24, 21, 4, 42, 180, 0, 25, 180, 0, 180, 21, 5, 46, 96, 54, 4, 132, 5, 1, 167, 255, 232]
abbrev dktX0_tries_2 : List UInt8 := dkwX0_tries_2 ++ dktX0_tries_3
def dkwX0_tries_1 : List UInt8 := [180, 0, 45, 42, 180, 0, 25, 182, 0, 155, 156, 0, 4, 177, 3, 54, 4, 3, 54, 5, 21, 5, 29]
abbrev dktX0_tries_1 : List UInt8 := dkwX0_tries_1 ++ dktX0_tries_2
def dkwX0_tries_0 : List UInt8 := [42, 180, 0, 55, 180, 0, 126, 62, 27, 29, 160, 0, 113, 42, 180, 0, 34, 42, 180, 0, 55, 42]
abbrev dktX0_tries_0 : List UInt8 := dkwX0_tries_0 ++ dktX0_tries_1
theorem dksX0_tries_0 : cX0_tries.data.toList.drop 0 = dktX0_tries_0 := by decide +kernel
theorem dksX0_tries_1 : cX0_tries.data.toList.drop 22 = dktX0_tries_1 := dk_seg dksX0_tries_0 22 rfl rfl
theorem dksX0_tries_2 : cX0_tries.data.toList.drop 45 = dktX0_tries_2 := dk_seg dksX0_tries_1 23 rfl rfl
theorem dksX0_tries_3 : cX0_tries.data.toList.drop 69 = dktX0_tries_3 := dk_seg dksX0_tries_2 24 rfl rfl
theorem dksX0_tries_4 : cX0_tries.data.toList.drop 93 = dktX0_tries_4 := dk_seg dksX0_tries_3 24 rfl rfl
theorem dksX0_tries_5 : cX0_tries.data.toList.drop 116 = dktX0_tries_5 := dk_seg dksX0_tries_4 23 rfl rfl
theorem dksX0_tries_6 : cX0_tries.data.toList.drop 139 = dktX0_tries_6 := dk_seg dksX0_tries_5 23 rfl rfl
theorem dksX0_tries_7 : cX0_tries.data.toList.drop 163 = dktX0_tries_7 := dk_seg dksX0_tries_6 24 rfl rfl
theorem dX0_tries_0 : decode cX0_tries 0 = .ok (.aload_n 0, 1) := dk_42 (dk_at dksX0_tries_0 0 rfl rfl)
theorem dX0_tries_1 : decode cX0_tries 1 = .ok (.getfield 55, 3) := dk_180 0 55 (dk_at dksX0_tries_0 1 rfl rfl)
theorem dX0_tries_4 : decode cX0_tries 4 = .ok (.getfield 126, 3) := dk_180 0 126 (dk_at dksX0_tries_0 4 rfl rfl)
theorem dX0_tries_7 : decode cX0_tries 7 = .ok (.istore_n 3, 1) := dk_62 (dk_at dksX0_tries_0 7 rfl rfl)
theorem dX0_tries_8 : decode cX0_tries 8 = .ok (.iload_n 1, 1) := dk_27 (dk_at dksX0_tries_0 8 rfl rfl)
theorem dX0_tries_9 : decode cX0_tries 9 = .ok (.iload_n 3, 1) := dk_29 (dk_at dksX0_tries_0 9 rfl rfl)
theorem dX0_tries_10 : decode cX0_tries 10 = .ok (.if_icmp .ne 113, 3) := dk_160 0 113 (dk_at dksX0_tries_0 10 rfl rfl)
theorem dX0_tries_13 : decode cX0_tries 13 = .ok (.aload_n 0, 1) := dk_42 (dk_at dksX0_tries_0 13 rfl rfl)
theorem dX0_tries_14 : decode cX0_tries 14 = .ok (.getfield 34, 3) := dk_180 0 34 (dk_at dksX0_tries_0 14 rfl rfl)
theorem dX0_tries_17 : decode cX0_tries 17 = .ok (.aload_n 0, 1) := dk_42 (dk_at dksX0_tries_0 17 rfl rfl)
theorem dX0_tries_18 : decode cX0_tries 18 = .ok (.getfield 55, 3) := dk_180 0 55 (dk_at dksX0_tries_0 18 rfl rfl)
theorem dX0_tries_21 : decode cX0_tries 21 = .ok (.aload_n 0, 1) := dk_42 (dk_at dksX0_tries_0 21 rfl rfl)
theorem dX0_tries_22 : decode cX0_tries 22 = .ok (.getfield 45, 3) := dk_180 0 45 (dk_at dksX0_tries_1 0 rfl rfl)
theorem dX0_tries_25 : decode cX0_tries 25 = .ok (.aload_n 0, 1) := dk_42 (dk_at dksX0_tries_1 3 rfl rfl)
theorem dX0_tries_26 : decode cX0_tries 26 = .ok (.getfield 25, 3) := dk_180 0 25 (dk_at dksX0_tries_1 4 rfl rfl)
theorem dX0_tries_29 : decode cX0_tries 29 = .ok (.invokevirtual 155, 3) := dk_182 0 155 (dk_at dksX0_tries_1 7 rfl rfl)
theorem dX0_tries_32 : decode cX0_tries 32 = .ok (.ifCond .ge 4, 3) := dk_156 0 4 (dk_at dksX0_tries_1 10 rfl rfl)
theorem dX0_tries_35 : decode cX0_tries 35 = .ok (.return_, 1) := dk_177 (dk_at dksX0_tries_1 13 rfl rfl)
theorem dX0_tries_36 : decode cX0_tries 36 = .ok (.iconst 0, 1) := dk_3 (dk_at dksX0_tries_1 14 rfl rfl)
theorem dX0_tries_37 : decode cX0_tries 37 = .ok (.istore 4, 2) := dk_54 4 (dk_at dksX0_tries_1 15 rfl rfl)
theorem dX0_tries_39 : decode cX0_tries 39 = .ok (.iconst 0, 1) := dk_3 (dk_at dksX0_tries_1 17 rfl rfl)
theorem dX0_tries_40 : decode cX0_tries 40 = .ok (.istore 5, 2) := dk_54 5 (dk_at dksX0_tries_1 18 rfl rfl)
theorem dX0_tries_42 : decode cX0_tries 42 = .ok (.iload 5, 2) := dk_21 5 (dk_at dksX0_tries_1 20 rfl rfl)
theorem dX0_tries_44 : decode cX0_tries 44 = .ok (.iload_n 3, 1) := dk_29 (dk_at dksX0_tries_1 22 rfl rfl)
theorem dX0_tries_45 : decode cX0_tries 45 = .ok (.if_icmp .ge 24, 3) := dk_162 0 24 (dk_at dksX0_tries_2 0 rfl rfl)
theorem dX0_tries_48 : decode cX0_tries 48 = .ok (.iload 4, 2) := dk_21 4 (dk_at dksX0_tries_2 3 rfl rfl)
theorem dX0_tries_50 : decode cX0_tries 50 = .ok (.aload_n 0, 1) := dk_42 (dk_at dksX0_tries_2 5 rfl rfl)
theorem dX0_tries_51 : decode cX0_tries 51 = .ok (.getfield 25, 3) := dk_180 0 25 (dk_at dksX0_tries_2 6 rfl rfl)
theorem dX0_tries_54 : decode cX0_tries 54 = .ok (.getfield 180, 3) := dk_180 0 180 (dk_at dksX0_tries_2 9 rfl rfl)
theorem dX0_tries_57 : decode cX0_tries 57 = .ok (.iload 5, 2) := dk_21 5 (dk_at dksX0_tries_2 12 rfl rfl)
theorem dX0_tries_59 : decode cX0_tries 59 = .ok (.iaload, 1) := dk_46 (dk_at dksX0_tries_2 14 rfl rfl)
theorem dX0_tries_60 : decode cX0_tries 60 = .ok (.iadd, 1) := dk_96 (dk_at dksX0_tries_2 15 rfl rfl)
theorem dX0_tries_61 : decode cX0_tries 61 = .ok (.istore 4, 2) := dk_54 4 (dk_at dksX0_tries_2 16 rfl rfl)
theorem dX0_tries_63 : decode cX0_tries 63 = .ok (.iinc 5 1, 3) := dk_132 5 1 (dk_at dksX0_tries_2 18 rfl rfl)
theorem dX0_tries_66 : decode cX0_tries 66 = .ok (.goto (-24), 3) := dk_167 255 232 (dk_at dksX0_tries_2 21 rfl rfl)
theorem dX0_tries_69 : decode cX0_tries 69 = .ok (.aload_n 0, 1) := dk_42 (dk_at dksX0_tries_3 0 rfl rfl)
theorem dX0_tries_70 : decode cX0_tries 70 = .ok (.getfield 233, 3) := dk_180 0 233 (dk_at dksX0_tries_3 1 rfl rfl)
theorem dX0_tries_73 : decode cX0_tries 73 = .ok (.iconst (-1), 1) := dk_2 (dk_at dksX0_tries_3 4 rfl rfl)
theorem dX0_tries_74 : decode cX0_tries 74 = .ok (.if_icmp .eq 13, 3) := dk_159 0 13 (dk_at dksX0_tries_3 5 rfl rfl)
theorem dX0_tries_77 : decode cX0_tries 77 = .ok (.iload 4, 2) := dk_21 4 (dk_at dksX0_tries_3 8 rfl rfl)
theorem dX0_tries_79 : decode cX0_tries 79 = .ok (.aload_n 0, 1) := dk_42 (dk_at dksX0_tries_3 10 rfl rfl)
theorem dX0_tries_80 : decode cX0_tries 80 = .ok (.getfield 233, 3) := dk_180 0 233 (dk_at dksX0_tries_3 11 rfl rfl)
theorem dX0_tries_83 : decode cX0_tries 83 = .ok (.if_icmp .lt 4, 3) := dk_161 0 4 (dk_at dksX0_tries_3 14 rfl rfl)
theorem dX0_tries_86 : decode cX0_tries 86 = .ok (.return_, 1) := dk_177 (dk_at dksX0_tries_3 17 rfl rfl)
theorem dX0_tries_87 : decode cX0_tries 87 = .ok (.aload_n 0, 1) := dk_42 (dk_at dksX0_tries_3 18 rfl rfl)
theorem dX0_tries_88 : decode cX0_tries 88 = .ok (.iload 4, 2) := dk_21 4 (dk_at dksX0_tries_3 19 rfl rfl)
theorem dX0_tries_90 : decode cX0_tries 90 = .ok (.putfield 233, 3) := dk_181 0 233 (dk_at dksX0_tries_3 21 rfl rfl)
theorem dX0_tries_93 : decode cX0_tries 93 = .ok (.iconst 0, 1) := dk_3 (dk_at dksX0_tries_4 0 rfl rfl)
theorem dX0_tries_94 : decode cX0_tries 94 = .ok (.istore 5, 2) := dk_54 5 (dk_at dksX0_tries_4 1 rfl rfl)
theorem dX0_tries_96 : decode cX0_tries 96 = .ok (.iload 5, 2) := dk_21 5 (dk_at dksX0_tries_4 3 rfl rfl)
theorem dX0_tries_98 : decode cX0_tries 98 = .ok (.iload_n 3, 1) := dk_29 (dk_at dksX0_tries_4 5 rfl rfl)
theorem dX0_tries_99 : decode cX0_tries 99 = .ok (.if_icmp .ge 23, 3) := dk_162 0 23 (dk_at dksX0_tries_4 6 rfl rfl)
theorem dX0_tries_102 : decode cX0_tries 102 = .ok (.aload_n 0, 1) := dk_42 (dk_at dksX0_tries_4 9 rfl rfl)
theorem dX0_tries_103 : decode cX0_tries 103 = .ok (.getfield 48, 3) := dk_180 0 48 (dk_at dksX0_tries_4 10 rfl rfl)
theorem dX0_tries_106 : decode cX0_tries 106 = .ok (.iload 5, 2) := dk_21 5 (dk_at dksX0_tries_4 13 rfl rfl)
theorem dX0_tries_108 : decode cX0_tries 108 = .ok (.aload_n 0, 1) := dk_42 (dk_at dksX0_tries_4 15 rfl rfl)
theorem dX0_tries_109 : decode cX0_tries 109 = .ok (.getfield 45, 3) := dk_180 0 45 (dk_at dksX0_tries_4 16 rfl rfl)
theorem dX0_tries_112 : decode cX0_tries 112 = .ok (.iload 5, 2) := dk_21 5 (dk_at dksX0_tries_4 19 rfl rfl)
theorem dX0_tries_114 : decode cX0_tries 114 = .ok (.iaload, 1) := dk_46 (dk_at dksX0_tries_4 21 rfl rfl)
theorem dX0_tries_115 : decode cX0_tries 115 = .ok (.iastore, 1) := dk_79 (dk_at dksX0_tries_4 22 rfl rfl)
theorem dX0_tries_116 : decode cX0_tries 116 = .ok (.iinc 5 1, 3) := dk_132 5 1 (dk_at dksX0_tries_5 0 rfl rfl)
theorem dX0_tries_119 : decode cX0_tries 119 = .ok (.goto (-23), 3) := dk_167 255 233 (dk_at dksX0_tries_5 3 rfl rfl)
theorem dX0_tries_122 : decode cX0_tries 122 = .ok (.return_, 1) := dk_177 (dk_at dksX0_tries_5 6 rfl rfl)
theorem dX0_tries_123 : decode cX0_tries 123 = .ok (.iconst 0, 1) := dk_3 (dk_at dksX0_tries_5 7 rfl rfl)
theorem dX0_tries_124 : decode cX0_tries 124 = .ok (.istore 4, 2) := dk_54 4 (dk_at dksX0_tries_5 8 rfl rfl)
theorem dX0_tries_126 : decode cX0_tries 126 = .ok (.iload 4, 2) := dk_21 4 (dk_at dksX0_tries_5 10 rfl rfl)
theorem dX0_tries_128 : decode cX0_tries 128 = .ok (.iload_n 3, 1) := dk_29 (dk_at dksX0_tries_5 12 rfl rfl)
theorem dX0_tries_129 : decode cX0_tries 129 = .ok (.if_icmp .ge 43, 3) := dk_162 0 43 (dk_at dksX0_tries_5 13 rfl rfl)
theorem dX0_tries_132 : decode cX0_tries 132 = .ok (.iload_n 2, 1) := dk_28 (dk_at dksX0_tries_5 16 rfl rfl)
theorem dX0_tries_133 : decode cX0_tries 133 = .ok (.iload 4, 2) := dk_21 4 (dk_at dksX0_tries_5 17 rfl rfl)
theorem dX0_tries_135 : decode cX0_tries 135 = .ok (.ishr, 1) := dk_122 (dk_at dksX0_tries_5 19 rfl rfl)
theorem dX0_tries_136 : decode cX0_tries 136 = .ok (.iconst 1, 1) := dk_4 (dk_at dksX0_tries_5 20 rfl rfl)
theorem dX0_tries_137 : decode cX0_tries 137 = .ok (.iand, 1) := dk_126 (dk_at dksX0_tries_5 21 rfl rfl)
theorem dX0_tries_138 : decode cX0_tries 138 = .ok (.iconst 1, 1) := dk_4 (dk_at dksX0_tries_5 22 rfl rfl)
theorem dX0_tries_139 : decode cX0_tries 139 = .ok (.if_icmp .ne 6, 3) := dk_160 0 6 (dk_at dksX0_tries_6 0 rfl rfl)
theorem dX0_tries_142 : decode cX0_tries 142 = .ok (.goto 24, 3) := dk_167 0 24 (dk_at dksX0_tries_6 3 rfl rfl)
theorem dX0_tries_145 : decode cX0_tries 145 = .ok (.aload_n 0, 1) := dk_42 (dk_at dksX0_tries_6 6 rfl rfl)
theorem dX0_tries_146 : decode cX0_tries 146 = .ok (.getfield 45, 3) := dk_180 0 45 (dk_at dksX0_tries_6 7 rfl rfl)
theorem dX0_tries_149 : decode cX0_tries 149 = .ok (.iload_n 1, 1) := dk_27 (dk_at dksX0_tries_6 10 rfl rfl)
theorem dX0_tries_150 : decode cX0_tries 150 = .ok (.iload 4, 2) := dk_21 4 (dk_at dksX0_tries_6 11 rfl rfl)
theorem dX0_tries_152 : decode cX0_tries 152 = .ok (.iastore, 1) := dk_79 (dk_at dksX0_tries_6 13 rfl rfl)
theorem dX0_tries_153 : decode cX0_tries 153 = .ok (.aload_n 0, 1) := dk_42 (dk_at dksX0_tries_6 14 rfl rfl)
theorem dX0_tries_154 : decode cX0_tries 154 = .ok (.iload_n 1, 1) := dk_27 (dk_at dksX0_tries_6 15 rfl rfl)
theorem dX0_tries_155 : decode cX0_tries 155 = .ok (.iconst 1, 1) := dk_4 (dk_at dksX0_tries_6 16 rfl rfl)
theorem dX0_tries_156 : decode cX0_tries 156 = .ok (.iadd, 1) := dk_96 (dk_at dksX0_tries_6 17 rfl rfl)
theorem dX0_tries_157 : decode cX0_tries 157 = .ok (.iload_n 2, 1) := dk_28 (dk_at dksX0_tries_6 18 rfl rfl)
theorem dX0_tries_158 : decode cX0_tries 158 = .ok (.iconst 1, 1) := dk_4 (dk_at dksX0_tries_6 19 rfl rfl)
theorem dX0_tries_159 : decode cX0_tries 159 = .ok (.iload 4, 2) := dk_21 4 (dk_at dksX0_tries_6 20 rfl rfl)
theorem dX0_tries_161 : decode cX0_tries 161 = .ok (.ishl, 1) := dk_120 (dk_at dksX0_tries_6 22 rfl rfl)
theorem dX0_tries_162 : decode cX0_tries 162 = .ok (.ior, 1) := dk_128 (dk_at dksX0_tries_6 23 rfl rfl)
theorem dX0_tries_163 : decode cX0_tries 163 = .ok (.invokevirtual 236, 3) := dk_182 0 236 (dk_at dksX0_tries_7 0 rfl rfl)
theorem dX0_tries_166 : decode cX0_tries 166 = .ok (.iinc 4 1, 3) := dk_132 4 1 (dk_at dksX0_tries_7 3 rfl rfl)
theorem dX0_tries_169 : decode cX0_tries 169 = .ok (.goto (-43), 3) := dk_167 255 213 (dk_at dksX0_tries_7 6 rfl rfl)
theorem dX0_tries_172 : decode cX0_tries 172 = .ok (.return_, 1) := dk_177 (dk_at dksX0_tries_7 9 rfl rfl)
abbrev cX0_rings : ByteArray := prog_1_method_42_code
def yX0_rings : MethodName := ⟨RX0, "rings", "(I)I"⟩
def dkwX0_rings_1 : List UInt8 := [184, 0, 252, 172]
abbrev dktX0_rings_1 : List UInt8 := dkwX0_rings_1 ++ []
def dkwX0_rings_0 : List UInt8 := [42, 27, 182, 0, 68, 77, 44, 198, 0, 11, 44, 180, 0, 89, 5, 162, 0, 7, 2, 167, 0, 8, 44, 2]
abbrev dktX0_rings_0 : List UInt8 := dkwX0_rings_0 ++ dktX0_rings_1
theorem dksX0_rings_0 : cX0_rings.data.toList.drop 0 = dktX0_rings_0 := by decide +kernel
theorem dksX0_rings_1 : cX0_rings.data.toList.drop 24 = dktX0_rings_1 := dk_seg dksX0_rings_0 24 rfl rfl
theorem dX0_rings_0 : decode cX0_rings 0 = .ok (.aload_n 0, 1) := dk_42 (dk_at dksX0_rings_0 0 rfl rfl)
theorem dX0_rings_1 : decode cX0_rings 1 = .ok (.iload_n 1, 1) := dk_27 (dk_at dksX0_rings_0 1 rfl rfl)
theorem dX0_rings_2 : decode cX0_rings 2 = .ok (.invokevirtual 68, 3) := dk_182 0 68 (dk_at dksX0_rings_0 2 rfl rfl)
theorem dX0_rings_5 : decode cX0_rings 5 = .ok (.astore_n 2, 1) := dk_77 (dk_at dksX0_rings_0 5 rfl rfl)
theorem dX0_rings_6 : decode cX0_rings 6 = .ok (.aload_n 2, 1) := dk_44 (dk_at dksX0_rings_0 6 rfl rfl)
theorem dX0_rings_7 : decode cX0_rings 7 = .ok (.ifnull 11, 3) := dk_198 0 11 (dk_at dksX0_rings_0 7 rfl rfl)
theorem dX0_rings_10 : decode cX0_rings 10 = .ok (.aload_n 2, 1) := dk_44 (dk_at dksX0_rings_0 10 rfl rfl)
theorem dX0_rings_11 : decode cX0_rings 11 = .ok (.getfield 89, 3) := dk_180 0 89 (dk_at dksX0_rings_0 11 rfl rfl)
theorem dX0_rings_14 : decode cX0_rings 14 = .ok (.iconst 2, 1) := dk_5 (dk_at dksX0_rings_0 14 rfl rfl)
theorem dX0_rings_15 : decode cX0_rings 15 = .ok (.if_icmp .ge 7, 3) := dk_162 0 7 (dk_at dksX0_rings_0 15 rfl rfl)
theorem dX0_rings_18 : decode cX0_rings 18 = .ok (.iconst (-1), 1) := dk_2 (dk_at dksX0_rings_0 18 rfl rfl)
theorem dX0_rings_19 : decode cX0_rings 19 = .ok (.goto 8, 3) := dk_167 0 8 (dk_at dksX0_rings_0 19 rfl rfl)
theorem dX0_rings_22 : decode cX0_rings 22 = .ok (.aload_n 2, 1) := dk_44 (dk_at dksX0_rings_0 22 rfl rfl)
theorem dX0_rings_23 : decode cX0_rings 23 = .ok (.iconst (-1), 1) := dk_2 (dk_at dksX0_rings_0 23 rfl rfl)
theorem dX0_rings_24 : decode cX0_rings 24 = .ok (.invokestatic 252, 3) := dk_184 0 252 (dk_at dksX0_rings_1 0 rfl rfl)
theorem dX0_rings_27 : decode cX0_rings 27 = .ok (.ireturn, 1) := dk_172 (dk_at dksX0_rings_1 3 rfl rfl)
abbrev cX0_rings_2 : ByteArray := prog_1_method_41_code
def yX0_rings_2 : MethodName := ⟨RX0, "rings", "(LJoinLoom$Table;I)I"⟩
def dkwX0_rings_2_7 : List UInt8 := [167, 255, 93, 27, 2, 160, 0, 7, 28, 167, 0, 4, 2, 172]
abbrev dktX0_rings_2_7 : List UInt8 := dkwX0_rings_2_7 ++ []
def dkwX0_rings_2_6 : List UInt8 := [27, 160, 0, 11, 29, 16, 40, 104, 21, 6, 96, 172, 132, 2, 1, 132, 6, 1, 167, 255, 132, 132, 3, 1]
abbrev dktX0_rings_2_6 : List UInt8 := dkwX0_rings_2_6 ++ dktX0_rings_2_7
def dkwX0_rings_2_5 : List UInt8 := [42, 42, 21, 6, 4, 182, 0, 92, 42, 29, 3, 182, 0, 92, 184, 0, 248, 154, 0, 6, 167, 0, 19, 28]
abbrev dktX0_rings_2_5 : List UInt8 := dkwX0_rings_2_5 ++ dktX0_rings_2_6
def dkwX0_rings_2_4 : List UInt8 := [184, 0, 244, 148, 156, 0, 59, 42, 21, 6, 4, 182, 0, 92, 42, 21, 6, 3, 182, 0, 92, 159, 0, 42]
abbrev dktX0_rings_2_4 : List UInt8 := dkwX0_rings_2_4 ++ dktX0_rings_2_5
def dkwX0_rings_2_3 : List UInt8 := [21, 6, 3, 182, 0, 92, 42, 29, 4, 182, 0, 92, 160, 0, 75, 22, 4, 42, 21, 6, 4, 182, 0, 92]
abbrev dktX0_rings_2_3 : List UInt8 := dkwX0_rings_2_3 ++ dktX0_rings_2_4
def dkwX0_rings_2_2 : List UInt8 := [42, 29, 4, 182, 0, 92, 184, 0, 244, 148, 156, 0, 106, 42, 21, 6, 184, 0, 240, 153, 0, 91, 42]
abbrev dktX0_rings_2_2 : List UInt8 := dkwX0_rings_2_2 ++ dktX0_rings_2_3
def dkwX0_rings_2_1 : List UInt8 := [29, 3, 182, 0, 92, 184, 0, 244, 55, 4, 3, 54, 6, 21, 6, 42, 180, 0, 75, 162, 0, 121, 22, 4]
abbrev dktX0_rings_2_1 : List UInt8 := dkwX0_rings_2_1 ++ dktX0_rings_2_2
def dkwX0_rings_2_0 : List UInt8 := [3, 61, 3, 62, 29, 42, 180, 0, 75, 162, 0, 161, 42, 29, 184, 0, 240, 154, 0, 6, 167, 0, 144, 42]
abbrev dktX0_rings_2_0 : List UInt8 := dkwX0_rings_2_0 ++ dktX0_rings_2_1
theorem dksX0_rings_2_0 : cX0_rings_2.data.toList.drop 0 = dktX0_rings_2_0 := by decide +kernel
theorem dksX0_rings_2_1 : cX0_rings_2.data.toList.drop 24 = dktX0_rings_2_1 := dk_seg dksX0_rings_2_0 24 rfl rfl
theorem dksX0_rings_2_2 : cX0_rings_2.data.toList.drop 48 = dktX0_rings_2_2 := dk_seg dksX0_rings_2_1 24 rfl rfl
theorem dksX0_rings_2_3 : cX0_rings_2.data.toList.drop 71 = dktX0_rings_2_3 := dk_seg dksX0_rings_2_2 23 rfl rfl
theorem dksX0_rings_2_4 : cX0_rings_2.data.toList.drop 95 = dktX0_rings_2_4 := dk_seg dksX0_rings_2_3 24 rfl rfl
theorem dksX0_rings_2_5 : cX0_rings_2.data.toList.drop 119 = dktX0_rings_2_5 := dk_seg dksX0_rings_2_4 24 rfl rfl
theorem dksX0_rings_2_6 : cX0_rings_2.data.toList.drop 143 = dktX0_rings_2_6 := dk_seg dksX0_rings_2_5 24 rfl rfl
theorem dksX0_rings_2_7 : cX0_rings_2.data.toList.drop 167 = dktX0_rings_2_7 := dk_seg dksX0_rings_2_6 24 rfl rfl
theorem dX0_rings_2_0 : decode cX0_rings_2 0 = .ok (.iconst 0, 1) := dk_3 (dk_at dksX0_rings_2_0 0 rfl rfl)
theorem dX0_rings_2_1 : decode cX0_rings_2 1 = .ok (.istore_n 2, 1) := dk_61 (dk_at dksX0_rings_2_0 1 rfl rfl)
theorem dX0_rings_2_2 : decode cX0_rings_2 2 = .ok (.iconst 0, 1) := dk_3 (dk_at dksX0_rings_2_0 2 rfl rfl)
theorem dX0_rings_2_3 : decode cX0_rings_2 3 = .ok (.istore_n 3, 1) := dk_62 (dk_at dksX0_rings_2_0 3 rfl rfl)
theorem dX0_rings_2_4 : decode cX0_rings_2 4 = .ok (.iload_n 3, 1) := dk_29 (dk_at dksX0_rings_2_0 4 rfl rfl)
theorem dX0_rings_2_5 : decode cX0_rings_2 5 = .ok (.aload_n 0, 1) := dk_42 (dk_at dksX0_rings_2_0 5 rfl rfl)
theorem dX0_rings_2_6 : decode cX0_rings_2 6 = .ok (.getfield 75, 3) := dk_180 0 75 (dk_at dksX0_rings_2_0 6 rfl rfl)
theorem dX0_rings_2_9 : decode cX0_rings_2 9 = .ok (.if_icmp .ge 161, 3) := dk_162 0 161 (dk_at dksX0_rings_2_0 9 rfl rfl)
theorem dX0_rings_2_12 : decode cX0_rings_2 12 = .ok (.aload_n 0, 1) := dk_42 (dk_at dksX0_rings_2_0 12 rfl rfl)
theorem dX0_rings_2_13 : decode cX0_rings_2 13 = .ok (.iload_n 3, 1) := dk_29 (dk_at dksX0_rings_2_0 13 rfl rfl)
theorem dX0_rings_2_14 : decode cX0_rings_2 14 = .ok (.invokestatic 240, 3) := dk_184 0 240 (dk_at dksX0_rings_2_0 14 rfl rfl)
theorem dX0_rings_2_17 : decode cX0_rings_2 17 = .ok (.ifCond .ne 6, 3) := dk_154 0 6 (dk_at dksX0_rings_2_0 17 rfl rfl)
theorem dX0_rings_2_20 : decode cX0_rings_2 20 = .ok (.goto 144, 3) := dk_167 0 144 (dk_at dksX0_rings_2_0 20 rfl rfl)
theorem dX0_rings_2_23 : decode cX0_rings_2 23 = .ok (.aload_n 0, 1) := dk_42 (dk_at dksX0_rings_2_0 23 rfl rfl)
theorem dX0_rings_2_24 : decode cX0_rings_2 24 = .ok (.iload_n 3, 1) := dk_29 (dk_at dksX0_rings_2_1 0 rfl rfl)
theorem dX0_rings_2_25 : decode cX0_rings_2 25 = .ok (.iconst 0, 1) := dk_3 (dk_at dksX0_rings_2_1 1 rfl rfl)
theorem dX0_rings_2_26 : decode cX0_rings_2 26 = .ok (.invokevirtual 92, 3) := dk_182 0 92 (dk_at dksX0_rings_2_1 2 rfl rfl)
theorem dX0_rings_2_29 : decode cX0_rings_2 29 = .ok (.invokestatic 244, 3) := dk_184 0 244 (dk_at dksX0_rings_2_1 5 rfl rfl)
theorem dX0_rings_2_32 : decode cX0_rings_2 32 = .ok (.lstore 4, 2) := dk_55 4 (dk_at dksX0_rings_2_1 8 rfl rfl)
theorem dX0_rings_2_34 : decode cX0_rings_2 34 = .ok (.iconst 0, 1) := dk_3 (dk_at dksX0_rings_2_1 10 rfl rfl)
theorem dX0_rings_2_35 : decode cX0_rings_2 35 = .ok (.istore 6, 2) := dk_54 6 (dk_at dksX0_rings_2_1 11 rfl rfl)
theorem dX0_rings_2_37 : decode cX0_rings_2 37 = .ok (.iload 6, 2) := dk_21 6 (dk_at dksX0_rings_2_1 13 rfl rfl)
theorem dX0_rings_2_39 : decode cX0_rings_2 39 = .ok (.aload_n 0, 1) := dk_42 (dk_at dksX0_rings_2_1 15 rfl rfl)
theorem dX0_rings_2_40 : decode cX0_rings_2 40 = .ok (.getfield 75, 3) := dk_180 0 75 (dk_at dksX0_rings_2_1 16 rfl rfl)
theorem dX0_rings_2_43 : decode cX0_rings_2 43 = .ok (.if_icmp .ge 121, 3) := dk_162 0 121 (dk_at dksX0_rings_2_1 19 rfl rfl)
theorem dX0_rings_2_46 : decode cX0_rings_2 46 = .ok (.lload 4, 2) := dk_22 4 (dk_at dksX0_rings_2_1 22 rfl rfl)
theorem dX0_rings_2_48 : decode cX0_rings_2 48 = .ok (.aload_n 0, 1) := dk_42 (dk_at dksX0_rings_2_2 0 rfl rfl)
theorem dX0_rings_2_49 : decode cX0_rings_2 49 = .ok (.iload_n 3, 1) := dk_29 (dk_at dksX0_rings_2_2 1 rfl rfl)
theorem dX0_rings_2_50 : decode cX0_rings_2 50 = .ok (.iconst 1, 1) := dk_4 (dk_at dksX0_rings_2_2 2 rfl rfl)
theorem dX0_rings_2_51 : decode cX0_rings_2 51 = .ok (.invokevirtual 92, 3) := dk_182 0 92 (dk_at dksX0_rings_2_2 3 rfl rfl)
theorem dX0_rings_2_54 : decode cX0_rings_2 54 = .ok (.invokestatic 244, 3) := dk_184 0 244 (dk_at dksX0_rings_2_2 6 rfl rfl)
theorem dX0_rings_2_57 : decode cX0_rings_2 57 = .ok (.lcmp, 1) := dk_148 (dk_at dksX0_rings_2_2 9 rfl rfl)
theorem dX0_rings_2_58 : decode cX0_rings_2 58 = .ok (.ifCond .ge 106, 3) := dk_156 0 106 (dk_at dksX0_rings_2_2 10 rfl rfl)
theorem dX0_rings_2_61 : decode cX0_rings_2 61 = .ok (.aload_n 0, 1) := dk_42 (dk_at dksX0_rings_2_2 13 rfl rfl)
theorem dX0_rings_2_62 : decode cX0_rings_2 62 = .ok (.iload 6, 2) := dk_21 6 (dk_at dksX0_rings_2_2 14 rfl rfl)
theorem dX0_rings_2_64 : decode cX0_rings_2 64 = .ok (.invokestatic 240, 3) := dk_184 0 240 (dk_at dksX0_rings_2_2 16 rfl rfl)
theorem dX0_rings_2_67 : decode cX0_rings_2 67 = .ok (.ifCond .eq 91, 3) := dk_153 0 91 (dk_at dksX0_rings_2_2 19 rfl rfl)
theorem dX0_rings_2_70 : decode cX0_rings_2 70 = .ok (.aload_n 0, 1) := dk_42 (dk_at dksX0_rings_2_2 22 rfl rfl)
theorem dX0_rings_2_71 : decode cX0_rings_2 71 = .ok (.iload 6, 2) := dk_21 6 (dk_at dksX0_rings_2_3 0 rfl rfl)
theorem dX0_rings_2_73 : decode cX0_rings_2 73 = .ok (.iconst 0, 1) := dk_3 (dk_at dksX0_rings_2_3 2 rfl rfl)
theorem dX0_rings_2_74 : decode cX0_rings_2 74 = .ok (.invokevirtual 92, 3) := dk_182 0 92 (dk_at dksX0_rings_2_3 3 rfl rfl)
theorem dX0_rings_2_77 : decode cX0_rings_2 77 = .ok (.aload_n 0, 1) := dk_42 (dk_at dksX0_rings_2_3 6 rfl rfl)
theorem dX0_rings_2_78 : decode cX0_rings_2 78 = .ok (.iload_n 3, 1) := dk_29 (dk_at dksX0_rings_2_3 7 rfl rfl)
theorem dX0_rings_2_79 : decode cX0_rings_2 79 = .ok (.iconst 1, 1) := dk_4 (dk_at dksX0_rings_2_3 8 rfl rfl)
theorem dX0_rings_2_80 : decode cX0_rings_2 80 = .ok (.invokevirtual 92, 3) := dk_182 0 92 (dk_at dksX0_rings_2_3 9 rfl rfl)
theorem dX0_rings_2_83 : decode cX0_rings_2 83 = .ok (.if_icmp .ne 75, 3) := dk_160 0 75 (dk_at dksX0_rings_2_3 12 rfl rfl)
theorem dX0_rings_2_86 : decode cX0_rings_2 86 = .ok (.lload 4, 2) := dk_22 4 (dk_at dksX0_rings_2_3 15 rfl rfl)
theorem dX0_rings_2_88 : decode cX0_rings_2 88 = .ok (.aload_n 0, 1) := dk_42 (dk_at dksX0_rings_2_3 17 rfl rfl)
theorem dX0_rings_2_89 : decode cX0_rings_2 89 = .ok (.iload 6, 2) := dk_21 6 (dk_at dksX0_rings_2_3 18 rfl rfl)
theorem dX0_rings_2_91 : decode cX0_rings_2 91 = .ok (.iconst 1, 1) := dk_4 (dk_at dksX0_rings_2_3 20 rfl rfl)
theorem dX0_rings_2_92 : decode cX0_rings_2 92 = .ok (.invokevirtual 92, 3) := dk_182 0 92 (dk_at dksX0_rings_2_3 21 rfl rfl)
theorem dX0_rings_2_95 : decode cX0_rings_2 95 = .ok (.invokestatic 244, 3) := dk_184 0 244 (dk_at dksX0_rings_2_4 0 rfl rfl)
theorem dX0_rings_2_98 : decode cX0_rings_2 98 = .ok (.lcmp, 1) := dk_148 (dk_at dksX0_rings_2_4 3 rfl rfl)
theorem dX0_rings_2_99 : decode cX0_rings_2 99 = .ok (.ifCond .ge 59, 3) := dk_156 0 59 (dk_at dksX0_rings_2_4 4 rfl rfl)
theorem dX0_rings_2_102 : decode cX0_rings_2 102 = .ok (.aload_n 0, 1) := dk_42 (dk_at dksX0_rings_2_4 7 rfl rfl)
theorem dX0_rings_2_103 : decode cX0_rings_2 103 = .ok (.iload 6, 2) := dk_21 6 (dk_at dksX0_rings_2_4 8 rfl rfl)
theorem dX0_rings_2_105 : decode cX0_rings_2 105 = .ok (.iconst 1, 1) := dk_4 (dk_at dksX0_rings_2_4 10 rfl rfl)
theorem dX0_rings_2_106 : decode cX0_rings_2 106 = .ok (.invokevirtual 92, 3) := dk_182 0 92 (dk_at dksX0_rings_2_4 11 rfl rfl)
theorem dX0_rings_2_109 : decode cX0_rings_2 109 = .ok (.aload_n 0, 1) := dk_42 (dk_at dksX0_rings_2_4 14 rfl rfl)
theorem dX0_rings_2_110 : decode cX0_rings_2 110 = .ok (.iload 6, 2) := dk_21 6 (dk_at dksX0_rings_2_4 15 rfl rfl)
theorem dX0_rings_2_112 : decode cX0_rings_2 112 = .ok (.iconst 0, 1) := dk_3 (dk_at dksX0_rings_2_4 17 rfl rfl)
theorem dX0_rings_2_113 : decode cX0_rings_2 113 = .ok (.invokevirtual 92, 3) := dk_182 0 92 (dk_at dksX0_rings_2_4 18 rfl rfl)
theorem dX0_rings_2_116 : decode cX0_rings_2 116 = .ok (.if_icmp .eq 42, 3) := dk_159 0 42 (dk_at dksX0_rings_2_4 21 rfl rfl)
theorem dX0_rings_2_119 : decode cX0_rings_2 119 = .ok (.aload_n 0, 1) := dk_42 (dk_at dksX0_rings_2_5 0 rfl rfl)
theorem dX0_rings_2_120 : decode cX0_rings_2 120 = .ok (.aload_n 0, 1) := dk_42 (dk_at dksX0_rings_2_5 1 rfl rfl)
theorem dX0_rings_2_121 : decode cX0_rings_2 121 = .ok (.iload 6, 2) := dk_21 6 (dk_at dksX0_rings_2_5 2 rfl rfl)
theorem dX0_rings_2_123 : decode cX0_rings_2 123 = .ok (.iconst 1, 1) := dk_4 (dk_at dksX0_rings_2_5 4 rfl rfl)
theorem dX0_rings_2_124 : decode cX0_rings_2 124 = .ok (.invokevirtual 92, 3) := dk_182 0 92 (dk_at dksX0_rings_2_5 5 rfl rfl)
theorem dX0_rings_2_127 : decode cX0_rings_2 127 = .ok (.aload_n 0, 1) := dk_42 (dk_at dksX0_rings_2_5 8 rfl rfl)
theorem dX0_rings_2_128 : decode cX0_rings_2 128 = .ok (.iload_n 3, 1) := dk_29 (dk_at dksX0_rings_2_5 9 rfl rfl)
theorem dX0_rings_2_129 : decode cX0_rings_2 129 = .ok (.iconst 0, 1) := dk_3 (dk_at dksX0_rings_2_5 10 rfl rfl)
theorem dX0_rings_2_130 : decode cX0_rings_2 130 = .ok (.invokevirtual 92, 3) := dk_182 0 92 (dk_at dksX0_rings_2_5 11 rfl rfl)
theorem dX0_rings_2_133 : decode cX0_rings_2 133 = .ok (.invokestatic 248, 3) := dk_184 0 248 (dk_at dksX0_rings_2_5 14 rfl rfl)
theorem dX0_rings_2_136 : decode cX0_rings_2 136 = .ok (.ifCond .ne 6, 3) := dk_154 0 6 (dk_at dksX0_rings_2_5 17 rfl rfl)
theorem dX0_rings_2_139 : decode cX0_rings_2 139 = .ok (.goto 19, 3) := dk_167 0 19 (dk_at dksX0_rings_2_5 20 rfl rfl)
theorem dX0_rings_2_142 : decode cX0_rings_2 142 = .ok (.iload_n 2, 1) := dk_28 (dk_at dksX0_rings_2_5 23 rfl rfl)
theorem dX0_rings_2_143 : decode cX0_rings_2 143 = .ok (.iload_n 1, 1) := dk_27 (dk_at dksX0_rings_2_6 0 rfl rfl)
theorem dX0_rings_2_144 : decode cX0_rings_2 144 = .ok (.if_icmp .ne 11, 3) := dk_160 0 11 (dk_at dksX0_rings_2_6 1 rfl rfl)
theorem dX0_rings_2_147 : decode cX0_rings_2 147 = .ok (.iload_n 3, 1) := dk_29 (dk_at dksX0_rings_2_6 4 rfl rfl)
theorem dX0_rings_2_148 : decode cX0_rings_2 148 = .ok (.bipush 40, 2) := dk_16 40 (dk_at dksX0_rings_2_6 5 rfl rfl)
theorem dX0_rings_2_150 : decode cX0_rings_2 150 = .ok (.imul, 1) := dk_104 (dk_at dksX0_rings_2_6 7 rfl rfl)
theorem dX0_rings_2_151 : decode cX0_rings_2 151 = .ok (.iload 6, 2) := dk_21 6 (dk_at dksX0_rings_2_6 8 rfl rfl)
theorem dX0_rings_2_153 : decode cX0_rings_2 153 = .ok (.iadd, 1) := dk_96 (dk_at dksX0_rings_2_6 10 rfl rfl)
theorem dX0_rings_2_154 : decode cX0_rings_2 154 = .ok (.ireturn, 1) := dk_172 (dk_at dksX0_rings_2_6 11 rfl rfl)
theorem dX0_rings_2_155 : decode cX0_rings_2 155 = .ok (.iinc 2 1, 3) := dk_132 2 1 (dk_at dksX0_rings_2_6 12 rfl rfl)
theorem dX0_rings_2_158 : decode cX0_rings_2 158 = .ok (.iinc 6 1, 3) := dk_132 6 1 (dk_at dksX0_rings_2_6 15 rfl rfl)
theorem dX0_rings_2_161 : decode cX0_rings_2 161 = .ok (.goto (-124), 3) := dk_167 255 132 (dk_at dksX0_rings_2_6 18 rfl rfl)
theorem dX0_rings_2_164 : decode cX0_rings_2 164 = .ok (.iinc 3 1, 3) := dk_132 3 1 (dk_at dksX0_rings_2_6 21 rfl rfl)
theorem dX0_rings_2_167 : decode cX0_rings_2 167 = .ok (.goto (-163), 3) := dk_167 255 93 (dk_at dksX0_rings_2_7 0 rfl rfl)
theorem dX0_rings_2_170 : decode cX0_rings_2 170 = .ok (.iload_n 1, 1) := dk_27 (dk_at dksX0_rings_2_7 3 rfl rfl)
theorem dX0_rings_2_171 : decode cX0_rings_2 171 = .ok (.iconst (-1), 1) := dk_2 (dk_at dksX0_rings_2_7 4 rfl rfl)
theorem dX0_rings_2_172 : decode cX0_rings_2 172 = .ok (.if_icmp .ne 7, 3) := dk_160 0 7 (dk_at dksX0_rings_2_7 5 rfl rfl)
theorem dX0_rings_2_175 : decode cX0_rings_2 175 = .ok (.iload_n 2, 1) := dk_28 (dk_at dksX0_rings_2_7 8 rfl rfl)
theorem dX0_rings_2_176 : decode cX0_rings_2 176 = .ok (.goto 4, 3) := dk_167 0 4 (dk_at dksX0_rings_2_7 9 rfl rfl)
theorem dX0_rings_2_179 : decode cX0_rings_2 179 = .ok (.iconst (-1), 1) := dk_2 (dk_at dksX0_rings_2_7 12 rfl rfl)
theorem dX0_rings_2_180 : decode cX0_rings_2 180 = .ok (.ireturn, 1) := dk_172 (dk_at dksX0_rings_2_7 13 rfl rfl)
abbrev cX0_isFirst : ByteArray := prog_1_method_40_code
def yX0_isFirst : MethodName := ⟨RX0, "isFirst", "(LJoinLoom$Table;I)Z"⟩
def dkwX0_isFirst_1 : List UInt8 := [182, 0, 92, 42, 27, 4, 100, 4, 182, 0, 92, 159, 0, 7, 4, 167, 0, 4, 3, 172]
abbrev dktX0_isFirst_1 : List UInt8 := dkwX0_isFirst_1 ++ []
def dkwX0_isFirst_0 : List UInt8 := [27, 153, 0, 37, 42, 27, 3, 182, 0, 92, 42, 27, 4, 100, 3, 182, 0, 92, 160, 0, 20, 42, 27, 4]
abbrev dktX0_isFirst_0 : List UInt8 := dkwX0_isFirst_0 ++ dktX0_isFirst_1
theorem dksX0_isFirst_0 : cX0_isFirst.data.toList.drop 0 = dktX0_isFirst_0 := by decide +kernel
theorem dksX0_isFirst_1 : cX0_isFirst.data.toList.drop 24 = dktX0_isFirst_1 := dk_seg dksX0_isFirst_0 24 rfl rfl
theorem dX0_isFirst_0 : decode cX0_isFirst 0 = .ok (.iload_n 1, 1) := dk_27 (dk_at dksX0_isFirst_0 0 rfl rfl)
theorem dX0_isFirst_1 : decode cX0_isFirst 1 = .ok (.ifCond .eq 37, 3) := dk_153 0 37 (dk_at dksX0_isFirst_0 1 rfl rfl)
theorem dX0_isFirst_4 : decode cX0_isFirst 4 = .ok (.aload_n 0, 1) := dk_42 (dk_at dksX0_isFirst_0 4 rfl rfl)
theorem dX0_isFirst_5 : decode cX0_isFirst 5 = .ok (.iload_n 1, 1) := dk_27 (dk_at dksX0_isFirst_0 5 rfl rfl)
theorem dX0_isFirst_6 : decode cX0_isFirst 6 = .ok (.iconst 0, 1) := dk_3 (dk_at dksX0_isFirst_0 6 rfl rfl)
theorem dX0_isFirst_7 : decode cX0_isFirst 7 = .ok (.invokevirtual 92, 3) := dk_182 0 92 (dk_at dksX0_isFirst_0 7 rfl rfl)
theorem dX0_isFirst_10 : decode cX0_isFirst 10 = .ok (.aload_n 0, 1) := dk_42 (dk_at dksX0_isFirst_0 10 rfl rfl)
theorem dX0_isFirst_11 : decode cX0_isFirst 11 = .ok (.iload_n 1, 1) := dk_27 (dk_at dksX0_isFirst_0 11 rfl rfl)
theorem dX0_isFirst_12 : decode cX0_isFirst 12 = .ok (.iconst 1, 1) := dk_4 (dk_at dksX0_isFirst_0 12 rfl rfl)
theorem dX0_isFirst_13 : decode cX0_isFirst 13 = .ok (.isub, 1) := dk_100 (dk_at dksX0_isFirst_0 13 rfl rfl)
theorem dX0_isFirst_14 : decode cX0_isFirst 14 = .ok (.iconst 0, 1) := dk_3 (dk_at dksX0_isFirst_0 14 rfl rfl)
theorem dX0_isFirst_15 : decode cX0_isFirst 15 = .ok (.invokevirtual 92, 3) := dk_182 0 92 (dk_at dksX0_isFirst_0 15 rfl rfl)
theorem dX0_isFirst_18 : decode cX0_isFirst 18 = .ok (.if_icmp .ne 20, 3) := dk_160 0 20 (dk_at dksX0_isFirst_0 18 rfl rfl)
theorem dX0_isFirst_21 : decode cX0_isFirst 21 = .ok (.aload_n 0, 1) := dk_42 (dk_at dksX0_isFirst_0 21 rfl rfl)
theorem dX0_isFirst_22 : decode cX0_isFirst 22 = .ok (.iload_n 1, 1) := dk_27 (dk_at dksX0_isFirst_0 22 rfl rfl)
theorem dX0_isFirst_23 : decode cX0_isFirst 23 = .ok (.iconst 1, 1) := dk_4 (dk_at dksX0_isFirst_0 23 rfl rfl)
theorem dX0_isFirst_24 : decode cX0_isFirst 24 = .ok (.invokevirtual 92, 3) := dk_182 0 92 (dk_at dksX0_isFirst_1 0 rfl rfl)
theorem dX0_isFirst_27 : decode cX0_isFirst 27 = .ok (.aload_n 0, 1) := dk_42 (dk_at dksX0_isFirst_1 3 rfl rfl)
theorem dX0_isFirst_28 : decode cX0_isFirst 28 = .ok (.iload_n 1, 1) := dk_27 (dk_at dksX0_isFirst_1 4 rfl rfl)
theorem dX0_isFirst_29 : decode cX0_isFirst 29 = .ok (.iconst 1, 1) := dk_4 (dk_at dksX0_isFirst_1 5 rfl rfl)
theorem dX0_isFirst_30 : decode cX0_isFirst 30 = .ok (.isub, 1) := dk_100 (dk_at dksX0_isFirst_1 6 rfl rfl)
theorem dX0_isFirst_31 : decode cX0_isFirst 31 = .ok (.iconst 1, 1) := dk_4 (dk_at dksX0_isFirst_1 7 rfl rfl)
theorem dX0_isFirst_32 : decode cX0_isFirst 32 = .ok (.invokevirtual 92, 3) := dk_182 0 92 (dk_at dksX0_isFirst_1 8 rfl rfl)
theorem dX0_isFirst_35 : decode cX0_isFirst 35 = .ok (.if_icmp .eq 7, 3) := dk_159 0 7 (dk_at dksX0_isFirst_1 11 rfl rfl)
theorem dX0_isFirst_38 : decode cX0_isFirst 38 = .ok (.iconst 1, 1) := dk_4 (dk_at dksX0_isFirst_1 14 rfl rfl)
theorem dX0_isFirst_39 : decode cX0_isFirst 39 = .ok (.goto 4, 3) := dk_167 0 4 (dk_at dksX0_isFirst_1 15 rfl rfl)
theorem dX0_isFirst_42 : decode cX0_isFirst 42 = .ok (.iconst 0, 1) := dk_3 (dk_at dksX0_isFirst_1 18 rfl rfl)
theorem dX0_isFirst_43 : decode cX0_isFirst 43 = .ok (.ireturn, 1) := dk_172 (dk_at dksX0_isFirst_1 19 rfl rfl)
abbrev cX0_leads : ByteArray := prog_1_method_39_code
def yX0_leads : MethodName := ⟨RX0, "leads", "(LJoinLoom$Table;II)Z"⟩
def dkwX0_leads_1 : List UInt8 := [182, 0, 92, 28, 160, 0, 5, 4, 172, 132, 3, 1, 167, 255, 223, 3, 172]
abbrev dktX0_leads_1 : List UInt8 := dkwX0_leads_1 ++ []
def dkwX0_leads_0 : List UInt8 := [3, 62, 29, 42, 180, 0, 75, 162, 0, 31, 42, 29, 3, 182, 0, 92, 27, 160, 0, 15, 42, 29, 4]
abbrev dktX0_leads_0 : List UInt8 := dkwX0_leads_0 ++ dktX0_leads_1
theorem dksX0_leads_0 : cX0_leads.data.toList.drop 0 = dktX0_leads_0 := by decide +kernel
theorem dksX0_leads_1 : cX0_leads.data.toList.drop 23 = dktX0_leads_1 := dk_seg dksX0_leads_0 23 rfl rfl
theorem dX0_leads_0 : decode cX0_leads 0 = .ok (.iconst 0, 1) := dk_3 (dk_at dksX0_leads_0 0 rfl rfl)
theorem dX0_leads_1 : decode cX0_leads 1 = .ok (.istore_n 3, 1) := dk_62 (dk_at dksX0_leads_0 1 rfl rfl)
theorem dX0_leads_2 : decode cX0_leads 2 = .ok (.iload_n 3, 1) := dk_29 (dk_at dksX0_leads_0 2 rfl rfl)
theorem dX0_leads_3 : decode cX0_leads 3 = .ok (.aload_n 0, 1) := dk_42 (dk_at dksX0_leads_0 3 rfl rfl)
theorem dX0_leads_4 : decode cX0_leads 4 = .ok (.getfield 75, 3) := dk_180 0 75 (dk_at dksX0_leads_0 4 rfl rfl)
theorem dX0_leads_7 : decode cX0_leads 7 = .ok (.if_icmp .ge 31, 3) := dk_162 0 31 (dk_at dksX0_leads_0 7 rfl rfl)
theorem dX0_leads_10 : decode cX0_leads 10 = .ok (.aload_n 0, 1) := dk_42 (dk_at dksX0_leads_0 10 rfl rfl)
theorem dX0_leads_11 : decode cX0_leads 11 = .ok (.iload_n 3, 1) := dk_29 (dk_at dksX0_leads_0 11 rfl rfl)
theorem dX0_leads_12 : decode cX0_leads 12 = .ok (.iconst 0, 1) := dk_3 (dk_at dksX0_leads_0 12 rfl rfl)
theorem dX0_leads_13 : decode cX0_leads 13 = .ok (.invokevirtual 92, 3) := dk_182 0 92 (dk_at dksX0_leads_0 13 rfl rfl)
theorem dX0_leads_16 : decode cX0_leads 16 = .ok (.iload_n 1, 1) := dk_27 (dk_at dksX0_leads_0 16 rfl rfl)
theorem dX0_leads_17 : decode cX0_leads 17 = .ok (.if_icmp .ne 15, 3) := dk_160 0 15 (dk_at dksX0_leads_0 17 rfl rfl)
theorem dX0_leads_20 : decode cX0_leads 20 = .ok (.aload_n 0, 1) := dk_42 (dk_at dksX0_leads_0 20 rfl rfl)
theorem dX0_leads_21 : decode cX0_leads 21 = .ok (.iload_n 3, 1) := dk_29 (dk_at dksX0_leads_0 21 rfl rfl)
theorem dX0_leads_22 : decode cX0_leads 22 = .ok (.iconst 1, 1) := dk_4 (dk_at dksX0_leads_0 22 rfl rfl)
theorem dX0_leads_23 : decode cX0_leads 23 = .ok (.invokevirtual 92, 3) := dk_182 0 92 (dk_at dksX0_leads_1 0 rfl rfl)
theorem dX0_leads_26 : decode cX0_leads 26 = .ok (.iload_n 2, 1) := dk_28 (dk_at dksX0_leads_1 3 rfl rfl)
theorem dX0_leads_27 : decode cX0_leads 27 = .ok (.if_icmp .ne 5, 3) := dk_160 0 5 (dk_at dksX0_leads_1 4 rfl rfl)
theorem dX0_leads_30 : decode cX0_leads 30 = .ok (.iconst 1, 1) := dk_4 (dk_at dksX0_leads_1 7 rfl rfl)
theorem dX0_leads_31 : decode cX0_leads 31 = .ok (.ireturn, 1) := dk_172 (dk_at dksX0_leads_1 8 rfl rfl)
theorem dX0_leads_32 : decode cX0_leads 32 = .ok (.iinc 3 1, 3) := dk_132 3 1 (dk_at dksX0_leads_1 9 rfl rfl)
theorem dX0_leads_35 : decode cX0_leads 35 = .ok (.goto (-33), 3) := dk_167 255 223 (dk_at dksX0_leads_1 12 rfl rfl)
theorem dX0_leads_38 : decode cX0_leads 38 = .ok (.iconst 0, 1) := dk_3 (dk_at dksX0_leads_1 15 rfl rfl)
theorem dX0_leads_39 : decode cX0_leads 39 = .ok (.ireturn, 1) := dk_172 (dk_at dksX0_leads_1 16 rfl rfl)
abbrev cX0_ring : ByteArray := prog_1_method_43_code
def yX0_ring : MethodName := ⟨RX0, "ring", "(III)I"⟩
def dkwX0_ring_4 : List UInt8 := [167, 0, 11, 25, 4, 21, 7, 4, 182, 0, 92, 172]
abbrev dktX0_ring_4 : List UInt8 := dkwX0_ring_4 ++ []
def dkwX0_ring_3 : List UInt8 := [25, 4, 21, 6, 3, 182, 0, 92, 167, 0, 27, 29, 4, 160, 0, 14, 25, 4, 21, 6, 4, 182, 0, 92]
abbrev dktX0_ring_3 : List UInt8 := dkwX0_ring_3 ++ dktX0_ring_4
def dkwX0_ring_2 : List UInt8 := [2, 160, 0, 5, 3, 172, 21, 5, 16, 40, 108, 54, 6, 21, 5, 16, 40, 112, 54, 7, 29, 154, 0, 14]
abbrev dktX0_ring_2 : List UInt8 := dkwX0_ring_2 ++ dktX0_ring_3
def dkwX0_ring_1 : List UInt8 := [155, 0, 12, 29, 3, 5, 184, 0, 51, 154, 0, 5, 3, 172, 25, 4, 28, 184, 0, 252, 54, 5, 21, 5]
abbrev dktX0_ring_1 : List UInt8 := dkwX0_ring_1 ++ dktX0_ring_2
def dkwX0_ring_0 : List UInt8 := [42, 27, 182, 0, 68, 58, 4, 25, 4, 198, 0, 25, 25, 4, 180, 0, 89, 5, 161, 0, 16, 28]
abbrev dktX0_ring_0 : List UInt8 := dkwX0_ring_0 ++ dktX0_ring_1
theorem dksX0_ring_0 : cX0_ring.data.toList.drop 0 = dktX0_ring_0 := by decide +kernel
theorem dksX0_ring_1 : cX0_ring.data.toList.drop 22 = dktX0_ring_1 := dk_seg dksX0_ring_0 22 rfl rfl
theorem dksX0_ring_2 : cX0_ring.data.toList.drop 46 = dktX0_ring_2 := dk_seg dksX0_ring_1 24 rfl rfl
theorem dksX0_ring_3 : cX0_ring.data.toList.drop 70 = dktX0_ring_3 := dk_seg dksX0_ring_2 24 rfl rfl
theorem dksX0_ring_4 : cX0_ring.data.toList.drop 94 = dktX0_ring_4 := dk_seg dksX0_ring_3 24 rfl rfl
theorem dX0_ring_0 : decode cX0_ring 0 = .ok (.aload_n 0, 1) := dk_42 (dk_at dksX0_ring_0 0 rfl rfl)
theorem dX0_ring_1 : decode cX0_ring 1 = .ok (.iload_n 1, 1) := dk_27 (dk_at dksX0_ring_0 1 rfl rfl)
theorem dX0_ring_2 : decode cX0_ring 2 = .ok (.invokevirtual 68, 3) := dk_182 0 68 (dk_at dksX0_ring_0 2 rfl rfl)
theorem dX0_ring_5 : decode cX0_ring 5 = .ok (.astore 4, 2) := dk_58 4 (dk_at dksX0_ring_0 5 rfl rfl)
theorem dX0_ring_7 : decode cX0_ring 7 = .ok (.aload 4, 2) := dk_25 4 (dk_at dksX0_ring_0 7 rfl rfl)
theorem dX0_ring_9 : decode cX0_ring 9 = .ok (.ifnull 25, 3) := dk_198 0 25 (dk_at dksX0_ring_0 9 rfl rfl)
theorem dX0_ring_12 : decode cX0_ring 12 = .ok (.aload 4, 2) := dk_25 4 (dk_at dksX0_ring_0 12 rfl rfl)
theorem dX0_ring_14 : decode cX0_ring 14 = .ok (.getfield 89, 3) := dk_180 0 89 (dk_at dksX0_ring_0 14 rfl rfl)
theorem dX0_ring_17 : decode cX0_ring 17 = .ok (.iconst 2, 1) := dk_5 (dk_at dksX0_ring_0 17 rfl rfl)
theorem dX0_ring_18 : decode cX0_ring 18 = .ok (.if_icmp .lt 16, 3) := dk_161 0 16 (dk_at dksX0_ring_0 18 rfl rfl)
theorem dX0_ring_21 : decode cX0_ring 21 = .ok (.iload_n 2, 1) := dk_28 (dk_at dksX0_ring_0 21 rfl rfl)
theorem dX0_ring_22 : decode cX0_ring 22 = .ok (.ifCond .lt 12, 3) := dk_155 0 12 (dk_at dksX0_ring_1 0 rfl rfl)
theorem dX0_ring_25 : decode cX0_ring 25 = .ok (.iload_n 3, 1) := dk_29 (dk_at dksX0_ring_1 3 rfl rfl)
theorem dX0_ring_26 : decode cX0_ring 26 = .ok (.iconst 0, 1) := dk_3 (dk_at dksX0_ring_1 4 rfl rfl)
theorem dX0_ring_27 : decode cX0_ring 27 = .ok (.iconst 2, 1) := dk_5 (dk_at dksX0_ring_1 5 rfl rfl)
theorem dX0_ring_28 : decode cX0_ring 28 = .ok (.invokestatic 51, 3) := dk_184 0 51 (dk_at dksX0_ring_1 6 rfl rfl)
theorem dX0_ring_31 : decode cX0_ring 31 = .ok (.ifCond .ne 5, 3) := dk_154 0 5 (dk_at dksX0_ring_1 9 rfl rfl)
theorem dX0_ring_34 : decode cX0_ring 34 = .ok (.iconst 0, 1) := dk_3 (dk_at dksX0_ring_1 12 rfl rfl)
theorem dX0_ring_35 : decode cX0_ring 35 = .ok (.ireturn, 1) := dk_172 (dk_at dksX0_ring_1 13 rfl rfl)
theorem dX0_ring_36 : decode cX0_ring 36 = .ok (.aload 4, 2) := dk_25 4 (dk_at dksX0_ring_1 14 rfl rfl)
theorem dX0_ring_38 : decode cX0_ring 38 = .ok (.iload_n 2, 1) := dk_28 (dk_at dksX0_ring_1 16 rfl rfl)
theorem dX0_ring_39 : decode cX0_ring 39 = .ok (.invokestatic 252, 3) := dk_184 0 252 (dk_at dksX0_ring_1 17 rfl rfl)
theorem dX0_ring_42 : decode cX0_ring 42 = .ok (.istore 5, 2) := dk_54 5 (dk_at dksX0_ring_1 20 rfl rfl)
theorem dX0_ring_44 : decode cX0_ring 44 = .ok (.iload 5, 2) := dk_21 5 (dk_at dksX0_ring_1 22 rfl rfl)
theorem dX0_ring_46 : decode cX0_ring 46 = .ok (.iconst (-1), 1) := dk_2 (dk_at dksX0_ring_2 0 rfl rfl)
theorem dX0_ring_47 : decode cX0_ring 47 = .ok (.if_icmp .ne 5, 3) := dk_160 0 5 (dk_at dksX0_ring_2 1 rfl rfl)
theorem dX0_ring_50 : decode cX0_ring 50 = .ok (.iconst 0, 1) := dk_3 (dk_at dksX0_ring_2 4 rfl rfl)
theorem dX0_ring_51 : decode cX0_ring 51 = .ok (.ireturn, 1) := dk_172 (dk_at dksX0_ring_2 5 rfl rfl)
theorem dX0_ring_52 : decode cX0_ring 52 = .ok (.iload 5, 2) := dk_21 5 (dk_at dksX0_ring_2 6 rfl rfl)
theorem dX0_ring_54 : decode cX0_ring 54 = .ok (.bipush 40, 2) := dk_16 40 (dk_at dksX0_ring_2 8 rfl rfl)
theorem dX0_ring_56 : decode cX0_ring 56 = .ok (.idiv, 1) := dk_108 (dk_at dksX0_ring_2 10 rfl rfl)
theorem dX0_ring_57 : decode cX0_ring 57 = .ok (.istore 6, 2) := dk_54 6 (dk_at dksX0_ring_2 11 rfl rfl)
theorem dX0_ring_59 : decode cX0_ring 59 = .ok (.iload 5, 2) := dk_21 5 (dk_at dksX0_ring_2 13 rfl rfl)
theorem dX0_ring_61 : decode cX0_ring 61 = .ok (.bipush 40, 2) := dk_16 40 (dk_at dksX0_ring_2 15 rfl rfl)
theorem dX0_ring_63 : decode cX0_ring 63 = .ok (.irem, 1) := dk_112 (dk_at dksX0_ring_2 17 rfl rfl)
theorem dX0_ring_64 : decode cX0_ring 64 = .ok (.istore 7, 2) := dk_54 7 (dk_at dksX0_ring_2 18 rfl rfl)
theorem dX0_ring_66 : decode cX0_ring 66 = .ok (.iload_n 3, 1) := dk_29 (dk_at dksX0_ring_2 20 rfl rfl)
theorem dX0_ring_67 : decode cX0_ring 67 = .ok (.ifCond .ne 14, 3) := dk_154 0 14 (dk_at dksX0_ring_2 21 rfl rfl)
theorem dX0_ring_70 : decode cX0_ring 70 = .ok (.aload 4, 2) := dk_25 4 (dk_at dksX0_ring_3 0 rfl rfl)
theorem dX0_ring_72 : decode cX0_ring 72 = .ok (.iload 6, 2) := dk_21 6 (dk_at dksX0_ring_3 2 rfl rfl)
theorem dX0_ring_74 : decode cX0_ring 74 = .ok (.iconst 0, 1) := dk_3 (dk_at dksX0_ring_3 4 rfl rfl)
theorem dX0_ring_75 : decode cX0_ring 75 = .ok (.invokevirtual 92, 3) := dk_182 0 92 (dk_at dksX0_ring_3 5 rfl rfl)
theorem dX0_ring_78 : decode cX0_ring 78 = .ok (.goto 27, 3) := dk_167 0 27 (dk_at dksX0_ring_3 8 rfl rfl)
theorem dX0_ring_81 : decode cX0_ring 81 = .ok (.iload_n 3, 1) := dk_29 (dk_at dksX0_ring_3 11 rfl rfl)
theorem dX0_ring_82 : decode cX0_ring 82 = .ok (.iconst 1, 1) := dk_4 (dk_at dksX0_ring_3 12 rfl rfl)
theorem dX0_ring_83 : decode cX0_ring 83 = .ok (.if_icmp .ne 14, 3) := dk_160 0 14 (dk_at dksX0_ring_3 13 rfl rfl)
theorem dX0_ring_86 : decode cX0_ring 86 = .ok (.aload 4, 2) := dk_25 4 (dk_at dksX0_ring_3 16 rfl rfl)
theorem dX0_ring_88 : decode cX0_ring 88 = .ok (.iload 6, 2) := dk_21 6 (dk_at dksX0_ring_3 18 rfl rfl)
theorem dX0_ring_90 : decode cX0_ring 90 = .ok (.iconst 1, 1) := dk_4 (dk_at dksX0_ring_3 20 rfl rfl)
theorem dX0_ring_91 : decode cX0_ring 91 = .ok (.invokevirtual 92, 3) := dk_182 0 92 (dk_at dksX0_ring_3 21 rfl rfl)
theorem dX0_ring_94 : decode cX0_ring 94 = .ok (.goto 11, 3) := dk_167 0 11 (dk_at dksX0_ring_4 0 rfl rfl)
theorem dX0_ring_97 : decode cX0_ring 97 = .ok (.aload 4, 2) := dk_25 4 (dk_at dksX0_ring_4 3 rfl rfl)
theorem dX0_ring_99 : decode cX0_ring 99 = .ok (.iload 7, 2) := dk_21 7 (dk_at dksX0_ring_4 5 rfl rfl)
theorem dX0_ring_101 : decode cX0_ring 101 = .ok (.iconst 1, 1) := dk_4 (dk_at dksX0_ring_4 7 rfl rfl)
theorem dX0_ring_102 : decode cX0_ring 102 = .ok (.invokevirtual 92, 3) := dk_182 0 92 (dk_at dksX0_ring_4 8 rfl rfl)
theorem dX0_ring_105 : decode cX0_ring 105 = .ok (.ireturn, 1) := dk_172 (dk_at dksX0_ring_4 11 rfl rfl)
abbrev cX0_count : ByteArray := prog_1_method_44_code
def yX0_count : MethodName := ⟨RX0, "count", "(I)I"⟩
def dkwX0_count_8 : List UInt8 := [167, 0, 4, 3, 172, 2, 172]
abbrev dktX0_count_8 : List UInt8 := dkwX0_count_8 ++ []
def dkwX0_count_7 : List UInt8 := [153, 0, 13, 42, 180, 0, 28, 180, 0, 167, 167, 0, 4, 2, 172, 42, 182, 0, 154, 153, 0, 7, 4]
abbrev dktX0_count_7 : List UInt8 := dkwX0_count_7 ++ dktX0_count_8
def dkwX0_count_6 : List UInt8 := [153, 0, 13, 42, 180, 0, 21, 180, 0, 167, 167, 0, 4, 2, 172, 42, 180, 0, 28, 180, 0, 168]
abbrev dktX0_count_6 : List UInt8 := dkwX0_count_6 ++ dktX0_count_7
def dkwX0_count_5 : List UInt8 := [199, 0, 7, 3, 167, 0, 10, 42, 180, 0, 55, 180, 0, 97, 172, 42, 180, 0, 21, 180, 0, 168]
abbrev dktX0_count_5 : List UInt8 := dkwX0_count_5 ++ dktX0_count_6
def dkwX0_count_4 : List UInt8 := [42, 180, 0, 55, 199, 0, 7, 3, 167, 0, 10, 42, 180, 0, 55, 180, 0, 126, 172, 42, 180, 0, 55]
abbrev dktX0_count_4 : List UInt8 := dkwX0_count_4 ++ dktX0_count_5
def dkwX0_count_3 : List UInt8 := [170, 0, 0, 0, 128, 0, 0, 0, 0, 0, 0, 0, 4, 0, 0, 0, 33, 0, 0, 0, 52, 0, 0, 0, 71, 0, 0, 0, 93, 0, 0, 0, 115]
abbrev dktX0_count_3 : List UInt8 := dkwX0_count_3 ++ dktX0_count_4
def dkwX0_count_2 : List UInt8 := [167, 0, 4, 2, 172, 27]
abbrev dktX0_count_2 : List UInt8 := dkwX0_count_2 ++ dktX0_count_3
def dkwX0_count_1 : List UInt8 := [180, 0, 126, 4, 100, 184, 0, 51, 153, 0, 18, 42, 180, 0, 55, 180, 0, 147, 27, 16, 10, 100, 46]
abbrev dktX0_count_1 : List UInt8 := dkwX0_count_1 ++ dktX0_count_2
def dkwX0_count_0 : List UInt8 := [27, 16, 10, 161, 0, 47, 42, 180, 0, 55, 198, 0, 38, 27, 16, 10, 100, 3, 42, 180, 0, 55]
abbrev dktX0_count_0 : List UInt8 := dkwX0_count_0 ++ dktX0_count_1
theorem dksX0_count_0 : cX0_count.data.toList.drop 0 = dktX0_count_0 := by decide +kernel
theorem dksX0_count_1 : cX0_count.data.toList.drop 22 = dktX0_count_1 := dk_seg dksX0_count_0 22 rfl rfl
theorem dksX0_count_2 : cX0_count.data.toList.drop 45 = dktX0_count_2 := dk_seg dksX0_count_1 23 rfl rfl
theorem dksX0_count_3 : cX0_count.data.toList.drop 51 = dktX0_count_3 := dk_seg dksX0_count_2 6 rfl rfl
theorem dksX0_count_4 : cX0_count.data.toList.drop 84 = dktX0_count_4 := dk_seg dksX0_count_3 33 rfl rfl
theorem dksX0_count_5 : cX0_count.data.toList.drop 107 = dktX0_count_5 := dk_seg dksX0_count_4 23 rfl rfl
theorem dksX0_count_6 : cX0_count.data.toList.drop 129 = dktX0_count_6 := dk_seg dksX0_count_5 22 rfl rfl
theorem dksX0_count_7 : cX0_count.data.toList.drop 151 = dktX0_count_7 := dk_seg dksX0_count_6 22 rfl rfl
theorem dksX0_count_8 : cX0_count.data.toList.drop 174 = dktX0_count_8 := dk_seg dksX0_count_7 23 rfl rfl
theorem dX0_count_0 : decode cX0_count 0 = .ok (.iload_n 1, 1) := dk_27 (dk_at dksX0_count_0 0 rfl rfl)
theorem dX0_count_1 : decode cX0_count 1 = .ok (.bipush 10, 2) := dk_16 10 (dk_at dksX0_count_0 1 rfl rfl)
theorem dX0_count_3 : decode cX0_count 3 = .ok (.if_icmp .lt 47, 3) := dk_161 0 47 (dk_at dksX0_count_0 3 rfl rfl)
theorem dX0_count_6 : decode cX0_count 6 = .ok (.aload_n 0, 1) := dk_42 (dk_at dksX0_count_0 6 rfl rfl)
theorem dX0_count_7 : decode cX0_count 7 = .ok (.getfield 55, 3) := dk_180 0 55 (dk_at dksX0_count_0 7 rfl rfl)
theorem dX0_count_10 : decode cX0_count 10 = .ok (.ifnull 38, 3) := dk_198 0 38 (dk_at dksX0_count_0 10 rfl rfl)
theorem dX0_count_13 : decode cX0_count 13 = .ok (.iload_n 1, 1) := dk_27 (dk_at dksX0_count_0 13 rfl rfl)
theorem dX0_count_14 : decode cX0_count 14 = .ok (.bipush 10, 2) := dk_16 10 (dk_at dksX0_count_0 14 rfl rfl)
theorem dX0_count_16 : decode cX0_count 16 = .ok (.isub, 1) := dk_100 (dk_at dksX0_count_0 16 rfl rfl)
theorem dX0_count_17 : decode cX0_count 17 = .ok (.iconst 0, 1) := dk_3 (dk_at dksX0_count_0 17 rfl rfl)
theorem dX0_count_18 : decode cX0_count 18 = .ok (.aload_n 0, 1) := dk_42 (dk_at dksX0_count_0 18 rfl rfl)
theorem dX0_count_19 : decode cX0_count 19 = .ok (.getfield 55, 3) := dk_180 0 55 (dk_at dksX0_count_0 19 rfl rfl)
theorem dX0_count_22 : decode cX0_count 22 = .ok (.getfield 126, 3) := dk_180 0 126 (dk_at dksX0_count_1 0 rfl rfl)
theorem dX0_count_25 : decode cX0_count 25 = .ok (.iconst 1, 1) := dk_4 (dk_at dksX0_count_1 3 rfl rfl)
theorem dX0_count_26 : decode cX0_count 26 = .ok (.isub, 1) := dk_100 (dk_at dksX0_count_1 4 rfl rfl)
theorem dX0_count_27 : decode cX0_count 27 = .ok (.invokestatic 51, 3) := dk_184 0 51 (dk_at dksX0_count_1 5 rfl rfl)
theorem dX0_count_30 : decode cX0_count 30 = .ok (.ifCond .eq 18, 3) := dk_153 0 18 (dk_at dksX0_count_1 8 rfl rfl)
theorem dX0_count_33 : decode cX0_count 33 = .ok (.aload_n 0, 1) := dk_42 (dk_at dksX0_count_1 11 rfl rfl)
theorem dX0_count_34 : decode cX0_count 34 = .ok (.getfield 55, 3) := dk_180 0 55 (dk_at dksX0_count_1 12 rfl rfl)
theorem dX0_count_37 : decode cX0_count 37 = .ok (.getfield 147, 3) := dk_180 0 147 (dk_at dksX0_count_1 15 rfl rfl)
theorem dX0_count_40 : decode cX0_count 40 = .ok (.iload_n 1, 1) := dk_27 (dk_at dksX0_count_1 18 rfl rfl)
theorem dX0_count_41 : decode cX0_count 41 = .ok (.bipush 10, 2) := dk_16 10 (dk_at dksX0_count_1 19 rfl rfl)
theorem dX0_count_43 : decode cX0_count 43 = .ok (.isub, 1) := dk_100 (dk_at dksX0_count_1 21 rfl rfl)
theorem dX0_count_44 : decode cX0_count 44 = .ok (.iaload, 1) := dk_46 (dk_at dksX0_count_1 22 rfl rfl)
theorem dX0_count_45 : decode cX0_count 45 = .ok (.goto 4, 3) := dk_167 0 4 (dk_at dksX0_count_2 0 rfl rfl)
theorem dX0_count_48 : decode cX0_count 48 = .ok (.iconst (-1), 1) := dk_2 (dk_at dksX0_count_2 3 rfl rfl)
theorem dX0_count_49 : decode cX0_count 49 = .ok (.ireturn, 1) := dk_172 (dk_at dksX0_count_2 4 rfl rfl)
theorem dX0_count_50 : decode cX0_count 50 = .ok (.iload_n 1, 1) := dk_27 (dk_at dksX0_count_2 5 rfl rfl)
theorem dX0_count_51 : decode cX0_count 51 = .ok (.tableswitch 128 0 4 #[33, 52, 71, 93, 115], 33) := by decide +kernel
theorem dX0_count_84 : decode cX0_count 84 = .ok (.aload_n 0, 1) := dk_42 (dk_at dksX0_count_4 0 rfl rfl)
theorem dX0_count_85 : decode cX0_count 85 = .ok (.getfield 55, 3) := dk_180 0 55 (dk_at dksX0_count_4 1 rfl rfl)
theorem dX0_count_88 : decode cX0_count 88 = .ok (.ifnonnull 7, 3) := dk_199 0 7 (dk_at dksX0_count_4 4 rfl rfl)
theorem dX0_count_91 : decode cX0_count 91 = .ok (.iconst 0, 1) := dk_3 (dk_at dksX0_count_4 7 rfl rfl)
theorem dX0_count_92 : decode cX0_count 92 = .ok (.goto 10, 3) := dk_167 0 10 (dk_at dksX0_count_4 8 rfl rfl)
theorem dX0_count_95 : decode cX0_count 95 = .ok (.aload_n 0, 1) := dk_42 (dk_at dksX0_count_4 11 rfl rfl)
theorem dX0_count_96 : decode cX0_count 96 = .ok (.getfield 55, 3) := dk_180 0 55 (dk_at dksX0_count_4 12 rfl rfl)
theorem dX0_count_99 : decode cX0_count 99 = .ok (.getfield 126, 3) := dk_180 0 126 (dk_at dksX0_count_4 15 rfl rfl)
theorem dX0_count_102 : decode cX0_count 102 = .ok (.ireturn, 1) := dk_172 (dk_at dksX0_count_4 18 rfl rfl)
theorem dX0_count_103 : decode cX0_count 103 = .ok (.aload_n 0, 1) := dk_42 (dk_at dksX0_count_4 19 rfl rfl)
theorem dX0_count_104 : decode cX0_count 104 = .ok (.getfield 55, 3) := dk_180 0 55 (dk_at dksX0_count_4 20 rfl rfl)
theorem dX0_count_107 : decode cX0_count 107 = .ok (.ifnonnull 7, 3) := dk_199 0 7 (dk_at dksX0_count_5 0 rfl rfl)
theorem dX0_count_110 : decode cX0_count 110 = .ok (.iconst 0, 1) := dk_3 (dk_at dksX0_count_5 3 rfl rfl)
theorem dX0_count_111 : decode cX0_count 111 = .ok (.goto 10, 3) := dk_167 0 10 (dk_at dksX0_count_5 4 rfl rfl)
theorem dX0_count_114 : decode cX0_count 114 = .ok (.aload_n 0, 1) := dk_42 (dk_at dksX0_count_5 7 rfl rfl)
theorem dX0_count_115 : decode cX0_count 115 = .ok (.getfield 55, 3) := dk_180 0 55 (dk_at dksX0_count_5 8 rfl rfl)
theorem dX0_count_118 : decode cX0_count 118 = .ok (.getfield 97, 3) := dk_180 0 97 (dk_at dksX0_count_5 11 rfl rfl)
theorem dX0_count_121 : decode cX0_count 121 = .ok (.ireturn, 1) := dk_172 (dk_at dksX0_count_5 14 rfl rfl)
theorem dX0_count_122 : decode cX0_count 122 = .ok (.aload_n 0, 1) := dk_42 (dk_at dksX0_count_5 15 rfl rfl)
theorem dX0_count_123 : decode cX0_count 123 = .ok (.getfield 21, 3) := dk_180 0 21 (dk_at dksX0_count_5 16 rfl rfl)
theorem dX0_count_126 : decode cX0_count 126 = .ok (.getfield 168, 3) := dk_180 0 168 (dk_at dksX0_count_5 19 rfl rfl)
theorem dX0_count_129 : decode cX0_count 129 = .ok (.ifCond .eq 13, 3) := dk_153 0 13 (dk_at dksX0_count_6 0 rfl rfl)
theorem dX0_count_132 : decode cX0_count 132 = .ok (.aload_n 0, 1) := dk_42 (dk_at dksX0_count_6 3 rfl rfl)
theorem dX0_count_133 : decode cX0_count 133 = .ok (.getfield 21, 3) := dk_180 0 21 (dk_at dksX0_count_6 4 rfl rfl)
theorem dX0_count_136 : decode cX0_count 136 = .ok (.getfield 167, 3) := dk_180 0 167 (dk_at dksX0_count_6 7 rfl rfl)
theorem dX0_count_139 : decode cX0_count 139 = .ok (.goto 4, 3) := dk_167 0 4 (dk_at dksX0_count_6 10 rfl rfl)
theorem dX0_count_142 : decode cX0_count 142 = .ok (.iconst (-1), 1) := dk_2 (dk_at dksX0_count_6 13 rfl rfl)
theorem dX0_count_143 : decode cX0_count 143 = .ok (.ireturn, 1) := dk_172 (dk_at dksX0_count_6 14 rfl rfl)
theorem dX0_count_144 : decode cX0_count 144 = .ok (.aload_n 0, 1) := dk_42 (dk_at dksX0_count_6 15 rfl rfl)
theorem dX0_count_145 : decode cX0_count 145 = .ok (.getfield 28, 3) := dk_180 0 28 (dk_at dksX0_count_6 16 rfl rfl)
theorem dX0_count_148 : decode cX0_count 148 = .ok (.getfield 168, 3) := dk_180 0 168 (dk_at dksX0_count_6 19 rfl rfl)
theorem dX0_count_151 : decode cX0_count 151 = .ok (.ifCond .eq 13, 3) := dk_153 0 13 (dk_at dksX0_count_7 0 rfl rfl)
theorem dX0_count_154 : decode cX0_count 154 = .ok (.aload_n 0, 1) := dk_42 (dk_at dksX0_count_7 3 rfl rfl)
theorem dX0_count_155 : decode cX0_count 155 = .ok (.getfield 28, 3) := dk_180 0 28 (dk_at dksX0_count_7 4 rfl rfl)
theorem dX0_count_158 : decode cX0_count 158 = .ok (.getfield 167, 3) := dk_180 0 167 (dk_at dksX0_count_7 7 rfl rfl)
theorem dX0_count_161 : decode cX0_count 161 = .ok (.goto 4, 3) := dk_167 0 4 (dk_at dksX0_count_7 10 rfl rfl)
theorem dX0_count_164 : decode cX0_count 164 = .ok (.iconst (-1), 1) := dk_2 (dk_at dksX0_count_7 13 rfl rfl)
theorem dX0_count_165 : decode cX0_count 165 = .ok (.ireturn, 1) := dk_172 (dk_at dksX0_count_7 14 rfl rfl)
theorem dX0_count_166 : decode cX0_count 166 = .ok (.aload_n 0, 1) := dk_42 (dk_at dksX0_count_7 15 rfl rfl)
theorem dX0_count_167 : decode cX0_count 167 = .ok (.invokevirtual 154, 3) := dk_182 0 154 (dk_at dksX0_count_7 16 rfl rfl)
theorem dX0_count_170 : decode cX0_count 170 = .ok (.ifCond .eq 7, 3) := dk_153 0 7 (dk_at dksX0_count_7 19 rfl rfl)
theorem dX0_count_173 : decode cX0_count 173 = .ok (.iconst 1, 1) := dk_4 (dk_at dksX0_count_7 22 rfl rfl)
theorem dX0_count_174 : decode cX0_count 174 = .ok (.goto 4, 3) := dk_167 0 4 (dk_at dksX0_count_8 0 rfl rfl)
theorem dX0_count_177 : decode cX0_count 177 = .ok (.iconst 0, 1) := dk_3 (dk_at dksX0_count_8 3 rfl rfl)
theorem dX0_count_178 : decode cX0_count 178 = .ok (.ireturn, 1) := dk_172 (dk_at dksX0_count_8 4 rfl rfl)
theorem dX0_count_179 : decode cX0_count 179 = .ok (.iconst (-1), 1) := dk_2 (dk_at dksX0_count_8 5 rfl rfl)
theorem dX0_count_180 : decode cX0_count 180 = .ok (.ireturn, 1) := dk_172 (dk_at dksX0_count_8 6 rfl rfl)
theorem q57 : (Jvm.Cond.initialized "JoinLoom") ∈ lw_all := lw_g (lw_at lw_m1 1 rfl) rfl
theorem q72 : (Jvm.Cond.instantiable "JoinLoom" (11 : Nat)) ∈ lw_all := lw_g (lw_at lw_m1 16 rfl) rfl
theorem q74 : (Jvm.Cond.instanceMethod ({ cls := "JoinLoom", name := "<init>", desc := "()V" } : Jvm.MethodName)) ∈ lw_all := lw_g (lw_at lw_m1 18 rfl) rfl
theorem q75 : (Jvm.Cond.code ({ cls := "JoinLoom", name := "<init>", desc := "()V" } : Jvm.MethodName) prog_1_method_3_code (1 : Nat) (Option.none : Option Jvm.ClassFile.FieldType)) ∈ lw_all := lw_g (lw_at lw_m1 19 rfl) rfl
theorem q76 : (Jvm.Cond.methodLink "JoinLoom" (6 : Nat) ({ cls := "java/lang/Object", name := "<init>", desc := "()V" } : Jvm.MethodName)) ∈ lw_all := lw_g (lw_at lw_m1 20 rfl) rfl
theorem q79 : (Jvm.Cond.classLink "JoinLoom" (12 : Nat) "JoinLoom$Table") ∈ lw_all := lw_g (lw_at lw_m1 23 rfl) rfl
theorem q81 : (Jvm.Cond.classLink "JoinLoom" (18 : Nat) "JoinLoom$Cloth") ∈ lw_all := lw_g (lw_at lw_m1 25 rfl) rfl
theorem q83 : (Jvm.Cond.methodLinkNest "JoinLoom" (20 : Nat) ({ cls := "JoinLoom$Cloth", name := "<init>", desc := "()V" } : Jvm.MethodName) "JoinLoom") ∈ lw_tbl := lw_at lw_m1 27 rfl
theorem q89 : (Jvm.Cond.fieldLinkNest "JoinLoom" (172 : Nat) "JoinLoom$Cloth" "names" "I" "JoinLoom") ∈ lw_tbl := lw_at lw_m1 33 rfl
theorem q92 : (Jvm.Cond.fieldLinkNest "JoinLoom" (167 : Nat) "JoinLoom$Cloth" "many" "I" "JoinLoom") ∈ lw_tbl := lw_at lw_m1 36 rfl
theorem q96 : (Jvm.Cond.fieldLinkNest "JoinLoom" (180 : Nat) "JoinLoom$Cloth" "meetings" "[I" "JoinLoom") ∈ lw_tbl := lw_at lw_m1 40 rfl
theorem q98 : (Jvm.Cond.fieldLinkNest "JoinLoom" (183 : Nat) "JoinLoom$Cloth" "witness" "[I" "JoinLoom") ∈ lw_tbl := lw_at lw_m1 42 rfl
theorem q101 : (Jvm.Cond.fieldLinkNest "JoinLoom" (168 : Nat) "JoinLoom$Cloth" "isThere" "Z" "JoinLoom") ∈ lw_tbl := lw_at lw_m1 45 rfl
theorem q119 : (Jvm.Cond.classLink "JoinLoom" (31 : Nat) "JoinLoom$Loom") ∈ lw_all := lw_g (lw_at lw_m1 63 rfl) rfl
theorem q121 : (Jvm.Cond.methodLinkNest "JoinLoom" (33 : Nat) ({ cls := "JoinLoom$Loom", name := "<init>", desc := "()V" } : Jvm.MethodName) "JoinLoom") ∈ lw_tbl := lw_at lw_m1 65 rfl
theorem q195 : (Jvm.Cond.fieldLink "JoinLoom" (14 : Nat) "JoinLoom" "tables" "[LJoinLoom$Table;") ∈ lw_all := lw_g (lw_at lw_m1 139 rfl) rfl
theorem q196 : (Jvm.Cond.fieldLink "JoinLoom" (55 : Nat) "JoinLoom" "question" "LJoinLoom$Question;") ∈ lw_all := lw_g (lw_at lw_m1 140 rfl) rfl
theorem q197 : (Jvm.Cond.fieldLink "JoinLoom" (21 : Nat) "JoinLoom" "woven" "LJoinLoom$Cloth;") ∈ lw_all := lw_g (lw_at lw_m1 141 rfl) rfl
theorem q198 : (Jvm.Cond.fieldLink "JoinLoom" (25 : Nat) "JoinLoom" "tried" "LJoinLoom$Cloth;") ∈ lw_all := lw_g (lw_at lw_m1 142 rfl) rfl
theorem q199 : (Jvm.Cond.fieldLink "JoinLoom" (28 : Nat) "JoinLoom" "kept" "LJoinLoom$Cloth;") ∈ lw_all := lw_g (lw_at lw_m1 143 rfl) rfl
theorem q200 : (Jvm.Cond.fieldLink "JoinLoom" (34 : Nat) "JoinLoom" "loom" "LJoinLoom$Loom;") ∈ lw_all := lw_g (lw_at lw_m1 144 rfl) rfl
theorem q201 : (Jvm.Cond.fieldLink "JoinLoom" (38 : Nat) "JoinLoom" "share" "[I") ∈ lw_all := lw_g (lw_at lw_m1 145 rfl) rfl
theorem q202 : (Jvm.Cond.fieldLink "JoinLoom" (42 : Nat) "JoinLoom" "cover" "[I") ∈ lw_all := lw_g (lw_at lw_m1 146 rfl) rfl
theorem q203 : (Jvm.Cond.fieldLink "JoinLoom" (45 : Nat) "JoinLoom" "way" "[I") ∈ lw_all := lw_g (lw_at lw_m1 147 rfl) rfl
theorem q204 : (Jvm.Cond.fieldLink "JoinLoom" (48 : Nat) "JoinLoom" "bestWay" "[I") ∈ lw_all := lw_g (lw_at lw_m1 148 rfl) rfl
theorem q205 : (Jvm.Cond.fieldLink "JoinLoom" (233 : Nat) "JoinLoom" "bestMeetings" "I") ∈ lw_all := lw_g (lw_at lw_m1 149 rfl) rfl
theorem q206 : (Jvm.Cond.laysFinal "JoinLoom" "JoinLoom" "tables" "[LJoinLoom$Table;") ∈ lw_all := lw_g (lw_at lw_m1 150 rfl) rfl
theorem q207 : (Jvm.Cond.soleField "JoinLoom" "tables") ∈ lw_all := lw_g (lw_at lw_m1 151 rfl) rfl
theorem q208 : (Jvm.Cond.lays "JoinLoom" "JoinLoom" "question" "LJoinLoom$Question;") ∈ lw_all := lw_g (lw_at lw_m1 152 rfl) rfl
theorem q209 : (Jvm.Cond.soleField "JoinLoom" "question") ∈ lw_all := lw_g (lw_at lw_m1 153 rfl) rfl
theorem q210 : (Jvm.Cond.laysFinal "JoinLoom" "JoinLoom" "woven" "LJoinLoom$Cloth;") ∈ lw_all := lw_g (lw_at lw_m1 154 rfl) rfl
theorem q211 : (Jvm.Cond.soleField "JoinLoom" "woven") ∈ lw_all := lw_g (lw_at lw_m1 155 rfl) rfl
theorem q212 : (Jvm.Cond.laysFinal "JoinLoom" "JoinLoom" "tried" "LJoinLoom$Cloth;") ∈ lw_all := lw_g (lw_at lw_m1 156 rfl) rfl
theorem q213 : (Jvm.Cond.soleField "JoinLoom" "tried") ∈ lw_all := lw_g (lw_at lw_m1 157 rfl) rfl
theorem q214 : (Jvm.Cond.laysFinal "JoinLoom" "JoinLoom" "kept" "LJoinLoom$Cloth;") ∈ lw_all := lw_g (lw_at lw_m1 158 rfl) rfl
theorem q215 : (Jvm.Cond.soleField "JoinLoom" "kept") ∈ lw_all := lw_g (lw_at lw_m1 159 rfl) rfl
theorem q216 : (Jvm.Cond.laysFinal "JoinLoom" "JoinLoom" "loom" "LJoinLoom$Loom;") ∈ lw_all := lw_g (lw_at lw_m1 160 rfl) rfl
theorem q217 : (Jvm.Cond.soleField "JoinLoom" "loom") ∈ lw_all := lw_g (lw_at lw_m1 161 rfl) rfl
theorem q218 : (Jvm.Cond.laysFinal "JoinLoom" "JoinLoom" "share" "[I") ∈ lw_all := lw_g (lw_at lw_m1 162 rfl) rfl
theorem q219 : (Jvm.Cond.soleField "JoinLoom" "share") ∈ lw_all := lw_g (lw_at lw_m1 163 rfl) rfl
theorem q220 : (Jvm.Cond.laysFinal "JoinLoom" "JoinLoom" "cover" "[I") ∈ lw_all := lw_g (lw_at lw_m1 164 rfl) rfl
theorem q221 : (Jvm.Cond.soleField "JoinLoom" "cover") ∈ lw_all := lw_g (lw_at lw_m1 165 rfl) rfl
theorem q222 : (Jvm.Cond.laysFinal "JoinLoom" "JoinLoom" "way" "[I") ∈ lw_all := lw_g (lw_at lw_m1 166 rfl) rfl
theorem q223 : (Jvm.Cond.soleField "JoinLoom" "way") ∈ lw_all := lw_g (lw_at lw_m1 167 rfl) rfl
theorem q224 : (Jvm.Cond.laysFinal "JoinLoom" "JoinLoom" "bestWay" "[I") ∈ lw_all := lw_g (lw_at lw_m1 168 rfl) rfl
theorem q225 : (Jvm.Cond.soleField "JoinLoom" "bestWay") ∈ lw_all := lw_g (lw_at lw_m1 169 rfl) rfl
theorem q226 : (Jvm.Cond.lays "JoinLoom" "JoinLoom" "bestMeetings" "I") ∈ lw_all := lw_g (lw_at lw_m1 170 rfl) rfl
theorem q227 : (Jvm.Cond.soleField "JoinLoom" "bestMeetings") ∈ lw_all := lw_g (lw_at lw_m1 171 rfl) rfl
theorem q228 : (Jvm.Cond.superclass "JoinLoom" "java/lang/Object") ∈ lw_all := lw_g (lw_at lw_m1 172 rfl) rfl
theorem q230 : (Jvm.Cond.instanceMethod ({ cls := "JoinLoom", name := "table", desc := "(II)Z" } : Jvm.MethodName)) ∈ lw_all := lw_g (lw_at lw_m1 174 rfl) rfl
theorem q231 : (Jvm.Cond.selects "JoinLoom" ({ cls := "JoinLoom", name := "table", desc := "(II)Z" } : Jvm.MethodName) ({ cls := "JoinLoom", name := "table", desc := "(II)Z" } : Jvm.MethodName)) ∈ lw_all := lw_g (lw_at lw_m1 175 rfl) rfl
theorem q232 : (Jvm.Cond.code ({ cls := "JoinLoom", name := "table", desc := "(II)Z" } : Jvm.MethodName) prog_1_method_5_code (3 : Nat) (Option.some Jvm.ClassFile.FieldType.boolean)) ∈ lw_all := lw_g (lw_at lw_m1 176 rfl) rfl
theorem q233 : (Jvm.Cond.methodLink "JoinLoom" (51 : Nat) ({ cls := "JoinLoom", name := "in", desc := "(III)Z" } : Jvm.MethodName)) ∈ lw_all := lw_g (lw_at lw_m1 177 rfl) rfl
theorem q234 : (Jvm.Cond.static ({ cls := "JoinLoom", name := "in", desc := "(III)Z" } : Jvm.MethodName)) ∈ lw_all := lw_g (lw_at lw_m1 178 rfl) rfl
theorem q235 : (Jvm.Cond.code ({ cls := "JoinLoom", name := "in", desc := "(III)Z" } : Jvm.MethodName) prog_1_method_1_code (3 : Nat) (Option.some Jvm.ClassFile.FieldType.boolean)) ∈ lw_all := lw_g (lw_at lw_m1 179 rfl) rfl
theorem q236 : (Jvm.Cond.methodLink "JoinLoom" (59 : Nat) ({ cls := "JoinLoom$Question", name := "isOf", desc := "(I)Z" } : Jvm.MethodName)) ∈ lw_all := lw_g (lw_at lw_m1 180 rfl) rfl
theorem q242 : (Jvm.Cond.methodLink "JoinLoom" (65 : Nat) ({ cls := "JoinLoom$Table", name := "<init>", desc := "(I)V" } : Jvm.MethodName)) ∈ lw_all := lw_g (lw_at lw_m1 186 rfl) rfl
theorem q248 : (Jvm.Cond.fieldLinkNest "JoinLoom" (89 : Nat) "JoinLoom$Table" "columns" "I" "JoinLoom") ∈ lw_tbl := lw_at lw_m1 192 rfl
theorem q252 : (Jvm.Cond.fieldLinkNest "JoinLoom" (75 : Nat) "JoinLoom$Table" "many" "I" "JoinLoom") ∈ lw_tbl := lw_at lw_m1 196 rfl
theorem q261 : (Jvm.Cond.instanceMethod ({ cls := "JoinLoom", name := "put", desc := "(IIII)I" } : Jvm.MethodName)) ∈ lw_all := lw_g (lw_at lw_m1 205 rfl) rfl
theorem q262 : (Jvm.Cond.selects "JoinLoom" ({ cls := "JoinLoom", name := "put", desc := "(IIII)I" } : Jvm.MethodName) ({ cls := "JoinLoom", name := "put", desc := "(IIII)I" } : Jvm.MethodName)) ∈ lw_all := lw_g (lw_at lw_m1 206 rfl) rfl
theorem q263 : (Jvm.Cond.code ({ cls := "JoinLoom", name := "put", desc := "(IIII)I" } : Jvm.MethodName) prog_1_method_6_code (6 : Nat) (Option.some Jvm.ClassFile.FieldType.int)) ∈ lw_all := lw_g (lw_at lw_m1 207 rfl) rfl
theorem q264 : (Jvm.Cond.methodLink "JoinLoom" (68 : Nat) ({ cls := "JoinLoom", name := "find", desc := "(I)LJoinLoom$Table;" } : Jvm.MethodName)) ∈ lw_all := lw_g (lw_at lw_m1 208 rfl) rfl
theorem q265 : (Jvm.Cond.privateMethod ({ cls := "JoinLoom", name := "find", desc := "(I)LJoinLoom$Table;" } : Jvm.MethodName)) ∈ lw_tbl := lw_at lw_m1 209 rfl
theorem q266 : (Jvm.Cond.instanceMethod ({ cls := "JoinLoom", name := "find", desc := "(I)LJoinLoom$Table;" } : Jvm.MethodName)) ∈ lw_all := lw_g (lw_at lw_m1 210 rfl) rfl
theorem q267 : (Jvm.Cond.code ({ cls := "JoinLoom", name := "find", desc := "(I)LJoinLoom$Table;" } : Jvm.MethodName) prog_1_method_4_code (2 : Nat) (Option.some (Jvm.ClassFile.FieldType.object "JoinLoom$Table"))) ∈ lw_all := lw_g (lw_at lw_m1 211 rfl) rfl
theorem q268 : (Jvm.Cond.methodLink "JoinLoom" (72 : Nat) ({ cls := "JoinLoom$Table", name := "find", desc := "(III)I" } : Jvm.MethodName)) ∈ lw_all := lw_g (lw_at lw_m1 212 rfl) rfl
theorem q285 : (Jvm.Cond.static ({ cls := "JoinLoom", name := "rank", desc := "(I)J" } : Jvm.MethodName)) ∈ lw_all := lw_g (lw_at lw_m1 229 rfl) rfl
theorem q286 : (Jvm.Cond.code ({ cls := "JoinLoom", name := "rank", desc := "(I)J" } : Jvm.MethodName) prog_1_method_2_code (1 : Nat) (Option.some Jvm.ClassFile.FieldType.long)) ∈ lw_all := lw_g (lw_at lw_m1 230 rfl) rfl
theorem q287 : (Jvm.Cond.constant "JoinLoom" (3 : Nat) (-2147483648 : Int32)) ∈ lw_all := lw_g (lw_at lw_m1 231 rfl) rfl
theorem q288 : (Jvm.Cond.constantLong "JoinLoom" (4 : Nat) (4294967296 : Int64)) ∈ lw_all := lw_g (lw_at lw_m1 232 rfl) rfl
theorem q289 : (Jvm.Cond.methodLink "JoinLoom" (79 : Nat) ({ cls := "JoinLoom$Table", name := "place", desc := "(III)I" } : Jvm.MethodName)) ∈ lw_all := lw_g (lw_at lw_m1 233 rfl) rfl
theorem q290 : (Jvm.Cond.methodLink "JoinLoom" (82 : Nat) ({ cls := "JoinLoom$Table", name := "puts", desc := "(IIII)V" } : Jvm.MethodName)) ∈ lw_all := lw_g (lw_at lw_m1 234 rfl) rfl
theorem q299 : (Jvm.Cond.instanceMethod ({ cls := "JoinLoom", name := "drop", desc := "(IIII)Z" } : Jvm.MethodName)) ∈ lw_all := lw_g (lw_at lw_m2 3 rfl) rfl
theorem q300 : (Jvm.Cond.selects "JoinLoom" ({ cls := "JoinLoom", name := "drop", desc := "(IIII)Z" } : Jvm.MethodName) ({ cls := "JoinLoom", name := "drop", desc := "(IIII)Z" } : Jvm.MethodName)) ∈ lw_all := lw_g (lw_at lw_m2 4 rfl) rfl
theorem q301 : (Jvm.Cond.code ({ cls := "JoinLoom", name := "drop", desc := "(IIII)Z" } : Jvm.MethodName) prog_1_method_7_code (6 : Nat) (Option.some Jvm.ClassFile.FieldType.boolean)) ∈ lw_all := lw_g (lw_at lw_m2 5 rfl) rfl
theorem q302 : (Jvm.Cond.methodLink "JoinLoom" (86 : Nat) ({ cls := "JoinLoom$Table", name := "drops", desc := "(I)V" } : Jvm.MethodName)) ∈ lw_all := lw_g (lw_at lw_m2 6 rfl) rfl
theorem q307 : (Jvm.Cond.instanceMethod ({ cls := "JoinLoom", name := "rows", desc := "(I)I" } : Jvm.MethodName)) ∈ lw_all := lw_g (lw_at lw_m2 11 rfl) rfl
theorem q308 : (Jvm.Cond.selects "JoinLoom" ({ cls := "JoinLoom", name := "rows", desc := "(I)I" } : Jvm.MethodName) ({ cls := "JoinLoom", name := "rows", desc := "(I)I" } : Jvm.MethodName)) ∈ lw_all := lw_g (lw_at lw_m2 12 rfl) rfl
theorem q309 : (Jvm.Cond.code ({ cls := "JoinLoom", name := "rows", desc := "(I)I" } : Jvm.MethodName) prog_1_method_8_code (2 : Nat) (Option.some Jvm.ClassFile.FieldType.int)) ∈ lw_all := lw_g (lw_at lw_m2 13 rfl) rfl
theorem q311 : (Jvm.Cond.instanceMethod ({ cls := "JoinLoom", name := "row", desc := "(III)I" } : Jvm.MethodName)) ∈ lw_all := lw_g (lw_at lw_m2 15 rfl) rfl
theorem q312 : (Jvm.Cond.selects "JoinLoom" ({ cls := "JoinLoom", name := "row", desc := "(III)I" } : Jvm.MethodName) ({ cls := "JoinLoom", name := "row", desc := "(III)I" } : Jvm.MethodName)) ∈ lw_all := lw_g (lw_at lw_m2 16 rfl) rfl
theorem q313 : (Jvm.Cond.code ({ cls := "JoinLoom", name := "row", desc := "(III)I" } : Jvm.MethodName) prog_1_method_9_code (5 : Nat) (Option.some Jvm.ClassFile.FieldType.int)) ∈ lw_all := lw_g (lw_at lw_m2 17 rfl) rfl
theorem q314 : (Jvm.Cond.methodLink "JoinLoom" (92 : Nat) ({ cls := "JoinLoom$Table", name := "at", desc := "(II)I" } : Jvm.MethodName)) ∈ lw_all := lw_g (lw_at lw_m2 18 rfl) rfl
theorem q316 : (Jvm.Cond.instanceMethod ({ cls := "JoinLoom", name := "ask", desc := "(I)Z" } : Jvm.MethodName)) ∈ lw_all := lw_g (lw_at lw_m2 20 rfl) rfl
theorem q317 : (Jvm.Cond.selects "JoinLoom" ({ cls := "JoinLoom", name := "ask", desc := "(I)Z" } : Jvm.MethodName) ({ cls := "JoinLoom", name := "ask", desc := "(I)Z" } : Jvm.MethodName)) ∈ lw_all := lw_g (lw_at lw_m2 21 rfl) rfl
theorem q318 : (Jvm.Cond.code ({ cls := "JoinLoom", name := "ask", desc := "(I)Z" } : Jvm.MethodName) prog_1_method_10_code (2 : Nat) (Option.some Jvm.ClassFile.FieldType.boolean)) ∈ lw_all := lw_g (lw_at lw_m2 22 rfl) rfl
theorem q319 : (Jvm.Cond.classLink "JoinLoom" (60 : Nat) "JoinLoom$Question") ∈ lw_all := lw_g (lw_at lw_m2 23 rfl) rfl
theorem q321 : (Jvm.Cond.methodLink "JoinLoom" (96 : Nat) ({ cls := "JoinLoom$Question", name := "<init>", desc := "(I)V" } : Jvm.MethodName)) ∈ lw_all := lw_g (lw_at lw_m2 25 rfl) rfl
theorem q329 : (Jvm.Cond.fieldLinkNest "JoinLoom" (126 : Nat) "JoinLoom$Question" "names" "I" "JoinLoom") ∈ lw_tbl := lw_at lw_m2 33 rfl
theorem q333 : (Jvm.Cond.fieldLinkNest "JoinLoom" (209 : Nat) "JoinLoom$Question" "parts" "[LJoinLoom$Part;" "JoinLoom") ∈ lw_tbl := lw_at lw_m2 37 rfl
theorem q337 : (Jvm.Cond.fieldLinkNest "JoinLoom" (97 : Nat) "JoinLoom$Question" "many" "I" "JoinLoom") ∈ lw_tbl := lw_at lw_m2 41 rfl
theorem q338 : (Jvm.Cond.fieldLinkNest "JoinLoom" (98 : Nat) "JoinLoom$Question" "haves" "I" "JoinLoom") ∈ lw_tbl := lw_at lw_m2 42 rfl
theorem q340 : (Jvm.Cond.fieldLinkNest "JoinLoom" (147 : Nat) "JoinLoom$Question" "order" "[I" "JoinLoom") ∈ lw_tbl := lw_at lw_m2 44 rfl
theorem q353 : (Jvm.Cond.instanceMethod ({ cls := "JoinLoom", name := "part", desc := "(II)I" } : Jvm.MethodName)) ∈ lw_all := lw_g (lw_at lw_m2 57 rfl) rfl
theorem q354 : (Jvm.Cond.selects "JoinLoom" ({ cls := "JoinLoom", name := "part", desc := "(II)I" } : Jvm.MethodName) ({ cls := "JoinLoom", name := "part", desc := "(II)I" } : Jvm.MethodName)) ∈ lw_all := lw_g (lw_at lw_m2 58 rfl) rfl
theorem q355 : (Jvm.Cond.code ({ cls := "JoinLoom", name := "part", desc := "(II)I" } : Jvm.MethodName) prog_1_method_11_code (4 : Nat) (Option.some Jvm.ClassFile.FieldType.int)) ∈ lw_all := lw_g (lw_at lw_m2 59 rfl) rfl
theorem q356 : (Jvm.Cond.classLink "JoinLoom" (101 : Nat) "JoinLoom$Has") ∈ lw_all := lw_g (lw_at lw_m2 60 rfl) rfl
theorem q358 : (Jvm.Cond.methodLink "JoinLoom" (103 : Nat) ({ cls := "JoinLoom$Has", name := "<init>", desc := "(ILJoinLoom$Table;I)V" } : Jvm.MethodName)) ∈ lw_all := lw_g (lw_at lw_m2 62 rfl) rfl
theorem q367 : (Jvm.Cond.fieldLink "JoinLoom" (122 : Nat) "JoinLoom$Has" "table" "LJoinLoom$Table;") ∈ lw_all := lw_g (lw_at lw_m2 71 rfl) rfl
theorem q372 : (Jvm.Cond.fieldLink "JoinLoom" (129 : Nat) "JoinLoom$Has" "name" "[I") ∈ lw_all := lw_g (lw_at lw_m2 76 rfl) rfl
theorem q375 : (Jvm.Cond.fieldLink "JoinLoom" (132 : Nat) "JoinLoom$Has" "told" "[I") ∈ lw_all := lw_g (lw_at lw_m2 79 rfl) rfl
theorem q378 : (Jvm.Cond.fieldLink "JoinLoom" (119 : Nat) "JoinLoom$Has" "places" "I") ∈ lw_all := lw_g (lw_at lw_m2 82 rfl) rfl
theorem q383 : (Jvm.Cond.fieldLink "JoinLoom" (213 : Nat) "JoinLoom$Part" "kind" "I") ∈ lw_all := lw_g (lw_at lw_m2 87 rfl) rfl
theorem q397 : (Jvm.Cond.classLink "JoinLoom" (106 : Nat) "JoinLoom$Not") ∈ lw_all := lw_g (lw_at lw_m2 101 rfl) rfl
theorem q399 : (Jvm.Cond.methodLink "JoinLoom" (108 : Nat) ({ cls := "JoinLoom$Not", name := "<init>", desc := "(LJoinLoom$Table;I)V" } : Jvm.MethodName)) ∈ lw_all := lw_g (lw_at lw_m2 103 rfl) rfl
theorem q410 : (Jvm.Cond.methodLink "JoinLoom" (111 : Nat) ({ cls := "JoinLoom$Question", name := "adds", desc := "(LJoinLoom$Part;)V" } : Jvm.MethodName)) ∈ lw_all := lw_g (lw_at lw_m2 114 rfl) rfl
theorem q415 : (Jvm.Cond.instanceMethod ({ cls := "JoinLoom", name := "name", desc := "(I)I" } : Jvm.MethodName)) ∈ lw_all := lw_g (lw_at lw_m2 119 rfl) rfl
theorem q416 : (Jvm.Cond.selects "JoinLoom" ({ cls := "JoinLoom", name := "name", desc := "(I)I" } : Jvm.MethodName) ({ cls := "JoinLoom", name := "name", desc := "(I)I" } : Jvm.MethodName)) ∈ lw_all := lw_g (lw_at lw_m2 120 rfl) rfl
theorem q417 : (Jvm.Cond.code ({ cls := "JoinLoom", name := "name", desc := "(I)I" } : Jvm.MethodName) prog_1_method_13_code (2 : Nat) (Option.some Jvm.ClassFile.FieldType.int)) ∈ lw_all := lw_g (lw_at lw_m2 121 rfl) rfl
theorem q418 : (Jvm.Cond.methodLink "JoinLoom" (135 : Nat) ({ cls := "JoinLoom", name := "place", desc := "(ZI)I" } : Jvm.MethodName)) ∈ lw_all := lw_g (lw_at lw_m2 122 rfl) rfl
theorem q419 : (Jvm.Cond.privateMethod ({ cls := "JoinLoom", name := "place", desc := "(ZI)I" } : Jvm.MethodName)) ∈ lw_tbl := lw_at lw_m2 123 rfl
theorem q420 : (Jvm.Cond.instanceMethod ({ cls := "JoinLoom", name := "place", desc := "(ZI)I" } : Jvm.MethodName)) ∈ lw_all := lw_g (lw_at lw_m2 124 rfl) rfl
theorem q421 : (Jvm.Cond.code ({ cls := "JoinLoom", name := "place", desc := "(ZI)I" } : Jvm.MethodName) prog_1_method_12_code (4 : Nat) (Option.some Jvm.ClassFile.FieldType.int)) ∈ lw_all := lw_g (lw_at lw_m2 125 rfl) rfl
theorem q422 : (Jvm.Cond.methodLinkNest "JoinLoom" (115 : Nat) ({ cls := "JoinLoom$Question", name := "last", desc := "()LJoinLoom$Has;" } : Jvm.MethodName) "JoinLoom") ∈ lw_tbl := lw_at lw_m2 126 rfl
theorem q427 : (Jvm.Cond.instanceMethod ({ cls := "JoinLoom", name := "value", desc := "(I)I" } : Jvm.MethodName)) ∈ lw_all := lw_g (lw_at lw_m2 131 rfl) rfl
theorem q428 : (Jvm.Cond.selects "JoinLoom" ({ cls := "JoinLoom", name := "value", desc := "(I)I" } : Jvm.MethodName) ({ cls := "JoinLoom", name := "value", desc := "(I)I" } : Jvm.MethodName)) ∈ lw_all := lw_g (lw_at lw_m2 132 rfl) rfl
theorem q429 : (Jvm.Cond.code ({ cls := "JoinLoom", name := "value", desc := "(I)I" } : Jvm.MethodName) prog_1_method_14_code (2 : Nat) (Option.some Jvm.ClassFile.FieldType.int)) ∈ lw_all := lw_g (lw_at lw_m2 133 rfl) rfl
theorem q431 : (Jvm.Cond.instanceMethod ({ cls := "JoinLoom", name := "compare", desc := "(IIZI)I" } : Jvm.MethodName)) ∈ lw_all := lw_g (lw_at lw_m2 135 rfl) rfl
theorem q432 : (Jvm.Cond.selects "JoinLoom" ({ cls := "JoinLoom", name := "compare", desc := "(IIZI)I" } : Jvm.MethodName) ({ cls := "JoinLoom", name := "compare", desc := "(IIZI)I" } : Jvm.MethodName)) ∈ lw_all := lw_g (lw_at lw_m2 136 rfl) rfl
theorem q433 : (Jvm.Cond.code ({ cls := "JoinLoom", name := "compare", desc := "(IIZI)I" } : Jvm.MethodName) prog_1_method_15_code (7 : Nat) (Option.some Jvm.ClassFile.FieldType.int)) ∈ lw_all := lw_g (lw_at lw_m2 137 rfl) rfl
theorem q434 : (Jvm.Cond.classLink "JoinLoom" (138 : Nat) "JoinLoom$Same") ∈ lw_all := lw_g (lw_at lw_m2 138 rfl) rfl
theorem q436 : (Jvm.Cond.methodLink "JoinLoom" (140 : Nat) ({ cls := "JoinLoom$Same", name := "<init>", desc := "(IIII)V" } : Jvm.MethodName)) ∈ lw_all := lw_g (lw_at lw_m2 140 rfl) rfl
theorem q453 : (Jvm.Cond.classLink "JoinLoom" (142 : Nat) "JoinLoom$Less") ∈ lw_all := lw_g (lw_at lw_m2 157 rfl) rfl
theorem q455 : (Jvm.Cond.methodLink "JoinLoom" (144 : Nat) ({ cls := "JoinLoom$Less", name := "<init>", desc := "(III)V" } : Jvm.MethodName)) ∈ lw_all := lw_g (lw_at lw_m2 159 rfl) rfl
theorem q465 : (Jvm.Cond.instanceMethod ({ cls := "JoinLoom", name := "order", desc := "(II)Z" } : Jvm.MethodName)) ∈ lw_all := lw_g (lw_at lw_m2 169 rfl) rfl
theorem q466 : (Jvm.Cond.selects "JoinLoom" ({ cls := "JoinLoom", name := "order", desc := "(II)Z" } : Jvm.MethodName) ({ cls := "JoinLoom", name := "order", desc := "(II)Z" } : Jvm.MethodName)) ∈ lw_all := lw_g (lw_at lw_m2 170 rfl) rfl
theorem q467 : (Jvm.Cond.code ({ cls := "JoinLoom", name := "order", desc := "(II)Z" } : Jvm.MethodName) prog_1_method_16_code (5 : Nat) (Option.some Jvm.ClassFile.FieldType.boolean)) ∈ lw_all := lw_g (lw_at lw_m2 171 rfl) rfl
theorem q469 : (Jvm.Cond.instanceMethod ({ cls := "JoinLoom", name := "weave", desc := "()I" } : Jvm.MethodName)) ∈ lw_all := lw_g (lw_at lw_m2 173 rfl) rfl
theorem q470 : (Jvm.Cond.selects "JoinLoom" ({ cls := "JoinLoom", name := "weave", desc := "()I" } : Jvm.MethodName) ({ cls := "JoinLoom", name := "weave", desc := "()I" } : Jvm.MethodName)) ∈ lw_all := lw_g (lw_at lw_m2 174 rfl) rfl
theorem q471 : (Jvm.Cond.code ({ cls := "JoinLoom", name := "weave", desc := "()I" } : Jvm.MethodName) prog_1_method_18_code (2 : Nat) (Option.some Jvm.ClassFile.FieldType.int)) ∈ lw_all := lw_g (lw_at lw_m2 175 rfl) rfl
theorem q472 : (Jvm.Cond.methodLink "JoinLoom" (154 : Nat) ({ cls := "JoinLoom", name := "stands", desc := "()Z" } : Jvm.MethodName)) ∈ lw_all := lw_g (lw_at lw_m2 176 rfl) rfl
theorem q473 : (Jvm.Cond.privateMethod ({ cls := "JoinLoom", name := "stands", desc := "()Z" } : Jvm.MethodName)) ∈ lw_tbl := lw_at lw_m2 177 rfl
theorem q474 : (Jvm.Cond.instanceMethod ({ cls := "JoinLoom", name := "stands", desc := "()Z" } : Jvm.MethodName)) ∈ lw_all := lw_g (lw_at lw_m2 178 rfl) rfl
theorem q475 : (Jvm.Cond.code ({ cls := "JoinLoom", name := "stands", desc := "()Z" } : Jvm.MethodName) prog_1_method_17_code (1 : Nat) (Option.some Jvm.ClassFile.FieldType.boolean)) ∈ lw_all := lw_g (lw_at lw_m2 179 rfl) rfl
theorem q476 : (Jvm.Cond.methodLink "JoinLoom" (150 : Nat) ({ cls := "JoinLoom$Question", name := "stands", desc := "()Z" } : Jvm.MethodName)) ∈ lw_all := lw_g (lw_at lw_m2 180 rfl) rfl
theorem q501 : (Jvm.Cond.methodLink "JoinLoom" (155 : Nat) ({ cls := "JoinLoom$Loom", name := "weaves", desc := "(LJoinLoom$Question;[ILJoinLoom$Cloth;)I" } : Jvm.MethodName)) ∈ lw_all := lw_g (lw_at lw_m2 205 rfl) rfl
theorem q633 : (Jvm.Cond.methodLink "JoinLoom" (159 : Nat) ({ cls := "JoinLoom$Cloth", name := "tells", desc := "(LJoinLoom$Question;)V" } : Jvm.MethodName)) ∈ lw_all := lw_g (lw_at lw_m3 97 rfl) rfl
theorem q639 : (Jvm.Cond.methodLink "JoinLoom" (163 : Nat) ({ cls := "JoinLoom$Cloth", name := "copy", desc := "(LJoinLoom$Cloth;)V" } : Jvm.MethodName)) ∈ lw_all := lw_g (lw_at lw_m3 103 rfl) rfl
theorem q647 : (Jvm.Cond.instanceMethod ({ cls := "JoinLoom", name := "answer", desc := "(II)I" } : Jvm.MethodName)) ∈ lw_all := lw_g (lw_at lw_m3 111 rfl) rfl
theorem q648 : (Jvm.Cond.selects "JoinLoom" ({ cls := "JoinLoom", name := "answer", desc := "(II)I" } : Jvm.MethodName) ({ cls := "JoinLoom", name := "answer", desc := "(II)I" } : Jvm.MethodName)) ∈ lw_all := lw_g (lw_at lw_m3 112 rfl) rfl
theorem q649 : (Jvm.Cond.code ({ cls := "JoinLoom", name := "answer", desc := "(II)I" } : Jvm.MethodName) prog_1_method_21_code (3 : Nat) (Option.some Jvm.ClassFile.FieldType.int)) ∈ lw_all := lw_g (lw_at lw_m3 113 rfl) rfl
theorem q650 : (Jvm.Cond.methodLink "JoinLoom" (173 : Nat) ({ cls := "JoinLoom", name := "isAnswer", desc := "(I)Z" } : Jvm.MethodName)) ∈ lw_all := lw_g (lw_at lw_m3 114 rfl) rfl
theorem q651 : (Jvm.Cond.privateMethod ({ cls := "JoinLoom", name := "isAnswer", desc := "(I)Z" } : Jvm.MethodName)) ∈ lw_tbl := lw_at lw_m3 115 rfl
theorem q652 : (Jvm.Cond.instanceMethod ({ cls := "JoinLoom", name := "isAnswer", desc := "(I)Z" } : Jvm.MethodName)) ∈ lw_all := lw_g (lw_at lw_m3 116 rfl) rfl
theorem q653 : (Jvm.Cond.code ({ cls := "JoinLoom", name := "isAnswer", desc := "(I)Z" } : Jvm.MethodName) prog_1_method_19_code (2 : Nat) (Option.some Jvm.ClassFile.FieldType.boolean)) ∈ lw_all := lw_g (lw_at lw_m3 117 rfl) rfl
theorem q654 : (Jvm.Cond.methodLink "JoinLoom" (176 : Nat) ({ cls := "JoinLoom", name := "isName", desc := "(I)Z" } : Jvm.MethodName)) ∈ lw_all := lw_g (lw_at lw_m3 118 rfl) rfl
theorem q655 : (Jvm.Cond.privateMethod ({ cls := "JoinLoom", name := "isName", desc := "(I)Z" } : Jvm.MethodName)) ∈ lw_tbl := lw_at lw_m3 119 rfl
theorem q656 : (Jvm.Cond.instanceMethod ({ cls := "JoinLoom", name := "isName", desc := "(I)Z" } : Jvm.MethodName)) ∈ lw_all := lw_g (lw_at lw_m3 120 rfl) rfl
theorem q657 : (Jvm.Cond.code ({ cls := "JoinLoom", name := "isName", desc := "(I)Z" } : Jvm.MethodName) prog_1_method_20_code (2 : Nat) (Option.some Jvm.ClassFile.FieldType.boolean)) ∈ lw_all := lw_g (lw_at lw_m3 121 rfl) rfl
theorem q658 : (Jvm.Cond.methodLink "JoinLoom" (179 : Nat) ({ cls := "JoinLoom$Cloth", name := "at", desc := "(II)I" } : Jvm.MethodName)) ∈ lw_all := lw_g (lw_at lw_m3 122 rfl) rfl
theorem q660 : (Jvm.Cond.instanceMethod ({ cls := "JoinLoom", name := "meetings", desc := "(I)I" } : Jvm.MethodName)) ∈ lw_all := lw_g (lw_at lw_m3 124 rfl) rfl
theorem q661 : (Jvm.Cond.selects "JoinLoom" ({ cls := "JoinLoom", name := "meetings", desc := "(I)I" } : Jvm.MethodName) ({ cls := "JoinLoom", name := "meetings", desc := "(I)I" } : Jvm.MethodName)) ∈ lw_all := lw_g (lw_at lw_m3 125 rfl) rfl
theorem q662 : (Jvm.Cond.code ({ cls := "JoinLoom", name := "meetings", desc := "(I)I" } : Jvm.MethodName) prog_1_method_22_code (2 : Nat) (Option.some Jvm.ClassFile.FieldType.int)) ∈ lw_all := lw_g (lw_at lw_m3 126 rfl) rfl
theorem q664 : (Jvm.Cond.instanceMethod ({ cls := "JoinLoom", name := "witness", desc := "(II)I" } : Jvm.MethodName)) ∈ lw_all := lw_g (lw_at lw_m3 128 rfl) rfl
theorem q665 : (Jvm.Cond.selects "JoinLoom" ({ cls := "JoinLoom", name := "witness", desc := "(II)I" } : Jvm.MethodName) ({ cls := "JoinLoom", name := "witness", desc := "(II)I" } : Jvm.MethodName)) ∈ lw_all := lw_g (lw_at lw_m3 129 rfl) rfl
theorem q666 : (Jvm.Cond.code ({ cls := "JoinLoom", name := "witness", desc := "(II)I" } : Jvm.MethodName) prog_1_method_23_code (3 : Nat) (Option.some Jvm.ClassFile.FieldType.int)) ∈ lw_all := lw_g (lw_at lw_m3 130 rfl) rfl
theorem q668 : (Jvm.Cond.instanceMethod ({ cls := "JoinLoom", name := "sum", desc := "(II)J" } : Jvm.MethodName)) ∈ lw_all := lw_g (lw_at lw_m3 132 rfl) rfl
theorem q669 : (Jvm.Cond.selects "JoinLoom" ({ cls := "JoinLoom", name := "sum", desc := "(II)J" } : Jvm.MethodName) ({ cls := "JoinLoom", name := "sum", desc := "(II)J" } : Jvm.MethodName)) ∈ lw_all := lw_g (lw_at lw_m3 133 rfl) rfl
theorem q670 : (Jvm.Cond.code ({ cls := "JoinLoom", name := "sum", desc := "(II)J" } : Jvm.MethodName) prog_1_method_24_code (10 : Nat) (Option.some Jvm.ClassFile.FieldType.long)) ∈ lw_all := lw_g (lw_at lw_m3 134 rfl) rfl
theorem q671 : (Jvm.Cond.methodLink "JoinLoom" (186 : Nat) ({ cls := "java/lang/Math", name := "max", desc := "(II)I" } : Jvm.MethodName)) ∈ lw_all := lw_g (lw_at lw_m3 135 rfl) rfl
theorem q674 : (Jvm.Cond.methodLink "JoinLoom" (191 : Nat) ({ cls := "java/lang/Math", name := "min", desc := "(II)I" } : Jvm.MethodName)) ∈ lw_all := lw_g (lw_at lw_m3 138 rfl) rfl
theorem q675 : (Jvm.Cond.methodLink "JoinLoom" (194 : Nat) ({ cls := "JoinLoom", name := "different", desc := "(I)I" } : Jvm.MethodName)) ∈ lw_all := lw_g (lw_at lw_m3 139 rfl) rfl
theorem q676 : (Jvm.Cond.privateMethod ({ cls := "JoinLoom", name := "different", desc := "(I)I" } : Jvm.MethodName)) ∈ lw_tbl := lw_at lw_m3 140 rfl
theorem q677 : (Jvm.Cond.instanceMethod ({ cls := "JoinLoom", name := "different", desc := "(I)I" } : Jvm.MethodName)) ∈ lw_all := lw_g (lw_at lw_m3 141 rfl) rfl
theorem q678 : (Jvm.Cond.code ({ cls := "JoinLoom", name := "different", desc := "(I)I" } : Jvm.MethodName) prog_1_method_25_code (6 : Nat) (Option.some Jvm.ClassFile.FieldType.int)) ∈ lw_all := lw_g (lw_at lw_m3 142 rfl) rfl
theorem q680 : (Jvm.Cond.instanceMethod ({ cls := "JoinLoom", name := "group", desc := "(IIII)J" } : Jvm.MethodName)) ∈ lw_all := lw_g (lw_at lw_m3 144 rfl) rfl
theorem q681 : (Jvm.Cond.selects "JoinLoom" ({ cls := "JoinLoom", name := "group", desc := "(IIII)J" } : Jvm.MethodName) ({ cls := "JoinLoom", name := "group", desc := "(IIII)J" } : Jvm.MethodName)) ∈ lw_all := lw_g (lw_at lw_m3 145 rfl) rfl
theorem q682 : (Jvm.Cond.code ({ cls := "JoinLoom", name := "group", desc := "(IIII)J" } : Jvm.MethodName) prog_1_method_26_code (9 : Nat) (Option.some Jvm.ClassFile.FieldType.long)) ∈ lw_all := lw_g (lw_at lw_m3 146 rfl) rfl
theorem q684 : (Jvm.Cond.instanceMethod ({ cls := "JoinLoom", name := "keep", desc := "()I" } : Jvm.MethodName)) ∈ lw_all := lw_g (lw_at lw_m3 148 rfl) rfl
theorem q685 : (Jvm.Cond.selects "JoinLoom" ({ cls := "JoinLoom", name := "keep", desc := "()I" } : Jvm.MethodName) ({ cls := "JoinLoom", name := "keep", desc := "()I" } : Jvm.MethodName)) ∈ lw_all := lw_g (lw_at lw_m3 149 rfl) rfl
theorem q686 : (Jvm.Cond.code ({ cls := "JoinLoom", name := "keep", desc := "()I" } : Jvm.MethodName) prog_1_method_27_code (1 : Nat) (Option.some Jvm.ClassFile.FieldType.int)) ∈ lw_all := lw_g (lw_at lw_m3 150 rfl) rfl
theorem q688 : (Jvm.Cond.instanceMethod ({ cls := "JoinLoom", name := "delta", desc := "(I)I" } : Jvm.MethodName)) ∈ lw_all := lw_g (lw_at lw_m3 152 rfl) rfl
theorem q689 : (Jvm.Cond.selects "JoinLoom" ({ cls := "JoinLoom", name := "delta", desc := "(I)I" } : Jvm.MethodName) ({ cls := "JoinLoom", name := "delta", desc := "(I)I" } : Jvm.MethodName)) ∈ lw_all := lw_g (lw_at lw_m3 153 rfl) rfl
theorem q690 : (Jvm.Cond.code ({ cls := "JoinLoom", name := "delta", desc := "(I)I" } : Jvm.MethodName) prog_1_method_30_code (2 : Nat) (Option.some Jvm.ClassFile.FieldType.int)) ∈ lw_all := lw_g (lw_at lw_m3 154 rfl) rfl
theorem q691 : (Jvm.Cond.methodLink "JoinLoom" (202 : Nat) ({ cls := "JoinLoom", name := "isCompared", desc := "()Z" } : Jvm.MethodName)) ∈ lw_all := lw_g (lw_at lw_m3 155 rfl) rfl
theorem q692 : (Jvm.Cond.privateMethod ({ cls := "JoinLoom", name := "isCompared", desc := "()Z" } : Jvm.MethodName)) ∈ lw_tbl := lw_at lw_m3 156 rfl
theorem q693 : (Jvm.Cond.instanceMethod ({ cls := "JoinLoom", name := "isCompared", desc := "()Z" } : Jvm.MethodName)) ∈ lw_all := lw_g (lw_at lw_m3 157 rfl) rfl
theorem q694 : (Jvm.Cond.code ({ cls := "JoinLoom", name := "isCompared", desc := "()Z" } : Jvm.MethodName) prog_1_method_29_code (1 : Nat) (Option.some Jvm.ClassFile.FieldType.boolean)) ∈ lw_all := lw_g (lw_at lw_m3 158 rfl) rfl
theorem q695 : (Jvm.Cond.methodLink "JoinLoom" (205 : Nat) ({ cls := "JoinLoom", name := "alone", desc := "(LJoinLoom$Cloth;LJoinLoom$Cloth;I)I" } : Jvm.MethodName)) ∈ lw_all := lw_g (lw_at lw_m3 159 rfl) rfl
theorem q696 : (Jvm.Cond.privateMethod ({ cls := "JoinLoom", name := "alone", desc := "(LJoinLoom$Cloth;LJoinLoom$Cloth;I)I" } : Jvm.MethodName)) ∈ lw_tbl := lw_at lw_m3 160 rfl
theorem q697 : (Jvm.Cond.instanceMethod ({ cls := "JoinLoom", name := "alone", desc := "(LJoinLoom$Cloth;LJoinLoom$Cloth;I)I" } : Jvm.MethodName)) ∈ lw_all := lw_g (lw_at lw_m3 161 rfl) rfl
theorem q698 : (Jvm.Cond.code ({ cls := "JoinLoom", name := "alone", desc := "(LJoinLoom$Cloth;LJoinLoom$Cloth;I)I" } : Jvm.MethodName) prog_1_method_28_code (7 : Nat) (Option.some Jvm.ClassFile.FieldType.int)) ∈ lw_all := lw_g (lw_at lw_m3 162 rfl) rfl
theorem q699 : (Jvm.Cond.methodLink "JoinLoom" (198 : Nat) ({ cls := "JoinLoom$Cloth", name := "compare", desc := "(ILJoinLoom$Cloth;I)I" } : Jvm.MethodName)) ∈ lw_all := lw_g (lw_at lw_m3 163 rfl) rfl
theorem q704 : (Jvm.Cond.instanceMethod ({ cls := "JoinLoom", name := "change", desc := "(III)I" } : Jvm.MethodName)) ∈ lw_all := lw_g (lw_at lw_m3 168 rfl) rfl
theorem q705 : (Jvm.Cond.selects "JoinLoom" ({ cls := "JoinLoom", name := "change", desc := "(III)I" } : Jvm.MethodName) ({ cls := "JoinLoom", name := "change", desc := "(III)I" } : Jvm.MethodName)) ∈ lw_all := lw_g (lw_at lw_m3 169 rfl) rfl
theorem q706 : (Jvm.Cond.code ({ cls := "JoinLoom", name := "change", desc := "(III)I" } : Jvm.MethodName) prog_1_method_31_code (6 : Nat) (Option.some Jvm.ClassFile.FieldType.int)) ∈ lw_all := lw_g (lw_at lw_m3 170 rfl) rfl
theorem q708 : (Jvm.Cond.instanceMethod ({ cls := "JoinLoom", name := "bound", desc := "()J" } : Jvm.MethodName)) ∈ lw_all := lw_g (lw_at lw_m3 172 rfl) rfl
theorem q709 : (Jvm.Cond.selects "JoinLoom" ({ cls := "JoinLoom", name := "bound", desc := "()J" } : Jvm.MethodName) ({ cls := "JoinLoom", name := "bound", desc := "()J" } : Jvm.MethodName)) ∈ lw_all := lw_g (lw_at lw_m3 173 rfl) rfl
theorem q710 : (Jvm.Cond.code ({ cls := "JoinLoom", name := "bound", desc := "()J" } : Jvm.MethodName) prog_1_method_35_code (1 : Nat) (Option.some Jvm.ClassFile.FieldType.long)) ∈ lw_all := lw_g (lw_at lw_m3 174 rfl) rfl
theorem q711 : (Jvm.Cond.constantLong "JoinLoom" (224 : Nat) (-1 : Int64)) ∈ lw_all := lw_g (lw_at lw_m3 175 rfl) rfl
theorem q712 : (Jvm.Cond.methodLink "JoinLoom" (229 : Nat) ({ cls := "JoinLoom", name := "covers", desc := "(IJJ)J" } : Jvm.MethodName)) ∈ lw_all := lw_g (lw_at lw_m3 176 rfl) rfl
theorem q713 : (Jvm.Cond.privateMethod ({ cls := "JoinLoom", name := "covers", desc := "(IJJ)J" } : Jvm.MethodName)) ∈ lw_tbl := lw_at lw_m3 177 rfl
theorem q714 : (Jvm.Cond.instanceMethod ({ cls := "JoinLoom", name := "covers", desc := "(IJJ)J" } : Jvm.MethodName)) ∈ lw_all := lw_g (lw_at lw_m3 178 rfl) rfl
theorem q715 : (Jvm.Cond.code ({ cls := "JoinLoom", name := "covers", desc := "(IJJ)J" } : Jvm.MethodName) prog_1_method_33_code (11 : Nat) (Option.some Jvm.ClassFile.FieldType.long)) ∈ lw_all := lw_g (lw_at lw_m3 179 rfl) rfl
theorem q716 : (Jvm.Cond.methodLink "JoinLoom" (221 : Nat) ({ cls := "JoinLoom", name := "sharesOf", desc := "(I)I" } : Jvm.MethodName)) ∈ lw_all := lw_g (lw_at lw_m3 180 rfl) rfl
theorem q717 : (Jvm.Cond.privateMethod ({ cls := "JoinLoom", name := "sharesOf", desc := "(I)I" } : Jvm.MethodName)) ∈ lw_tbl := lw_at lw_m3 181 rfl
theorem q718 : (Jvm.Cond.instanceMethod ({ cls := "JoinLoom", name := "sharesOf", desc := "(I)I" } : Jvm.MethodName)) ∈ lw_all := lw_g (lw_at lw_m3 182 rfl) rfl
theorem q719 : (Jvm.Cond.code ({ cls := "JoinLoom", name := "sharesOf", desc := "(I)I" } : Jvm.MethodName) prog_1_method_34_code (4 : Nat) (Option.some Jvm.ClassFile.FieldType.int)) ∈ lw_all := lw_g (lw_at lw_m3 183 rfl) rfl
theorem q720 : (Jvm.Cond.methodLink "JoinLoom" (226 : Nat) ({ cls := "JoinLoom", name := "isShared", desc := "(I)Z" } : Jvm.MethodName)) ∈ lw_all := lw_g (lw_at lw_m3 184 rfl) rfl
theorem q721 : (Jvm.Cond.privateMethod ({ cls := "JoinLoom", name := "isShared", desc := "(I)Z" } : Jvm.MethodName)) ∈ lw_tbl := lw_at lw_m3 185 rfl
theorem q722 : (Jvm.Cond.instanceMethod ({ cls := "JoinLoom", name := "isShared", desc := "(I)Z" } : Jvm.MethodName)) ∈ lw_all := lw_g (lw_at lw_m3 186 rfl) rfl
theorem q723 : (Jvm.Cond.code ({ cls := "JoinLoom", name := "isShared", desc := "(I)Z" } : Jvm.MethodName) prog_1_method_32_code (2 : Nat) (Option.some Jvm.ClassFile.FieldType.boolean)) ∈ lw_all := lw_g (lw_at lw_m3 187 rfl) rfl
theorem q724 : (Jvm.Cond.methodLink "JoinLoom" (218 : Nat) ({ cls := "JoinLoom$Part", name := "names", desc := "()I" } : Jvm.MethodName)) ∈ lw_all := lw_g (lw_at lw_m3 188 rfl) rfl
theorem q726 : (Jvm.Cond.instanceMethod ({ cls := "JoinLoom", name := "cover", desc := "(I)I" } : Jvm.MethodName)) ∈ lw_all := lw_g (lw_at lw_m3 190 rfl) rfl
theorem q727 : (Jvm.Cond.selects "JoinLoom" ({ cls := "JoinLoom", name := "cover", desc := "(I)I" } : Jvm.MethodName) ({ cls := "JoinLoom", name := "cover", desc := "(I)I" } : Jvm.MethodName)) ∈ lw_all := lw_g (lw_at lw_m3 191 rfl) rfl
theorem q728 : (Jvm.Cond.code ({ cls := "JoinLoom", name := "cover", desc := "(I)I" } : Jvm.MethodName) prog_1_method_36_code (2 : Nat) (Option.some Jvm.ClassFile.FieldType.int)) ∈ lw_all := lw_g (lw_at lw_m3 192 rfl) rfl
theorem q730 : (Jvm.Cond.instanceMethod ({ cls := "JoinLoom", name := "best", desc := "()I" } : Jvm.MethodName)) ∈ lw_all := lw_g (lw_at lw_m3 194 rfl) rfl
theorem q731 : (Jvm.Cond.selects "JoinLoom" ({ cls := "JoinLoom", name := "best", desc := "()I" } : Jvm.MethodName) ({ cls := "JoinLoom", name := "best", desc := "()I" } : Jvm.MethodName)) ∈ lw_all := lw_g (lw_at lw_m3 195 rfl) rfl
theorem q732 : (Jvm.Cond.code ({ cls := "JoinLoom", name := "best", desc := "()I" } : Jvm.MethodName) prog_1_method_38_code (2 : Nat) (Option.some Jvm.ClassFile.FieldType.int)) ∈ lw_all := lw_g (lw_at lw_m3 196 rfl) rfl
theorem q733 : (Jvm.Cond.methodLink "JoinLoom" (236 : Nat) ({ cls := "JoinLoom", name := "tries", desc := "(II)V" } : Jvm.MethodName)) ∈ lw_all := lw_g (lw_at lw_m3 197 rfl) rfl
theorem q734 : (Jvm.Cond.privateMethod ({ cls := "JoinLoom", name := "tries", desc := "(II)V" } : Jvm.MethodName)) ∈ lw_tbl := lw_at lw_m3 198 rfl
theorem q735 : (Jvm.Cond.instanceMethod ({ cls := "JoinLoom", name := "tries", desc := "(II)V" } : Jvm.MethodName)) ∈ lw_all := lw_g (lw_at lw_m3 199 rfl) rfl
theorem q736 : (Jvm.Cond.code ({ cls := "JoinLoom", name := "tries", desc := "(II)V" } : Jvm.MethodName) prog_1_method_37_code (6 : Nat) (Option.none : Option Jvm.ClassFile.FieldType)) ∈ lw_all := lw_g (lw_at lw_m3 200 rfl) rfl
theorem q738 : (Jvm.Cond.instanceMethod ({ cls := "JoinLoom", name := "rings", desc := "(I)I" } : Jvm.MethodName)) ∈ lw_all := lw_g (lw_at lw_m3 202 rfl) rfl
theorem q739 : (Jvm.Cond.selects "JoinLoom" ({ cls := "JoinLoom", name := "rings", desc := "(I)I" } : Jvm.MethodName) ({ cls := "JoinLoom", name := "rings", desc := "(I)I" } : Jvm.MethodName)) ∈ lw_all := lw_g (lw_at lw_m3 203 rfl) rfl
theorem q740 : (Jvm.Cond.code ({ cls := "JoinLoom", name := "rings", desc := "(I)I" } : Jvm.MethodName) prog_1_method_42_code (3 : Nat) (Option.some Jvm.ClassFile.FieldType.int)) ∈ lw_all := lw_g (lw_at lw_m3 204 rfl) rfl
theorem q741 : (Jvm.Cond.methodLink "JoinLoom" (252 : Nat) ({ cls := "JoinLoom", name := "rings", desc := "(LJoinLoom$Table;I)I" } : Jvm.MethodName)) ∈ lw_all := lw_g (lw_at lw_m3 205 rfl) rfl
theorem q742 : (Jvm.Cond.static ({ cls := "JoinLoom", name := "rings", desc := "(LJoinLoom$Table;I)I" } : Jvm.MethodName)) ∈ lw_all := lw_g (lw_at lw_m3 206 rfl) rfl
theorem q743 : (Jvm.Cond.code ({ cls := "JoinLoom", name := "rings", desc := "(LJoinLoom$Table;I)I" } : Jvm.MethodName) prog_1_method_41_code (7 : Nat) (Option.some Jvm.ClassFile.FieldType.int)) ∈ lw_all := lw_g (lw_at lw_m3 207 rfl) rfl
theorem q744 : (Jvm.Cond.methodLink "JoinLoom" (240 : Nat) ({ cls := "JoinLoom", name := "isFirst", desc := "(LJoinLoom$Table;I)Z" } : Jvm.MethodName)) ∈ lw_all := lw_g (lw_at lw_m3 208 rfl) rfl
theorem q745 : (Jvm.Cond.static ({ cls := "JoinLoom", name := "isFirst", desc := "(LJoinLoom$Table;I)Z" } : Jvm.MethodName)) ∈ lw_all := lw_g (lw_at lw_m3 209 rfl) rfl
theorem q746 : (Jvm.Cond.code ({ cls := "JoinLoom", name := "isFirst", desc := "(LJoinLoom$Table;I)Z" } : Jvm.MethodName) prog_1_method_40_code (2 : Nat) (Option.some Jvm.ClassFile.FieldType.boolean)) ∈ lw_all := lw_g (lw_at lw_m3 210 rfl) rfl
theorem q747 : (Jvm.Cond.methodLink "JoinLoom" (244 : Nat) ({ cls := "JoinLoom", name := "rank", desc := "(I)J" } : Jvm.MethodName)) ∈ lw_all := lw_g (lw_at lw_m3 211 rfl) rfl
theorem q748 : (Jvm.Cond.methodLink "JoinLoom" (248 : Nat) ({ cls := "JoinLoom", name := "leads", desc := "(LJoinLoom$Table;II)Z" } : Jvm.MethodName)) ∈ lw_all := lw_g (lw_at lw_m3 212 rfl) rfl
theorem q749 : (Jvm.Cond.static ({ cls := "JoinLoom", name := "leads", desc := "(LJoinLoom$Table;II)Z" } : Jvm.MethodName)) ∈ lw_all := lw_g (lw_at lw_m3 213 rfl) rfl
theorem q750 : (Jvm.Cond.code ({ cls := "JoinLoom", name := "leads", desc := "(LJoinLoom$Table;II)Z" } : Jvm.MethodName) prog_1_method_39_code (4 : Nat) (Option.some Jvm.ClassFile.FieldType.boolean)) ∈ lw_all := lw_g (lw_at lw_m3 214 rfl) rfl
theorem q752 : (Jvm.Cond.instanceMethod ({ cls := "JoinLoom", name := "ring", desc := "(III)I" } : Jvm.MethodName)) ∈ lw_all := lw_g (lw_at lw_m3 216 rfl) rfl
theorem q753 : (Jvm.Cond.selects "JoinLoom" ({ cls := "JoinLoom", name := "ring", desc := "(III)I" } : Jvm.MethodName) ({ cls := "JoinLoom", name := "ring", desc := "(III)I" } : Jvm.MethodName)) ∈ lw_all := lw_g (lw_at lw_m3 217 rfl) rfl
theorem q754 : (Jvm.Cond.code ({ cls := "JoinLoom", name := "ring", desc := "(III)I" } : Jvm.MethodName) prog_1_method_43_code (8 : Nat) (Option.some Jvm.ClassFile.FieldType.int)) ∈ lw_all := lw_g (lw_at lw_m3 218 rfl) rfl
theorem q756 : (Jvm.Cond.instanceMethod ({ cls := "JoinLoom", name := "count", desc := "(I)I" } : Jvm.MethodName)) ∈ lw_all := lw_g (lw_at lw_m3 220 rfl) rfl
theorem q757 : (Jvm.Cond.selects "JoinLoom" ({ cls := "JoinLoom", name := "count", desc := "(I)I" } : Jvm.MethodName) ({ cls := "JoinLoom", name := "count", desc := "(I)I" } : Jvm.MethodName)) ∈ lw_all := lw_g (lw_at lw_m3 221 rfl) rfl
theorem q758 : (Jvm.Cond.code ({ cls := "JoinLoom", name := "count", desc := "(I)I" } : Jvm.MethodName) prog_1_method_44_code (2 : Nat) (Option.some Jvm.ClassFile.FieldType.int)) ∈ lw_all := lw_g (lw_at lw_m3 222 rfl) rfl
theorem in_X0 : ∀ w ∈ wsX00, w ∈ lw_all := lw_in wsX00 [206, 208, 210, 212, 214, 216, 218, 220, 222, 224, 226] (by decide +kernel) (by decide +kernel)
