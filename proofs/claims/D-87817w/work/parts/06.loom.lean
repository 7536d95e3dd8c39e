/-! JoinLoom$Loom -/
set_option maxRecDepth 100000
def RX2 : String := "JoinLoom$Loom"
def TX2 : u_T := fun k => match k with
  | 0 => ("JoinLoom$Loom", "q", "LJoinLoom$Question;", false)
  | 1 => ("JoinLoom$Loom", "order", "[I", false)
  | 2 => ("JoinLoom$Loom", "cloth", "LJoinLoom$Cloth;", false)
  | 3 => ("JoinLoom$Loom", "trees", "[LJoinLoom$Tree;", true)
  | 4 => ("JoinLoom$Loom", "treeMany", "I", false)
  | 5 => ("JoinLoom$Loom", "walkers", "[[LJoinLoom$Tree;", true)
  | 6 => ("JoinLoom$Loom", "values", "[I", true)
  | _ => ("JoinLoom$Loom", "isTooMany", "Z", false)
def tyX2 : Nat → FieldType := fun k => match k with
  | 0 => .object "JoinLoom$Question"
  | 1 => .array .int
  | 2 => .object "JoinLoom$Cloth"
  | 3 => .array (.object "JoinLoom$Tree")
  | 4 => .int
  | 5 => .array (.array (.object "JoinLoom$Tree"))
  | 6 => .array .int
  | _ => .boolean
abbrev wsX20 : List Cond := u_ws RX2 TX2 8
theorem nmX2 : ∀ a, a < 8 → ∀ b, b < 8 → a ≠ b → (TX2 a).2.1 ≠ (TX2 b).2.1 := by decide +kernel
theorem tyX2_ok : ∀ k, k < 8 → parseFieldDescriptor (TX2 k).2.2.1 = some (tyX2 k) := by decide +kernel
abbrev cX2_init : ByteArray := prog_5_method_1_code
def yX2_init : MethodName := ⟨RX2, "<init>", "()V"⟩
def dkwX2_init_3 : List UInt8 := [181, 0, 20, 42, 16, 6, 188, 10, 181, 0, 23, 177]
abbrev dktX2_init_3 : List UInt8 := dkwX2_init_3 ++ []
def dkwX2_init_2 : List UInt8 := [83, 89, 7, 187, 0, 9, 89, 183, 0, 11, 83, 181, 0, 12, 42, 16, 6, 8, 197, 0, 18, 2]
abbrev dktX2_init_2 : List UInt8 := dkwX2_init_2 ++ dktX2_init_3
def dkwX2_init_1 : List UInt8 := [89, 183, 0, 11, 83, 89, 5, 187, 0, 9, 89, 183, 0, 11, 83, 89, 6, 187, 0, 9, 89, 183, 0, 11]
abbrev dktX2_init_1 : List UInt8 := dkwX2_init_1 ++ dktX2_init_2
def dkwX2_init_0 : List UInt8 := [42, 183, 0, 3, 42, 8, 189, 0, 9, 89, 3, 187, 0, 9, 89, 183, 0, 11, 83, 89, 4, 187, 0, 9]
abbrev dktX2_init_0 : List UInt8 := dkwX2_init_0 ++ dktX2_init_1
theorem dksX2_init_0 : cX2_init.data.toList.drop 0 = dktX2_init_0 := by decide +kernel
theorem dksX2_init_1 : cX2_init.data.toList.drop 24 = dktX2_init_1 := dk_seg dksX2_init_0 24 rfl rfl
theorem dksX2_init_2 : cX2_init.data.toList.drop 48 = dktX2_init_2 := dk_seg dksX2_init_1 24 rfl rfl
theorem dksX2_init_3 : cX2_init.data.toList.drop 70 = dktX2_init_3 := dk_seg dksX2_init_2 22 rfl rfl
theorem dX2_init_0 : decode cX2_init 0 = .ok (.aload_n 0, 1) := dk_42 (dk_at dksX2_init_0 0 rfl rfl)
theorem dX2_init_1 : decode cX2_init 1 = .ok (.invokespecial 3, 3) := dk_183 0 3 (dk_at dksX2_init_0 1 rfl rfl)
theorem dX2_init_4 : decode cX2_init 4 = .ok (.aload_n 0, 1) := dk_42 (dk_at dksX2_init_0 4 rfl rfl)
theorem dX2_init_5 : decode cX2_init 5 = .ok (.iconst 5, 1) := dk_8 (dk_at dksX2_init_0 5 rfl rfl)
theorem dX2_init_6 : decode cX2_init 6 = .ok (.anewarray 9, 3) := dk_189 0 9 (dk_at dksX2_init_0 6 rfl rfl)
theorem dX2_init_9 : decode cX2_init 9 = .ok (.dup, 1) := dk_89 (dk_at dksX2_init_0 9 rfl rfl)
theorem dX2_init_10 : decode cX2_init 10 = .ok (.iconst 0, 1) := dk_3 (dk_at dksX2_init_0 10 rfl rfl)
theorem dX2_init_11 : decode cX2_init 11 = .ok (.new 9, 3) := dk_187 0 9 (dk_at dksX2_init_0 11 rfl rfl)
theorem dX2_init_14 : decode cX2_init 14 = .ok (.dup, 1) := dk_89 (dk_at dksX2_init_0 14 rfl rfl)
theorem dX2_init_15 : decode cX2_init 15 = .ok (.invokespecial 11, 3) := dk_183 0 11 (dk_at dksX2_init_0 15 rfl rfl)
theorem dX2_init_18 : decode cX2_init 18 = .ok (.aastore, 1) := dk_83 (dk_at dksX2_init_0 18 rfl rfl)
theorem dX2_init_19 : decode cX2_init 19 = .ok (.dup, 1) := dk_89 (dk_at dksX2_init_0 19 rfl rfl)
theorem dX2_init_20 : decode cX2_init 20 = .ok (.iconst 1, 1) := dk_4 (dk_at dksX2_init_0 20 rfl rfl)
theorem dX2_init_21 : decode cX2_init 21 = .ok (.new 9, 3) := dk_187 0 9 (dk_at dksX2_init_0 21 rfl rfl)
theorem dX2_init_24 : decode cX2_init 24 = .ok (.dup, 1) := dk_89 (dk_at dksX2_init_1 0 rfl rfl)
theorem dX2_init_25 : decode cX2_init 25 = .ok (.invokespecial 11, 3) := dk_183 0 11 (dk_at dksX2_init_1 1 rfl rfl)
theorem dX2_init_28 : decode cX2_init 28 = .ok (.aastore, 1) := dk_83 (dk_at dksX2_init_1 4 rfl rfl)
theorem dX2_init_29 : decode cX2_init 29 = .ok (.dup, 1) := dk_89 (dk_at dksX2_init_1 5 rfl rfl)
theorem dX2_init_30 : decode cX2_init 30 = .ok (.iconst 2, 1) := dk_5 (dk_at dksX2_init_1 6 rfl rfl)
theorem dX2_init_31 : decode cX2_init 31 = .ok (.new 9, 3) := dk_187 0 9 (dk_at dksX2_init_1 7 rfl rfl)
theorem dX2_init_34 : decode cX2_init 34 = .ok (.dup, 1) := dk_89 (dk_at dksX2_init_1 10 rfl rfl)
theorem dX2_init_35 : decode cX2_init 35 = .ok (.invokespecial 11, 3) := dk_183 0 11 (dk_at dksX2_init_1 11 rfl rfl)
theorem dX2_init_38 : decode cX2_init 38 = .ok (.aastore, 1) := dk_83 (dk_at dksX2_init_1 14 rfl rfl)
theorem dX2_init_39 : decode cX2_init 39 = .ok (.dup, 1) := dk_89 (dk_at dksX2_init_1 15 rfl rfl)
theorem dX2_init_40 : decode cX2_init 40 = .ok (.iconst 3, 1) := dk_6 (dk_at dksX2_init_1 16 rfl rfl)
theorem dX2_init_41 : decode cX2_init 41 = .ok (.new 9, 3) := dk_187 0 9 (dk_at dksX2_init_1 17 rfl rfl)
theorem dX2_init_44 : decode cX2_init 44 = .ok (.dup, 1) := dk_89 (dk_at dksX2_init_1 20 rfl rfl)
theorem dX2_init_45 : decode cX2_init 45 = .ok (.invokespecial 11, 3) := dk_183 0 11 (dk_at dksX2_init_1 21 rfl rfl)
theorem dX2_init_48 : decode cX2_init 48 = .ok (.aastore, 1) := dk_83 (dk_at dksX2_init_2 0 rfl rfl)
theorem dX2_init_49 : decode cX2_init 49 = .ok (.dup, 1) := dk_89 (dk_at dksX2_init_2 1 rfl rfl)
theorem dX2_init_50 : decode cX2_init 50 = .ok (.iconst 4, 1) := dk_7 (dk_at dksX2_init_2 2 rfl rfl)
theorem dX2_init_51 : decode cX2_init 51 = .ok (.new 9, 3) := dk_187 0 9 (dk_at dksX2_init_2 3 rfl rfl)
theorem dX2_init_54 : decode cX2_init 54 = .ok (.dup, 1) := dk_89 (dk_at dksX2_init_2 6 rfl rfl)
theorem dX2_init_55 : decode cX2_init 55 = .ok (.invokespecial 11, 3) := dk_183 0 11 (dk_at dksX2_init_2 7 rfl rfl)
theorem dX2_init_58 : decode cX2_init 58 = .ok (.aastore, 1) := dk_83 (dk_at dksX2_init_2 10 rfl rfl)
theorem dX2_init_59 : decode cX2_init 59 = .ok (.putfield 12, 3) := dk_181 0 12 (dk_at dksX2_init_2 11 rfl rfl)
theorem dX2_init_62 : decode cX2_init 62 = .ok (.aload_n 0, 1) := dk_42 (dk_at dksX2_init_2 14 rfl rfl)
theorem dX2_init_63 : decode cX2_init 63 = .ok (.bipush 6, 2) := dk_16 6 (dk_at dksX2_init_2 15 rfl rfl)
theorem dX2_init_65 : decode cX2_init 65 = .ok (.iconst 5, 1) := dk_8 (dk_at dksX2_init_2 17 rfl rfl)
theorem dX2_init_66 : decode cX2_init 66 = .ok (.multianewarray 18 2, 4) := by decide +kernel
theorem dX2_init_70 : decode cX2_init 70 = .ok (.putfield 20, 3) := dk_181 0 20 (dk_at dksX2_init_3 0 rfl rfl)
theorem dX2_init_73 : decode cX2_init 73 = .ok (.aload_n 0, 1) := dk_42 (dk_at dksX2_init_3 3 rfl rfl)
theorem dX2_init_74 : decode cX2_init 74 = .ok (.bipush 6, 2) := dk_16 6 (dk_at dksX2_init_3 4 rfl rfl)
theorem dX2_init_76 : decode cX2_init 76 = .ok (.newarray .int, 2) := dk_188_10 (dk_at dksX2_init_3 6 rfl rfl)
theorem dX2_init_78 : decode cX2_init 78 = .ok (.putfield 23, 3) := dk_181 0 23 (dk_at dksX2_init_3 8 rfl rfl)
theorem dX2_init_81 : decode cX2_init 81 = .ok (.return_, 1) := dk_177 (dk_at dksX2_init_3 11 rfl rfl)
abbrev cX2_weaves : ByteArray := prog_5_method_2_code
def yX2_weaves : MethodName := ⟨RX2, "weaves", "(LJoinLoom$Question;[ILJoinLoom$Cloth;)I"⟩
def dkwX2_weaves_10 : List UInt8 := [180, 0, 34, 180, 0, 54, 172]
abbrev dktX2_weaves_10 : List UInt8 := dkwX2_weaves_10 ++ []
def dkwX2_weaves_9 : List UInt8 := [153, 0, 9, 42, 3, 3, 182, 0, 83, 42, 180, 0, 42, 153, 0, 8, 16, 254, 167, 0, 10, 42]
abbrev dktX2_weaves_9 : List UInt8 := dkwX2_weaves_9 ++ dktX2_weaves_10
def dkwX2_weaves_8 : List UInt8 := [167, 0, 4, 3, 54, 4, 42, 89, 180, 0, 38, 4, 96, 181, 0, 38, 132, 5, 1, 167, 255, 144, 21, 4]
abbrev dktX2_weaves_8 : List UInt8 := dkwX2_weaves_8 ++ dktX2_weaves_9
def dkwX2_weaves_7 : List UInt8 := [21, 4, 153, 0, 23, 25, 6, 180, 0, 79, 157, 0, 11, 25, 6, 180, 0, 82, 158, 0, 7, 4]
abbrev dktX2_weaves_7 : List UInt8 := dkwX2_weaves_7 ++ dktX2_weaves_8
def dkwX2_weaves_6 : List UInt8 := [180, 0, 64, 21, 5, 50, 192, 0, 73, 42, 180, 0, 31, 42, 180, 0, 27, 180, 0, 46, 182, 0, 75]
abbrev dktX2_weaves_6 : List UInt8 := dkwX2_weaves_6 ++ dktX2_weaves_7
def dkwX2_weaves_5 : List UInt8 := [153, 0, 6, 167, 0, 81, 42, 180, 0, 12, 42, 180, 0, 38, 50, 58, 6, 25, 6, 42, 180, 0, 27]
abbrev dktX2_weaves_5 : List UInt8 := dkwX2_weaves_5 ++ dktX2_weaves_6
def dkwX2_weaves_4 : List UInt8 := [42, 180, 0, 27, 180, 0, 63, 162, 0, 106, 42, 180, 0, 27, 180, 0, 64, 21, 5, 50, 180, 0, 68]
abbrev dktX2_weaves_4 : List UInt8 := dkwX2_weaves_4 ++ dktX2_weaves_5
def dkwX2_weaves_3 : List UInt8 := [180, 0, 34, 180, 0, 60, 21, 4, 3, 79, 132, 4, 1, 167, 255, 235, 4, 54, 4, 3, 54, 5, 21, 5]
abbrev dktX2_weaves_3 : List UInt8 := dkwX2_weaves_3 ++ dktX2_weaves_4
def dkwX2_weaves_2 : List UInt8 := [181, 0, 54, 42, 180, 0, 34, 4, 181, 0, 57, 3, 54, 4, 21, 4, 16, 6, 162, 0, 20, 42]
abbrev dktX2_weaves_2 : List UInt8 := dkwX2_weaves_2 ++ dktX2_weaves_3
def dkwX2_weaves_1 : List UInt8 := [181, 0, 42, 42, 180, 0, 34, 42, 180, 0, 27, 180, 0, 46, 181, 0, 51, 42, 180, 0, 34, 3]
abbrev dktX2_weaves_1 : List UInt8 := dkwX2_weaves_1 ++ dktX2_weaves_2
def dkwX2_weaves_0 : List UInt8 := [42, 43, 181, 0, 27, 42, 44, 181, 0, 31, 42, 45, 181, 0, 34, 42, 3, 181, 0, 38, 42, 3]
abbrev dktX2_weaves_0 : List UInt8 := dkwX2_weaves_0 ++ dktX2_weaves_1
theorem dksX2_weaves_0 : cX2_weaves.data.toList.drop 0 = dktX2_weaves_0 := by decide +kernel
theorem dksX2_weaves_1 : cX2_weaves.data.toList.drop 22 = dktX2_weaves_1 := dk_seg dksX2_weaves_0 22 rfl rfl
theorem dksX2_weaves_2 : cX2_weaves.data.toList.drop 44 = dktX2_weaves_2 := dk_seg dksX2_weaves_1 22 rfl rfl
theorem dksX2_weaves_3 : cX2_weaves.data.toList.drop 66 = dktX2_weaves_3 := dk_seg dksX2_weaves_2 22 rfl rfl
theorem dksX2_weaves_4 : cX2_weaves.data.toList.drop 90 = dktX2_weaves_4 := dk_seg dksX2_weaves_3 24 rfl rfl
theorem dksX2_weaves_5 : cX2_weaves.data.toList.drop 113 = dktX2_weaves_5 := dk_seg dksX2_weaves_4 23 rfl rfl
theorem dksX2_weaves_6 : cX2_weaves.data.toList.drop 136 = dktX2_weaves_6 := dk_seg dksX2_weaves_5 23 rfl rfl
theorem dksX2_weaves_7 : cX2_weaves.data.toList.drop 159 = dktX2_weaves_7 := dk_seg dksX2_weaves_6 23 rfl rfl
theorem dksX2_weaves_8 : cX2_weaves.data.toList.drop 181 = dktX2_weaves_8 := dk_seg dksX2_weaves_7 22 rfl rfl
theorem dksX2_weaves_9 : cX2_weaves.data.toList.drop 205 = dktX2_weaves_9 := dk_seg dksX2_weaves_8 24 rfl rfl
theorem dksX2_weaves_10 : cX2_weaves.data.toList.drop 227 = dktX2_weaves_10 := dk_seg dksX2_weaves_9 22 rfl rfl
theorem dX2_weaves_0 : decode cX2_weaves 0 = .ok (.aload_n 0, 1) := dk_42 (dk_at dksX2_weaves_0 0 rfl rfl)
theorem dX2_weaves_1 : decode cX2_weaves 1 = .ok (.aload_n 1, 1) := dk_43 (dk_at dksX2_weaves_0 1 rfl rfl)
theorem dX2_weaves_2 : decode cX2_weaves 2 = .ok (.putfield 27, 3) := dk_181 0 27 (dk_at dksX2_weaves_0 2 rfl rfl)
theorem dX2_weaves_5 : decode cX2_weaves 5 = .ok (.aload_n 0, 1) := dk_42 (dk_at dksX2_weaves_0 5 rfl rfl)
theorem dX2_weaves_6 : decode cX2_weaves 6 = .ok (.aload_n 2, 1) := dk_44 (dk_at dksX2_weaves_0 6 rfl rfl)
theorem dX2_weaves_7 : decode cX2_weaves 7 = .ok (.putfield 31, 3) := dk_181 0 31 (dk_at dksX2_weaves_0 7 rfl rfl)
theorem dX2_weaves_10 : decode cX2_weaves 10 = .ok (.aload_n 0, 1) := dk_42 (dk_at dksX2_weaves_0 10 rfl rfl)
theorem dX2_weaves_11 : decode cX2_weaves 11 = .ok (.aload_n 3, 1) := dk_45 (dk_at dksX2_weaves_0 11 rfl rfl)
theorem dX2_weaves_12 : decode cX2_weaves 12 = .ok (.putfield 34, 3) := dk_181 0 34 (dk_at dksX2_weaves_0 12 rfl rfl)
theorem dX2_weaves_15 : decode cX2_weaves 15 = .ok (.aload_n 0, 1) := dk_42 (dk_at dksX2_weaves_0 15 rfl rfl)
theorem dX2_weaves_16 : decode cX2_weaves 16 = .ok (.iconst 0, 1) := dk_3 (dk_at dksX2_weaves_0 16 rfl rfl)
theorem dX2_weaves_17 : decode cX2_weaves 17 = .ok (.putfield 38, 3) := dk_181 0 38 (dk_at dksX2_weaves_0 17 rfl rfl)
theorem dX2_weaves_20 : decode cX2_weaves 20 = .ok (.aload_n 0, 1) := dk_42 (dk_at dksX2_weaves_0 20 rfl rfl)
theorem dX2_weaves_21 : decode cX2_weaves 21 = .ok (.iconst 0, 1) := dk_3 (dk_at dksX2_weaves_0 21 rfl rfl)
theorem dX2_weaves_22 : decode cX2_weaves 22 = .ok (.putfield 42, 3) := dk_181 0 42 (dk_at dksX2_weaves_1 0 rfl rfl)
theorem dX2_weaves_25 : decode cX2_weaves 25 = .ok (.aload_n 0, 1) := dk_42 (dk_at dksX2_weaves_1 3 rfl rfl)
theorem dX2_weaves_26 : decode cX2_weaves 26 = .ok (.getfield 34, 3) := dk_180 0 34 (dk_at dksX2_weaves_1 4 rfl rfl)
theorem dX2_weaves_29 : decode cX2_weaves 29 = .ok (.aload_n 0, 1) := dk_42 (dk_at dksX2_weaves_1 7 rfl rfl)
theorem dX2_weaves_30 : decode cX2_weaves 30 = .ok (.getfield 27, 3) := dk_180 0 27 (dk_at dksX2_weaves_1 8 rfl rfl)
theorem dX2_weaves_33 : decode cX2_weaves 33 = .ok (.getfield 46, 3) := dk_180 0 46 (dk_at dksX2_weaves_1 11 rfl rfl)
theorem dX2_weaves_36 : decode cX2_weaves 36 = .ok (.putfield 51, 3) := dk_181 0 51 (dk_at dksX2_weaves_1 14 rfl rfl)
theorem dX2_weaves_39 : decode cX2_weaves 39 = .ok (.aload_n 0, 1) := dk_42 (dk_at dksX2_weaves_1 17 rfl rfl)
theorem dX2_weaves_40 : decode cX2_weaves 40 = .ok (.getfield 34, 3) := dk_180 0 34 (dk_at dksX2_weaves_1 18 rfl rfl)
theorem dX2_weaves_43 : decode cX2_weaves 43 = .ok (.iconst 0, 1) := dk_3 (dk_at dksX2_weaves_1 21 rfl rfl)
theorem dX2_weaves_44 : decode cX2_weaves 44 = .ok (.putfield 54, 3) := dk_181 0 54 (dk_at dksX2_weaves_2 0 rfl rfl)
theorem dX2_weaves_47 : decode cX2_weaves 47 = .ok (.aload_n 0, 1) := dk_42 (dk_at dksX2_weaves_2 3 rfl rfl)
theorem dX2_weaves_48 : decode cX2_weaves 48 = .ok (.getfield 34, 3) := dk_180 0 34 (dk_at dksX2_weaves_2 4 rfl rfl)
theorem dX2_weaves_51 : decode cX2_weaves 51 = .ok (.iconst 1, 1) := dk_4 (dk_at dksX2_weaves_2 7 rfl rfl)
theorem dX2_weaves_52 : decode cX2_weaves 52 = .ok (.putfield 57, 3) := dk_181 0 57 (dk_at dksX2_weaves_2 8 rfl rfl)
theorem dX2_weaves_55 : decode cX2_weaves 55 = .ok (.iconst 0, 1) := dk_3 (dk_at dksX2_weaves_2 11 rfl rfl)
theorem dX2_weaves_56 : decode cX2_weaves 56 = .ok (.istore 4, 2) := dk_54 4 (dk_at dksX2_weaves_2 12 rfl rfl)
theorem dX2_weaves_58 : decode cX2_weaves 58 = .ok (.iload 4, 2) := dk_21 4 (dk_at dksX2_weaves_2 14 rfl rfl)
theorem dX2_weaves_60 : decode cX2_weaves 60 = .ok (.bipush 6, 2) := dk_16 6 (dk_at dksX2_weaves_2 16 rfl rfl)
theorem dX2_weaves_62 : decode cX2_weaves 62 = .ok (.if_icmp .ge 20, 3) := dk_162 0 20 (dk_at dksX2_weaves_2 18 rfl rfl)
theorem dX2_weaves_65 : decode cX2_weaves 65 = .ok (.aload_n 0, 1) := dk_42 (dk_at dksX2_weaves_2 21 rfl rfl)
theorem dX2_weaves_66 : decode cX2_weaves 66 = .ok (.getfield 34, 3) := dk_180 0 34 (dk_at dksX2_weaves_3 0 rfl rfl)
theorem dX2_weaves_69 : decode cX2_weaves 69 = .ok (.getfield 60, 3) := dk_180 0 60 (dk_at dksX2_weaves_3 3 rfl rfl)
theorem dX2_weaves_72 : decode cX2_weaves 72 = .ok (.iload 4, 2) := dk_21 4 (dk_at dksX2_weaves_3 6 rfl rfl)
theorem dX2_weaves_74 : decode cX2_weaves 74 = .ok (.iconst 0, 1) := dk_3 (dk_at dksX2_weaves_3 8 rfl rfl)
theorem dX2_weaves_75 : decode cX2_weaves 75 = .ok (.iastore, 1) := dk_79 (dk_at dksX2_weaves_3 9 rfl rfl)
theorem dX2_weaves_76 : decode cX2_weaves 76 = .ok (.iinc 4 1, 3) := dk_132 4 1 (dk_at dksX2_weaves_3 10 rfl rfl)
theorem dX2_weaves_79 : decode cX2_weaves 79 = .ok (.goto (-21), 3) := dk_167 255 235 (dk_at dksX2_weaves_3 13 rfl rfl)
theorem dX2_weaves_82 : decode cX2_weaves 82 = .ok (.iconst 1, 1) := dk_4 (dk_at dksX2_weaves_3 16 rfl rfl)
theorem dX2_weaves_83 : decode cX2_weaves 83 = .ok (.istore 4, 2) := dk_54 4 (dk_at dksX2_weaves_3 17 rfl rfl)
theorem dX2_weaves_85 : decode cX2_weaves 85 = .ok (.iconst 0, 1) := dk_3 (dk_at dksX2_weaves_3 19 rfl rfl)
theorem dX2_weaves_86 : decode cX2_weaves 86 = .ok (.istore 5, 2) := dk_54 5 (dk_at dksX2_weaves_3 20 rfl rfl)
theorem dX2_weaves_88 : decode cX2_weaves 88 = .ok (.iload 5, 2) := dk_21 5 (dk_at dksX2_weaves_3 22 rfl rfl)
theorem dX2_weaves_90 : decode cX2_weaves 90 = .ok (.aload_n 0, 1) := dk_42 (dk_at dksX2_weaves_4 0 rfl rfl)
theorem dX2_weaves_91 : decode cX2_weaves 91 = .ok (.getfield 27, 3) := dk_180 0 27 (dk_at dksX2_weaves_4 1 rfl rfl)
theorem dX2_weaves_94 : decode cX2_weaves 94 = .ok (.getfield 63, 3) := dk_180 0 63 (dk_at dksX2_weaves_4 4 rfl rfl)
theorem dX2_weaves_97 : decode cX2_weaves 97 = .ok (.if_icmp .ge 106, 3) := dk_162 0 106 (dk_at dksX2_weaves_4 7 rfl rfl)
theorem dX2_weaves_100 : decode cX2_weaves 100 = .ok (.aload_n 0, 1) := dk_42 (dk_at dksX2_weaves_4 10 rfl rfl)
theorem dX2_weaves_101 : decode cX2_weaves 101 = .ok (.getfield 27, 3) := dk_180 0 27 (dk_at dksX2_weaves_4 11 rfl rfl)
theorem dX2_weaves_104 : decode cX2_weaves 104 = .ok (.getfield 64, 3) := dk_180 0 64 (dk_at dksX2_weaves_4 14 rfl rfl)
theorem dX2_weaves_107 : decode cX2_weaves 107 = .ok (.iload 5, 2) := dk_21 5 (dk_at dksX2_weaves_4 17 rfl rfl)
theorem dX2_weaves_109 : decode cX2_weaves 109 = .ok (.aaload, 1) := dk_50 (dk_at dksX2_weaves_4 19 rfl rfl)
theorem dX2_weaves_110 : decode cX2_weaves 110 = .ok (.getfield 68, 3) := dk_180 0 68 (dk_at dksX2_weaves_4 20 rfl rfl)
theorem dX2_weaves_113 : decode cX2_weaves 113 = .ok (.ifCond .eq 6, 3) := dk_153 0 6 (dk_at dksX2_weaves_5 0 rfl rfl)
theorem dX2_weaves_116 : decode cX2_weaves 116 = .ok (.goto 81, 3) := dk_167 0 81 (dk_at dksX2_weaves_5 3 rfl rfl)
theorem dX2_weaves_119 : decode cX2_weaves 119 = .ok (.aload_n 0, 1) := dk_42 (dk_at dksX2_weaves_5 6 rfl rfl)
theorem dX2_weaves_120 : decode cX2_weaves 120 = .ok (.getfield 12, 3) := dk_180 0 12 (dk_at dksX2_weaves_5 7 rfl rfl)
theorem dX2_weaves_123 : decode cX2_weaves 123 = .ok (.aload_n 0, 1) := dk_42 (dk_at dksX2_weaves_5 10 rfl rfl)
theorem dX2_weaves_124 : decode cX2_weaves 124 = .ok (.getfield 38, 3) := dk_180 0 38 (dk_at dksX2_weaves_5 11 rfl rfl)
theorem dX2_weaves_127 : decode cX2_weaves 127 = .ok (.aaload, 1) := dk_50 (dk_at dksX2_weaves_5 14 rfl rfl)
theorem dX2_weaves_128 : decode cX2_weaves 128 = .ok (.astore 6, 2) := dk_58 6 (dk_at dksX2_weaves_5 15 rfl rfl)
theorem dX2_weaves_130 : decode cX2_weaves 130 = .ok (.aload 6, 2) := dk_25 6 (dk_at dksX2_weaves_5 17 rfl rfl)
theorem dX2_weaves_132 : decode cX2_weaves 132 = .ok (.aload_n 0, 1) := dk_42 (dk_at dksX2_weaves_5 19 rfl rfl)
theorem dX2_weaves_133 : decode cX2_weaves 133 = .ok (.getfield 27, 3) := dk_180 0 27 (dk_at dksX2_weaves_5 20 rfl rfl)
theorem dX2_weaves_136 : decode cX2_weaves 136 = .ok (.getfield 64, 3) := dk_180 0 64 (dk_at dksX2_weaves_6 0 rfl rfl)
theorem dX2_weaves_139 : decode cX2_weaves 139 = .ok (.iload 5, 2) := dk_21 5 (dk_at dksX2_weaves_6 3 rfl rfl)
theorem dX2_weaves_141 : decode cX2_weaves 141 = .ok (.aaload, 1) := dk_50 (dk_at dksX2_weaves_6 5 rfl rfl)
theorem dX2_weaves_142 : decode cX2_weaves 142 = .ok (.checkcast 73, 3) := dk_192 0 73 (dk_at dksX2_weaves_6 6 rfl rfl)
theorem dX2_weaves_145 : decode cX2_weaves 145 = .ok (.aload_n 0, 1) := dk_42 (dk_at dksX2_weaves_6 9 rfl rfl)
theorem dX2_weaves_146 : decode cX2_weaves 146 = .ok (.getfield 31, 3) := dk_180 0 31 (dk_at dksX2_weaves_6 10 rfl rfl)
theorem dX2_weaves_149 : decode cX2_weaves 149 = .ok (.aload_n 0, 1) := dk_42 (dk_at dksX2_weaves_6 13 rfl rfl)
theorem dX2_weaves_150 : decode cX2_weaves 150 = .ok (.getfield 27, 3) := dk_180 0 27 (dk_at dksX2_weaves_6 14 rfl rfl)
theorem dX2_weaves_153 : decode cX2_weaves 153 = .ok (.getfield 46, 3) := dk_180 0 46 (dk_at dksX2_weaves_6 17 rfl rfl)
theorem dX2_weaves_156 : decode cX2_weaves 156 = .ok (.invokevirtual 75, 3) := dk_182 0 75 (dk_at dksX2_weaves_6 20 rfl rfl)
theorem dX2_weaves_159 : decode cX2_weaves 159 = .ok (.iload 4, 2) := dk_21 4 (dk_at dksX2_weaves_7 0 rfl rfl)
theorem dX2_weaves_161 : decode cX2_weaves 161 = .ok (.ifCond .eq 23, 3) := dk_153 0 23 (dk_at dksX2_weaves_7 2 rfl rfl)
theorem dX2_weaves_164 : decode cX2_weaves 164 = .ok (.aload 6, 2) := dk_25 6 (dk_at dksX2_weaves_7 5 rfl rfl)
theorem dX2_weaves_166 : decode cX2_weaves 166 = .ok (.getfield 79, 3) := dk_180 0 79 (dk_at dksX2_weaves_7 7 rfl rfl)
theorem dX2_weaves_169 : decode cX2_weaves 169 = .ok (.ifCond .gt 11, 3) := dk_157 0 11 (dk_at dksX2_weaves_7 10 rfl rfl)
theorem dX2_weaves_172 : decode cX2_weaves 172 = .ok (.aload 6, 2) := dk_25 6 (dk_at dksX2_weaves_7 13 rfl rfl)
theorem dX2_weaves_174 : decode cX2_weaves 174 = .ok (.getfield 82, 3) := dk_180 0 82 (dk_at dksX2_weaves_7 15 rfl rfl)
theorem dX2_weaves_177 : decode cX2_weaves 177 = .ok (.ifCond .le 7, 3) := dk_158 0 7 (dk_at dksX2_weaves_7 18 rfl rfl)
theorem dX2_weaves_180 : decode cX2_weaves 180 = .ok (.iconst 1, 1) := dk_4 (dk_at dksX2_weaves_7 21 rfl rfl)
theorem dX2_weaves_181 : decode cX2_weaves 181 = .ok (.goto 4, 3) := dk_167 0 4 (dk_at dksX2_weaves_8 0 rfl rfl)
theorem dX2_weaves_184 : decode cX2_weaves 184 = .ok (.iconst 0, 1) := dk_3 (dk_at dksX2_weaves_8 3 rfl rfl)
theorem dX2_weaves_185 : decode cX2_weaves 185 = .ok (.istore 4, 2) := dk_54 4 (dk_at dksX2_weaves_8 4 rfl rfl)
theorem dX2_weaves_187 : decode cX2_weaves 187 = .ok (.aload_n 0, 1) := dk_42 (dk_at dksX2_weaves_8 6 rfl rfl)
theorem dX2_weaves_188 : decode cX2_weaves 188 = .ok (.dup, 1) := dk_89 (dk_at dksX2_weaves_8 7 rfl rfl)
theorem dX2_weaves_189 : decode cX2_weaves 189 = .ok (.getfield 38, 3) := dk_180 0 38 (dk_at dksX2_weaves_8 8 rfl rfl)
theorem dX2_weaves_192 : decode cX2_weaves 192 = .ok (.iconst 1, 1) := dk_4 (dk_at dksX2_weaves_8 11 rfl rfl)
theorem dX2_weaves_193 : decode cX2_weaves 193 = .ok (.iadd, 1) := dk_96 (dk_at dksX2_weaves_8 12 rfl rfl)
theorem dX2_weaves_194 : decode cX2_weaves 194 = .ok (.putfield 38, 3) := dk_181 0 38 (dk_at dksX2_weaves_8 13 rfl rfl)
theorem dX2_weaves_197 : decode cX2_weaves 197 = .ok (.iinc 5 1, 3) := dk_132 5 1 (dk_at dksX2_weaves_8 16 rfl rfl)
theorem dX2_weaves_200 : decode cX2_weaves 200 = .ok (.goto (-112), 3) := dk_167 255 144 (dk_at dksX2_weaves_8 19 rfl rfl)
theorem dX2_weaves_203 : decode cX2_weaves 203 = .ok (.iload 4, 2) := dk_21 4 (dk_at dksX2_weaves_8 22 rfl rfl)
theorem dX2_weaves_205 : decode cX2_weaves 205 = .ok (.ifCond .eq 9, 3) := dk_153 0 9 (dk_at dksX2_weaves_9 0 rfl rfl)
theorem dX2_weaves_208 : decode cX2_weaves 208 = .ok (.aload_n 0, 1) := dk_42 (dk_at dksX2_weaves_9 3 rfl rfl)
theorem dX2_weaves_209 : decode cX2_weaves 209 = .ok (.iconst 0, 1) := dk_3 (dk_at dksX2_weaves_9 4 rfl rfl)
theorem dX2_weaves_210 : decode cX2_weaves 210 = .ok (.iconst 0, 1) := dk_3 (dk_at dksX2_weaves_9 5 rfl rfl)
theorem dX2_weaves_211 : decode cX2_weaves 211 = .ok (.invokevirtual 83, 3) := dk_182 0 83 (dk_at dksX2_weaves_9 6 rfl rfl)
theorem dX2_weaves_214 : decode cX2_weaves 214 = .ok (.aload_n 0, 1) := dk_42 (dk_at dksX2_weaves_9 9 rfl rfl)
theorem dX2_weaves_215 : decode cX2_weaves 215 = .ok (.getfield 42, 3) := dk_180 0 42 (dk_at dksX2_weaves_9 10 rfl rfl)
theorem dX2_weaves_218 : decode cX2_weaves 218 = .ok (.ifCond .eq 8, 3) := dk_153 0 8 (dk_at dksX2_weaves_9 13 rfl rfl)
theorem dX2_weaves_221 : decode cX2_weaves 221 = .ok (.bipush (-2), 2) := dk_16 254 (dk_at dksX2_weaves_9 16 rfl rfl)
theorem dX2_weaves_223 : decode cX2_weaves 223 = .ok (.goto 10, 3) := dk_167 0 10 (dk_at dksX2_weaves_9 18 rfl rfl)
theorem dX2_weaves_226 : decode cX2_weaves 226 = .ok (.aload_n 0, 1) := dk_42 (dk_at dksX2_weaves_9 21 rfl rfl)
theorem dX2_weaves_227 : decode cX2_weaves 227 = .ok (.getfield 34, 3) := dk_180 0 34 (dk_at dksX2_weaves_10 0 rfl rfl)
theorem dX2_weaves_230 : decode cX2_weaves 230 = .ok (.getfield 54, 3) := dk_180 0 54 (dk_at dksX2_weaves_10 3 rfl rfl)
theorem dX2_weaves_233 : decode cX2_weaves 233 = .ok (.ireturn, 1) := dk_172 (dk_at dksX2_weaves_10 6 rfl rfl)
abbrev cX2_goes : ByteArray := prog_5_method_4_code
def yX2_goes : MethodName := ⟨RX2, "goes", "(II)V"⟩
def dkwX2_goes_8 : List UInt8 := [167, 255, 171, 177]
abbrev dktX2_goes_8 : List UInt8 := dkwX2_goes_8 ++ []
def dkwX2_goes_7 : List UInt8 := [153, 0, 17, 42, 25, 4, 21, 5, 27, 28, 4, 29, 120, 128, 182, 0, 116, 25, 4, 3, 50, 182, 0, 120]
abbrev dktX2_goes_7 : List UInt8 := dkwX2_goes_7 ++ dktX2_goes_8
def dkwX2_goes_6 : List UInt8 := [182, 0, 109, 79, 42, 28, 4, 29, 120, 128, 28, 27, 154, 0, 7, 4, 167, 0, 4, 3, 182, 0, 112]
abbrev dktX2_goes_6 : List UInt8 := dkwX2_goes_6 ++ dktX2_goes_7
def dkwX2_goes_5 : List UInt8 := [21, 5, 184, 0, 105, 54, 6, 21, 6, 154, 0, 6, 167, 255, 230, 42, 180, 0, 23, 29, 25, 4, 3, 50]
abbrev dktX2_goes_5 : List UInt8 := dkwX2_goes_5 ++ dktX2_goes_6
def dkwX2_goes_4 : List UInt8 := [132, 6, 1, 167, 255, 202, 4, 54, 6, 21, 6, 153, 0, 86, 42, 180, 0, 42, 154, 0, 79, 25, 4]
abbrev dktX2_goes_4 : List UInt8 := dkwX2_goes_4 ++ dktX2_goes_5
def dkwX2_goes_3 : List UInt8 := [180, 0, 12, 21, 6, 50, 182, 0, 102, 25, 4, 21, 5, 42, 180, 0, 12, 21, 6, 50, 83, 132, 5, 1]
abbrev dktX2_goes_3 : List UInt8 := dkwX2_goes_3 ++ dktX2_goes_4
def dkwX2_goes_2 : List UInt8 := [180, 0, 38, 162, 0, 51, 42, 180, 0, 12, 21, 6, 50, 29, 182, 0, 98, 154, 0, 6, 167, 0, 28, 42]
abbrev dktX2_goes_2 : List UInt8 := dkwX2_goes_2 ++ dktX2_goes_3
def dkwX2_goes_1 : List UInt8 := [180, 0, 31, 27, 46, 62, 42, 180, 0, 20, 27, 50, 58, 4, 3, 54, 5, 3, 54, 6, 21, 6, 42]
abbrev dktX2_goes_1 : List UInt8 := dkwX2_goes_1 ++ dktX2_goes_2
def dkwX2_goes_0 : List UInt8 := [27, 42, 180, 0, 27, 180, 0, 46, 160, 0, 15, 42, 180, 0, 34, 42, 180, 0, 23, 182, 0, 94, 177, 42]
abbrev dktX2_goes_0 : List UInt8 := dkwX2_goes_0 ++ dktX2_goes_1
theorem dksX2_goes_0 : cX2_goes.data.toList.drop 0 = dktX2_goes_0 := by decide +kernel
theorem dksX2_goes_1 : cX2_goes.data.toList.drop 24 = dktX2_goes_1 := dk_seg dksX2_goes_0 24 rfl rfl
theorem dksX2_goes_2 : cX2_goes.data.toList.drop 47 = dktX2_goes_2 := dk_seg dksX2_goes_1 23 rfl rfl
theorem dksX2_goes_3 : cX2_goes.data.toList.drop 71 = dktX2_goes_3 := dk_seg dksX2_goes_2 24 rfl rfl
theorem dksX2_goes_4 : cX2_goes.data.toList.drop 95 = dktX2_goes_4 := dk_seg dksX2_goes_3 24 rfl rfl
theorem dksX2_goes_5 : cX2_goes.data.toList.drop 118 = dktX2_goes_5 := dk_seg dksX2_goes_4 23 rfl rfl
theorem dksX2_goes_6 : cX2_goes.data.toList.drop 142 = dktX2_goes_6 := dk_seg dksX2_goes_5 24 rfl rfl
theorem dksX2_goes_7 : cX2_goes.data.toList.drop 165 = dktX2_goes_7 := dk_seg dksX2_goes_6 23 rfl rfl
theorem dksX2_goes_8 : cX2_goes.data.toList.drop 189 = dktX2_goes_8 := dk_seg dksX2_goes_7 24 rfl rfl
theorem dX2_goes_0 : decode cX2_goes 0 = .ok (.iload_n 1, 1) := dk_27 (dk_at dksX2_goes_0 0 rfl rfl)
theorem dX2_goes_1 : decode cX2_goes 1 = .ok (.aload_n 0, 1) := dk_42 (dk_at dksX2_goes_0 1 rfl rfl)
theorem dX2_goes_2 : decode cX2_goes 2 = .ok (.getfield 27, 3) := dk_180 0 27 (dk_at dksX2_goes_0 2 rfl rfl)
theorem dX2_goes_5 : decode cX2_goes 5 = .ok (.getfield 46, 3) := dk_180 0 46 (dk_at dksX2_goes_0 5 rfl rfl)
theorem dX2_goes_8 : decode cX2_goes 8 = .ok (.if_icmp .ne 15, 3) := dk_160 0 15 (dk_at dksX2_goes_0 8 rfl rfl)
theorem dX2_goes_11 : decode cX2_goes 11 = .ok (.aload_n 0, 1) := dk_42 (dk_at dksX2_goes_0 11 rfl rfl)
theorem dX2_goes_12 : decode cX2_goes 12 = .ok (.getfield 34, 3) := dk_180 0 34 (dk_at dksX2_goes_0 12 rfl rfl)
theorem dX2_goes_15 : decode cX2_goes 15 = .ok (.aload_n 0, 1) := dk_42 (dk_at dksX2_goes_0 15 rfl rfl)
theorem dX2_goes_16 : decode cX2_goes 16 = .ok (.getfield 23, 3) := dk_180 0 23 (dk_at dksX2_goes_0 16 rfl rfl)
theorem dX2_goes_19 : decode cX2_goes 19 = .ok (.invokevirtual 94, 3) := dk_182 0 94 (dk_at dksX2_goes_0 19 rfl rfl)
theorem dX2_goes_22 : decode cX2_goes 22 = .ok (.return_, 1) := dk_177 (dk_at dksX2_goes_0 22 rfl rfl)
theorem dX2_goes_23 : decode cX2_goes 23 = .ok (.aload_n 0, 1) := dk_42 (dk_at dksX2_goes_0 23 rfl rfl)
theorem dX2_goes_24 : decode cX2_goes 24 = .ok (.getfield 31, 3) := dk_180 0 31 (dk_at dksX2_goes_1 0 rfl rfl)
theorem dX2_goes_27 : decode cX2_goes 27 = .ok (.iload_n 1, 1) := dk_27 (dk_at dksX2_goes_1 3 rfl rfl)
theorem dX2_goes_28 : decode cX2_goes 28 = .ok (.iaload, 1) := dk_46 (dk_at dksX2_goes_1 4 rfl rfl)
theorem dX2_goes_29 : decode cX2_goes 29 = .ok (.istore_n 3, 1) := dk_62 (dk_at dksX2_goes_1 5 rfl rfl)
theorem dX2_goes_30 : decode cX2_goes 30 = .ok (.aload_n 0, 1) := dk_42 (dk_at dksX2_goes_1 6 rfl rfl)
theorem dX2_goes_31 : decode cX2_goes 31 = .ok (.getfield 20, 3) := dk_180 0 20 (dk_at dksX2_goes_1 7 rfl rfl)
theorem dX2_goes_34 : decode cX2_goes 34 = .ok (.iload_n 1, 1) := dk_27 (dk_at dksX2_goes_1 10 rfl rfl)
theorem dX2_goes_35 : decode cX2_goes 35 = .ok (.aaload, 1) := dk_50 (dk_at dksX2_goes_1 11 rfl rfl)
theorem dX2_goes_36 : decode cX2_goes 36 = .ok (.astore 4, 2) := dk_58 4 (dk_at dksX2_goes_1 12 rfl rfl)
theorem dX2_goes_38 : decode cX2_goes 38 = .ok (.iconst 0, 1) := dk_3 (dk_at dksX2_goes_1 14 rfl rfl)
theorem dX2_goes_39 : decode cX2_goes 39 = .ok (.istore 5, 2) := dk_54 5 (dk_at dksX2_goes_1 15 rfl rfl)
theorem dX2_goes_41 : decode cX2_goes 41 = .ok (.iconst 0, 1) := dk_3 (dk_at dksX2_goes_1 17 rfl rfl)
theorem dX2_goes_42 : decode cX2_goes 42 = .ok (.istore 6, 2) := dk_54 6 (dk_at dksX2_goes_1 18 rfl rfl)
theorem dX2_goes_44 : decode cX2_goes 44 = .ok (.iload 6, 2) := dk_21 6 (dk_at dksX2_goes_1 20 rfl rfl)
theorem dX2_goes_46 : decode cX2_goes 46 = .ok (.aload_n 0, 1) := dk_42 (dk_at dksX2_goes_1 22 rfl rfl)
theorem dX2_goes_47 : decode cX2_goes 47 = .ok (.getfield 38, 3) := dk_180 0 38 (dk_at dksX2_goes_2 0 rfl rfl)
theorem dX2_goes_50 : decode cX2_goes 50 = .ok (.if_icmp .ge 51, 3) := dk_162 0 51 (dk_at dksX2_goes_2 3 rfl rfl)
theorem dX2_goes_53 : decode cX2_goes 53 = .ok (.aload_n 0, 1) := dk_42 (dk_at dksX2_goes_2 6 rfl rfl)
theorem dX2_goes_54 : decode cX2_goes 54 = .ok (.getfield 12, 3) := dk_180 0 12 (dk_at dksX2_goes_2 7 rfl rfl)
theorem dX2_goes_57 : decode cX2_goes 57 = .ok (.iload 6, 2) := dk_21 6 (dk_at dksX2_goes_2 10 rfl rfl)
theorem dX2_goes_59 : decode cX2_goes 59 = .ok (.aaload, 1) := dk_50 (dk_at dksX2_goes_2 12 rfl rfl)
theorem dX2_goes_60 : decode cX2_goes 60 = .ok (.iload_n 3, 1) := dk_29 (dk_at dksX2_goes_2 13 rfl rfl)
theorem dX2_goes_61 : decode cX2_goes 61 = .ok (.invokevirtual 98, 3) := dk_182 0 98 (dk_at dksX2_goes_2 14 rfl rfl)
theorem dX2_goes_64 : decode cX2_goes 64 = .ok (.ifCond .ne 6, 3) := dk_154 0 6 (dk_at dksX2_goes_2 17 rfl rfl)
theorem dX2_goes_67 : decode cX2_goes 67 = .ok (.goto 28, 3) := dk_167 0 28 (dk_at dksX2_goes_2 20 rfl rfl)
theorem dX2_goes_70 : decode cX2_goes 70 = .ok (.aload_n 0, 1) := dk_42 (dk_at dksX2_goes_2 23 rfl rfl)
theorem dX2_goes_71 : decode cX2_goes 71 = .ok (.getfield 12, 3) := dk_180 0 12 (dk_at dksX2_goes_3 0 rfl rfl)
theorem dX2_goes_74 : decode cX2_goes 74 = .ok (.iload 6, 2) := dk_21 6 (dk_at dksX2_goes_3 3 rfl rfl)
theorem dX2_goes_76 : decode cX2_goes 76 = .ok (.aaload, 1) := dk_50 (dk_at dksX2_goes_3 5 rfl rfl)
theorem dX2_goes_77 : decode cX2_goes 77 = .ok (.invokevirtual 102, 3) := dk_182 0 102 (dk_at dksX2_goes_3 6 rfl rfl)
theorem dX2_goes_80 : decode cX2_goes 80 = .ok (.aload 4, 2) := dk_25 4 (dk_at dksX2_goes_3 9 rfl rfl)
theorem dX2_goes_82 : decode cX2_goes 82 = .ok (.iload 5, 2) := dk_21 5 (dk_at dksX2_goes_3 11 rfl rfl)
theorem dX2_goes_84 : decode cX2_goes 84 = .ok (.aload_n 0, 1) := dk_42 (dk_at dksX2_goes_3 13 rfl rfl)
theorem dX2_goes_85 : decode cX2_goes 85 = .ok (.getfield 12, 3) := dk_180 0 12 (dk_at dksX2_goes_3 14 rfl rfl)
theorem dX2_goes_88 : decode cX2_goes 88 = .ok (.iload 6, 2) := dk_21 6 (dk_at dksX2_goes_3 17 rfl rfl)
theorem dX2_goes_90 : decode cX2_goes 90 = .ok (.aaload, 1) := dk_50 (dk_at dksX2_goes_3 19 rfl rfl)
theorem dX2_goes_91 : decode cX2_goes 91 = .ok (.aastore, 1) := dk_83 (dk_at dksX2_goes_3 20 rfl rfl)
theorem dX2_goes_92 : decode cX2_goes 92 = .ok (.iinc 5 1, 3) := dk_132 5 1 (dk_at dksX2_goes_3 21 rfl rfl)
theorem dX2_goes_95 : decode cX2_goes 95 = .ok (.iinc 6 1, 3) := dk_132 6 1 (dk_at dksX2_goes_4 0 rfl rfl)
theorem dX2_goes_98 : decode cX2_goes 98 = .ok (.goto (-54), 3) := dk_167 255 202 (dk_at dksX2_goes_4 3 rfl rfl)
theorem dX2_goes_101 : decode cX2_goes 101 = .ok (.iconst 1, 1) := dk_4 (dk_at dksX2_goes_4 6 rfl rfl)
theorem dX2_goes_102 : decode cX2_goes 102 = .ok (.istore 6, 2) := dk_54 6 (dk_at dksX2_goes_4 7 rfl rfl)
theorem dX2_goes_104 : decode cX2_goes 104 = .ok (.iload 6, 2) := dk_21 6 (dk_at dksX2_goes_4 9 rfl rfl)
theorem dX2_goes_106 : decode cX2_goes 106 = .ok (.ifCond .eq 86, 3) := dk_153 0 86 (dk_at dksX2_goes_4 11 rfl rfl)
theorem dX2_goes_109 : decode cX2_goes 109 = .ok (.aload_n 0, 1) := dk_42 (dk_at dksX2_goes_4 14 rfl rfl)
theorem dX2_goes_110 : decode cX2_goes 110 = .ok (.getfield 42, 3) := dk_180 0 42 (dk_at dksX2_goes_4 15 rfl rfl)
theorem dX2_goes_113 : decode cX2_goes 113 = .ok (.ifCond .ne 79, 3) := dk_154 0 79 (dk_at dksX2_goes_4 18 rfl rfl)
theorem dX2_goes_116 : decode cX2_goes 116 = .ok (.aload 4, 2) := dk_25 4 (dk_at dksX2_goes_4 21 rfl rfl)
theorem dX2_goes_118 : decode cX2_goes 118 = .ok (.iload 5, 2) := dk_21 5 (dk_at dksX2_goes_5 0 rfl rfl)
theorem dX2_goes_120 : decode cX2_goes 120 = .ok (.invokestatic 105, 3) := dk_184 0 105 (dk_at dksX2_goes_5 2 rfl rfl)
theorem dX2_goes_123 : decode cX2_goes 123 = .ok (.istore 6, 2) := dk_54 6 (dk_at dksX2_goes_5 5 rfl rfl)
theorem dX2_goes_125 : decode cX2_goes 125 = .ok (.iload 6, 2) := dk_21 6 (dk_at dksX2_goes_5 7 rfl rfl)
theorem dX2_goes_127 : decode cX2_goes 127 = .ok (.ifCond .ne 6, 3) := dk_154 0 6 (dk_at dksX2_goes_5 9 rfl rfl)
theorem dX2_goes_130 : decode cX2_goes 130 = .ok (.goto (-26), 3) := dk_167 255 230 (dk_at dksX2_goes_5 12 rfl rfl)
theorem dX2_goes_133 : decode cX2_goes 133 = .ok (.aload_n 0, 1) := dk_42 (dk_at dksX2_goes_5 15 rfl rfl)
theorem dX2_goes_134 : decode cX2_goes 134 = .ok (.getfield 23, 3) := dk_180 0 23 (dk_at dksX2_goes_5 16 rfl rfl)
theorem dX2_goes_137 : decode cX2_goes 137 = .ok (.iload_n 3, 1) := dk_29 (dk_at dksX2_goes_5 19 rfl rfl)
theorem dX2_goes_138 : decode cX2_goes 138 = .ok (.aload 4, 2) := dk_25 4 (dk_at dksX2_goes_5 20 rfl rfl)
theorem dX2_goes_140 : decode cX2_goes 140 = .ok (.iconst 0, 1) := dk_3 (dk_at dksX2_goes_5 22 rfl rfl)
theorem dX2_goes_141 : decode cX2_goes 141 = .ok (.aaload, 1) := dk_50 (dk_at dksX2_goes_5 23 rfl rfl)
theorem dX2_goes_142 : decode cX2_goes 142 = .ok (.invokevirtual 109, 3) := dk_182 0 109 (dk_at dksX2_goes_6 0 rfl rfl)
theorem dX2_goes_145 : decode cX2_goes 145 = .ok (.iastore, 1) := dk_79 (dk_at dksX2_goes_6 3 rfl rfl)
theorem dX2_goes_146 : decode cX2_goes 146 = .ok (.aload_n 0, 1) := dk_42 (dk_at dksX2_goes_6 4 rfl rfl)
theorem dX2_goes_147 : decode cX2_goes 147 = .ok (.iload_n 2, 1) := dk_28 (dk_at dksX2_goes_6 5 rfl rfl)
theorem dX2_goes_148 : decode cX2_goes 148 = .ok (.iconst 1, 1) := dk_4 (dk_at dksX2_goes_6 6 rfl rfl)
theorem dX2_goes_149 : decode cX2_goes 149 = .ok (.iload_n 3, 1) := dk_29 (dk_at dksX2_goes_6 7 rfl rfl)
theorem dX2_goes_150 : decode cX2_goes 150 = .ok (.ishl, 1) := dk_120 (dk_at dksX2_goes_6 8 rfl rfl)
theorem dX2_goes_151 : decode cX2_goes 151 = .ok (.ior, 1) := dk_128 (dk_at dksX2_goes_6 9 rfl rfl)
theorem dX2_goes_152 : decode cX2_goes 152 = .ok (.iload_n 2, 1) := dk_28 (dk_at dksX2_goes_6 10 rfl rfl)
theorem dX2_goes_153 : decode cX2_goes 153 = .ok (.iload_n 1, 1) := dk_27 (dk_at dksX2_goes_6 11 rfl rfl)
theorem dX2_goes_154 : decode cX2_goes 154 = .ok (.ifCond .ne 7, 3) := dk_154 0 7 (dk_at dksX2_goes_6 12 rfl rfl)
theorem dX2_goes_157 : decode cX2_goes 157 = .ok (.iconst 1, 1) := dk_4 (dk_at dksX2_goes_6 15 rfl rfl)
theorem dX2_goes_158 : decode cX2_goes 158 = .ok (.goto 4, 3) := dk_167 0 4 (dk_at dksX2_goes_6 16 rfl rfl)
theorem dX2_goes_161 : decode cX2_goes 161 = .ok (.iconst 0, 1) := dk_3 (dk_at dksX2_goes_6 19 rfl rfl)
theorem dX2_goes_162 : decode cX2_goes 162 = .ok (.invokevirtual 112, 3) := dk_182 0 112 (dk_at dksX2_goes_6 20 rfl rfl)
theorem dX2_goes_165 : decode cX2_goes 165 = .ok (.ifCond .eq 17, 3) := dk_153 0 17 (dk_at dksX2_goes_7 0 rfl rfl)
theorem dX2_goes_168 : decode cX2_goes 168 = .ok (.aload_n 0, 1) := dk_42 (dk_at dksX2_goes_7 3 rfl rfl)
theorem dX2_goes_169 : decode cX2_goes 169 = .ok (.aload 4, 2) := dk_25 4 (dk_at dksX2_goes_7 4 rfl rfl)
theorem dX2_goes_171 : decode cX2_goes 171 = .ok (.iload 5, 2) := dk_21 5 (dk_at dksX2_goes_7 6 rfl rfl)
theorem dX2_goes_173 : decode cX2_goes 173 = .ok (.iload_n 1, 1) := dk_27 (dk_at dksX2_goes_7 8 rfl rfl)
theorem dX2_goes_174 : decode cX2_goes 174 = .ok (.iload_n 2, 1) := dk_28 (dk_at dksX2_goes_7 9 rfl rfl)
theorem dX2_goes_175 : decode cX2_goes 175 = .ok (.iconst 1, 1) := dk_4 (dk_at dksX2_goes_7 10 rfl rfl)
theorem dX2_goes_176 : decode cX2_goes 176 = .ok (.iload_n 3, 1) := dk_29 (dk_at dksX2_goes_7 11 rfl rfl)
theorem dX2_goes_177 : decode cX2_goes 177 = .ok (.ishl, 1) := dk_120 (dk_at dksX2_goes_7 12 rfl rfl)
theorem dX2_goes_178 : decode cX2_goes 178 = .ok (.ior, 1) := dk_128 (dk_at dksX2_goes_7 13 rfl rfl)
theorem dX2_goes_179 : decode cX2_goes 179 = .ok (.invokevirtual 116, 3) := dk_182 0 116 (dk_at dksX2_goes_7 14 rfl rfl)
theorem dX2_goes_182 : decode cX2_goes 182 = .ok (.aload 4, 2) := dk_25 4 (dk_at dksX2_goes_7 17 rfl rfl)
theorem dX2_goes_184 : decode cX2_goes 184 = .ok (.iconst 0, 1) := dk_3 (dk_at dksX2_goes_7 19 rfl rfl)
theorem dX2_goes_185 : decode cX2_goes 185 = .ok (.aaload, 1) := dk_50 (dk_at dksX2_goes_7 20 rfl rfl)
theorem dX2_goes_186 : decode cX2_goes 186 = .ok (.invokevirtual 120, 3) := dk_182 0 120 (dk_at dksX2_goes_7 21 rfl rfl)
theorem dX2_goes_189 : decode cX2_goes 189 = .ok (.goto (-85), 3) := dk_167 255 171 (dk_at dksX2_goes_8 0 rfl rfl)
theorem dX2_goes_192 : decode cX2_goes 192 = .ok (.return_, 1) := dk_177 (dk_at dksX2_goes_8 3 rfl rfl)
abbrev cX2_meets : ByteArray := prog_5_method_6_code
def yX2_meets : MethodName := ⟨RX2, "meets", "([LJoinLoom$Tree;I)Z"⟩
def dkwX2_meets_3 : List UInt8 := [4, 96, 167, 0, 4, 4, 61, 22, 7, 55, 4, 29, 4, 96, 27, 112, 62, 167, 255, 193, 4, 172]
abbrev dktX2_meets_3 : List UInt8 := dkwX2_meets_3 ++ []
def dkwX2_meets_2 : List UInt8 := [153, 0, 5, 3, 172, 25, 6, 182, 0, 109, 184, 0, 133, 55, 7, 22, 7, 22, 4, 148, 154, 0, 9, 28]
abbrev dktX2_meets_2 : List UInt8 := dkwX2_meets_2 ++ dktX2_meets_3
def dkwX2_meets_1 : List UInt8 := [55, 4, 28, 27, 162, 0, 64, 42, 29, 50, 58, 6, 25, 6, 22, 4, 182, 0, 137, 25, 6, 182, 0, 129]
abbrev dktX2_meets_1 : List UInt8 := dkwX2_meets_1 ++ dktX2_meets_2
def dkwX2_meets_0 : List UInt8 := [3, 61, 3, 62, 42, 3, 50, 182, 0, 129, 153, 0, 5, 3, 172, 42, 3, 50, 182, 0, 109, 184, 0, 133]
abbrev dktX2_meets_0 : List UInt8 := dkwX2_meets_0 ++ dktX2_meets_1
theorem dksX2_meets_0 : cX2_meets.data.toList.drop 0 = dktX2_meets_0 := by decide +kernel
theorem dksX2_meets_1 : cX2_meets.data.toList.drop 24 = dktX2_meets_1 := dk_seg dksX2_meets_0 24 rfl rfl
theorem dksX2_meets_2 : cX2_meets.data.toList.drop 48 = dktX2_meets_2 := dk_seg dksX2_meets_1 24 rfl rfl
theorem dksX2_meets_3 : cX2_meets.data.toList.drop 72 = dktX2_meets_3 := dk_seg dksX2_meets_2 24 rfl rfl
theorem dX2_meets_0 : decode cX2_meets 0 = .ok (.iconst 0, 1) := dk_3 (dk_at dksX2_meets_0 0 rfl rfl)
theorem dX2_meets_1 : decode cX2_meets 1 = .ok (.istore_n 2, 1) := dk_61 (dk_at dksX2_meets_0 1 rfl rfl)
theorem dX2_meets_2 : decode cX2_meets 2 = .ok (.iconst 0, 1) := dk_3 (dk_at dksX2_meets_0 2 rfl rfl)
theorem dX2_meets_3 : decode cX2_meets 3 = .ok (.istore_n 3, 1) := dk_62 (dk_at dksX2_meets_0 3 rfl rfl)
theorem dX2_meets_4 : decode cX2_meets 4 = .ok (.aload_n 0, 1) := dk_42 (dk_at dksX2_meets_0 4 rfl rfl)
theorem dX2_meets_5 : decode cX2_meets 5 = .ok (.iconst 0, 1) := dk_3 (dk_at dksX2_meets_0 5 rfl rfl)
theorem dX2_meets_6 : decode cX2_meets 6 = .ok (.aaload, 1) := dk_50 (dk_at dksX2_meets_0 6 rfl rfl)
theorem dX2_meets_7 : decode cX2_meets 7 = .ok (.invokevirtual 129, 3) := dk_182 0 129 (dk_at dksX2_meets_0 7 rfl rfl)
theorem dX2_meets_10 : decode cX2_meets 10 = .ok (.ifCond .eq 5, 3) := dk_153 0 5 (dk_at dksX2_meets_0 10 rfl rfl)
theorem dX2_meets_13 : decode cX2_meets 13 = .ok (.iconst 0, 1) := dk_3 (dk_at dksX2_meets_0 13 rfl rfl)
theorem dX2_meets_14 : decode cX2_meets 14 = .ok (.ireturn, 1) := dk_172 (dk_at dksX2_meets_0 14 rfl rfl)
theorem dX2_meets_15 : decode cX2_meets 15 = .ok (.aload_n 0, 1) := dk_42 (dk_at dksX2_meets_0 15 rfl rfl)
theorem dX2_meets_16 : decode cX2_meets 16 = .ok (.iconst 0, 1) := dk_3 (dk_at dksX2_meets_0 16 rfl rfl)
theorem dX2_meets_17 : decode cX2_meets 17 = .ok (.aaload, 1) := dk_50 (dk_at dksX2_meets_0 17 rfl rfl)
theorem dX2_meets_18 : decode cX2_meets 18 = .ok (.invokevirtual 109, 3) := dk_182 0 109 (dk_at dksX2_meets_0 18 rfl rfl)
theorem dX2_meets_21 : decode cX2_meets 21 = .ok (.invokestatic 133, 3) := dk_184 0 133 (dk_at dksX2_meets_0 21 rfl rfl)
theorem dX2_meets_24 : decode cX2_meets 24 = .ok (.lstore 4, 2) := dk_55 4 (dk_at dksX2_meets_1 0 rfl rfl)
theorem dX2_meets_26 : decode cX2_meets 26 = .ok (.iload_n 2, 1) := dk_28 (dk_at dksX2_meets_1 2 rfl rfl)
theorem dX2_meets_27 : decode cX2_meets 27 = .ok (.iload_n 1, 1) := dk_27 (dk_at dksX2_meets_1 3 rfl rfl)
theorem dX2_meets_28 : decode cX2_meets 28 = .ok (.if_icmp .ge 64, 3) := dk_162 0 64 (dk_at dksX2_meets_1 4 rfl rfl)
theorem dX2_meets_31 : decode cX2_meets 31 = .ok (.aload_n 0, 1) := dk_42 (dk_at dksX2_meets_1 7 rfl rfl)
theorem dX2_meets_32 : decode cX2_meets 32 = .ok (.iload_n 3, 1) := dk_29 (dk_at dksX2_meets_1 8 rfl rfl)
theorem dX2_meets_33 : decode cX2_meets 33 = .ok (.aaload, 1) := dk_50 (dk_at dksX2_meets_1 9 rfl rfl)
theorem dX2_meets_34 : decode cX2_meets 34 = .ok (.astore 6, 2) := dk_58 6 (dk_at dksX2_meets_1 10 rfl rfl)
theorem dX2_meets_36 : decode cX2_meets 36 = .ok (.aload 6, 2) := dk_25 6 (dk_at dksX2_meets_1 12 rfl rfl)
theorem dX2_meets_38 : decode cX2_meets 38 = .ok (.lload 4, 2) := dk_22 4 (dk_at dksX2_meets_1 14 rfl rfl)
theorem dX2_meets_40 : decode cX2_meets 40 = .ok (.invokevirtual 137, 3) := dk_182 0 137 (dk_at dksX2_meets_1 16 rfl rfl)
theorem dX2_meets_43 : decode cX2_meets 43 = .ok (.aload 6, 2) := dk_25 6 (dk_at dksX2_meets_1 19 rfl rfl)
theorem dX2_meets_45 : decode cX2_meets 45 = .ok (.invokevirtual 129, 3) := dk_182 0 129 (dk_at dksX2_meets_1 21 rfl rfl)
theorem dX2_meets_48 : decode cX2_meets 48 = .ok (.ifCond .eq 5, 3) := dk_153 0 5 (dk_at dksX2_meets_2 0 rfl rfl)
theorem dX2_meets_51 : decode cX2_meets 51 = .ok (.iconst 0, 1) := dk_3 (dk_at dksX2_meets_2 3 rfl rfl)
theorem dX2_meets_52 : decode cX2_meets 52 = .ok (.ireturn, 1) := dk_172 (dk_at dksX2_meets_2 4 rfl rfl)
theorem dX2_meets_53 : decode cX2_meets 53 = .ok (.aload 6, 2) := dk_25 6 (dk_at dksX2_meets_2 5 rfl rfl)
theorem dX2_meets_55 : decode cX2_meets 55 = .ok (.invokevirtual 109, 3) := dk_182 0 109 (dk_at dksX2_meets_2 7 rfl rfl)
theorem dX2_meets_58 : decode cX2_meets 58 = .ok (.invokestatic 133, 3) := dk_184 0 133 (dk_at dksX2_meets_2 10 rfl rfl)
theorem dX2_meets_61 : decode cX2_meets 61 = .ok (.lstore 7, 2) := dk_55 7 (dk_at dksX2_meets_2 13 rfl rfl)
theorem dX2_meets_63 : decode cX2_meets 63 = .ok (.lload 7, 2) := dk_22 7 (dk_at dksX2_meets_2 15 rfl rfl)
theorem dX2_meets_65 : decode cX2_meets 65 = .ok (.lload 4, 2) := dk_22 4 (dk_at dksX2_meets_2 17 rfl rfl)
theorem dX2_meets_67 : decode cX2_meets 67 = .ok (.lcmp, 1) := dk_148 (dk_at dksX2_meets_2 19 rfl rfl)
theorem dX2_meets_68 : decode cX2_meets 68 = .ok (.ifCond .ne 9, 3) := dk_154 0 9 (dk_at dksX2_meets_2 20 rfl rfl)
theorem dX2_meets_71 : decode cX2_meets 71 = .ok (.iload_n 2, 1) := dk_28 (dk_at dksX2_meets_2 23 rfl rfl)
theorem dX2_meets_72 : decode cX2_meets 72 = .ok (.iconst 1, 1) := dk_4 (dk_at dksX2_meets_3 0 rfl rfl)
theorem dX2_meets_73 : decode cX2_meets 73 = .ok (.iadd, 1) := dk_96 (dk_at dksX2_meets_3 1 rfl rfl)
theorem dX2_meets_74 : decode cX2_meets 74 = .ok (.goto 4, 3) := dk_167 0 4 (dk_at dksX2_meets_3 2 rfl rfl)
theorem dX2_meets_77 : decode cX2_meets 77 = .ok (.iconst 1, 1) := dk_4 (dk_at dksX2_meets_3 5 rfl rfl)
theorem dX2_meets_78 : decode cX2_meets 78 = .ok (.istore_n 2, 1) := dk_61 (dk_at dksX2_meets_3 6 rfl rfl)
theorem dX2_meets_79 : decode cX2_meets 79 = .ok (.lload 7, 2) := dk_22 7 (dk_at dksX2_meets_3 7 rfl rfl)
theorem dX2_meets_81 : decode cX2_meets 81 = .ok (.lstore 4, 2) := dk_55 4 (dk_at dksX2_meets_3 9 rfl rfl)
theorem dX2_meets_83 : decode cX2_meets 83 = .ok (.iload_n 3, 1) := dk_29 (dk_at dksX2_meets_3 11 rfl rfl)
theorem dX2_meets_84 : decode cX2_meets 84 = .ok (.iconst 1, 1) := dk_4 (dk_at dksX2_meets_3 12 rfl rfl)
theorem dX2_meets_85 : decode cX2_meets 85 = .ok (.iadd, 1) := dk_96 (dk_at dksX2_meets_3 13 rfl rfl)
theorem dX2_meets_86 : decode cX2_meets 86 = .ok (.iload_n 1, 1) := dk_27 (dk_at dksX2_meets_3 14 rfl rfl)
theorem dX2_meets_87 : decode cX2_meets 87 = .ok (.irem, 1) := dk_112 (dk_at dksX2_meets_3 15 rfl rfl)
theorem dX2_meets_88 : decode cX2_meets 88 = .ok (.istore_n 3, 1) := dk_62 (dk_at dksX2_meets_3 16 rfl rfl)
theorem dX2_meets_89 : decode cX2_meets 89 = .ok (.goto (-63), 3) := dk_167 255 193 (dk_at dksX2_meets_3 17 rfl rfl)
theorem dX2_meets_92 : decode cX2_meets 92 = .ok (.iconst 1, 1) := dk_4 (dk_at dksX2_meets_3 20 rfl rfl)
theorem dX2_meets_93 : decode cX2_meets 93 = .ok (.ireturn, 1) := dk_172 (dk_at dksX2_meets_3 21 rfl rfl)
abbrev cX2_holds : ByteArray := prog_5_method_3_code
def yX2_holds : MethodName := ⟨RX2, "holds", "(IIZ)Z"⟩
def dkwX2_holds_3 : List UInt8 := [167, 0, 14, 25, 6, 42, 180, 0, 23, 182, 0, 90, 54, 4, 132, 5, 1, 167, 255, 174, 21, 4, 172]
abbrev dktX2_holds_3 : List UInt8 := dkwX2_holds_3 ++ []
def dkwX2_holds_2 : List UInt8 := [27, 2, 130, 126, 154, 0, 33, 29, 154, 0, 18, 25, 6, 182, 0, 87, 28, 2, 130, 126, 154, 0, 6]
abbrev dktX2_holds_2 : List UInt8 := dkwX2_holds_2 ++ dktX2_holds_3
def dkwX2_holds_1 : List UInt8 := [180, 0, 27, 180, 0, 64, 21, 5, 50, 58, 6, 25, 6, 180, 0, 68, 153, 0, 45, 25, 6, 182, 0, 87]
abbrev dktX2_holds_1 : List UInt8 := dkwX2_holds_1 ++ dktX2_holds_2
def dkwX2_holds_0 : List UInt8 := [4, 54, 4, 3, 54, 5, 21, 5, 42, 180, 0, 27, 180, 0, 63, 162, 0, 76, 21, 4, 153, 0, 71, 42]
abbrev dktX2_holds_0 : List UInt8 := dkwX2_holds_0 ++ dktX2_holds_1
theorem dksX2_holds_0 : cX2_holds.data.toList.drop 0 = dktX2_holds_0 := by decide +kernel
theorem dksX2_holds_1 : cX2_holds.data.toList.drop 24 = dktX2_holds_1 := dk_seg dksX2_holds_0 24 rfl rfl
theorem dksX2_holds_2 : cX2_holds.data.toList.drop 48 = dktX2_holds_2 := dk_seg dksX2_holds_1 24 rfl rfl
theorem dksX2_holds_3 : cX2_holds.data.toList.drop 71 = dktX2_holds_3 := dk_seg dksX2_holds_2 23 rfl rfl
theorem dX2_holds_0 : decode cX2_holds 0 = .ok (.iconst 1, 1) := dk_4 (dk_at dksX2_holds_0 0 rfl rfl)
theorem dX2_holds_1 : decode cX2_holds 1 = .ok (.istore 4, 2) := dk_54 4 (dk_at dksX2_holds_0 1 rfl rfl)
theorem dX2_holds_3 : decode cX2_holds 3 = .ok (.iconst 0, 1) := dk_3 (dk_at dksX2_holds_0 3 rfl rfl)
theorem dX2_holds_4 : decode cX2_holds 4 = .ok (.istore 5, 2) := dk_54 5 (dk_at dksX2_holds_0 4 rfl rfl)
theorem dX2_holds_6 : decode cX2_holds 6 = .ok (.iload 5, 2) := dk_21 5 (dk_at dksX2_holds_0 6 rfl rfl)
theorem dX2_holds_8 : decode cX2_holds 8 = .ok (.aload_n 0, 1) := dk_42 (dk_at dksX2_holds_0 8 rfl rfl)
theorem dX2_holds_9 : decode cX2_holds 9 = .ok (.getfield 27, 3) := dk_180 0 27 (dk_at dksX2_holds_0 9 rfl rfl)
theorem dX2_holds_12 : decode cX2_holds 12 = .ok (.getfield 63, 3) := dk_180 0 63 (dk_at dksX2_holds_0 12 rfl rfl)
theorem dX2_holds_15 : decode cX2_holds 15 = .ok (.if_icmp .ge 76, 3) := dk_162 0 76 (dk_at dksX2_holds_0 15 rfl rfl)
theorem dX2_holds_18 : decode cX2_holds 18 = .ok (.iload 4, 2) := dk_21 4 (dk_at dksX2_holds_0 18 rfl rfl)
theorem dX2_holds_20 : decode cX2_holds 20 = .ok (.ifCond .eq 71, 3) := dk_153 0 71 (dk_at dksX2_holds_0 20 rfl rfl)
theorem dX2_holds_23 : decode cX2_holds 23 = .ok (.aload_n 0, 1) := dk_42 (dk_at dksX2_holds_0 23 rfl rfl)
theorem dX2_holds_24 : decode cX2_holds 24 = .ok (.getfield 27, 3) := dk_180 0 27 (dk_at dksX2_holds_1 0 rfl rfl)
theorem dX2_holds_27 : decode cX2_holds 27 = .ok (.getfield 64, 3) := dk_180 0 64 (dk_at dksX2_holds_1 3 rfl rfl)
theorem dX2_holds_30 : decode cX2_holds 30 = .ok (.iload 5, 2) := dk_21 5 (dk_at dksX2_holds_1 6 rfl rfl)
theorem dX2_holds_32 : decode cX2_holds 32 = .ok (.aaload, 1) := dk_50 (dk_at dksX2_holds_1 8 rfl rfl)
theorem dX2_holds_33 : decode cX2_holds 33 = .ok (.astore 6, 2) := dk_58 6 (dk_at dksX2_holds_1 9 rfl rfl)
theorem dX2_holds_35 : decode cX2_holds 35 = .ok (.aload 6, 2) := dk_25 6 (dk_at dksX2_holds_1 11 rfl rfl)
theorem dX2_holds_37 : decode cX2_holds 37 = .ok (.getfield 68, 3) := dk_180 0 68 (dk_at dksX2_holds_1 13 rfl rfl)
theorem dX2_holds_40 : decode cX2_holds 40 = .ok (.ifCond .eq 45, 3) := dk_153 0 45 (dk_at dksX2_holds_1 16 rfl rfl)
theorem dX2_holds_43 : decode cX2_holds 43 = .ok (.aload 6, 2) := dk_25 6 (dk_at dksX2_holds_1 19 rfl rfl)
theorem dX2_holds_45 : decode cX2_holds 45 = .ok (.invokevirtual 87, 3) := dk_182 0 87 (dk_at dksX2_holds_1 21 rfl rfl)
theorem dX2_holds_48 : decode cX2_holds 48 = .ok (.iload_n 1, 1) := dk_27 (dk_at dksX2_holds_2 0 rfl rfl)
theorem dX2_holds_49 : decode cX2_holds 49 = .ok (.iconst (-1), 1) := dk_2 (dk_at dksX2_holds_2 1 rfl rfl)
theorem dX2_holds_50 : decode cX2_holds 50 = .ok (.ixor, 1) := dk_130 (dk_at dksX2_holds_2 2 rfl rfl)
theorem dX2_holds_51 : decode cX2_holds 51 = .ok (.iand, 1) := dk_126 (dk_at dksX2_holds_2 3 rfl rfl)
theorem dX2_holds_52 : decode cX2_holds 52 = .ok (.ifCond .ne 33, 3) := dk_154 0 33 (dk_at dksX2_holds_2 4 rfl rfl)
theorem dX2_holds_55 : decode cX2_holds 55 = .ok (.iload_n 3, 1) := dk_29 (dk_at dksX2_holds_2 7 rfl rfl)
theorem dX2_holds_56 : decode cX2_holds 56 = .ok (.ifCond .ne 18, 3) := dk_154 0 18 (dk_at dksX2_holds_2 8 rfl rfl)
theorem dX2_holds_59 : decode cX2_holds 59 = .ok (.aload 6, 2) := dk_25 6 (dk_at dksX2_holds_2 11 rfl rfl)
theorem dX2_holds_61 : decode cX2_holds 61 = .ok (.invokevirtual 87, 3) := dk_182 0 87 (dk_at dksX2_holds_2 13 rfl rfl)
theorem dX2_holds_64 : decode cX2_holds 64 = .ok (.iload_n 2, 1) := dk_28 (dk_at dksX2_holds_2 16 rfl rfl)
theorem dX2_holds_65 : decode cX2_holds 65 = .ok (.iconst (-1), 1) := dk_2 (dk_at dksX2_holds_2 17 rfl rfl)
theorem dX2_holds_66 : decode cX2_holds 66 = .ok (.ixor, 1) := dk_130 (dk_at dksX2_holds_2 18 rfl rfl)
theorem dX2_holds_67 : decode cX2_holds 67 = .ok (.iand, 1) := dk_126 (dk_at dksX2_holds_2 19 rfl rfl)
theorem dX2_holds_68 : decode cX2_holds 68 = .ok (.ifCond .ne 6, 3) := dk_154 0 6 (dk_at dksX2_holds_2 20 rfl rfl)
theorem dX2_holds_71 : decode cX2_holds 71 = .ok (.goto 14, 3) := dk_167 0 14 (dk_at dksX2_holds_3 0 rfl rfl)
theorem dX2_holds_74 : decode cX2_holds 74 = .ok (.aload 6, 2) := dk_25 6 (dk_at dksX2_holds_3 3 rfl rfl)
theorem dX2_holds_76 : decode cX2_holds 76 = .ok (.aload_n 0, 1) := dk_42 (dk_at dksX2_holds_3 5 rfl rfl)
theorem dX2_holds_77 : decode cX2_holds 77 = .ok (.getfield 23, 3) := dk_180 0 23 (dk_at dksX2_holds_3 6 rfl rfl)
theorem dX2_holds_80 : decode cX2_holds 80 = .ok (.invokevirtual 90, 3) := dk_182 0 90 (dk_at dksX2_holds_3 9 rfl rfl)
theorem dX2_holds_83 : decode cX2_holds 83 = .ok (.istore 4, 2) := dk_54 4 (dk_at dksX2_holds_3 12 rfl rfl)
theorem dX2_holds_85 : decode cX2_holds 85 = .ok (.iinc 5 1, 3) := dk_132 5 1 (dk_at dksX2_holds_3 14 rfl rfl)
theorem dX2_holds_88 : decode cX2_holds 88 = .ok (.goto (-82), 3) := dk_167 255 174 (dk_at dksX2_holds_3 17 rfl rfl)
theorem dX2_holds_91 : decode cX2_holds 91 = .ok (.iload 4, 2) := dk_21 4 (dk_at dksX2_holds_3 20 rfl rfl)
theorem dX2_holds_93 : decode cX2_holds 93 = .ok (.ireturn, 1) := dk_172 (dk_at dksX2_holds_3 22 rfl rfl)
abbrev cX2_below : ByteArray := prog_5_method_5_code
def yX2_below : MethodName := ⟨RX2, "below", "([LJoinLoom$Tree;III)V"⟩
def dkwX2_below_3 : List UInt8 := [28, 162, 0, 16, 43, 21, 5, 50, 182, 0, 126, 132, 5, 1, 167, 255, 240, 177]
abbrev dktX2_below_3 : List UInt8 := dkwX2_below_3 ++ []
def dkwX2_below_2 : List UInt8 := [50, 182, 0, 123, 132, 5, 1, 167, 255, 240, 42, 29, 4, 96, 21, 4, 182, 0, 83, 3, 54, 5, 21, 5]
abbrev dktX2_below_2 : List UInt8 := dkwX2_below_2 ++ dktX2_below_3
def dkwX2_below_1 : List UInt8 := [17, 1, 244, 164, 0, 9, 42, 4, 181, 0, 42, 177, 3, 54, 5, 21, 5, 28, 162, 0, 16, 43, 21, 5]
abbrev dktX2_below_1 : List UInt8 := dkwX2_below_1 ++ dktX2_below_2
def dkwX2_below_0 : List UInt8 := [42, 180, 0, 34, 180, 0, 60, 29, 92, 46, 4, 96, 79, 42, 180, 0, 34, 180, 0, 60, 29, 46]
abbrev dktX2_below_0 : List UInt8 := dkwX2_below_0 ++ dktX2_below_1
theorem dksX2_below_0 : cX2_below.data.toList.drop 0 = dktX2_below_0 := by decide +kernel
theorem dksX2_below_1 : cX2_below.data.toList.drop 22 = dktX2_below_1 := dk_seg dksX2_below_0 22 rfl rfl
theorem dksX2_below_2 : cX2_below.data.toList.drop 46 = dktX2_below_2 := dk_seg dksX2_below_1 24 rfl rfl
theorem dksX2_below_3 : cX2_below.data.toList.drop 70 = dktX2_below_3 := dk_seg dksX2_below_2 24 rfl rfl
theorem dX2_below_0 : decode cX2_below 0 = .ok (.aload_n 0, 1) := dk_42 (dk_at dksX2_below_0 0 rfl rfl)
theorem dX2_below_1 : decode cX2_below 1 = .ok (.getfield 34, 3) := dk_180 0 34 (dk_at dksX2_below_0 1 rfl rfl)
theorem dX2_below_4 : decode cX2_below 4 = .ok (.getfield 60, 3) := dk_180 0 60 (dk_at dksX2_below_0 4 rfl rfl)
theorem dX2_below_7 : decode cX2_below 7 = .ok (.iload_n 3, 1) := dk_29 (dk_at dksX2_below_0 7 rfl rfl)
theorem dX2_below_8 : decode cX2_below 8 = .ok (.dup2, 1) := dk_92 (dk_at dksX2_below_0 8 rfl rfl)
theorem dX2_below_9 : decode cX2_below 9 = .ok (.iaload, 1) := dk_46 (dk_at dksX2_below_0 9 rfl rfl)
theorem dX2_below_10 : decode cX2_below 10 = .ok (.iconst 1, 1) := dk_4 (dk_at dksX2_below_0 10 rfl rfl)
theorem dX2_below_11 : decode cX2_below 11 = .ok (.iadd, 1) := dk_96 (dk_at dksX2_below_0 11 rfl rfl)
theorem dX2_below_12 : decode cX2_below 12 = .ok (.iastore, 1) := dk_79 (dk_at dksX2_below_0 12 rfl rfl)
theorem dX2_below_13 : decode cX2_below 13 = .ok (.aload_n 0, 1) := dk_42 (dk_at dksX2_below_0 13 rfl rfl)
theorem dX2_below_14 : decode cX2_below 14 = .ok (.getfield 34, 3) := dk_180 0 34 (dk_at dksX2_below_0 14 rfl rfl)
theorem dX2_below_17 : decode cX2_below 17 = .ok (.getfield 60, 3) := dk_180 0 60 (dk_at dksX2_below_0 17 rfl rfl)
theorem dX2_below_20 : decode cX2_below 20 = .ok (.iload_n 3, 1) := dk_29 (dk_at dksX2_below_0 20 rfl rfl)
theorem dX2_below_21 : decode cX2_below 21 = .ok (.iaload, 1) := dk_46 (dk_at dksX2_below_0 21 rfl rfl)
theorem dX2_below_22 : decode cX2_below 22 = .ok (.sipush 500, 3) := dk_17 1 244 (dk_at dksX2_below_1 0 rfl rfl)
theorem dX2_below_25 : decode cX2_below 25 = .ok (.if_icmp .le 9, 3) := dk_164 0 9 (dk_at dksX2_below_1 3 rfl rfl)
theorem dX2_below_28 : decode cX2_below 28 = .ok (.aload_n 0, 1) := dk_42 (dk_at dksX2_below_1 6 rfl rfl)
theorem dX2_below_29 : decode cX2_below 29 = .ok (.iconst 1, 1) := dk_4 (dk_at dksX2_below_1 7 rfl rfl)
theorem dX2_below_30 : decode cX2_below 30 = .ok (.putfield 42, 3) := dk_181 0 42 (dk_at dksX2_below_1 8 rfl rfl)
theorem dX2_below_33 : decode cX2_below 33 = .ok (.return_, 1) := dk_177 (dk_at dksX2_below_1 11 rfl rfl)
theorem dX2_below_34 : decode cX2_below 34 = .ok (.iconst 0, 1) := dk_3 (dk_at dksX2_below_1 12 rfl rfl)
theorem dX2_below_35 : decode cX2_below 35 = .ok (.istore 5, 2) := dk_54 5 (dk_at dksX2_below_1 13 rfl rfl)
theorem dX2_below_37 : decode cX2_below 37 = .ok (.iload 5, 2) := dk_21 5 (dk_at dksX2_below_1 15 rfl rfl)
theorem dX2_below_39 : decode cX2_below 39 = .ok (.iload_n 2, 1) := dk_28 (dk_at dksX2_below_1 17 rfl rfl)
theorem dX2_below_40 : decode cX2_below 40 = .ok (.if_icmp .ge 16, 3) := dk_162 0 16 (dk_at dksX2_below_1 18 rfl rfl)
theorem dX2_below_43 : decode cX2_below 43 = .ok (.aload_n 1, 1) := dk_43 (dk_at dksX2_below_1 21 rfl rfl)
theorem dX2_below_44 : decode cX2_below 44 = .ok (.iload 5, 2) := dk_21 5 (dk_at dksX2_below_1 22 rfl rfl)
theorem dX2_below_46 : decode cX2_below 46 = .ok (.aaload, 1) := dk_50 (dk_at dksX2_below_2 0 rfl rfl)
theorem dX2_below_47 : decode cX2_below 47 = .ok (.invokevirtual 123, 3) := dk_182 0 123 (dk_at dksX2_below_2 1 rfl rfl)
theorem dX2_below_50 : decode cX2_below 50 = .ok (.iinc 5 1, 3) := dk_132 5 1 (dk_at dksX2_below_2 4 rfl rfl)
theorem dX2_below_53 : decode cX2_below 53 = .ok (.goto (-16), 3) := dk_167 255 240 (dk_at dksX2_below_2 7 rfl rfl)
theorem dX2_below_56 : decode cX2_below 56 = .ok (.aload_n 0, 1) := dk_42 (dk_at dksX2_below_2 10 rfl rfl)
theorem dX2_below_57 : decode cX2_below 57 = .ok (.iload_n 3, 1) := dk_29 (dk_at dksX2_below_2 11 rfl rfl)
theorem dX2_below_58 : decode cX2_below 58 = .ok (.iconst 1, 1) := dk_4 (dk_at dksX2_below_2 12 rfl rfl)
theorem dX2_below_59 : decode cX2_below 59 = .ok (.iadd, 1) := dk_96 (dk_at dksX2_below_2 13 rfl rfl)
theorem dX2_below_60 : decode cX2_below 60 = .ok (.iload 4, 2) := dk_21 4 (dk_at dksX2_below_2 14 rfl rfl)
theorem dX2_below_62 : decode cX2_below 62 = .ok (.invokevirtual 83, 3) := dk_182 0 83 (dk_at dksX2_below_2 16 rfl rfl)
theorem dX2_below_65 : decode cX2_below 65 = .ok (.iconst 0, 1) := dk_3 (dk_at dksX2_below_2 19 rfl rfl)
theorem dX2_below_66 : decode cX2_below 66 = .ok (.istore 5, 2) := dk_54 5 (dk_at dksX2_below_2 20 rfl rfl)
theorem dX2_below_68 : decode cX2_below 68 = .ok (.iload 5, 2) := dk_21 5 (dk_at dksX2_below_2 22 rfl rfl)
theorem dX2_below_70 : decode cX2_below 70 = .ok (.iload_n 2, 1) := dk_28 (dk_at dksX2_below_3 0 rfl rfl)
theorem dX2_below_71 : decode cX2_below 71 = .ok (.if_icmp .ge 16, 3) := dk_162 0 16 (dk_at dksX2_below_3 1 rfl rfl)
theorem dX2_below_74 : decode cX2_below 74 = .ok (.aload_n 1, 1) := dk_43 (dk_at dksX2_below_3 4 rfl rfl)
theorem dX2_below_75 : decode cX2_below 75 = .ok (.iload 5, 2) := dk_21 5 (dk_at dksX2_below_3 5 rfl rfl)
theorem dX2_below_77 : decode cX2_below 77 = .ok (.aaload, 1) := dk_50 (dk_at dksX2_below_3 7 rfl rfl)
theorem dX2_below_78 : decode cX2_below 78 = .ok (.invokevirtual 126, 3) := dk_182 0 126 (dk_at dksX2_below_3 8 rfl rfl)
theorem dX2_below_81 : decode cX2_below 81 = .ok (.iinc 5 1, 3) := dk_132 5 1 (dk_at dksX2_below_3 11 rfl rfl)
theorem dX2_below_84 : decode cX2_below 84 = .ok (.goto (-16), 3) := dk_167 255 240 (dk_at dksX2_below_3 14 rfl rfl)
theorem dX2_below_87 : decode cX2_below 87 = .ok (.return_, 1) := dk_177 (dk_at dksX2_below_3 17 rfl rfl)
theorem q59 : (Jvm.Cond.initialized "JoinLoom$Loom") ∈ lw_all := lw_g (lw_at lw_m1 3 rfl) rfl
theorem q87 : (Jvm.Cond.fieldLinkNest "JoinLoom$Loom" (51 : Nat) "JoinLoom$Cloth" "names" "I" "JoinLoom") ∈ lw_tbl := lw_at lw_m1 31 rfl
theorem q90 : (Jvm.Cond.fieldLinkNest "JoinLoom$Loom" (54 : Nat) "JoinLoom$Cloth" "many" "I" "JoinLoom") ∈ lw_tbl := lw_at lw_m1 34 rfl
theorem q95 : (Jvm.Cond.fieldLinkNest "JoinLoom$Loom" (60 : Nat) "JoinLoom$Cloth" "meetings" "[I" "JoinLoom") ∈ lw_tbl := lw_at lw_m1 39 rfl
theorem q99 : (Jvm.Cond.fieldLinkNest "JoinLoom$Loom" (57 : Nat) "JoinLoom$Cloth" "isThere" "Z" "JoinLoom") ∈ lw_tbl := lw_at lw_m1 43 rfl
theorem q120 : (Jvm.Cond.instantiable "JoinLoom$Loom" (8 : Nat)) ∈ lw_all := lw_g (lw_at lw_m1 64 rfl) rfl
theorem q122 : (Jvm.Cond.instanceMethod ({ cls := "JoinLoom$Loom", name := "<init>", desc := "()V" } : Jvm.MethodName)) ∈ lw_all := lw_g (lw_at lw_m1 66 rfl) rfl
theorem q123 : (Jvm.Cond.code ({ cls := "JoinLoom$Loom", name := "<init>", desc := "()V" } : Jvm.MethodName) prog_5_method_1_code (1 : Nat) (Option.none : Option Jvm.ClassFile.FieldType)) ∈ lw_all := lw_g (lw_at lw_m1 67 rfl) rfl
theorem q124 : (Jvm.Cond.methodLink "JoinLoom$Loom" (3 : Nat) ({ cls := "java/lang/Object", name := "<init>", desc := "()V" } : Jvm.MethodName)) ∈ lw_all := lw_g (lw_at lw_m1 68 rfl) rfl
theorem q125 : (Jvm.Cond.classLink "JoinLoom$Loom" (9 : Nat) "JoinLoom$Tree") ∈ lw_all := lw_g (lw_at lw_m1 69 rfl) rfl
theorem q128 : (Jvm.Cond.methodLinkNest "JoinLoom$Loom" (11 : Nat) ({ cls := "JoinLoom$Tree", name := "<init>", desc := "()V" } : Jvm.MethodName) "JoinLoom") ∈ lw_tbl := lw_at lw_m1 72 rfl
theorem q135 : (Jvm.Cond.fieldLinkNest "JoinLoom$Loom" (82 : Nat) "JoinLoom$Tree" "many" "I" "JoinLoom") ∈ lw_tbl := lw_at lw_m1 79 rfl
theorem q139 : (Jvm.Cond.fieldLinkNest "JoinLoom$Loom" (79 : Nat) "JoinLoom$Tree" "deep" "I" "JoinLoom") ∈ lw_tbl := lw_at lw_m1 83 rfl
theorem q168 : (Jvm.Cond.classLink "JoinLoom$Loom" (18 : Nat) "[[LJoinLoom$Tree;") ∈ lw_all := lw_g (lw_at lw_m1 112 rfl) rfl
theorem q170 : (Jvm.Cond.fieldLink "JoinLoom$Loom" (27 : Nat) "JoinLoom$Loom" "q" "LJoinLoom$Question;") ∈ lw_all := lw_g (lw_at lw_m1 114 rfl) rfl
theorem q171 : (Jvm.Cond.fieldLink "JoinLoom$Loom" (31 : Nat) "JoinLoom$Loom" "order" "[I") ∈ lw_all := lw_g (lw_at lw_m1 115 rfl) rfl
theorem q172 : (Jvm.Cond.fieldLink "JoinLoom$Loom" (34 : Nat) "JoinLoom$Loom" "cloth" "LJoinLoom$Cloth;") ∈ lw_all := lw_g (lw_at lw_m1 116 rfl) rfl
theorem q173 : (Jvm.Cond.fieldLink "JoinLoom$Loom" (12 : Nat) "JoinLoom$Loom" "trees" "[LJoinLoom$Tree;") ∈ lw_all := lw_g (lw_at lw_m1 117 rfl) rfl
theorem q174 : (Jvm.Cond.fieldLink "JoinLoom$Loom" (38 : Nat) "JoinLoom$Loom" "treeMany" "I") ∈ lw_all := lw_g (lw_at lw_m1 118 rfl) rfl
theorem q175 : (Jvm.Cond.fieldLink "JoinLoom$Loom" (20 : Nat) "JoinLoom$Loom" "walkers" "[[LJoinLoom$Tree;") ∈ lw_all := lw_g (lw_at lw_m1 119 rfl) rfl
theorem q176 : (Jvm.Cond.fieldLink "JoinLoom$Loom" (23 : Nat) "JoinLoom$Loom" "values" "[I") ∈ lw_all := lw_g (lw_at lw_m1 120 rfl) rfl
theorem q177 : (Jvm.Cond.fieldLink "JoinLoom$Loom" (42 : Nat) "JoinLoom$Loom" "isTooMany" "Z") ∈ lw_all := lw_g (lw_at lw_m1 121 rfl) rfl
theorem q178 : (Jvm.Cond.lays "JoinLoom$Loom" "JoinLoom$Loom" "q" "LJoinLoom$Question;") ∈ lw_all := lw_g (lw_at lw_m1 122 rfl) rfl
theorem q179 : (Jvm.Cond.soleField "JoinLoom$Loom" "q") ∈ lw_all := lw_g (lw_at lw_m1 123 rfl) rfl
theorem q180 : (Jvm.Cond.lays "JoinLoom$Loom" "JoinLoom$Loom" "order" "[I") ∈ lw_all := lw_g (lw_at lw_m1 124 rfl) rfl
theorem q181 : (Jvm.Cond.soleField "JoinLoom$Loom" "order") ∈ lw_all := lw_g (lw_at lw_m1 125 rfl) rfl
theorem q182 : (Jvm.Cond.lays "JoinLoom$Loom" "JoinLoom$Loom" "cloth" "LJoinLoom$Cloth;") ∈ lw_all := lw_g (lw_at lw_m1 126 rfl) rfl
theorem q183 : (Jvm.Cond.soleField "JoinLoom$Loom" "cloth") ∈ lw_all := lw_g (lw_at lw_m1 127 rfl) rfl
theorem q184 : (Jvm.Cond.laysFinal "JoinLoom$Loom" "JoinLoom$Loom" "trees" "[LJoinLoom$Tree;") ∈ lw_all := lw_g (lw_at lw_m1 128 rfl) rfl
theorem q185 : (Jvm.Cond.soleField "JoinLoom$Loom" "trees") ∈ lw_all := lw_g (lw_at lw_m1 129 rfl) rfl
theorem q186 : (Jvm.Cond.lays "JoinLoom$Loom" "JoinLoom$Loom" "treeMany" "I") ∈ lw_all := lw_g (lw_at lw_m1 130 rfl) rfl
theorem q187 : (Jvm.Cond.soleField "JoinLoom$Loom" "treeMany") ∈ lw_all := lw_g (lw_at lw_m1 131 rfl) rfl
theorem q188 : (Jvm.Cond.laysFinal "JoinLoom$Loom" "JoinLoom$Loom" "walkers" "[[LJoinLoom$Tree;") ∈ lw_all := lw_g (lw_at lw_m1 132 rfl) rfl
theorem q189 : (Jvm.Cond.soleField "JoinLoom$Loom" "walkers") ∈ lw_all := lw_g (lw_at lw_m1 133 rfl) rfl
theorem q190 : (Jvm.Cond.laysFinal "JoinLoom$Loom" "JoinLoom$Loom" "values" "[I") ∈ lw_all := lw_g (lw_at lw_m1 134 rfl) rfl
theorem q191 : (Jvm.Cond.soleField "JoinLoom$Loom" "values") ∈ lw_all := lw_g (lw_at lw_m1 135 rfl) rfl
theorem q192 : (Jvm.Cond.lays "JoinLoom$Loom" "JoinLoom$Loom" "isTooMany" "Z") ∈ lw_all := lw_g (lw_at lw_m1 136 rfl) rfl
theorem q193 : (Jvm.Cond.soleField "JoinLoom$Loom" "isTooMany") ∈ lw_all := lw_g (lw_at lw_m1 137 rfl) rfl
theorem q194 : (Jvm.Cond.superclass "JoinLoom$Loom" "java/lang/Object") ∈ lw_all := lw_g (lw_at lw_m1 138 rfl) rfl
theorem q328 : (Jvm.Cond.fieldLinkNest "JoinLoom$Loom" (46 : Nat) "JoinLoom$Question" "names" "I" "JoinLoom") ∈ lw_tbl := lw_at lw_m2 32 rfl
theorem q331 : (Jvm.Cond.fieldLinkNest "JoinLoom$Loom" (64 : Nat) "JoinLoom$Question" "parts" "[LJoinLoom$Part;" "JoinLoom") ∈ lw_tbl := lw_at lw_m2 35 rfl
theorem q335 : (Jvm.Cond.fieldLinkNest "JoinLoom$Loom" (63 : Nat) "JoinLoom$Question" "many" "I" "JoinLoom") ∈ lw_tbl := lw_at lw_m2 39 rfl
theorem q380 : (Jvm.Cond.fieldLink "JoinLoom$Loom" (68 : Nat) "JoinLoom$Part" "kind" "I") ∈ lw_all := lw_g (lw_at lw_m2 84 rfl) rfl
theorem q502 : (Jvm.Cond.instanceMethod ({ cls := "JoinLoom$Loom", name := "weaves", desc := "(LJoinLoom$Question;[ILJoinLoom$Cloth;)I" } : Jvm.MethodName)) ∈ lw_all := lw_g (lw_at lw_m2 206 rfl) rfl
theorem q503 : (Jvm.Cond.selects "JoinLoom$Loom" ({ cls := "JoinLoom$Loom", name := "weaves", desc := "(LJoinLoom$Question;[ILJoinLoom$Cloth;)I" } : Jvm.MethodName) ({ cls := "JoinLoom$Loom", name := "weaves", desc := "(LJoinLoom$Question;[ILJoinLoom$Cloth;)I" } : Jvm.MethodName)) ∈ lw_all := lw_g (lw_at lw_m2 207 rfl) rfl
theorem q504 : (Jvm.Cond.code ({ cls := "JoinLoom$Loom", name := "weaves", desc := "(LJoinLoom$Question;[ILJoinLoom$Cloth;)I" } : Jvm.MethodName) prog_5_method_2_code (7 : Nat) (Option.some Jvm.ClassFile.FieldType.int)) ∈ lw_all := lw_g (lw_at lw_m2 208 rfl) rfl
theorem q505 : (Jvm.Cond.classLink "JoinLoom$Loom" (73 : Nat) "JoinLoom$Has") ∈ lw_all := lw_g (lw_at lw_m2 209 rfl) rfl
theorem q506 : (Jvm.Cond.methodLink "JoinLoom$Loom" (75 : Nat) ({ cls := "JoinLoom$Tree", name := "is", desc := "(LJoinLoom$Has;[II)V" } : Jvm.MethodName)) ∈ lw_all := lw_g (lw_at lw_m2 210 rfl) rfl
theorem q525 : (Jvm.Cond.methodLink "JoinLoom$Loom" (83 : Nat) ({ cls := "JoinLoom$Loom", name := "goes", desc := "(II)V" } : Jvm.MethodName)) ∈ lw_all := lw_g (lw_at lw_m2 229 rfl) rfl
theorem q526 : (Jvm.Cond.privateMethod ({ cls := "JoinLoom$Loom", name := "goes", desc := "(II)V" } : Jvm.MethodName)) ∈ lw_tbl := lw_at lw_m2 230 rfl
theorem q527 : (Jvm.Cond.instanceMethod ({ cls := "JoinLoom$Loom", name := "goes", desc := "(II)V" } : Jvm.MethodName)) ∈ lw_all := lw_g (lw_at lw_m2 231 rfl) rfl
theorem q528 : (Jvm.Cond.code ({ cls := "JoinLoom$Loom", name := "goes", desc := "(II)V" } : Jvm.MethodName) prog_5_method_4_code (7 : Nat) (Option.none : Option Jvm.ClassFile.FieldType)) ∈ lw_all := lw_g (lw_at lw_m2 232 rfl) rfl
theorem q529 : (Jvm.Cond.methodLink "JoinLoom$Loom" (94 : Nat) ({ cls := "JoinLoom$Cloth", name := "comes", desc := "([I)V" } : Jvm.MethodName)) ∈ lw_all := lw_g (lw_at lw_m2 233 rfl) rfl
theorem q542 : (Jvm.Cond.methodLink "JoinLoom$Loom" (98 : Nat) ({ cls := "JoinLoom$Tree", name := "hasNext", desc := "(I)Z" } : Jvm.MethodName)) ∈ lw_all := lw_g (lw_at lw_m3 6 rfl) rfl
theorem q546 : (Jvm.Cond.methodLink "JoinLoom$Loom" (102 : Nat) ({ cls := "JoinLoom$Tree", name := "opens", desc := "()V" } : Jvm.MethodName)) ∈ lw_all := lw_g (lw_at lw_m3 10 rfl) rfl
theorem q558 : (Jvm.Cond.methodLink "JoinLoom$Loom" (105 : Nat) ({ cls := "JoinLoom$Loom", name := "meets", desc := "([LJoinLoom$Tree;I)Z" } : Jvm.MethodName)) ∈ lw_all := lw_g (lw_at lw_m3 22 rfl) rfl
theorem q559 : (Jvm.Cond.static ({ cls := "JoinLoom$Loom", name := "meets", desc := "([LJoinLoom$Tree;I)Z" } : Jvm.MethodName)) ∈ lw_all := lw_g (lw_at lw_m3 23 rfl) rfl
theorem q560 : (Jvm.Cond.code ({ cls := "JoinLoom$Loom", name := "meets", desc := "([LJoinLoom$Tree;I)Z" } : Jvm.MethodName) prog_5_method_6_code (9 : Nat) (Option.some Jvm.ClassFile.FieldType.boolean)) ∈ lw_all := lw_g (lw_at lw_m3 24 rfl) rfl
theorem q561 : (Jvm.Cond.methodLink "JoinLoom$Loom" (129 : Nat) ({ cls := "JoinLoom$Tree", name := "isAtEnd", desc := "()Z" } : Jvm.MethodName)) ∈ lw_all := lw_g (lw_at lw_m3 25 rfl) rfl
theorem q565 : (Jvm.Cond.methodLink "JoinLoom$Loom" (109 : Nat) ({ cls := "JoinLoom$Tree", name := "value", desc := "()I" } : Jvm.MethodName)) ∈ lw_all := lw_g (lw_at lw_m3 29 rfl) rfl
theorem q569 : (Jvm.Cond.methodLinkNest "JoinLoom$Loom" (133 : Nat) ({ cls := "JoinLoom", name := "rank", desc := "(I)J" } : Jvm.MethodName) "JoinLoom") ∈ lw_tbl := lw_at lw_m3 33 rfl
theorem q570 : (Jvm.Cond.methodLink "JoinLoom$Loom" (137 : Nat) ({ cls := "JoinLoom$Tree", name := "seeks", desc := "(J)V" } : Jvm.MethodName)) ∈ lw_all := lw_g (lw_at lw_m3 34 rfl) rfl
theorem q577 : (Jvm.Cond.methodLink "JoinLoom$Loom" (112 : Nat) ({ cls := "JoinLoom$Loom", name := "holds", desc := "(IIZ)Z" } : Jvm.MethodName)) ∈ lw_all := lw_g (lw_at lw_m3 41 rfl) rfl
theorem q578 : (Jvm.Cond.privateMethod ({ cls := "JoinLoom$Loom", name := "holds", desc := "(IIZ)Z" } : Jvm.MethodName)) ∈ lw_tbl := lw_at lw_m3 42 rfl
theorem q579 : (Jvm.Cond.instanceMethod ({ cls := "JoinLoom$Loom", name := "holds", desc := "(IIZ)Z" } : Jvm.MethodName)) ∈ lw_all := lw_g (lw_at lw_m3 43 rfl) rfl
theorem q580 : (Jvm.Cond.code ({ cls := "JoinLoom$Loom", name := "holds", desc := "(IIZ)Z" } : Jvm.MethodName) prog_5_method_3_code (7 : Nat) (Option.some Jvm.ClassFile.FieldType.boolean)) ∈ lw_all := lw_g (lw_at lw_m3 44 rfl) rfl
theorem q581 : (Jvm.Cond.methodLink "JoinLoom$Loom" (87 : Nat) ({ cls := "JoinLoom$Part", name := "names", desc := "()I" } : Jvm.MethodName)) ∈ lw_all := lw_g (lw_at lw_m3 45 rfl) rfl
theorem q582 : (Jvm.Cond.methodLink "JoinLoom$Loom" (90 : Nat) ({ cls := "JoinLoom$Part", name := "isTrue", desc := "([I)Z" } : Jvm.MethodName)) ∈ lw_all := lw_g (lw_at lw_m3 46 rfl) rfl
theorem q617 : (Jvm.Cond.methodLink "JoinLoom$Loom" (116 : Nat) ({ cls := "JoinLoom$Loom", name := "below", desc := "([LJoinLoom$Tree;III)V" } : Jvm.MethodName)) ∈ lw_all := lw_g (lw_at lw_m3 81 rfl) rfl
theorem q618 : (Jvm.Cond.privateMethod ({ cls := "JoinLoom$Loom", name := "below", desc := "([LJoinLoom$Tree;III)V" } : Jvm.MethodName)) ∈ lw_tbl := lw_at lw_m3 82 rfl
theorem q619 : (Jvm.Cond.instanceMethod ({ cls := "JoinLoom$Loom", name := "below", desc := "([LJoinLoom$Tree;III)V" } : Jvm.MethodName)) ∈ lw_all := lw_g (lw_at lw_m3 83 rfl) rfl
theorem q620 : (Jvm.Cond.code ({ cls := "JoinLoom$Loom", name := "below", desc := "([LJoinLoom$Tree;III)V" } : Jvm.MethodName) prog_5_method_5_code (6 : Nat) (Option.none : Option Jvm.ClassFile.FieldType)) ∈ lw_all := lw_g (lw_at lw_m3 84 rfl) rfl
theorem q621 : (Jvm.Cond.methodLink "JoinLoom$Loom" (123 : Nat) ({ cls := "JoinLoom$Tree", name := "down", desc := "()V" } : Jvm.MethodName)) ∈ lw_all := lw_g (lw_at lw_m3 85 rfl) rfl
theorem q625 : (Jvm.Cond.methodLink "JoinLoom$Loom" (126 : Nat) ({ cls := "JoinLoom$Tree", name := "up", desc := "()V" } : Jvm.MethodName)) ∈ lw_all := lw_g (lw_at lw_m3 89 rfl) rfl
theorem q629 : (Jvm.Cond.methodLink "JoinLoom$Loom" (120 : Nat) ({ cls := "JoinLoom$Tree", name := "next", desc := "()V" } : Jvm.MethodName)) ∈ lw_all := lw_g (lw_at lw_m3 93 rfl) rfl
theorem in_X2 : ∀ w ∈ wsX20, w ∈ lw_all := lw_in wsX20 [178, 180, 182, 184, 186, 188, 190, 192] (by decide +kernel) (by decide +kernel)
/-! JoinLoom$Tree -/
set_option maxRecDepth 100000
def RX3 : String := "JoinLoom$Tree"
def TX3 : u_T := fun k => match k with
  | 0 => ("JoinLoom$Tree", "has", "LJoinLoom$Has;", false)
  | 1 => ("JoinLoom$Tree", "rows", "[I", true)
  | 2 => ("JoinLoom$Tree", "many", "I", false)
  | 3 => ("JoinLoom$Tree", "name", "[I", true)
  | 4 => ("JoinLoom$Tree", "column", "[I", true)
  | 5 => ("JoinLoom$Tree", "deep", "I", false)
  | 6 => ("JoinLoom$Tree", "low", "[I", true)
  | 7 => ("JoinLoom$Tree", "high", "[I", true)
  | 8 => ("JoinLoom$Tree", "from", "[I", true)
  | 9 => ("JoinLoom$Tree", "to", "[I", true)
  | _ => ("JoinLoom$Tree", "level", "I", false)
def tyX3 : Nat → FieldType := fun k => match k with
  | 0 => .object "JoinLoom$Has"
  | 1 => .array .int
  | 2 => .int
  | 3 => .array .int
  | 4 => .array .int
  | 5 => .int
  | 6 => .array .int
  | 7 => .array .int
  | 8 => .array .int
  | 9 => .array .int
  | _ => .int
abbrev wsX30 : List Cond := u_ws RX3 TX3 11
theorem nmX3 : ∀ a, a < 11 → ∀ b, b < 11 → a ≠ b → (TX3 a).2.1 ≠ (TX3 b).2.1 := by decide +kernel
theorem tyX3_ok : ∀ k, k < 11 → parseFieldDescriptor (TX3 k).2.2.1 = some (tyX3 k) := by decide +kernel
abbrev cX3_init : ByteArray := prog_11_method_1_code
def yX3_init : MethodName := ⟨RX3, "<init>", "()V"⟩
def dkwX3_init_2 : List UInt8 := [42, 7, 188, 10, 181, 0, 30, 177]
abbrev dktX3_init_2 : List UInt8 := dkwX3_init_2 ++ []
def dkwX3_init_1 : List UInt8 := [181, 0, 18, 42, 7, 188, 10, 181, 0, 21, 42, 7, 188, 10, 181, 0, 24, 42, 7, 188, 10, 181, 0, 27]
abbrev dktX3_init_1 : List UInt8 := dkwX3_init_1 ++ dktX3_init_2
def dkwX3_init_0 : List UInt8 := [42, 183, 0, 3, 42, 16, 40, 188, 10, 181, 0, 9, 42, 6, 188, 10, 181, 0, 15, 42, 6, 188, 10]
abbrev dktX3_init_0 : List UInt8 := dkwX3_init_0 ++ dktX3_init_1
theorem dksX3_init_0 : cX3_init.data.toList.drop 0 = dktX3_init_0 := by decide +kernel
theorem dksX3_init_1 : cX3_init.data.toList.drop 23 = dktX3_init_1 := dk_seg dksX3_init_0 23 rfl rfl
theorem dksX3_init_2 : cX3_init.data.toList.drop 47 = dktX3_init_2 := dk_seg dksX3_init_1 24 rfl rfl
theorem dX3_init_0 : decode cX3_init 0 = .ok (.aload_n 0, 1) := dk_42 (dk_at dksX3_init_0 0 rfl rfl)
theorem dX3_init_1 : decode cX3_init 1 = .ok (.invokespecial 3, 3) := dk_183 0 3 (dk_at dksX3_init_0 1 rfl rfl)
theorem dX3_init_4 : decode cX3_init 4 = .ok (.aload_n 0, 1) := dk_42 (dk_at dksX3_init_0 4 rfl rfl)
theorem dX3_init_5 : decode cX3_init 5 = .ok (.bipush 40, 2) := dk_16 40 (dk_at dksX3_init_0 5 rfl rfl)
theorem dX3_init_7 : decode cX3_init 7 = .ok (.newarray .int, 2) := dk_188_10 (dk_at dksX3_init_0 7 rfl rfl)
theorem dX3_init_9 : decode cX3_init 9 = .ok (.putfield 9, 3) := dk_181 0 9 (dk_at dksX3_init_0 9 rfl rfl)
theorem dX3_init_12 : decode cX3_init 12 = .ok (.aload_n 0, 1) := dk_42 (dk_at dksX3_init_0 12 rfl rfl)
theorem dX3_init_13 : decode cX3_init 13 = .ok (.iconst 3, 1) := dk_6 (dk_at dksX3_init_0 13 rfl rfl)
theorem dX3_init_14 : decode cX3_init 14 = .ok (.newarray .int, 2) := dk_188_10 (dk_at dksX3_init_0 14 rfl rfl)
theorem dX3_init_16 : decode cX3_init 16 = .ok (.putfield 15, 3) := dk_181 0 15 (dk_at dksX3_init_0 16 rfl rfl)
theorem dX3_init_19 : decode cX3_init 19 = .ok (.aload_n 0, 1) := dk_42 (dk_at dksX3_init_0 19 rfl rfl)
theorem dX3_init_20 : decode cX3_init 20 = .ok (.iconst 3, 1) := dk_6 (dk_at dksX3_init_0 20 rfl rfl)
theorem dX3_init_21 : decode cX3_init 21 = .ok (.newarray .int, 2) := dk_188_10 (dk_at dksX3_init_0 21 rfl rfl)
theorem dX3_init_23 : decode cX3_init 23 = .ok (.putfield 18, 3) := dk_181 0 18 (dk_at dksX3_init_1 0 rfl rfl)
theorem dX3_init_26 : decode cX3_init 26 = .ok (.aload_n 0, 1) := dk_42 (dk_at dksX3_init_1 3 rfl rfl)
theorem dX3_init_27 : decode cX3_init 27 = .ok (.iconst 4, 1) := dk_7 (dk_at dksX3_init_1 4 rfl rfl)
theorem dX3_init_28 : decode cX3_init 28 = .ok (.newarray .int, 2) := dk_188_10 (dk_at dksX3_init_1 5 rfl rfl)
theorem dX3_init_30 : decode cX3_init 30 = .ok (.putfield 21, 3) := dk_181 0 21 (dk_at dksX3_init_1 7 rfl rfl)
theorem dX3_init_33 : decode cX3_init 33 = .ok (.aload_n 0, 1) := dk_42 (dk_at dksX3_init_1 10 rfl rfl)
theorem dX3_init_34 : decode cX3_init 34 = .ok (.iconst 4, 1) := dk_7 (dk_at dksX3_init_1 11 rfl rfl)
theorem dX3_init_35 : decode cX3_init 35 = .ok (.newarray .int, 2) := dk_188_10 (dk_at dksX3_init_1 12 rfl rfl)
theorem dX3_init_37 : decode cX3_init 37 = .ok (.putfield 24, 3) := dk_181 0 24 (dk_at dksX3_init_1 14 rfl rfl)
theorem dX3_init_40 : decode cX3_init 40 = .ok (.aload_n 0, 1) := dk_42 (dk_at dksX3_init_1 17 rfl rfl)
theorem dX3_init_41 : decode cX3_init 41 = .ok (.iconst 4, 1) := dk_7 (dk_at dksX3_init_1 18 rfl rfl)
theorem dX3_init_42 : decode cX3_init 42 = .ok (.newarray .int, 2) := dk_188_10 (dk_at dksX3_init_1 19 rfl rfl)
theorem dX3_init_44 : decode cX3_init 44 = .ok (.putfield 27, 3) := dk_181 0 27 (dk_at dksX3_init_1 21 rfl rfl)
theorem dX3_init_47 : decode cX3_init 47 = .ok (.aload_n 0, 1) := dk_42 (dk_at dksX3_init_2 0 rfl rfl)
theorem dX3_init_48 : decode cX3_init 48 = .ok (.iconst 4, 1) := dk_7 (dk_at dksX3_init_2 1 rfl rfl)
theorem dX3_init_49 : decode cX3_init 49 = .ok (.newarray .int, 2) := dk_188_10 (dk_at dksX3_init_2 2 rfl rfl)
theorem dX3_init_51 : decode cX3_init 51 = .ok (.putfield 30, 3) := dk_181 0 30 (dk_at dksX3_init_2 4 rfl rfl)
theorem dX3_init_54 : decode cX3_init 54 = .ok (.return_, 1) := dk_177 (dk_at dksX3_init_2 7 rfl rfl)
abbrev cX3_is : ByteArray := prog_11_method_2_code
def yX3_is : MethodName := ⟨RX3, "is", "(LJoinLoom$Has;[II)V"⟩
def dkwX3_is_7 : List UInt8 := [180, 0, 24, 3, 42, 180, 0, 37, 79, 177]
abbrev dktX3_is_7 : List UInt8 := dkwX3_is_7 ++ []
def dkwX3_is_6 : List UInt8 := [182, 0, 65, 132, 4, 1, 167, 255, 226, 42, 3, 181, 0, 69, 42, 180, 0, 21, 3, 3, 79, 42]
abbrev dktX3_is_6 : List UInt8 := dkwX3_is_6 ++ dktX3_is_7
def dkwX3_is_5 : List UInt8 := [43, 180, 0, 54, 180, 0, 58, 162, 0, 24, 42, 21, 4, 182, 0, 61, 153, 0, 9, 42, 21, 4]
abbrev dktX3_is_5 : List UInt8 := dkwX3_is_5 ++ dktX3_is_6
def dkwX3_is_4 : List UInt8 := [160, 0, 13, 42, 89, 180, 0, 41, 4, 96, 181, 0, 41, 132, 4, 1, 167, 255, 162, 3, 54, 4, 21, 4]
abbrev dktX3_is_4 : List UInt8 := dkwX3_is_4 ++ dktX3_is_5
def dkwX3_is_3 : List UInt8 := [180, 0, 41, 21, 5, 79, 132, 5, 255, 167, 255, 207, 43, 182, 0, 50, 44, 21, 4, 46, 122, 4, 126, 4]
abbrev dktX3_is_3 : List UInt8 := dkwX3_is_3 ++ dktX3_is_4
def dkwX3_is_2 : List UInt8 := [159, 0, 6, 167, 0, 27, 42, 180, 0, 15, 42, 180, 0, 41, 44, 21, 4, 46, 79, 42, 180, 0, 18, 42]
abbrev dktX3_is_2 : List UInt8 := dkwX3_is_2 ++ dktX3_is_3
def dkwX3_is_1 : List UInt8 := [43, 180, 0, 44, 4, 100, 54, 5, 21, 5, 155, 0, 50, 43, 180, 0, 49, 21, 5, 46, 44, 21, 4, 46]
abbrev dktX3_is_1 : List UInt8 := dkwX3_is_1 ++ dktX3_is_2
def dkwX3_is_0 : List UInt8 := [42, 43, 181, 0, 33, 42, 3, 181, 0, 37, 42, 3, 181, 0, 41, 3, 54, 4, 21, 4, 29, 162, 0, 94]
abbrev dktX3_is_0 : List UInt8 := dkwX3_is_0 ++ dktX3_is_1
theorem dksX3_is_0 : cX3_is.data.toList.drop 0 = dktX3_is_0 := by decide +kernel
theorem dksX3_is_1 : cX3_is.data.toList.drop 24 = dktX3_is_1 := dk_seg dksX3_is_0 24 rfl rfl
theorem dksX3_is_2 : cX3_is.data.toList.drop 48 = dktX3_is_2 := dk_seg dksX3_is_1 24 rfl rfl
theorem dksX3_is_3 : cX3_is.data.toList.drop 72 = dktX3_is_3 := dk_seg dksX3_is_2 24 rfl rfl
theorem dksX3_is_4 : cX3_is.data.toList.drop 96 = dktX3_is_4 := dk_seg dksX3_is_3 24 rfl rfl
theorem dksX3_is_5 : cX3_is.data.toList.drop 120 = dktX3_is_5 := dk_seg dksX3_is_4 24 rfl rfl
theorem dksX3_is_6 : cX3_is.data.toList.drop 142 = dktX3_is_6 := dk_seg dksX3_is_5 22 rfl rfl
theorem dksX3_is_7 : cX3_is.data.toList.drop 164 = dktX3_is_7 := dk_seg dksX3_is_6 22 rfl rfl
theorem dX3_is_0 : decode cX3_is 0 = .ok (.aload_n 0, 1) := dk_42 (dk_at dksX3_is_0 0 rfl rfl)
theorem dX3_is_1 : decode cX3_is 1 = .ok (.aload_n 1, 1) := dk_43 (dk_at dksX3_is_0 1 rfl rfl)
theorem dX3_is_2 : decode cX3_is 2 = .ok (.putfield 33, 3) := dk_181 0 33 (dk_at dksX3_is_0 2 rfl rfl)
theorem dX3_is_5 : decode cX3_is 5 = .ok (.aload_n 0, 1) := dk_42 (dk_at dksX3_is_0 5 rfl rfl)
theorem dX3_is_6 : decode cX3_is 6 = .ok (.iconst 0, 1) := dk_3 (dk_at dksX3_is_0 6 rfl rfl)
theorem dX3_is_7 : decode cX3_is 7 = .ok (.putfield 37, 3) := dk_181 0 37 (dk_at dksX3_is_0 7 rfl rfl)
theorem dX3_is_10 : decode cX3_is 10 = .ok (.aload_n 0, 1) := dk_42 (dk_at dksX3_is_0 10 rfl rfl)
theorem dX3_is_11 : decode cX3_is 11 = .ok (.iconst 0, 1) := dk_3 (dk_at dksX3_is_0 11 rfl rfl)
theorem dX3_is_12 : decode cX3_is 12 = .ok (.putfield 41, 3) := dk_181 0 41 (dk_at dksX3_is_0 12 rfl rfl)
theorem dX3_is_15 : decode cX3_is 15 = .ok (.iconst 0, 1) := dk_3 (dk_at dksX3_is_0 15 rfl rfl)
theorem dX3_is_16 : decode cX3_is 16 = .ok (.istore 4, 2) := dk_54 4 (dk_at dksX3_is_0 16 rfl rfl)
theorem dX3_is_18 : decode cX3_is 18 = .ok (.iload 4, 2) := dk_21 4 (dk_at dksX3_is_0 18 rfl rfl)
theorem dX3_is_20 : decode cX3_is 20 = .ok (.iload_n 3, 1) := dk_29 (dk_at dksX3_is_0 20 rfl rfl)
theorem dX3_is_21 : decode cX3_is 21 = .ok (.if_icmp .ge 94, 3) := dk_162 0 94 (dk_at dksX3_is_0 21 rfl rfl)
theorem dX3_is_24 : decode cX3_is 24 = .ok (.aload_n 1, 1) := dk_43 (dk_at dksX3_is_1 0 rfl rfl)
theorem dX3_is_25 : decode cX3_is 25 = .ok (.getfield 44, 3) := dk_180 0 44 (dk_at dksX3_is_1 1 rfl rfl)
theorem dX3_is_28 : decode cX3_is 28 = .ok (.iconst 1, 1) := dk_4 (dk_at dksX3_is_1 4 rfl rfl)
theorem dX3_is_29 : decode cX3_is 29 = .ok (.isub, 1) := dk_100 (dk_at dksX3_is_1 5 rfl rfl)
theorem dX3_is_30 : decode cX3_is 30 = .ok (.istore 5, 2) := dk_54 5 (dk_at dksX3_is_1 6 rfl rfl)
theorem dX3_is_32 : decode cX3_is 32 = .ok (.iload 5, 2) := dk_21 5 (dk_at dksX3_is_1 8 rfl rfl)
theorem dX3_is_34 : decode cX3_is 34 = .ok (.ifCond .lt 50, 3) := dk_155 0 50 (dk_at dksX3_is_1 10 rfl rfl)
theorem dX3_is_37 : decode cX3_is 37 = .ok (.aload_n 1, 1) := dk_43 (dk_at dksX3_is_1 13 rfl rfl)
theorem dX3_is_38 : decode cX3_is 38 = .ok (.getfield 49, 3) := dk_180 0 49 (dk_at dksX3_is_1 14 rfl rfl)
theorem dX3_is_41 : decode cX3_is 41 = .ok (.iload 5, 2) := dk_21 5 (dk_at dksX3_is_1 17 rfl rfl)
theorem dX3_is_43 : decode cX3_is 43 = .ok (.iaload, 1) := dk_46 (dk_at dksX3_is_1 19 rfl rfl)
theorem dX3_is_44 : decode cX3_is 44 = .ok (.aload_n 2, 1) := dk_44 (dk_at dksX3_is_1 20 rfl rfl)
theorem dX3_is_45 : decode cX3_is 45 = .ok (.iload 4, 2) := dk_21 4 (dk_at dksX3_is_1 21 rfl rfl)
theorem dX3_is_47 : decode cX3_is 47 = .ok (.iaload, 1) := dk_46 (dk_at dksX3_is_1 23 rfl rfl)
theorem dX3_is_48 : decode cX3_is 48 = .ok (.if_icmp .eq 6, 3) := dk_159 0 6 (dk_at dksX3_is_2 0 rfl rfl)
theorem dX3_is_51 : decode cX3_is 51 = .ok (.goto 27, 3) := dk_167 0 27 (dk_at dksX3_is_2 3 rfl rfl)
theorem dX3_is_54 : decode cX3_is 54 = .ok (.aload_n 0, 1) := dk_42 (dk_at dksX3_is_2 6 rfl rfl)
theorem dX3_is_55 : decode cX3_is 55 = .ok (.getfield 15, 3) := dk_180 0 15 (dk_at dksX3_is_2 7 rfl rfl)
theorem dX3_is_58 : decode cX3_is 58 = .ok (.aload_n 0, 1) := dk_42 (dk_at dksX3_is_2 10 rfl rfl)
theorem dX3_is_59 : decode cX3_is 59 = .ok (.getfield 41, 3) := dk_180 0 41 (dk_at dksX3_is_2 11 rfl rfl)
theorem dX3_is_62 : decode cX3_is 62 = .ok (.aload_n 2, 1) := dk_44 (dk_at dksX3_is_2 14 rfl rfl)
theorem dX3_is_63 : decode cX3_is 63 = .ok (.iload 4, 2) := dk_21 4 (dk_at dksX3_is_2 15 rfl rfl)
theorem dX3_is_65 : decode cX3_is 65 = .ok (.iaload, 1) := dk_46 (dk_at dksX3_is_2 17 rfl rfl)
theorem dX3_is_66 : decode cX3_is 66 = .ok (.iastore, 1) := dk_79 (dk_at dksX3_is_2 18 rfl rfl)
theorem dX3_is_67 : decode cX3_is 67 = .ok (.aload_n 0, 1) := dk_42 (dk_at dksX3_is_2 19 rfl rfl)
theorem dX3_is_68 : decode cX3_is 68 = .ok (.getfield 18, 3) := dk_180 0 18 (dk_at dksX3_is_2 20 rfl rfl)
theorem dX3_is_71 : decode cX3_is 71 = .ok (.aload_n 0, 1) := dk_42 (dk_at dksX3_is_2 23 rfl rfl)
theorem dX3_is_72 : decode cX3_is 72 = .ok (.getfield 41, 3) := dk_180 0 41 (dk_at dksX3_is_3 0 rfl rfl)
theorem dX3_is_75 : decode cX3_is 75 = .ok (.iload 5, 2) := dk_21 5 (dk_at dksX3_is_3 3 rfl rfl)
theorem dX3_is_77 : decode cX3_is 77 = .ok (.iastore, 1) := dk_79 (dk_at dksX3_is_3 5 rfl rfl)
theorem dX3_is_78 : decode cX3_is 78 = .ok (.iinc 5 (-1), 3) := dk_132 5 255 (dk_at dksX3_is_3 6 rfl rfl)
theorem dX3_is_81 : decode cX3_is 81 = .ok (.goto (-49), 3) := dk_167 255 207 (dk_at dksX3_is_3 9 rfl rfl)
theorem dX3_is_84 : decode cX3_is 84 = .ok (.aload_n 1, 1) := dk_43 (dk_at dksX3_is_3 12 rfl rfl)
theorem dX3_is_85 : decode cX3_is 85 = .ok (.invokevirtual 50, 3) := dk_182 0 50 (dk_at dksX3_is_3 13 rfl rfl)
theorem dX3_is_88 : decode cX3_is 88 = .ok (.aload_n 2, 1) := dk_44 (dk_at dksX3_is_3 16 rfl rfl)
theorem dX3_is_89 : decode cX3_is 89 = .ok (.iload 4, 2) := dk_21 4 (dk_at dksX3_is_3 17 rfl rfl)
theorem dX3_is_91 : decode cX3_is 91 = .ok (.iaload, 1) := dk_46 (dk_at dksX3_is_3 19 rfl rfl)
theorem dX3_is_92 : decode cX3_is 92 = .ok (.ishr, 1) := dk_122 (dk_at dksX3_is_3 20 rfl rfl)
theorem dX3_is_93 : decode cX3_is 93 = .ok (.iconst 1, 1) := dk_4 (dk_at dksX3_is_3 21 rfl rfl)
theorem dX3_is_94 : decode cX3_is 94 = .ok (.iand, 1) := dk_126 (dk_at dksX3_is_3 22 rfl rfl)
theorem dX3_is_95 : decode cX3_is 95 = .ok (.iconst 1, 1) := dk_4 (dk_at dksX3_is_3 23 rfl rfl)
theorem dX3_is_96 : decode cX3_is 96 = .ok (.if_icmp .ne 13, 3) := dk_160 0 13 (dk_at dksX3_is_4 0 rfl rfl)
theorem dX3_is_99 : decode cX3_is 99 = .ok (.aload_n 0, 1) := dk_42 (dk_at dksX3_is_4 3 rfl rfl)
theorem dX3_is_100 : decode cX3_is 100 = .ok (.dup, 1) := dk_89 (dk_at dksX3_is_4 4 rfl rfl)
theorem dX3_is_101 : decode cX3_is 101 = .ok (.getfield 41, 3) := dk_180 0 41 (dk_at dksX3_is_4 5 rfl rfl)
theorem dX3_is_104 : decode cX3_is 104 = .ok (.iconst 1, 1) := dk_4 (dk_at dksX3_is_4 8 rfl rfl)
theorem dX3_is_105 : decode cX3_is 105 = .ok (.iadd, 1) := dk_96 (dk_at dksX3_is_4 9 rfl rfl)
theorem dX3_is_106 : decode cX3_is 106 = .ok (.putfield 41, 3) := dk_181 0 41 (dk_at dksX3_is_4 10 rfl rfl)
theorem dX3_is_109 : decode cX3_is 109 = .ok (.iinc 4 1, 3) := dk_132 4 1 (dk_at dksX3_is_4 13 rfl rfl)
theorem dX3_is_112 : decode cX3_is 112 = .ok (.goto (-94), 3) := dk_167 255 162 (dk_at dksX3_is_4 16 rfl rfl)
theorem dX3_is_115 : decode cX3_is 115 = .ok (.iconst 0, 1) := dk_3 (dk_at dksX3_is_4 19 rfl rfl)
theorem dX3_is_116 : decode cX3_is 116 = .ok (.istore 4, 2) := dk_54 4 (dk_at dksX3_is_4 20 rfl rfl)
theorem dX3_is_118 : decode cX3_is 118 = .ok (.iload 4, 2) := dk_21 4 (dk_at dksX3_is_4 22 rfl rfl)
theorem dX3_is_120 : decode cX3_is 120 = .ok (.aload_n 1, 1) := dk_43 (dk_at dksX3_is_5 0 rfl rfl)
theorem dX3_is_121 : decode cX3_is 121 = .ok (.getfield 54, 3) := dk_180 0 54 (dk_at dksX3_is_5 1 rfl rfl)
theorem dX3_is_124 : decode cX3_is 124 = .ok (.getfield 58, 3) := dk_180 0 58 (dk_at dksX3_is_5 4 rfl rfl)
theorem dX3_is_127 : decode cX3_is 127 = .ok (.if_icmp .ge 24, 3) := dk_162 0 24 (dk_at dksX3_is_5 7 rfl rfl)
theorem dX3_is_130 : decode cX3_is 130 = .ok (.aload_n 0, 1) := dk_42 (dk_at dksX3_is_5 10 rfl rfl)
theorem dX3_is_131 : decode cX3_is 131 = .ok (.iload 4, 2) := dk_21 4 (dk_at dksX3_is_5 11 rfl rfl)
theorem dX3_is_133 : decode cX3_is 133 = .ok (.invokevirtual 61, 3) := dk_182 0 61 (dk_at dksX3_is_5 13 rfl rfl)
theorem dX3_is_136 : decode cX3_is 136 = .ok (.ifCond .eq 9, 3) := dk_153 0 9 (dk_at dksX3_is_5 16 rfl rfl)
theorem dX3_is_139 : decode cX3_is 139 = .ok (.aload_n 0, 1) := dk_42 (dk_at dksX3_is_5 19 rfl rfl)
theorem dX3_is_140 : decode cX3_is 140 = .ok (.iload 4, 2) := dk_21 4 (dk_at dksX3_is_5 20 rfl rfl)
theorem dX3_is_142 : decode cX3_is 142 = .ok (.invokevirtual 65, 3) := dk_182 0 65 (dk_at dksX3_is_6 0 rfl rfl)
theorem dX3_is_145 : decode cX3_is 145 = .ok (.iinc 4 1, 3) := dk_132 4 1 (dk_at dksX3_is_6 3 rfl rfl)
theorem dX3_is_148 : decode cX3_is 148 = .ok (.goto (-30), 3) := dk_167 255 226 (dk_at dksX3_is_6 6 rfl rfl)
theorem dX3_is_151 : decode cX3_is 151 = .ok (.aload_n 0, 1) := dk_42 (dk_at dksX3_is_6 9 rfl rfl)
theorem dX3_is_152 : decode cX3_is 152 = .ok (.iconst 0, 1) := dk_3 (dk_at dksX3_is_6 10 rfl rfl)
theorem dX3_is_153 : decode cX3_is 153 = .ok (.putfield 69, 3) := dk_181 0 69 (dk_at dksX3_is_6 11 rfl rfl)
theorem dX3_is_156 : decode cX3_is 156 = .ok (.aload_n 0, 1) := dk_42 (dk_at dksX3_is_6 14 rfl rfl)
theorem dX3_is_157 : decode cX3_is 157 = .ok (.getfield 21, 3) := dk_180 0 21 (dk_at dksX3_is_6 15 rfl rfl)
theorem dX3_is_160 : decode cX3_is 160 = .ok (.iconst 0, 1) := dk_3 (dk_at dksX3_is_6 18 rfl rfl)
theorem dX3_is_161 : decode cX3_is 161 = .ok (.iconst 0, 1) := dk_3 (dk_at dksX3_is_6 19 rfl rfl)
theorem dX3_is_162 : decode cX3_is 162 = .ok (.iastore, 1) := dk_79 (dk_at dksX3_is_6 20 rfl rfl)
theorem dX3_is_163 : decode cX3_is 163 = .ok (.aload_n 0, 1) := dk_42 (dk_at dksX3_is_6 21 rfl rfl)
theorem dX3_is_164 : decode cX3_is 164 = .ok (.getfield 24, 3) := dk_180 0 24 (dk_at dksX3_is_7 0 rfl rfl)
theorem dX3_is_167 : decode cX3_is 167 = .ok (.iconst 0, 1) := dk_3 (dk_at dksX3_is_7 3 rfl rfl)
theorem dX3_is_168 : decode cX3_is 168 = .ok (.aload_n 0, 1) := dk_42 (dk_at dksX3_is_7 4 rfl rfl)
theorem dX3_is_169 : decode cX3_is 169 = .ok (.getfield 37, 3) := dk_180 0 37 (dk_at dksX3_is_7 5 rfl rfl)
theorem dX3_is_172 : decode cX3_is 172 = .ok (.iastore, 1) := dk_79 (dk_at dksX3_is_7 8 rfl rfl)
theorem dX3_is_173 : decode cX3_is 173 = .ok (.return_, 1) := dk_177 (dk_at dksX3_is_7 9 rfl rfl)
abbrev cX3_isIn : ByteArray := prog_11_method_3_code
def yX3_isIn : MethodName := ⟨RX3, "isIn", "(I)Z"⟩
def dkwX3_isIn_6 : List UInt8 := [61, 132, 4, 1, 167, 255, 174, 132, 3, 1, 167, 255, 107, 28, 172]
abbrev dktX3_isIn_6 : List UInt8 := dkwX3_isIn_6 ++ []
def dkwX3_isIn_5 : List UInt8 := [182, 0, 72, 42, 180, 0, 33, 180, 0, 54, 27, 21, 4, 182, 0, 72, 160, 0, 7, 4, 167, 0, 4, 3]
abbrev dktX3_isIn_5 : List UInt8 := dkwX3_isIn_5 ++ dktX3_isIn_6
def dkwX3_isIn_4 : List UInt8 := [21, 4, 46, 42, 180, 0, 33, 180, 0, 49, 29, 46, 160, 0, 31, 42, 180, 0, 33, 180, 0, 54, 27, 29]
abbrev dktX3_isIn_4 : List UInt8 := dkwX3_isIn_4 ++ dktX3_isIn_5
def dkwX3_isIn_3 : List UInt8 := [153, 0, 70, 42, 180, 0, 33, 180, 0, 49, 29, 46, 2, 159, 0, 53, 42, 180, 0, 33, 180, 0, 49]
abbrev dktX3_isIn_3 : List UInt8 := dkwX3_isIn_3 ++ dktX3_isIn_4
def dkwX3_isIn_2 : List UInt8 := [180, 0, 76, 29, 46, 160, 0, 7, 4, 167, 0, 4, 3, 61, 3, 54, 4, 21, 4, 29, 162, 0, 82, 28]
abbrev dktX3_isIn_2 : List UInt8 := dkwX3_isIn_2 ++ dktX3_isIn_3
def dkwX3_isIn_1 : List UInt8 := [2, 160, 0, 37, 28, 153, 0, 31, 42, 180, 0, 33, 180, 0, 54, 27, 29, 182, 0, 72, 42, 180, 0, 33]
abbrev dktX3_isIn_1 : List UInt8 := dkwX3_isIn_1 ++ dktX3_isIn_2
def dkwX3_isIn_0 : List UInt8 := [4, 61, 3, 62, 29, 42, 180, 0, 33, 180, 0, 44, 162, 0, 144, 42, 180, 0, 33, 180, 0, 49, 29, 46]
abbrev dktX3_isIn_0 : List UInt8 := dkwX3_isIn_0 ++ dktX3_isIn_1
theorem dksX3_isIn_0 : cX3_isIn.data.toList.drop 0 = dktX3_isIn_0 := by decide +kernel
theorem dksX3_isIn_1 : cX3_isIn.data.toList.drop 24 = dktX3_isIn_1 := dk_seg dksX3_isIn_0 24 rfl rfl
theorem dksX3_isIn_2 : cX3_isIn.data.toList.drop 48 = dktX3_isIn_2 := dk_seg dksX3_isIn_1 24 rfl rfl
theorem dksX3_isIn_3 : cX3_isIn.data.toList.drop 72 = dktX3_isIn_3 := dk_seg dksX3_isIn_2 24 rfl rfl
theorem dksX3_isIn_4 : cX3_isIn.data.toList.drop 95 = dktX3_isIn_4 := dk_seg dksX3_isIn_3 23 rfl rfl
theorem dksX3_isIn_5 : cX3_isIn.data.toList.drop 119 = dktX3_isIn_5 := dk_seg dksX3_isIn_4 24 rfl rfl
theorem dksX3_isIn_6 : cX3_isIn.data.toList.drop 143 = dktX3_isIn_6 := dk_seg dksX3_isIn_5 24 rfl rfl
theorem dX3_isIn_0 : decode cX3_isIn 0 = .ok (.iconst 1, 1) := dk_4 (dk_at dksX3_isIn_0 0 rfl rfl)
theorem dX3_isIn_1 : decode cX3_isIn 1 = .ok (.istore_n 2, 1) := dk_61 (dk_at dksX3_isIn_0 1 rfl rfl)
theorem dX3_isIn_2 : decode cX3_isIn 2 = .ok (.iconst 0, 1) := dk_3 (dk_at dksX3_isIn_0 2 rfl rfl)
theorem dX3_isIn_3 : decode cX3_isIn 3 = .ok (.istore_n 3, 1) := dk_62 (dk_at dksX3_isIn_0 3 rfl rfl)
theorem dX3_isIn_4 : decode cX3_isIn 4 = .ok (.iload_n 3, 1) := dk_29 (dk_at dksX3_isIn_0 4 rfl rfl)
theorem dX3_isIn_5 : decode cX3_isIn 5 = .ok (.aload_n 0, 1) := dk_42 (dk_at dksX3_isIn_0 5 rfl rfl)
theorem dX3_isIn_6 : decode cX3_isIn 6 = .ok (.getfield 33, 3) := dk_180 0 33 (dk_at dksX3_isIn_0 6 rfl rfl)
theorem dX3_isIn_9 : decode cX3_isIn 9 = .ok (.getfield 44, 3) := dk_180 0 44 (dk_at dksX3_isIn_0 9 rfl rfl)
theorem dX3_isIn_12 : decode cX3_isIn 12 = .ok (.if_icmp .ge 144, 3) := dk_162 0 144 (dk_at dksX3_isIn_0 12 rfl rfl)
theorem dX3_isIn_15 : decode cX3_isIn 15 = .ok (.aload_n 0, 1) := dk_42 (dk_at dksX3_isIn_0 15 rfl rfl)
theorem dX3_isIn_16 : decode cX3_isIn 16 = .ok (.getfield 33, 3) := dk_180 0 33 (dk_at dksX3_isIn_0 16 rfl rfl)
theorem dX3_isIn_19 : decode cX3_isIn 19 = .ok (.getfield 49, 3) := dk_180 0 49 (dk_at dksX3_isIn_0 19 rfl rfl)
theorem dX3_isIn_22 : decode cX3_isIn 22 = .ok (.iload_n 3, 1) := dk_29 (dk_at dksX3_isIn_0 22 rfl rfl)
theorem dX3_isIn_23 : decode cX3_isIn 23 = .ok (.iaload, 1) := dk_46 (dk_at dksX3_isIn_0 23 rfl rfl)
theorem dX3_isIn_24 : decode cX3_isIn 24 = .ok (.iconst (-1), 1) := dk_2 (dk_at dksX3_isIn_1 0 rfl rfl)
theorem dX3_isIn_25 : decode cX3_isIn 25 = .ok (.if_icmp .ne 37, 3) := dk_160 0 37 (dk_at dksX3_isIn_1 1 rfl rfl)
theorem dX3_isIn_28 : decode cX3_isIn 28 = .ok (.iload_n 2, 1) := dk_28 (dk_at dksX3_isIn_1 4 rfl rfl)
theorem dX3_isIn_29 : decode cX3_isIn 29 = .ok (.ifCond .eq 31, 3) := dk_153 0 31 (dk_at dksX3_isIn_1 5 rfl rfl)
theorem dX3_isIn_32 : decode cX3_isIn 32 = .ok (.aload_n 0, 1) := dk_42 (dk_at dksX3_isIn_1 8 rfl rfl)
theorem dX3_isIn_33 : decode cX3_isIn 33 = .ok (.getfield 33, 3) := dk_180 0 33 (dk_at dksX3_isIn_1 9 rfl rfl)
theorem dX3_isIn_36 : decode cX3_isIn 36 = .ok (.getfield 54, 3) := dk_180 0 54 (dk_at dksX3_isIn_1 12 rfl rfl)
theorem dX3_isIn_39 : decode cX3_isIn 39 = .ok (.iload_n 1, 1) := dk_27 (dk_at dksX3_isIn_1 15 rfl rfl)
theorem dX3_isIn_40 : decode cX3_isIn 40 = .ok (.iload_n 3, 1) := dk_29 (dk_at dksX3_isIn_1 16 rfl rfl)
theorem dX3_isIn_41 : decode cX3_isIn 41 = .ok (.invokevirtual 72, 3) := dk_182 0 72 (dk_at dksX3_isIn_1 17 rfl rfl)
theorem dX3_isIn_44 : decode cX3_isIn 44 = .ok (.aload_n 0, 1) := dk_42 (dk_at dksX3_isIn_1 20 rfl rfl)
theorem dX3_isIn_45 : decode cX3_isIn 45 = .ok (.getfield 33, 3) := dk_180 0 33 (dk_at dksX3_isIn_1 21 rfl rfl)
theorem dX3_isIn_48 : decode cX3_isIn 48 = .ok (.getfield 76, 3) := dk_180 0 76 (dk_at dksX3_isIn_2 0 rfl rfl)
theorem dX3_isIn_51 : decode cX3_isIn 51 = .ok (.iload_n 3, 1) := dk_29 (dk_at dksX3_isIn_2 3 rfl rfl)
theorem dX3_isIn_52 : decode cX3_isIn 52 = .ok (.iaload, 1) := dk_46 (dk_at dksX3_isIn_2 4 rfl rfl)
theorem dX3_isIn_53 : decode cX3_isIn 53 = .ok (.if_icmp .ne 7, 3) := dk_160 0 7 (dk_at dksX3_isIn_2 5 rfl rfl)
theorem dX3_isIn_56 : decode cX3_isIn 56 = .ok (.iconst 1, 1) := dk_4 (dk_at dksX3_isIn_2 8 rfl rfl)
theorem dX3_isIn_57 : decode cX3_isIn 57 = .ok (.goto 4, 3) := dk_167 0 4 (dk_at dksX3_isIn_2 9 rfl rfl)
theorem dX3_isIn_60 : decode cX3_isIn 60 = .ok (.iconst 0, 1) := dk_3 (dk_at dksX3_isIn_2 12 rfl rfl)
theorem dX3_isIn_61 : decode cX3_isIn 61 = .ok (.istore_n 2, 1) := dk_61 (dk_at dksX3_isIn_2 13 rfl rfl)
theorem dX3_isIn_62 : decode cX3_isIn 62 = .ok (.iconst 0, 1) := dk_3 (dk_at dksX3_isIn_2 14 rfl rfl)
theorem dX3_isIn_63 : decode cX3_isIn 63 = .ok (.istore 4, 2) := dk_54 4 (dk_at dksX3_isIn_2 15 rfl rfl)
theorem dX3_isIn_65 : decode cX3_isIn 65 = .ok (.iload 4, 2) := dk_21 4 (dk_at dksX3_isIn_2 17 rfl rfl)
theorem dX3_isIn_67 : decode cX3_isIn 67 = .ok (.iload_n 3, 1) := dk_29 (dk_at dksX3_isIn_2 19 rfl rfl)
theorem dX3_isIn_68 : decode cX3_isIn 68 = .ok (.if_icmp .ge 82, 3) := dk_162 0 82 (dk_at dksX3_isIn_2 20 rfl rfl)
theorem dX3_isIn_71 : decode cX3_isIn 71 = .ok (.iload_n 2, 1) := dk_28 (dk_at dksX3_isIn_2 23 rfl rfl)
theorem dX3_isIn_72 : decode cX3_isIn 72 = .ok (.ifCond .eq 70, 3) := dk_153 0 70 (dk_at dksX3_isIn_3 0 rfl rfl)
theorem dX3_isIn_75 : decode cX3_isIn 75 = .ok (.aload_n 0, 1) := dk_42 (dk_at dksX3_isIn_3 3 rfl rfl)
theorem dX3_isIn_76 : decode cX3_isIn 76 = .ok (.getfield 33, 3) := dk_180 0 33 (dk_at dksX3_isIn_3 4 rfl rfl)
theorem dX3_isIn_79 : decode cX3_isIn 79 = .ok (.getfield 49, 3) := dk_180 0 49 (dk_at dksX3_isIn_3 7 rfl rfl)
theorem dX3_isIn_82 : decode cX3_isIn 82 = .ok (.iload_n 3, 1) := dk_29 (dk_at dksX3_isIn_3 10 rfl rfl)
theorem dX3_isIn_83 : decode cX3_isIn 83 = .ok (.iaload, 1) := dk_46 (dk_at dksX3_isIn_3 11 rfl rfl)
theorem dX3_isIn_84 : decode cX3_isIn 84 = .ok (.iconst (-1), 1) := dk_2 (dk_at dksX3_isIn_3 12 rfl rfl)
theorem dX3_isIn_85 : decode cX3_isIn 85 = .ok (.if_icmp .eq 53, 3) := dk_159 0 53 (dk_at dksX3_isIn_3 13 rfl rfl)
theorem dX3_isIn_88 : decode cX3_isIn 88 = .ok (.aload_n 0, 1) := dk_42 (dk_at dksX3_isIn_3 16 rfl rfl)
theorem dX3_isIn_89 : decode cX3_isIn 89 = .ok (.getfield 33, 3) := dk_180 0 33 (dk_at dksX3_isIn_3 17 rfl rfl)
theorem dX3_isIn_92 : decode cX3_isIn 92 = .ok (.getfield 49, 3) := dk_180 0 49 (dk_at dksX3_isIn_3 20 rfl rfl)
theorem dX3_isIn_95 : decode cX3_isIn 95 = .ok (.iload 4, 2) := dk_21 4 (dk_at dksX3_isIn_4 0 rfl rfl)
theorem dX3_isIn_97 : decode cX3_isIn 97 = .ok (.iaload, 1) := dk_46 (dk_at dksX3_isIn_4 2 rfl rfl)
theorem dX3_isIn_98 : decode cX3_isIn 98 = .ok (.aload_n 0, 1) := dk_42 (dk_at dksX3_isIn_4 3 rfl rfl)
theorem dX3_isIn_99 : decode cX3_isIn 99 = .ok (.getfield 33, 3) := dk_180 0 33 (dk_at dksX3_isIn_4 4 rfl rfl)
theorem dX3_isIn_102 : decode cX3_isIn 102 = .ok (.getfield 49, 3) := dk_180 0 49 (dk_at dksX3_isIn_4 7 rfl rfl)
theorem dX3_isIn_105 : decode cX3_isIn 105 = .ok (.iload_n 3, 1) := dk_29 (dk_at dksX3_isIn_4 10 rfl rfl)
theorem dX3_isIn_106 : decode cX3_isIn 106 = .ok (.iaload, 1) := dk_46 (dk_at dksX3_isIn_4 11 rfl rfl)
theorem dX3_isIn_107 : decode cX3_isIn 107 = .ok (.if_icmp .ne 31, 3) := dk_160 0 31 (dk_at dksX3_isIn_4 12 rfl rfl)
theorem dX3_isIn_110 : decode cX3_isIn 110 = .ok (.aload_n 0, 1) := dk_42 (dk_at dksX3_isIn_4 15 rfl rfl)
theorem dX3_isIn_111 : decode cX3_isIn 111 = .ok (.getfield 33, 3) := dk_180 0 33 (dk_at dksX3_isIn_4 16 rfl rfl)
theorem dX3_isIn_114 : decode cX3_isIn 114 = .ok (.getfield 54, 3) := dk_180 0 54 (dk_at dksX3_isIn_4 19 rfl rfl)
theorem dX3_isIn_117 : decode cX3_isIn 117 = .ok (.iload_n 1, 1) := dk_27 (dk_at dksX3_isIn_4 22 rfl rfl)
theorem dX3_isIn_118 : decode cX3_isIn 118 = .ok (.iload_n 3, 1) := dk_29 (dk_at dksX3_isIn_4 23 rfl rfl)
theorem dX3_isIn_119 : decode cX3_isIn 119 = .ok (.invokevirtual 72, 3) := dk_182 0 72 (dk_at dksX3_isIn_5 0 rfl rfl)
theorem dX3_isIn_122 : decode cX3_isIn 122 = .ok (.aload_n 0, 1) := dk_42 (dk_at dksX3_isIn_5 3 rfl rfl)
theorem dX3_isIn_123 : decode cX3_isIn 123 = .ok (.getfield 33, 3) := dk_180 0 33 (dk_at dksX3_isIn_5 4 rfl rfl)
theorem dX3_isIn_126 : decode cX3_isIn 126 = .ok (.getfield 54, 3) := dk_180 0 54 (dk_at dksX3_isIn_5 7 rfl rfl)
theorem dX3_isIn_129 : decode cX3_isIn 129 = .ok (.iload_n 1, 1) := dk_27 (dk_at dksX3_isIn_5 10 rfl rfl)
theorem dX3_isIn_130 : decode cX3_isIn 130 = .ok (.iload 4, 2) := dk_21 4 (dk_at dksX3_isIn_5 11 rfl rfl)
theorem dX3_isIn_132 : decode cX3_isIn 132 = .ok (.invokevirtual 72, 3) := dk_182 0 72 (dk_at dksX3_isIn_5 13 rfl rfl)
theorem dX3_isIn_135 : decode cX3_isIn 135 = .ok (.if_icmp .ne 7, 3) := dk_160 0 7 (dk_at dksX3_isIn_5 16 rfl rfl)
theorem dX3_isIn_138 : decode cX3_isIn 138 = .ok (.iconst 1, 1) := dk_4 (dk_at dksX3_isIn_5 19 rfl rfl)
theorem dX3_isIn_139 : decode cX3_isIn 139 = .ok (.goto 4, 3) := dk_167 0 4 (dk_at dksX3_isIn_5 20 rfl rfl)
theorem dX3_isIn_142 : decode cX3_isIn 142 = .ok (.iconst 0, 1) := dk_3 (dk_at dksX3_isIn_5 23 rfl rfl)
theorem dX3_isIn_143 : decode cX3_isIn 143 = .ok (.istore_n 2, 1) := dk_61 (dk_at dksX3_isIn_6 0 rfl rfl)
theorem dX3_isIn_144 : decode cX3_isIn 144 = .ok (.iinc 4 1, 3) := dk_132 4 1 (dk_at dksX3_isIn_6 1 rfl rfl)
theorem dX3_isIn_147 : decode cX3_isIn 147 = .ok (.goto (-82), 3) := dk_167 255 174 (dk_at dksX3_isIn_6 4 rfl rfl)
theorem dX3_isIn_150 : decode cX3_isIn 150 = .ok (.iinc 3 1, 3) := dk_132 3 1 (dk_at dksX3_isIn_6 7 rfl rfl)
theorem dX3_isIn_153 : decode cX3_isIn 153 = .ok (.goto (-149), 3) := dk_167 255 107 (dk_at dksX3_isIn_6 10 rfl rfl)
theorem dX3_isIn_156 : decode cX3_isIn 156 = .ok (.iload_n 2, 1) := dk_28 (dk_at dksX3_isIn_6 13 rfl rfl)
theorem dX3_isIn_157 : decode cX3_isIn 157 = .ok (.ireturn, 1) := dk_172 (dk_at dksX3_isIn_6 14 rfl rfl)
abbrev cX3_comes : ByteArray := prog_11_method_5_code
def yX3_comes : MethodName := ⟨RX3, "comes", "(I)V"⟩
def dkwX3_comes_2 : List UInt8 := [180, 0, 9, 28, 27, 79, 42, 89, 180, 0, 37, 4, 96, 181, 0, 37, 177]
abbrev dktX3_comes_2 : List UInt8 := dkwX3_comes_2 ++ []
def dkwX3_comes_1 : List UInt8 := [158, 0, 23, 42, 180, 0, 9, 28, 42, 180, 0, 9, 28, 4, 100, 46, 79, 132, 2, 255, 167, 255, 219, 42]
abbrev dktX3_comes_1 : List UInt8 := dkwX3_comes_1 ++ dktX3_comes_2
def dkwX3_comes_0 : List UInt8 := [42, 180, 0, 37, 61, 28, 158, 0, 39, 42, 42, 180, 0, 9, 28, 4, 100, 46, 27, 182, 0, 83]
abbrev dktX3_comes_0 : List UInt8 := dkwX3_comes_0 ++ dktX3_comes_1
theorem dksX3_comes_0 : cX3_comes.data.toList.drop 0 = dktX3_comes_0 := by decide +kernel
theorem dksX3_comes_1 : cX3_comes.data.toList.drop 22 = dktX3_comes_1 := dk_seg dksX3_comes_0 22 rfl rfl
theorem dksX3_comes_2 : cX3_comes.data.toList.drop 46 = dktX3_comes_2 := dk_seg dksX3_comes_1 24 rfl rfl
theorem dX3_comes_0 : decode cX3_comes 0 = .ok (.aload_n 0, 1) := dk_42 (dk_at dksX3_comes_0 0 rfl rfl)
theorem dX3_comes_1 : decode cX3_comes 1 = .ok (.getfield 37, 3) := dk_180 0 37 (dk_at dksX3_comes_0 1 rfl rfl)
theorem dX3_comes_4 : decode cX3_comes 4 = .ok (.istore_n 2, 1) := dk_61 (dk_at dksX3_comes_0 4 rfl rfl)
theorem dX3_comes_5 : decode cX3_comes 5 = .ok (.iload_n 2, 1) := dk_28 (dk_at dksX3_comes_0 5 rfl rfl)
theorem dX3_comes_6 : decode cX3_comes 6 = .ok (.ifCond .le 39, 3) := dk_158 0 39 (dk_at dksX3_comes_0 6 rfl rfl)
theorem dX3_comes_9 : decode cX3_comes 9 = .ok (.aload_n 0, 1) := dk_42 (dk_at dksX3_comes_0 9 rfl rfl)
theorem dX3_comes_10 : decode cX3_comes 10 = .ok (.aload_n 0, 1) := dk_42 (dk_at dksX3_comes_0 10 rfl rfl)
theorem dX3_comes_11 : decode cX3_comes 11 = .ok (.getfield 9, 3) := dk_180 0 9 (dk_at dksX3_comes_0 11 rfl rfl)
theorem dX3_comes_14 : decode cX3_comes 14 = .ok (.iload_n 2, 1) := dk_28 (dk_at dksX3_comes_0 14 rfl rfl)
theorem dX3_comes_15 : decode cX3_comes 15 = .ok (.iconst 1, 1) := dk_4 (dk_at dksX3_comes_0 15 rfl rfl)
theorem dX3_comes_16 : decode cX3_comes 16 = .ok (.isub, 1) := dk_100 (dk_at dksX3_comes_0 16 rfl rfl)
theorem dX3_comes_17 : decode cX3_comes 17 = .ok (.iaload, 1) := dk_46 (dk_at dksX3_comes_0 17 rfl rfl)
theorem dX3_comes_18 : decode cX3_comes 18 = .ok (.iload_n 1, 1) := dk_27 (dk_at dksX3_comes_0 18 rfl rfl)
theorem dX3_comes_19 : decode cX3_comes 19 = .ok (.invokevirtual 83, 3) := dk_182 0 83 (dk_at dksX3_comes_0 19 rfl rfl)
theorem dX3_comes_22 : decode cX3_comes 22 = .ok (.ifCond .le 23, 3) := dk_158 0 23 (dk_at dksX3_comes_1 0 rfl rfl)
theorem dX3_comes_25 : decode cX3_comes 25 = .ok (.aload_n 0, 1) := dk_42 (dk_at dksX3_comes_1 3 rfl rfl)
theorem dX3_comes_26 : decode cX3_comes 26 = .ok (.getfield 9, 3) := dk_180 0 9 (dk_at dksX3_comes_1 4 rfl rfl)
theorem dX3_comes_29 : decode cX3_comes 29 = .ok (.iload_n 2, 1) := dk_28 (dk_at dksX3_comes_1 7 rfl rfl)
theorem dX3_comes_30 : decode cX3_comes 30 = .ok (.aload_n 0, 1) := dk_42 (dk_at dksX3_comes_1 8 rfl rfl)
theorem dX3_comes_31 : decode cX3_comes 31 = .ok (.getfield 9, 3) := dk_180 0 9 (dk_at dksX3_comes_1 9 rfl rfl)
theorem dX3_comes_34 : decode cX3_comes 34 = .ok (.iload_n 2, 1) := dk_28 (dk_at dksX3_comes_1 12 rfl rfl)
theorem dX3_comes_35 : decode cX3_comes 35 = .ok (.iconst 1, 1) := dk_4 (dk_at dksX3_comes_1 13 rfl rfl)
theorem dX3_comes_36 : decode cX3_comes 36 = .ok (.isub, 1) := dk_100 (dk_at dksX3_comes_1 14 rfl rfl)
theorem dX3_comes_37 : decode cX3_comes 37 = .ok (.iaload, 1) := dk_46 (dk_at dksX3_comes_1 15 rfl rfl)
theorem dX3_comes_38 : decode cX3_comes 38 = .ok (.iastore, 1) := dk_79 (dk_at dksX3_comes_1 16 rfl rfl)
theorem dX3_comes_39 : decode cX3_comes 39 = .ok (.iinc 2 (-1), 3) := dk_132 2 255 (dk_at dksX3_comes_1 17 rfl rfl)
theorem dX3_comes_42 : decode cX3_comes 42 = .ok (.goto (-37), 3) := dk_167 255 219 (dk_at dksX3_comes_1 20 rfl rfl)
theorem dX3_comes_45 : decode cX3_comes 45 = .ok (.aload_n 0, 1) := dk_42 (dk_at dksX3_comes_1 23 rfl rfl)
theorem dX3_comes_46 : decode cX3_comes 46 = .ok (.getfield 9, 3) := dk_180 0 9 (dk_at dksX3_comes_2 0 rfl rfl)
theorem dX3_comes_49 : decode cX3_comes 49 = .ok (.iload_n 2, 1) := dk_28 (dk_at dksX3_comes_2 3 rfl rfl)
theorem dX3_comes_50 : decode cX3_comes 50 = .ok (.iload_n 1, 1) := dk_27 (dk_at dksX3_comes_2 4 rfl rfl)
theorem dX3_comes_51 : decode cX3_comes 51 = .ok (.iastore, 1) := dk_79 (dk_at dksX3_comes_2 5 rfl rfl)
theorem dX3_comes_52 : decode cX3_comes 52 = .ok (.aload_n 0, 1) := dk_42 (dk_at dksX3_comes_2 6 rfl rfl)
theorem dX3_comes_53 : decode cX3_comes 53 = .ok (.dup, 1) := dk_89 (dk_at dksX3_comes_2 7 rfl rfl)
theorem dX3_comes_54 : decode cX3_comes 54 = .ok (.getfield 37, 3) := dk_180 0 37 (dk_at dksX3_comes_2 8 rfl rfl)
theorem dX3_comes_57 : decode cX3_comes 57 = .ok (.iconst 1, 1) := dk_4 (dk_at dksX3_comes_2 11 rfl rfl)
theorem dX3_comes_58 : decode cX3_comes 58 = .ok (.iadd, 1) := dk_96 (dk_at dksX3_comes_2 12 rfl rfl)
theorem dX3_comes_59 : decode cX3_comes 59 = .ok (.putfield 37, 3) := dk_181 0 37 (dk_at dksX3_comes_2 13 rfl rfl)
theorem dX3_comes_62 : decode cX3_comes 62 = .ok (.return_, 1) := dk_177 (dk_at dksX3_comes_2 16 rfl rfl)
abbrev cX3_compare : ByteArray := prog_11_method_4_code
def yX3_compare : MethodName := ⟨RX3, "compare", "(II)I"⟩
def dkwX3_compare_3 : List UInt8 := [167, 0, 4, 4, 172, 132, 3, 1, 167, 255, 180, 3, 172]
abbrev dktX3_compare_3 : List UInt8 := dkwX3_compare_3 ++ []
def dkwX3_compare_2 : List UInt8 := [21, 4, 21, 5, 159, 0, 23, 21, 4, 184, 0, 79, 21, 5, 184, 0, 79, 148, 156, 0, 7, 2]
abbrev dktX3_compare_2 : List UInt8 := dkwX3_compare_2 ++ dktX3_compare_3
def dkwX3_compare_1 : List UInt8 := [182, 0, 72, 54, 4, 42, 180, 0, 33, 180, 0, 54, 28, 42, 180, 0, 18, 29, 46, 182, 0, 72, 54, 5]
abbrev dktX3_compare_1 : List UInt8 := dkwX3_compare_1 ++ dktX3_compare_2
def dkwX3_compare_0 : List UInt8 := [3, 62, 29, 42, 180, 0, 41, 162, 0, 74, 42, 180, 0, 33, 180, 0, 54, 27, 42, 180, 0, 18, 29, 46]
abbrev dktX3_compare_0 : List UInt8 := dkwX3_compare_0 ++ dktX3_compare_1
theorem dksX3_compare_0 : cX3_compare.data.toList.drop 0 = dktX3_compare_0 := by decide +kernel
theorem dksX3_compare_1 : cX3_compare.data.toList.drop 24 = dktX3_compare_1 := dk_seg dksX3_compare_0 24 rfl rfl
theorem dksX3_compare_2 : cX3_compare.data.toList.drop 48 = dktX3_compare_2 := dk_seg dksX3_compare_1 24 rfl rfl
theorem dksX3_compare_3 : cX3_compare.data.toList.drop 70 = dktX3_compare_3 := dk_seg dksX3_compare_2 22 rfl rfl
theorem dX3_compare_0 : decode cX3_compare 0 = .ok (.iconst 0, 1) := dk_3 (dk_at dksX3_compare_0 0 rfl rfl)
theorem dX3_compare_1 : decode cX3_compare 1 = .ok (.istore_n 3, 1) := dk_62 (dk_at dksX3_compare_0 1 rfl rfl)
theorem dX3_compare_2 : decode cX3_compare 2 = .ok (.iload_n 3, 1) := dk_29 (dk_at dksX3_compare_0 2 rfl rfl)
theorem dX3_compare_3 : decode cX3_compare 3 = .ok (.aload_n 0, 1) := dk_42 (dk_at dksX3_compare_0 3 rfl rfl)
theorem dX3_compare_4 : decode cX3_compare 4 = .ok (.getfield 41, 3) := dk_180 0 41 (dk_at dksX3_compare_0 4 rfl rfl)
theorem dX3_compare_7 : decode cX3_compare 7 = .ok (.if_icmp .ge 74, 3) := dk_162 0 74 (dk_at dksX3_compare_0 7 rfl rfl)
theorem dX3_compare_10 : decode cX3_compare 10 = .ok (.aload_n 0, 1) := dk_42 (dk_at dksX3_compare_0 10 rfl rfl)
theorem dX3_compare_11 : decode cX3_compare 11 = .ok (.getfield 33, 3) := dk_180 0 33 (dk_at dksX3_compare_0 11 rfl rfl)
theorem dX3_compare_14 : decode cX3_compare 14 = .ok (.getfield 54, 3) := dk_180 0 54 (dk_at dksX3_compare_0 14 rfl rfl)
theorem dX3_compare_17 : decode cX3_compare 17 = .ok (.iload_n 1, 1) := dk_27 (dk_at dksX3_compare_0 17 rfl rfl)
theorem dX3_compare_18 : decode cX3_compare 18 = .ok (.aload_n 0, 1) := dk_42 (dk_at dksX3_compare_0 18 rfl rfl)
theorem dX3_compare_19 : decode cX3_compare 19 = .ok (.getfield 18, 3) := dk_180 0 18 (dk_at dksX3_compare_0 19 rfl rfl)
theorem dX3_compare_22 : decode cX3_compare 22 = .ok (.iload_n 3, 1) := dk_29 (dk_at dksX3_compare_0 22 rfl rfl)
theorem dX3_compare_23 : decode cX3_compare 23 = .ok (.iaload, 1) := dk_46 (dk_at dksX3_compare_0 23 rfl rfl)
theorem dX3_compare_24 : decode cX3_compare 24 = .ok (.invokevirtual 72, 3) := dk_182 0 72 (dk_at dksX3_compare_1 0 rfl rfl)
theorem dX3_compare_27 : decode cX3_compare 27 = .ok (.istore 4, 2) := dk_54 4 (dk_at dksX3_compare_1 3 rfl rfl)
theorem dX3_compare_29 : decode cX3_compare 29 = .ok (.aload_n 0, 1) := dk_42 (dk_at dksX3_compare_1 5 rfl rfl)
theorem dX3_compare_30 : decode cX3_compare 30 = .ok (.getfield 33, 3) := dk_180 0 33 (dk_at dksX3_compare_1 6 rfl rfl)
theorem dX3_compare_33 : decode cX3_compare 33 = .ok (.getfield 54, 3) := dk_180 0 54 (dk_at dksX3_compare_1 9 rfl rfl)
theorem dX3_compare_36 : decode cX3_compare 36 = .ok (.iload_n 2, 1) := dk_28 (dk_at dksX3_compare_1 12 rfl rfl)
theorem dX3_compare_37 : decode cX3_compare 37 = .ok (.aload_n 0, 1) := dk_42 (dk_at dksX3_compare_1 13 rfl rfl)
theorem dX3_compare_38 : decode cX3_compare 38 = .ok (.getfield 18, 3) := dk_180 0 18 (dk_at dksX3_compare_1 14 rfl rfl)
theorem dX3_compare_41 : decode cX3_compare 41 = .ok (.iload_n 3, 1) := dk_29 (dk_at dksX3_compare_1 17 rfl rfl)
theorem dX3_compare_42 : decode cX3_compare 42 = .ok (.iaload, 1) := dk_46 (dk_at dksX3_compare_1 18 rfl rfl)
theorem dX3_compare_43 : decode cX3_compare 43 = .ok (.invokevirtual 72, 3) := dk_182 0 72 (dk_at dksX3_compare_1 19 rfl rfl)
theorem dX3_compare_46 : decode cX3_compare 46 = .ok (.istore 5, 2) := dk_54 5 (dk_at dksX3_compare_1 22 rfl rfl)
theorem dX3_compare_48 : decode cX3_compare 48 = .ok (.iload 4, 2) := dk_21 4 (dk_at dksX3_compare_2 0 rfl rfl)
theorem dX3_compare_50 : decode cX3_compare 50 = .ok (.iload 5, 2) := dk_21 5 (dk_at dksX3_compare_2 2 rfl rfl)
theorem dX3_compare_52 : decode cX3_compare 52 = .ok (.if_icmp .eq 23, 3) := dk_159 0 23 (dk_at dksX3_compare_2 4 rfl rfl)
theorem dX3_compare_55 : decode cX3_compare 55 = .ok (.iload 4, 2) := dk_21 4 (dk_at dksX3_compare_2 7 rfl rfl)
theorem dX3_compare_57 : decode cX3_compare 57 = .ok (.invokestatic 79, 3) := dk_184 0 79 (dk_at dksX3_compare_2 9 rfl rfl)
theorem dX3_compare_60 : decode cX3_compare 60 = .ok (.iload 5, 2) := dk_21 5 (dk_at dksX3_compare_2 12 rfl rfl)
theorem dX3_compare_62 : decode cX3_compare 62 = .ok (.invokestatic 79, 3) := dk_184 0 79 (dk_at dksX3_compare_2 14 rfl rfl)
theorem dX3_compare_65 : decode cX3_compare 65 = .ok (.lcmp, 1) := dk_148 (dk_at dksX3_compare_2 17 rfl rfl)
theorem dX3_compare_66 : decode cX3_compare 66 = .ok (.ifCond .ge 7, 3) := dk_156 0 7 (dk_at dksX3_compare_2 18 rfl rfl)
theorem dX3_compare_69 : decode cX3_compare 69 = .ok (.iconst (-1), 1) := dk_2 (dk_at dksX3_compare_2 21 rfl rfl)
theorem dX3_compare_70 : decode cX3_compare 70 = .ok (.goto 4, 3) := dk_167 0 4 (dk_at dksX3_compare_3 0 rfl rfl)
theorem dX3_compare_73 : decode cX3_compare 73 = .ok (.iconst 1, 1) := dk_4 (dk_at dksX3_compare_3 3 rfl rfl)
theorem dX3_compare_74 : decode cX3_compare 74 = .ok (.ireturn, 1) := dk_172 (dk_at dksX3_compare_3 4 rfl rfl)
theorem dX3_compare_75 : decode cX3_compare 75 = .ok (.iinc 3 1, 3) := dk_132 3 1 (dk_at dksX3_compare_3 5 rfl rfl)
theorem dX3_compare_78 : decode cX3_compare 78 = .ok (.goto (-76), 3) := dk_167 255 180 (dk_at dksX3_compare_3 8 rfl rfl)
theorem dX3_compare_81 : decode cX3_compare 81 = .ok (.iconst 0, 1) := dk_3 (dk_at dksX3_compare_3 11 rfl rfl)
theorem dX3_compare_82 : decode cX3_compare 82 = .ok (.ireturn, 1) := dk_172 (dk_at dksX3_compare_3 12 rfl rfl)
abbrev cX3_hasNext : ByteArray := prog_11_method_6_code
def yX3_hasNext : MethodName := ⟨RX3, "hasNext", "(I)Z"⟩
def dkwX3_hasNext_1 : List UInt8 := [4, 167, 0, 4, 3, 172]
abbrev dktX3_hasNext_1 : List UInt8 := dkwX3_hasNext_1 ++ []
def dkwX3_hasNext_0 : List UInt8 := [42, 180, 0, 69, 42, 180, 0, 41, 162, 0, 20, 42, 180, 0, 15, 42, 180, 0, 69, 46, 27, 160, 0, 7]
abbrev dktX3_hasNext_0 : List UInt8 := dkwX3_hasNext_0 ++ dktX3_hasNext_1
theorem dksX3_hasNext_0 : cX3_hasNext.data.toList.drop 0 = dktX3_hasNext_0 := by decide +kernel
theorem dksX3_hasNext_1 : cX3_hasNext.data.toList.drop 24 = dktX3_hasNext_1 := dk_seg dksX3_hasNext_0 24 rfl rfl
theorem dX3_hasNext_0 : decode cX3_hasNext 0 = .ok (.aload_n 0, 1) := dk_42 (dk_at dksX3_hasNext_0 0 rfl rfl)
theorem dX3_hasNext_1 : decode cX3_hasNext 1 = .ok (.getfield 69, 3) := dk_180 0 69 (dk_at dksX3_hasNext_0 1 rfl rfl)
theorem dX3_hasNext_4 : decode cX3_hasNext 4 = .ok (.aload_n 0, 1) := dk_42 (dk_at dksX3_hasNext_0 4 rfl rfl)
theorem dX3_hasNext_5 : decode cX3_hasNext 5 = .ok (.getfield 41, 3) := dk_180 0 41 (dk_at dksX3_hasNext_0 5 rfl rfl)
theorem dX3_hasNext_8 : decode cX3_hasNext 8 = .ok (.if_icmp .ge 20, 3) := dk_162 0 20 (dk_at dksX3_hasNext_0 8 rfl rfl)
theorem dX3_hasNext_11 : decode cX3_hasNext 11 = .ok (.aload_n 0, 1) := dk_42 (dk_at dksX3_hasNext_0 11 rfl rfl)
theorem dX3_hasNext_12 : decode cX3_hasNext 12 = .ok (.getfield 15, 3) := dk_180 0 15 (dk_at dksX3_hasNext_0 12 rfl rfl)
theorem dX3_hasNext_15 : decode cX3_hasNext 15 = .ok (.aload_n 0, 1) := dk_42 (dk_at dksX3_hasNext_0 15 rfl rfl)
theorem dX3_hasNext_16 : decode cX3_hasNext 16 = .ok (.getfield 69, 3) := dk_180 0 69 (dk_at dksX3_hasNext_0 16 rfl rfl)
theorem dX3_hasNext_19 : decode cX3_hasNext 19 = .ok (.iaload, 1) := dk_46 (dk_at dksX3_hasNext_0 19 rfl rfl)
theorem dX3_hasNext_20 : decode cX3_hasNext 20 = .ok (.iload_n 1, 1) := dk_27 (dk_at dksX3_hasNext_0 20 rfl rfl)
theorem dX3_hasNext_21 : decode cX3_hasNext 21 = .ok (.if_icmp .ne 7, 3) := dk_160 0 7 (dk_at dksX3_hasNext_0 21 rfl rfl)
theorem dX3_hasNext_24 : decode cX3_hasNext 24 = .ok (.iconst 1, 1) := dk_4 (dk_at dksX3_hasNext_1 0 rfl rfl)
theorem dX3_hasNext_25 : decode cX3_hasNext 25 = .ok (.goto 4, 3) := dk_167 0 4 (dk_at dksX3_hasNext_1 1 rfl rfl)
theorem dX3_hasNext_28 : decode cX3_hasNext 28 = .ok (.iconst 0, 1) := dk_3 (dk_at dksX3_hasNext_1 4 rfl rfl)
theorem dX3_hasNext_29 : decode cX3_hasNext 29 = .ok (.ireturn, 1) := dk_172 (dk_at dksX3_hasNext_1 5 rfl rfl)
abbrev cX3_opens : ByteArray := prog_11_method_10_code
def yX3_opens : MethodName := ⟨RX3, "opens", "()V"⟩
def dkwX3_opens_0 : List UInt8 := [42, 180, 0, 27, 42, 180, 0, 69, 42, 180, 0, 21, 42, 180, 0, 69, 46, 79, 42, 182, 0, 86, 177]
abbrev dktX3_opens_0 : List UInt8 := dkwX3_opens_0 ++ []
theorem dksX3_opens_0 : cX3_opens.data.toList.drop 0 = dktX3_opens_0 := by decide +kernel
theorem dX3_opens_0 : decode cX3_opens 0 = .ok (.aload_n 0, 1) := dk_42 (dk_at dksX3_opens_0 0 rfl rfl)
theorem dX3_opens_1 : decode cX3_opens 1 = .ok (.getfield 27, 3) := dk_180 0 27 (dk_at dksX3_opens_0 1 rfl rfl)
theorem dX3_opens_4 : decode cX3_opens 4 = .ok (.aload_n 0, 1) := dk_42 (dk_at dksX3_opens_0 4 rfl rfl)
theorem dX3_opens_5 : decode cX3_opens 5 = .ok (.getfield 69, 3) := dk_180 0 69 (dk_at dksX3_opens_0 5 rfl rfl)
theorem dX3_opens_8 : decode cX3_opens 8 = .ok (.aload_n 0, 1) := dk_42 (dk_at dksX3_opens_0 8 rfl rfl)
theorem dX3_opens_9 : decode cX3_opens 9 = .ok (.getfield 21, 3) := dk_180 0 21 (dk_at dksX3_opens_0 9 rfl rfl)
theorem dX3_opens_12 : decode cX3_opens 12 = .ok (.aload_n 0, 1) := dk_42 (dk_at dksX3_opens_0 12 rfl rfl)
theorem dX3_opens_13 : decode cX3_opens 13 = .ok (.getfield 69, 3) := dk_180 0 69 (dk_at dksX3_opens_0 13 rfl rfl)
theorem dX3_opens_16 : decode cX3_opens 16 = .ok (.iaload, 1) := dk_46 (dk_at dksX3_opens_0 16 rfl rfl)
theorem dX3_opens_17 : decode cX3_opens 17 = .ok (.iastore, 1) := dk_79 (dk_at dksX3_opens_0 17 rfl rfl)
theorem dX3_opens_18 : decode cX3_opens 18 = .ok (.aload_n 0, 1) := dk_42 (dk_at dksX3_opens_0 18 rfl rfl)
theorem dX3_opens_19 : decode cX3_opens 19 = .ok (.invokevirtual 86, 3) := dk_182 0 86 (dk_at dksX3_opens_0 19 rfl rfl)
theorem dX3_opens_22 : decode cX3_opens 22 = .ok (.return_, 1) := dk_177 (dk_at dksX3_opens_0 22 rfl rfl)
abbrev cX3_spans : ByteArray := prog_11_method_11_code
def yX3_spans : MethodName := ⟨RX3, "spans", "()V"⟩
def dkwX3_spans_3 : List UInt8 := [42, 180, 0, 30, 42, 180, 0, 69, 92, 46, 4, 96, 79, 167, 255, 192, 177]
abbrev dktX3_spans_3 : List UInt8 := dkwX3_spans_3 ++ []
def dkwX3_spans_2 : List UInt8 := [180, 0, 69, 46, 182, 0, 89, 42, 42, 180, 0, 27, 42, 180, 0, 69, 46, 182, 0, 89, 148, 154, 0, 19]
abbrev dktX3_spans_2 : List UInt8 := dkwX3_spans_2 ++ dktX3_spans_3
def dkwX3_spans_1 : List UInt8 := [180, 0, 69, 46, 42, 180, 0, 24, 42, 180, 0, 69, 46, 162, 0, 49, 42, 42, 180, 0, 30, 42]
abbrev dktX3_spans_1 : List UInt8 := dkwX3_spans_1 ++ dktX3_spans_2
def dkwX3_spans_0 : List UInt8 := [42, 180, 0, 30, 42, 180, 0, 69, 42, 180, 0, 27, 42, 180, 0, 69, 46, 79, 42, 180, 0, 30, 42]
abbrev dktX3_spans_0 : List UInt8 := dkwX3_spans_0 ++ dktX3_spans_1
theorem dksX3_spans_0 : cX3_spans.data.toList.drop 0 = dktX3_spans_0 := by decide +kernel
theorem dksX3_spans_1 : cX3_spans.data.toList.drop 23 = dktX3_spans_1 := dk_seg dksX3_spans_0 23 rfl rfl
theorem dksX3_spans_2 : cX3_spans.data.toList.drop 45 = dktX3_spans_2 := dk_seg dksX3_spans_1 22 rfl rfl
theorem dksX3_spans_3 : cX3_spans.data.toList.drop 69 = dktX3_spans_3 := dk_seg dksX3_spans_2 24 rfl rfl
theorem dX3_spans_0 : decode cX3_spans 0 = .ok (.aload_n 0, 1) := dk_42 (dk_at dksX3_spans_0 0 rfl rfl)
theorem dX3_spans_1 : decode cX3_spans 1 = .ok (.getfield 30, 3) := dk_180 0 30 (dk_at dksX3_spans_0 1 rfl rfl)
theorem dX3_spans_4 : decode cX3_spans 4 = .ok (.aload_n 0, 1) := dk_42 (dk_at dksX3_spans_0 4 rfl rfl)
theorem dX3_spans_5 : decode cX3_spans 5 = .ok (.getfield 69, 3) := dk_180 0 69 (dk_at dksX3_spans_0 5 rfl rfl)
theorem dX3_spans_8 : decode cX3_spans 8 = .ok (.aload_n 0, 1) := dk_42 (dk_at dksX3_spans_0 8 rfl rfl)
theorem dX3_spans_9 : decode cX3_spans 9 = .ok (.getfield 27, 3) := dk_180 0 27 (dk_at dksX3_spans_0 9 rfl rfl)
theorem dX3_spans_12 : decode cX3_spans 12 = .ok (.aload_n 0, 1) := dk_42 (dk_at dksX3_spans_0 12 rfl rfl)
theorem dX3_spans_13 : decode cX3_spans 13 = .ok (.getfield 69, 3) := dk_180 0 69 (dk_at dksX3_spans_0 13 rfl rfl)
theorem dX3_spans_16 : decode cX3_spans 16 = .ok (.iaload, 1) := dk_46 (dk_at dksX3_spans_0 16 rfl rfl)
theorem dX3_spans_17 : decode cX3_spans 17 = .ok (.iastore, 1) := dk_79 (dk_at dksX3_spans_0 17 rfl rfl)
theorem dX3_spans_18 : decode cX3_spans 18 = .ok (.aload_n 0, 1) := dk_42 (dk_at dksX3_spans_0 18 rfl rfl)
theorem dX3_spans_19 : decode cX3_spans 19 = .ok (.getfield 30, 3) := dk_180 0 30 (dk_at dksX3_spans_0 19 rfl rfl)
theorem dX3_spans_22 : decode cX3_spans 22 = .ok (.aload_n 0, 1) := dk_42 (dk_at dksX3_spans_0 22 rfl rfl)
theorem dX3_spans_23 : decode cX3_spans 23 = .ok (.getfield 69, 3) := dk_180 0 69 (dk_at dksX3_spans_1 0 rfl rfl)
theorem dX3_spans_26 : decode cX3_spans 26 = .ok (.iaload, 1) := dk_46 (dk_at dksX3_spans_1 3 rfl rfl)
theorem dX3_spans_27 : decode cX3_spans 27 = .ok (.aload_n 0, 1) := dk_42 (dk_at dksX3_spans_1 4 rfl rfl)
theorem dX3_spans_28 : decode cX3_spans 28 = .ok (.getfield 24, 3) := dk_180 0 24 (dk_at dksX3_spans_1 5 rfl rfl)
theorem dX3_spans_31 : decode cX3_spans 31 = .ok (.aload_n 0, 1) := dk_42 (dk_at dksX3_spans_1 8 rfl rfl)
theorem dX3_spans_32 : decode cX3_spans 32 = .ok (.getfield 69, 3) := dk_180 0 69 (dk_at dksX3_spans_1 9 rfl rfl)
theorem dX3_spans_35 : decode cX3_spans 35 = .ok (.iaload, 1) := dk_46 (dk_at dksX3_spans_1 12 rfl rfl)
theorem dX3_spans_36 : decode cX3_spans 36 = .ok (.if_icmp .ge 49, 3) := dk_162 0 49 (dk_at dksX3_spans_1 13 rfl rfl)
theorem dX3_spans_39 : decode cX3_spans 39 = .ok (.aload_n 0, 1) := dk_42 (dk_at dksX3_spans_1 16 rfl rfl)
theorem dX3_spans_40 : decode cX3_spans 40 = .ok (.aload_n 0, 1) := dk_42 (dk_at dksX3_spans_1 17 rfl rfl)
theorem dX3_spans_41 : decode cX3_spans 41 = .ok (.getfield 30, 3) := dk_180 0 30 (dk_at dksX3_spans_1 18 rfl rfl)
theorem dX3_spans_44 : decode cX3_spans 44 = .ok (.aload_n 0, 1) := dk_42 (dk_at dksX3_spans_1 21 rfl rfl)
theorem dX3_spans_45 : decode cX3_spans 45 = .ok (.getfield 69, 3) := dk_180 0 69 (dk_at dksX3_spans_2 0 rfl rfl)
theorem dX3_spans_48 : decode cX3_spans 48 = .ok (.iaload, 1) := dk_46 (dk_at dksX3_spans_2 3 rfl rfl)
theorem dX3_spans_49 : decode cX3_spans 49 = .ok (.invokevirtual 89, 3) := dk_182 0 89 (dk_at dksX3_spans_2 4 rfl rfl)
theorem dX3_spans_52 : decode cX3_spans 52 = .ok (.aload_n 0, 1) := dk_42 (dk_at dksX3_spans_2 7 rfl rfl)
theorem dX3_spans_53 : decode cX3_spans 53 = .ok (.aload_n 0, 1) := dk_42 (dk_at dksX3_spans_2 8 rfl rfl)
theorem dX3_spans_54 : decode cX3_spans 54 = .ok (.getfield 27, 3) := dk_180 0 27 (dk_at dksX3_spans_2 9 rfl rfl)
theorem dX3_spans_57 : decode cX3_spans 57 = .ok (.aload_n 0, 1) := dk_42 (dk_at dksX3_spans_2 12 rfl rfl)
theorem dX3_spans_58 : decode cX3_spans 58 = .ok (.getfield 69, 3) := dk_180 0 69 (dk_at dksX3_spans_2 13 rfl rfl)
theorem dX3_spans_61 : decode cX3_spans 61 = .ok (.iaload, 1) := dk_46 (dk_at dksX3_spans_2 16 rfl rfl)
theorem dX3_spans_62 : decode cX3_spans 62 = .ok (.invokevirtual 89, 3) := dk_182 0 89 (dk_at dksX3_spans_2 17 rfl rfl)
theorem dX3_spans_65 : decode cX3_spans 65 = .ok (.lcmp, 1) := dk_148 (dk_at dksX3_spans_2 20 rfl rfl)
theorem dX3_spans_66 : decode cX3_spans 66 = .ok (.ifCond .ne 19, 3) := dk_154 0 19 (dk_at dksX3_spans_2 21 rfl rfl)
theorem dX3_spans_69 : decode cX3_spans 69 = .ok (.aload_n 0, 1) := dk_42 (dk_at dksX3_spans_3 0 rfl rfl)
theorem dX3_spans_70 : decode cX3_spans 70 = .ok (.getfield 30, 3) := dk_180 0 30 (dk_at dksX3_spans_3 1 rfl rfl)
theorem dX3_spans_73 : decode cX3_spans 73 = .ok (.aload_n 0, 1) := dk_42 (dk_at dksX3_spans_3 4 rfl rfl)
theorem dX3_spans_74 : decode cX3_spans 74 = .ok (.getfield 69, 3) := dk_180 0 69 (dk_at dksX3_spans_3 5 rfl rfl)
theorem dX3_spans_77 : decode cX3_spans 77 = .ok (.dup2, 1) := dk_92 (dk_at dksX3_spans_3 8 rfl rfl)
theorem dX3_spans_78 : decode cX3_spans 78 = .ok (.iaload, 1) := dk_46 (dk_at dksX3_spans_3 9 rfl rfl)
theorem dX3_spans_79 : decode cX3_spans 79 = .ok (.iconst 1, 1) := dk_4 (dk_at dksX3_spans_3 10 rfl rfl)
theorem dX3_spans_80 : decode cX3_spans 80 = .ok (.iadd, 1) := dk_96 (dk_at dksX3_spans_3 11 rfl rfl)
theorem dX3_spans_81 : decode cX3_spans 81 = .ok (.iastore, 1) := dk_79 (dk_at dksX3_spans_3 12 rfl rfl)
theorem dX3_spans_82 : decode cX3_spans 82 = .ok (.goto (-64), 3) := dk_167 255 192 (dk_at dksX3_spans_3 13 rfl rfl)
theorem dX3_spans_85 : decode cX3_spans 85 = .ok (.return_, 1) := dk_177 (dk_at dksX3_spans_3 16 rfl rfl)
abbrev cX3_key : ByteArray := prog_11_method_7_code
def yX3_key : MethodName := ⟨RX3, "key", "(I)J"⟩
def dkwX3_key_1 : List UInt8 := [182, 0, 72, 184, 0, 79, 173]
abbrev dktX3_key_1 : List UInt8 := dkwX3_key_1 ++ []
def dkwX3_key_0 : List UInt8 := [42, 180, 0, 33, 180, 0, 54, 42, 180, 0, 9, 27, 46, 42, 180, 0, 18, 42, 180, 0, 69, 46]
abbrev dktX3_key_0 : List UInt8 := dkwX3_key_0 ++ dktX3_key_1
theorem dksX3_key_0 : cX3_key.data.toList.drop 0 = dktX3_key_0 := by decide +kernel
theorem dksX3_key_1 : cX3_key.data.toList.drop 22 = dktX3_key_1 := dk_seg dksX3_key_0 22 rfl rfl
theorem dX3_key_0 : decode cX3_key 0 = .ok (.aload_n 0, 1) := dk_42 (dk_at dksX3_key_0 0 rfl rfl)
theorem dX3_key_1 : decode cX3_key 1 = .ok (.getfield 33, 3) := dk_180 0 33 (dk_at dksX3_key_0 1 rfl rfl)
theorem dX3_key_4 : decode cX3_key 4 = .ok (.getfield 54, 3) := dk_180 0 54 (dk_at dksX3_key_0 4 rfl rfl)
theorem dX3_key_7 : decode cX3_key 7 = .ok (.aload_n 0, 1) := dk_42 (dk_at dksX3_key_0 7 rfl rfl)
theorem dX3_key_8 : decode cX3_key 8 = .ok (.getfield 9, 3) := dk_180 0 9 (dk_at dksX3_key_0 8 rfl rfl)
theorem dX3_key_11 : decode cX3_key 11 = .ok (.iload_n 1, 1) := dk_27 (dk_at dksX3_key_0 11 rfl rfl)
theorem dX3_key_12 : decode cX3_key 12 = .ok (.iaload, 1) := dk_46 (dk_at dksX3_key_0 12 rfl rfl)
theorem dX3_key_13 : decode cX3_key 13 = .ok (.aload_n 0, 1) := dk_42 (dk_at dksX3_key_0 13 rfl rfl)
theorem dX3_key_14 : decode cX3_key 14 = .ok (.getfield 18, 3) := dk_180 0 18 (dk_at dksX3_key_0 14 rfl rfl)
theorem dX3_key_17 : decode cX3_key 17 = .ok (.aload_n 0, 1) := dk_42 (dk_at dksX3_key_0 17 rfl rfl)
theorem dX3_key_18 : decode cX3_key 18 = .ok (.getfield 69, 3) := dk_180 0 69 (dk_at dksX3_key_0 18 rfl rfl)
theorem dX3_key_21 : decode cX3_key 21 = .ok (.iaload, 1) := dk_46 (dk_at dksX3_key_0 21 rfl rfl)
theorem dX3_key_22 : decode cX3_key 22 = .ok (.invokevirtual 72, 3) := dk_182 0 72 (dk_at dksX3_key_1 0 rfl rfl)
theorem dX3_key_25 : decode cX3_key 25 = .ok (.invokestatic 79, 3) := dk_184 0 79 (dk_at dksX3_key_1 3 rfl rfl)
theorem dX3_key_28 : decode cX3_key 28 = .ok (.lreturn, 1) := dk_173 (dk_at dksX3_key_1 6 rfl rfl)
abbrev cX3_isAtEnd : ByteArray := prog_11_method_9_code
def yX3_isAtEnd : MethodName := ⟨RX3, "isAtEnd", "()Z"⟩
def dkwX3_isAtEnd_1 : List UInt8 := [167, 0, 4, 3, 172]
abbrev dktX3_isAtEnd_1 : List UInt8 := dkwX3_isAtEnd_1 ++ []
def dkwX3_isAtEnd_0 : List UInt8 := [42, 180, 0, 27, 42, 180, 0, 69, 46, 42, 180, 0, 24, 42, 180, 0, 69, 46, 160, 0, 7, 4]
abbrev dktX3_isAtEnd_0 : List UInt8 := dkwX3_isAtEnd_0 ++ dktX3_isAtEnd_1
theorem dksX3_isAtEnd_0 : cX3_isAtEnd.data.toList.drop 0 = dktX3_isAtEnd_0 := by decide +kernel
theorem dksX3_isAtEnd_1 : cX3_isAtEnd.data.toList.drop 22 = dktX3_isAtEnd_1 := dk_seg dksX3_isAtEnd_0 22 rfl rfl
theorem dX3_isAtEnd_0 : decode cX3_isAtEnd 0 = .ok (.aload_n 0, 1) := dk_42 (dk_at dksX3_isAtEnd_0 0 rfl rfl)
theorem dX3_isAtEnd_1 : decode cX3_isAtEnd 1 = .ok (.getfield 27, 3) := dk_180 0 27 (dk_at dksX3_isAtEnd_0 1 rfl rfl)
theorem dX3_isAtEnd_4 : decode cX3_isAtEnd 4 = .ok (.aload_n 0, 1) := dk_42 (dk_at dksX3_isAtEnd_0 4 rfl rfl)
theorem dX3_isAtEnd_5 : decode cX3_isAtEnd 5 = .ok (.getfield 69, 3) := dk_180 0 69 (dk_at dksX3_isAtEnd_0 5 rfl rfl)
theorem dX3_isAtEnd_8 : decode cX3_isAtEnd 8 = .ok (.iaload, 1) := dk_46 (dk_at dksX3_isAtEnd_0 8 rfl rfl)
theorem dX3_isAtEnd_9 : decode cX3_isAtEnd 9 = .ok (.aload_n 0, 1) := dk_42 (dk_at dksX3_isAtEnd_0 9 rfl rfl)
theorem dX3_isAtEnd_10 : decode cX3_isAtEnd 10 = .ok (.getfield 24, 3) := dk_180 0 24 (dk_at dksX3_isAtEnd_0 10 rfl rfl)
theorem dX3_isAtEnd_13 : decode cX3_isAtEnd 13 = .ok (.aload_n 0, 1) := dk_42 (dk_at dksX3_isAtEnd_0 13 rfl rfl)
theorem dX3_isAtEnd_14 : decode cX3_isAtEnd 14 = .ok (.getfield 69, 3) := dk_180 0 69 (dk_at dksX3_isAtEnd_0 14 rfl rfl)
theorem dX3_isAtEnd_17 : decode cX3_isAtEnd 17 = .ok (.iaload, 1) := dk_46 (dk_at dksX3_isAtEnd_0 17 rfl rfl)
theorem dX3_isAtEnd_18 : decode cX3_isAtEnd 18 = .ok (.if_icmp .ne 7, 3) := dk_160 0 7 (dk_at dksX3_isAtEnd_0 18 rfl rfl)
theorem dX3_isAtEnd_21 : decode cX3_isAtEnd 21 = .ok (.iconst 1, 1) := dk_4 (dk_at dksX3_isAtEnd_0 21 rfl rfl)
theorem dX3_isAtEnd_22 : decode cX3_isAtEnd 22 = .ok (.goto 4, 3) := dk_167 0 4 (dk_at dksX3_isAtEnd_1 0 rfl rfl)
theorem dX3_isAtEnd_25 : decode cX3_isAtEnd 25 = .ok (.iconst 0, 1) := dk_3 (dk_at dksX3_isAtEnd_1 3 rfl rfl)
theorem dX3_isAtEnd_26 : decode cX3_isAtEnd 26 = .ok (.ireturn, 1) := dk_172 (dk_at dksX3_isAtEnd_1 4 rfl rfl)
abbrev cX3_value : ByteArray := prog_11_method_8_code
def yX3_value : MethodName := ⟨RX3, "value", "()I"⟩
def dkwX3_value_1 : List UInt8 := [180, 0, 18, 42, 180, 0, 69, 46, 182, 0, 72, 172]
abbrev dktX3_value_1 : List UInt8 := dkwX3_value_1 ++ []
def dkwX3_value_0 : List UInt8 := [42, 180, 0, 33, 180, 0, 54, 42, 180, 0, 9, 42, 180, 0, 27, 42, 180, 0, 69, 46, 46, 42]
abbrev dktX3_value_0 : List UInt8 := dkwX3_value_0 ++ dktX3_value_1
theorem dksX3_value_0 : cX3_value.data.toList.drop 0 = dktX3_value_0 := by decide +kernel
theorem dksX3_value_1 : cX3_value.data.toList.drop 22 = dktX3_value_1 := dk_seg dksX3_value_0 22 rfl rfl
theorem dX3_value_0 : decode cX3_value 0 = .ok (.aload_n 0, 1) := dk_42 (dk_at dksX3_value_0 0 rfl rfl)
theorem dX3_value_1 : decode cX3_value 1 = .ok (.getfield 33, 3) := dk_180 0 33 (dk_at dksX3_value_0 1 rfl rfl)
theorem dX3_value_4 : decode cX3_value 4 = .ok (.getfield 54, 3) := dk_180 0 54 (dk_at dksX3_value_0 4 rfl rfl)
theorem dX3_value_7 : decode cX3_value 7 = .ok (.aload_n 0, 1) := dk_42 (dk_at dksX3_value_0 7 rfl rfl)
theorem dX3_value_8 : decode cX3_value 8 = .ok (.getfield 9, 3) := dk_180 0 9 (dk_at dksX3_value_0 8 rfl rfl)
theorem dX3_value_11 : decode cX3_value 11 = .ok (.aload_n 0, 1) := dk_42 (dk_at dksX3_value_0 11 rfl rfl)
theorem dX3_value_12 : decode cX3_value 12 = .ok (.getfield 27, 3) := dk_180 0 27 (dk_at dksX3_value_0 12 rfl rfl)
theorem dX3_value_15 : decode cX3_value 15 = .ok (.aload_n 0, 1) := dk_42 (dk_at dksX3_value_0 15 rfl rfl)
theorem dX3_value_16 : decode cX3_value 16 = .ok (.getfield 69, 3) := dk_180 0 69 (dk_at dksX3_value_0 16 rfl rfl)
theorem dX3_value_19 : decode cX3_value 19 = .ok (.iaload, 1) := dk_46 (dk_at dksX3_value_0 19 rfl rfl)
theorem dX3_value_20 : decode cX3_value 20 = .ok (.iaload, 1) := dk_46 (dk_at dksX3_value_0 20 rfl rfl)
theorem dX3_value_21 : decode cX3_value 21 = .ok (.aload_n 0, 1) := dk_42 (dk_at dksX3_value_0 21 rfl rfl)
theorem dX3_value_22 : decode cX3_value 22 = .ok (.getfield 18, 3) := dk_180 0 18 (dk_at dksX3_value_1 0 rfl rfl)
theorem dX3_value_25 : decode cX3_value 25 = .ok (.aload_n 0, 1) := dk_42 (dk_at dksX3_value_1 3 rfl rfl)
theorem dX3_value_26 : decode cX3_value 26 = .ok (.getfield 69, 3) := dk_180 0 69 (dk_at dksX3_value_1 4 rfl rfl)
theorem dX3_value_29 : decode cX3_value 29 = .ok (.iaload, 1) := dk_46 (dk_at dksX3_value_1 7 rfl rfl)
theorem dX3_value_30 : decode cX3_value 30 = .ok (.invokevirtual 72, 3) := dk_182 0 72 (dk_at dksX3_value_1 8 rfl rfl)
theorem dX3_value_33 : decode cX3_value 33 = .ok (.ireturn, 1) := dk_172 (dk_at dksX3_value_1 11 rfl rfl)
abbrev cX3_seeks : ByteArray := prog_11_method_13_code
def yX3_seeks : MethodName := ⟨RX3, "seeks", "(J)V"⟩
def dkwX3_seeks_5 : List UInt8 := [167, 255, 216, 42, 180, 0, 27, 42, 180, 0, 69, 21, 6, 79, 42, 182, 0, 86, 177]
abbrev dktX3_seeks_5 : List UInt8 := dkwX3_seeks_5 ++ []
def dkwX3_seeks_4 : List UInt8 := [42, 21, 7, 182, 0, 89, 31, 148, 156, 0, 12, 21, 7, 4, 96, 54, 6, 167, 0, 7, 21, 7, 54, 5]
abbrev dktX3_seeks_4 : List UInt8 := dkwX3_seeks_4 ++ dktX3_seeks_5
def dkwX3_seeks_3 : List UInt8 := [184, 0, 92, 54, 5, 29, 54, 6, 21, 6, 21, 5, 162, 0, 39, 21, 6, 21, 5, 96, 5, 108, 54, 7]
abbrev dktX3_seeks_3 : List UInt8 := dkwX3_seeks_3 ++ dktX3_seeks_4
def dkwX3_seeks_2 : List UInt8 := [62, 21, 4, 5, 104, 54, 4, 167, 255, 216, 42, 180, 0, 24, 42, 180, 0, 69, 46, 29, 21, 4, 96]
abbrev dktX3_seeks_2 : List UInt8 := dkwX3_seeks_2 ++ dktX3_seeks_3
def dkwX3_seeks_1 : List UInt8 := [180, 0, 69, 46, 162, 0, 30, 42, 29, 21, 4, 96, 182, 0, 89, 31, 148, 156, 0, 17, 29, 21, 4, 96]
abbrev dktX3_seeks_1 : List UInt8 := dkwX3_seeks_1 ++ dktX3_seeks_2
def dkwX3_seeks_0 : List UInt8 := [42, 180, 0, 27, 42, 180, 0, 69, 46, 62, 4, 54, 4, 29, 21, 4, 96, 42, 180, 0, 24, 42]
abbrev dktX3_seeks_0 : List UInt8 := dkwX3_seeks_0 ++ dktX3_seeks_1
theorem dksX3_seeks_0 : cX3_seeks.data.toList.drop 0 = dktX3_seeks_0 := by decide +kernel
theorem dksX3_seeks_1 : cX3_seeks.data.toList.drop 22 = dktX3_seeks_1 := dk_seg dksX3_seeks_0 22 rfl rfl
theorem dksX3_seeks_2 : cX3_seeks.data.toList.drop 46 = dktX3_seeks_2 := dk_seg dksX3_seeks_1 24 rfl rfl
theorem dksX3_seeks_3 : cX3_seeks.data.toList.drop 69 = dktX3_seeks_3 := dk_seg dksX3_seeks_2 23 rfl rfl
theorem dksX3_seeks_4 : cX3_seeks.data.toList.drop 93 = dktX3_seeks_4 := dk_seg dksX3_seeks_3 24 rfl rfl
theorem dksX3_seeks_5 : cX3_seeks.data.toList.drop 117 = dktX3_seeks_5 := dk_seg dksX3_seeks_4 24 rfl rfl
theorem dX3_seeks_0 : decode cX3_seeks 0 = .ok (.aload_n 0, 1) := dk_42 (dk_at dksX3_seeks_0 0 rfl rfl)
theorem dX3_seeks_1 : decode cX3_seeks 1 = .ok (.getfield 27, 3) := dk_180 0 27 (dk_at dksX3_seeks_0 1 rfl rfl)
theorem dX3_seeks_4 : decode cX3_seeks 4 = .ok (.aload_n 0, 1) := dk_42 (dk_at dksX3_seeks_0 4 rfl rfl)
theorem dX3_seeks_5 : decode cX3_seeks 5 = .ok (.getfield 69, 3) := dk_180 0 69 (dk_at dksX3_seeks_0 5 rfl rfl)
theorem dX3_seeks_8 : decode cX3_seeks 8 = .ok (.iaload, 1) := dk_46 (dk_at dksX3_seeks_0 8 rfl rfl)
theorem dX3_seeks_9 : decode cX3_seeks 9 = .ok (.istore_n 3, 1) := dk_62 (dk_at dksX3_seeks_0 9 rfl rfl)
theorem dX3_seeks_10 : decode cX3_seeks 10 = .ok (.iconst 1, 1) := dk_4 (dk_at dksX3_seeks_0 10 rfl rfl)
theorem dX3_seeks_11 : decode cX3_seeks 11 = .ok (.istore 4, 2) := dk_54 4 (dk_at dksX3_seeks_0 11 rfl rfl)
theorem dX3_seeks_13 : decode cX3_seeks 13 = .ok (.iload_n 3, 1) := dk_29 (dk_at dksX3_seeks_0 13 rfl rfl)
theorem dX3_seeks_14 : decode cX3_seeks 14 = .ok (.iload 4, 2) := dk_21 4 (dk_at dksX3_seeks_0 14 rfl rfl)
theorem dX3_seeks_16 : decode cX3_seeks 16 = .ok (.iadd, 1) := dk_96 (dk_at dksX3_seeks_0 16 rfl rfl)
theorem dX3_seeks_17 : decode cX3_seeks 17 = .ok (.aload_n 0, 1) := dk_42 (dk_at dksX3_seeks_0 17 rfl rfl)
theorem dX3_seeks_18 : decode cX3_seeks 18 = .ok (.getfield 24, 3) := dk_180 0 24 (dk_at dksX3_seeks_0 18 rfl rfl)
theorem dX3_seeks_21 : decode cX3_seeks 21 = .ok (.aload_n 0, 1) := dk_42 (dk_at dksX3_seeks_0 21 rfl rfl)
theorem dX3_seeks_22 : decode cX3_seeks 22 = .ok (.getfield 69, 3) := dk_180 0 69 (dk_at dksX3_seeks_1 0 rfl rfl)
theorem dX3_seeks_25 : decode cX3_seeks 25 = .ok (.iaload, 1) := dk_46 (dk_at dksX3_seeks_1 3 rfl rfl)
theorem dX3_seeks_26 : decode cX3_seeks 26 = .ok (.if_icmp .ge 30, 3) := dk_162 0 30 (dk_at dksX3_seeks_1 4 rfl rfl)
theorem dX3_seeks_29 : decode cX3_seeks 29 = .ok (.aload_n 0, 1) := dk_42 (dk_at dksX3_seeks_1 7 rfl rfl)
theorem dX3_seeks_30 : decode cX3_seeks 30 = .ok (.iload_n 3, 1) := dk_29 (dk_at dksX3_seeks_1 8 rfl rfl)
theorem dX3_seeks_31 : decode cX3_seeks 31 = .ok (.iload 4, 2) := dk_21 4 (dk_at dksX3_seeks_1 9 rfl rfl)
theorem dX3_seeks_33 : decode cX3_seeks 33 = .ok (.iadd, 1) := dk_96 (dk_at dksX3_seeks_1 11 rfl rfl)
theorem dX3_seeks_34 : decode cX3_seeks 34 = .ok (.invokevirtual 89, 3) := dk_182 0 89 (dk_at dksX3_seeks_1 12 rfl rfl)
theorem dX3_seeks_37 : decode cX3_seeks 37 = .ok (.lload_n 1, 1) := dk_31 (dk_at dksX3_seeks_1 15 rfl rfl)
theorem dX3_seeks_38 : decode cX3_seeks 38 = .ok (.lcmp, 1) := dk_148 (dk_at dksX3_seeks_1 16 rfl rfl)
theorem dX3_seeks_39 : decode cX3_seeks 39 = .ok (.ifCond .ge 17, 3) := dk_156 0 17 (dk_at dksX3_seeks_1 17 rfl rfl)
theorem dX3_seeks_42 : decode cX3_seeks 42 = .ok (.iload_n 3, 1) := dk_29 (dk_at dksX3_seeks_1 20 rfl rfl)
theorem dX3_seeks_43 : decode cX3_seeks 43 = .ok (.iload 4, 2) := dk_21 4 (dk_at dksX3_seeks_1 21 rfl rfl)
theorem dX3_seeks_45 : decode cX3_seeks 45 = .ok (.iadd, 1) := dk_96 (dk_at dksX3_seeks_1 23 rfl rfl)
theorem dX3_seeks_46 : decode cX3_seeks 46 = .ok (.istore_n 3, 1) := dk_62 (dk_at dksX3_seeks_2 0 rfl rfl)
theorem dX3_seeks_47 : decode cX3_seeks 47 = .ok (.iload 4, 2) := dk_21 4 (dk_at dksX3_seeks_2 1 rfl rfl)
theorem dX3_seeks_49 : decode cX3_seeks 49 = .ok (.iconst 2, 1) := dk_5 (dk_at dksX3_seeks_2 3 rfl rfl)
theorem dX3_seeks_50 : decode cX3_seeks 50 = .ok (.imul, 1) := dk_104 (dk_at dksX3_seeks_2 4 rfl rfl)
theorem dX3_seeks_51 : decode cX3_seeks 51 = .ok (.istore 4, 2) := dk_54 4 (dk_at dksX3_seeks_2 5 rfl rfl)
theorem dX3_seeks_53 : decode cX3_seeks 53 = .ok (.goto (-40), 3) := dk_167 255 216 (dk_at dksX3_seeks_2 7 rfl rfl)
theorem dX3_seeks_56 : decode cX3_seeks 56 = .ok (.aload_n 0, 1) := dk_42 (dk_at dksX3_seeks_2 10 rfl rfl)
theorem dX3_seeks_57 : decode cX3_seeks 57 = .ok (.getfield 24, 3) := dk_180 0 24 (dk_at dksX3_seeks_2 11 rfl rfl)
theorem dX3_seeks_60 : decode cX3_seeks 60 = .ok (.aload_n 0, 1) := dk_42 (dk_at dksX3_seeks_2 14 rfl rfl)
theorem dX3_seeks_61 : decode cX3_seeks 61 = .ok (.getfield 69, 3) := dk_180 0 69 (dk_at dksX3_seeks_2 15 rfl rfl)
theorem dX3_seeks_64 : decode cX3_seeks 64 = .ok (.iaload, 1) := dk_46 (dk_at dksX3_seeks_2 18 rfl rfl)
theorem dX3_seeks_65 : decode cX3_seeks 65 = .ok (.iload_n 3, 1) := dk_29 (dk_at dksX3_seeks_2 19 rfl rfl)
theorem dX3_seeks_66 : decode cX3_seeks 66 = .ok (.iload 4, 2) := dk_21 4 (dk_at dksX3_seeks_2 20 rfl rfl)
theorem dX3_seeks_68 : decode cX3_seeks 68 = .ok (.iadd, 1) := dk_96 (dk_at dksX3_seeks_2 22 rfl rfl)
theorem dX3_seeks_69 : decode cX3_seeks 69 = .ok (.invokestatic 92, 3) := dk_184 0 92 (dk_at dksX3_seeks_3 0 rfl rfl)
theorem dX3_seeks_72 : decode cX3_seeks 72 = .ok (.istore 5, 2) := dk_54 5 (dk_at dksX3_seeks_3 3 rfl rfl)
theorem dX3_seeks_74 : decode cX3_seeks 74 = .ok (.iload_n 3, 1) := dk_29 (dk_at dksX3_seeks_3 5 rfl rfl)
theorem dX3_seeks_75 : decode cX3_seeks 75 = .ok (.istore 6, 2) := dk_54 6 (dk_at dksX3_seeks_3 6 rfl rfl)
theorem dX3_seeks_77 : decode cX3_seeks 77 = .ok (.iload 6, 2) := dk_21 6 (dk_at dksX3_seeks_3 8 rfl rfl)
theorem dX3_seeks_79 : decode cX3_seeks 79 = .ok (.iload 5, 2) := dk_21 5 (dk_at dksX3_seeks_3 10 rfl rfl)
theorem dX3_seeks_81 : decode cX3_seeks 81 = .ok (.if_icmp .ge 39, 3) := dk_162 0 39 (dk_at dksX3_seeks_3 12 rfl rfl)
theorem dX3_seeks_84 : decode cX3_seeks 84 = .ok (.iload 6, 2) := dk_21 6 (dk_at dksX3_seeks_3 15 rfl rfl)
theorem dX3_seeks_86 : decode cX3_seeks 86 = .ok (.iload 5, 2) := dk_21 5 (dk_at dksX3_seeks_3 17 rfl rfl)
theorem dX3_seeks_88 : decode cX3_seeks 88 = .ok (.iadd, 1) := dk_96 (dk_at dksX3_seeks_3 19 rfl rfl)
theorem dX3_seeks_89 : decode cX3_seeks 89 = .ok (.iconst 2, 1) := dk_5 (dk_at dksX3_seeks_3 20 rfl rfl)
theorem dX3_seeks_90 : decode cX3_seeks 90 = .ok (.idiv, 1) := dk_108 (dk_at dksX3_seeks_3 21 rfl rfl)
theorem dX3_seeks_91 : decode cX3_seeks 91 = .ok (.istore 7, 2) := dk_54 7 (dk_at dksX3_seeks_3 22 rfl rfl)
theorem dX3_seeks_93 : decode cX3_seeks 93 = .ok (.aload_n 0, 1) := dk_42 (dk_at dksX3_seeks_4 0 rfl rfl)
theorem dX3_seeks_94 : decode cX3_seeks 94 = .ok (.iload 7, 2) := dk_21 7 (dk_at dksX3_seeks_4 1 rfl rfl)
theorem dX3_seeks_96 : decode cX3_seeks 96 = .ok (.invokevirtual 89, 3) := dk_182 0 89 (dk_at dksX3_seeks_4 3 rfl rfl)
theorem dX3_seeks_99 : decode cX3_seeks 99 = .ok (.lload_n 1, 1) := dk_31 (dk_at dksX3_seeks_4 6 rfl rfl)
theorem dX3_seeks_100 : decode cX3_seeks 100 = .ok (.lcmp, 1) := dk_148 (dk_at dksX3_seeks_4 7 rfl rfl)
theorem dX3_seeks_101 : decode cX3_seeks 101 = .ok (.ifCond .ge 12, 3) := dk_156 0 12 (dk_at dksX3_seeks_4 8 rfl rfl)
theorem dX3_seeks_104 : decode cX3_seeks 104 = .ok (.iload 7, 2) := dk_21 7 (dk_at dksX3_seeks_4 11 rfl rfl)
theorem dX3_seeks_106 : decode cX3_seeks 106 = .ok (.iconst 1, 1) := dk_4 (dk_at dksX3_seeks_4 13 rfl rfl)
theorem dX3_seeks_107 : decode cX3_seeks 107 = .ok (.iadd, 1) := dk_96 (dk_at dksX3_seeks_4 14 rfl rfl)
theorem dX3_seeks_108 : decode cX3_seeks 108 = .ok (.istore 6, 2) := dk_54 6 (dk_at dksX3_seeks_4 15 rfl rfl)
theorem dX3_seeks_110 : decode cX3_seeks 110 = .ok (.goto 7, 3) := dk_167 0 7 (dk_at dksX3_seeks_4 17 rfl rfl)
theorem dX3_seeks_113 : decode cX3_seeks 113 = .ok (.iload 7, 2) := dk_21 7 (dk_at dksX3_seeks_4 20 rfl rfl)
theorem dX3_seeks_115 : decode cX3_seeks 115 = .ok (.istore 5, 2) := dk_54 5 (dk_at dksX3_seeks_4 22 rfl rfl)
theorem dX3_seeks_117 : decode cX3_seeks 117 = .ok (.goto (-40), 3) := dk_167 255 216 (dk_at dksX3_seeks_5 0 rfl rfl)
theorem dX3_seeks_120 : decode cX3_seeks 120 = .ok (.aload_n 0, 1) := dk_42 (dk_at dksX3_seeks_5 3 rfl rfl)
theorem dX3_seeks_121 : decode cX3_seeks 121 = .ok (.getfield 27, 3) := dk_180 0 27 (dk_at dksX3_seeks_5 4 rfl rfl)
theorem dX3_seeks_124 : decode cX3_seeks 124 = .ok (.aload_n 0, 1) := dk_42 (dk_at dksX3_seeks_5 7 rfl rfl)
theorem dX3_seeks_125 : decode cX3_seeks 125 = .ok (.getfield 69, 3) := dk_180 0 69 (dk_at dksX3_seeks_5 8 rfl rfl)
theorem dX3_seeks_128 : decode cX3_seeks 128 = .ok (.iload 6, 2) := dk_21 6 (dk_at dksX3_seeks_5 11 rfl rfl)
theorem dX3_seeks_130 : decode cX3_seeks 130 = .ok (.iastore, 1) := dk_79 (dk_at dksX3_seeks_5 13 rfl rfl)
theorem dX3_seeks_131 : decode cX3_seeks 131 = .ok (.aload_n 0, 1) := dk_42 (dk_at dksX3_seeks_5 14 rfl rfl)
theorem dX3_seeks_132 : decode cX3_seeks 132 = .ok (.invokevirtual 86, 3) := dk_182 0 86 (dk_at dksX3_seeks_5 15 rfl rfl)
theorem dX3_seeks_135 : decode cX3_seeks 135 = .ok (.return_, 1) := dk_177 (dk_at dksX3_seeks_5 18 rfl rfl)
abbrev cX3_down : ByteArray := prog_11_method_14_code
def yX3_down : MethodName := ⟨RX3, "down", "()V"⟩
def dkwX3_down_2 : List UInt8 := [181, 0, 69, 177]
abbrev dktX3_down_2 : List UInt8 := dkwX3_down_2 ++ []
def dkwX3_down_1 : List UInt8 := [42, 180, 0, 69, 4, 96, 42, 180, 0, 30, 42, 180, 0, 69, 46, 79, 42, 89, 180, 0, 69, 4, 96]
abbrev dktX3_down_1 : List UInt8 := dkwX3_down_1 ++ dktX3_down_2
def dkwX3_down_0 : List UInt8 := [42, 180, 0, 21, 42, 180, 0, 69, 4, 96, 42, 180, 0, 27, 42, 180, 0, 69, 46, 79, 42, 180, 0, 24]
abbrev dktX3_down_0 : List UInt8 := dkwX3_down_0 ++ dktX3_down_1
theorem dksX3_down_0 : cX3_down.data.toList.drop 0 = dktX3_down_0 := by decide +kernel
theorem dksX3_down_1 : cX3_down.data.toList.drop 24 = dktX3_down_1 := dk_seg dksX3_down_0 24 rfl rfl
theorem dksX3_down_2 : cX3_down.data.toList.drop 47 = dktX3_down_2 := dk_seg dksX3_down_1 23 rfl rfl
theorem dX3_down_0 : decode cX3_down 0 = .ok (.aload_n 0, 1) := dk_42 (dk_at dksX3_down_0 0 rfl rfl)
theorem dX3_down_1 : decode cX3_down 1 = .ok (.getfield 21, 3) := dk_180 0 21 (dk_at dksX3_down_0 1 rfl rfl)
theorem dX3_down_4 : decode cX3_down 4 = .ok (.aload_n 0, 1) := dk_42 (dk_at dksX3_down_0 4 rfl rfl)
theorem dX3_down_5 : decode cX3_down 5 = .ok (.getfield 69, 3) := dk_180 0 69 (dk_at dksX3_down_0 5 rfl rfl)
theorem dX3_down_8 : decode cX3_down 8 = .ok (.iconst 1, 1) := dk_4 (dk_at dksX3_down_0 8 rfl rfl)
theorem dX3_down_9 : decode cX3_down 9 = .ok (.iadd, 1) := dk_96 (dk_at dksX3_down_0 9 rfl rfl)
theorem dX3_down_10 : decode cX3_down 10 = .ok (.aload_n 0, 1) := dk_42 (dk_at dksX3_down_0 10 rfl rfl)
theorem dX3_down_11 : decode cX3_down 11 = .ok (.getfield 27, 3) := dk_180 0 27 (dk_at dksX3_down_0 11 rfl rfl)
theorem dX3_down_14 : decode cX3_down 14 = .ok (.aload_n 0, 1) := dk_42 (dk_at dksX3_down_0 14 rfl rfl)
theorem dX3_down_15 : decode cX3_down 15 = .ok (.getfield 69, 3) := dk_180 0 69 (dk_at dksX3_down_0 15 rfl rfl)
theorem dX3_down_18 : decode cX3_down 18 = .ok (.iaload, 1) := dk_46 (dk_at dksX3_down_0 18 rfl rfl)
theorem dX3_down_19 : decode cX3_down 19 = .ok (.iastore, 1) := dk_79 (dk_at dksX3_down_0 19 rfl rfl)
theorem dX3_down_20 : decode cX3_down 20 = .ok (.aload_n 0, 1) := dk_42 (dk_at dksX3_down_0 20 rfl rfl)
theorem dX3_down_21 : decode cX3_down 21 = .ok (.getfield 24, 3) := dk_180 0 24 (dk_at dksX3_down_0 21 rfl rfl)
theorem dX3_down_24 : decode cX3_down 24 = .ok (.aload_n 0, 1) := dk_42 (dk_at dksX3_down_1 0 rfl rfl)
theorem dX3_down_25 : decode cX3_down 25 = .ok (.getfield 69, 3) := dk_180 0 69 (dk_at dksX3_down_1 1 rfl rfl)
theorem dX3_down_28 : decode cX3_down 28 = .ok (.iconst 1, 1) := dk_4 (dk_at dksX3_down_1 4 rfl rfl)
theorem dX3_down_29 : decode cX3_down 29 = .ok (.iadd, 1) := dk_96 (dk_at dksX3_down_1 5 rfl rfl)
theorem dX3_down_30 : decode cX3_down 30 = .ok (.aload_n 0, 1) := dk_42 (dk_at dksX3_down_1 6 rfl rfl)
theorem dX3_down_31 : decode cX3_down 31 = .ok (.getfield 30, 3) := dk_180 0 30 (dk_at dksX3_down_1 7 rfl rfl)
theorem dX3_down_34 : decode cX3_down 34 = .ok (.aload_n 0, 1) := dk_42 (dk_at dksX3_down_1 10 rfl rfl)
theorem dX3_down_35 : decode cX3_down 35 = .ok (.getfield 69, 3) := dk_180 0 69 (dk_at dksX3_down_1 11 rfl rfl)
theorem dX3_down_38 : decode cX3_down 38 = .ok (.iaload, 1) := dk_46 (dk_at dksX3_down_1 14 rfl rfl)
theorem dX3_down_39 : decode cX3_down 39 = .ok (.iastore, 1) := dk_79 (dk_at dksX3_down_1 15 rfl rfl)
theorem dX3_down_40 : decode cX3_down 40 = .ok (.aload_n 0, 1) := dk_42 (dk_at dksX3_down_1 16 rfl rfl)
theorem dX3_down_41 : decode cX3_down 41 = .ok (.dup, 1) := dk_89 (dk_at dksX3_down_1 17 rfl rfl)
theorem dX3_down_42 : decode cX3_down 42 = .ok (.getfield 69, 3) := dk_180 0 69 (dk_at dksX3_down_1 18 rfl rfl)
theorem dX3_down_45 : decode cX3_down 45 = .ok (.iconst 1, 1) := dk_4 (dk_at dksX3_down_1 21 rfl rfl)
theorem dX3_down_46 : decode cX3_down 46 = .ok (.iadd, 1) := dk_96 (dk_at dksX3_down_1 22 rfl rfl)
theorem dX3_down_47 : decode cX3_down 47 = .ok (.putfield 69, 3) := dk_181 0 69 (dk_at dksX3_down_2 0 rfl rfl)
theorem dX3_down_50 : decode cX3_down 50 = .ok (.return_, 1) := dk_177 (dk_at dksX3_down_2 3 rfl rfl)
abbrev cX3_up : ByteArray := prog_11_method_15_code
def yX3_up : MethodName := ⟨RX3, "up", "()V"⟩
def dkwX3_up_0 : List UInt8 := [42, 89, 180, 0, 69, 4, 100, 181, 0, 69, 177]
abbrev dktX3_up_0 : List UInt8 := dkwX3_up_0 ++ []
theorem dksX3_up_0 : cX3_up.data.toList.drop 0 = dktX3_up_0 := by decide +kernel
theorem dX3_up_0 : decode cX3_up 0 = .ok (.aload_n 0, 1) := dk_42 (dk_at dksX3_up_0 0 rfl rfl)
theorem dX3_up_1 : decode cX3_up 1 = .ok (.dup, 1) := dk_89 (dk_at dksX3_up_0 1 rfl rfl)
theorem dX3_up_2 : decode cX3_up 2 = .ok (.getfield 69, 3) := dk_180 0 69 (dk_at dksX3_up_0 2 rfl rfl)
theorem dX3_up_5 : decode cX3_up 5 = .ok (.iconst 1, 1) := dk_4 (dk_at dksX3_up_0 5 rfl rfl)
theorem dX3_up_6 : decode cX3_up 6 = .ok (.isub, 1) := dk_100 (dk_at dksX3_up_0 6 rfl rfl)
theorem dX3_up_7 : decode cX3_up 7 = .ok (.putfield 69, 3) := dk_181 0 69 (dk_at dksX3_up_0 7 rfl rfl)
theorem dX3_up_10 : decode cX3_up 10 = .ok (.return_, 1) := dk_177 (dk_at dksX3_up_0 10 rfl rfl)
abbrev cX3_next : ByteArray := prog_11_method_12_code
def yX3_next : MethodName := ⟨RX3, "next", "()V"⟩
def dkwX3_next_0 : List UInt8 := [42, 180, 0, 27, 42, 180, 0, 69, 42, 180, 0, 30, 42, 180, 0, 69, 46, 79, 42, 182, 0, 86, 177]
abbrev dktX3_next_0 : List UInt8 := dkwX3_next_0 ++ []
theorem dksX3_next_0 : cX3_next.data.toList.drop 0 = dktX3_next_0 := by decide +kernel
theorem dX3_next_0 : decode cX3_next 0 = .ok (.aload_n 0, 1) := dk_42 (dk_at dksX3_next_0 0 rfl rfl)
theorem dX3_next_1 : decode cX3_next 1 = .ok (.getfield 27, 3) := dk_180 0 27 (dk_at dksX3_next_0 1 rfl rfl)
theorem dX3_next_4 : decode cX3_next 4 = .ok (.aload_n 0, 1) := dk_42 (dk_at dksX3_next_0 4 rfl rfl)
theorem dX3_next_5 : decode cX3_next 5 = .ok (.getfield 69, 3) := dk_180 0 69 (dk_at dksX3_next_0 5 rfl rfl)
theorem dX3_next_8 : decode cX3_next 8 = .ok (.aload_n 0, 1) := dk_42 (dk_at dksX3_next_0 8 rfl rfl)
theorem dX3_next_9 : decode cX3_next 9 = .ok (.getfield 30, 3) := dk_180 0 30 (dk_at dksX3_next_0 9 rfl rfl)
theorem dX3_next_12 : decode cX3_next 12 = .ok (.aload_n 0, 1) := dk_42 (dk_at dksX3_next_0 12 rfl rfl)
theorem dX3_next_13 : decode cX3_next 13 = .ok (.getfield 69, 3) := dk_180 0 69 (dk_at dksX3_next_0 13 rfl rfl)
theorem dX3_next_16 : decode cX3_next 16 = .ok (.iaload, 1) := dk_46 (dk_at dksX3_next_0 16 rfl rfl)
theorem dX3_next_17 : decode cX3_next 17 = .ok (.iastore, 1) := dk_79 (dk_at dksX3_next_0 17 rfl rfl)
theorem dX3_next_18 : decode cX3_next 18 = .ok (.aload_n 0, 1) := dk_42 (dk_at dksX3_next_0 18 rfl rfl)
theorem dX3_next_19 : decode cX3_next 19 = .ok (.invokevirtual 86, 3) := dk_182 0 86 (dk_at dksX3_next_0 19 rfl rfl)
theorem dX3_next_22 : decode cX3_next 22 = .ok (.return_, 1) := dk_177 (dk_at dksX3_next_0 22 rfl rfl)
theorem q60 : (Jvm.Cond.initialized "JoinLoom$Tree") ∈ lw_all := lw_g (lw_at lw_m1 4 rfl) rfl
theorem q127 : (Jvm.Cond.instantiable "JoinLoom$Tree" (11 : Nat)) ∈ lw_all := lw_g (lw_at lw_m1 71 rfl) rfl
theorem q129 : (Jvm.Cond.instanceMethod ({ cls := "JoinLoom$Tree", name := "<init>", desc := "()V" } : Jvm.MethodName)) ∈ lw_all := lw_g (lw_at lw_m1 73 rfl) rfl
theorem q130 : (Jvm.Cond.code ({ cls := "JoinLoom$Tree", name := "<init>", desc := "()V" } : Jvm.MethodName) prog_11_method_1_code (1 : Nat) (Option.none : Option Jvm.ClassFile.FieldType)) ∈ lw_all := lw_g (lw_at lw_m1 74 rfl) rfl
theorem q131 : (Jvm.Cond.methodLink "JoinLoom$Tree" (3 : Nat) ({ cls := "java/lang/Object", name := "<init>", desc := "()V" } : Jvm.MethodName)) ∈ lw_all := lw_g (lw_at lw_m1 75 rfl) rfl
theorem q132 : (Jvm.Cond.fieldLink "JoinLoom$Tree" (33 : Nat) "JoinLoom$Tree" "has" "LJoinLoom$Has;") ∈ lw_all := lw_g (lw_at lw_m1 76 rfl) rfl
theorem q133 : (Jvm.Cond.fieldLink "JoinLoom$Tree" (9 : Nat) "JoinLoom$Tree" "rows" "[I") ∈ lw_all := lw_g (lw_at lw_m1 77 rfl) rfl
theorem q134 : (Jvm.Cond.fieldLink "JoinLoom$Tree" (37 : Nat) "JoinLoom$Tree" "many" "I") ∈ lw_all := lw_g (lw_at lw_m1 78 rfl) rfl
theorem q136 : (Jvm.Cond.fieldLink "JoinLoom$Tree" (15 : Nat) "JoinLoom$Tree" "name" "[I") ∈ lw_all := lw_g (lw_at lw_m1 80 rfl) rfl
theorem q137 : (Jvm.Cond.fieldLink "JoinLoom$Tree" (18 : Nat) "JoinLoom$Tree" "column" "[I") ∈ lw_all := lw_g (lw_at lw_m1 81 rfl) rfl
theorem q138 : (Jvm.Cond.fieldLink "JoinLoom$Tree" (41 : Nat) "JoinLoom$Tree" "deep" "I") ∈ lw_all := lw_g (lw_at lw_m1 82 rfl) rfl
theorem q140 : (Jvm.Cond.fieldLink "JoinLoom$Tree" (21 : Nat) "JoinLoom$Tree" "low" "[I") ∈ lw_all := lw_g (lw_at lw_m1 84 rfl) rfl
theorem q141 : (Jvm.Cond.fieldLink "JoinLoom$Tree" (24 : Nat) "JoinLoom$Tree" "high" "[I") ∈ lw_all := lw_g (lw_at lw_m1 85 rfl) rfl
theorem q142 : (Jvm.Cond.fieldLink "JoinLoom$Tree" (27 : Nat) "JoinLoom$Tree" "from" "[I") ∈ lw_all := lw_g (lw_at lw_m1 86 rfl) rfl
theorem q143 : (Jvm.Cond.fieldLink "JoinLoom$Tree" (30 : Nat) "JoinLoom$Tree" "to" "[I") ∈ lw_all := lw_g (lw_at lw_m1 87 rfl) rfl
theorem q144 : (Jvm.Cond.fieldLink "JoinLoom$Tree" (69 : Nat) "JoinLoom$Tree" "level" "I") ∈ lw_all := lw_g (lw_at lw_m1 88 rfl) rfl
theorem q145 : (Jvm.Cond.lays "JoinLoom$Tree" "JoinLoom$Tree" "has" "LJoinLoom$Has;") ∈ lw_all := lw_g (lw_at lw_m1 89 rfl) rfl
theorem q146 : (Jvm.Cond.soleField "JoinLoom$Tree" "has") ∈ lw_all := lw_g (lw_at lw_m1 90 rfl) rfl
theorem q147 : (Jvm.Cond.laysFinal "JoinLoom$Tree" "JoinLoom$Tree" "rows" "[I") ∈ lw_all := lw_g (lw_at lw_m1 91 rfl) rfl
theorem q148 : (Jvm.Cond.soleField "JoinLoom$Tree" "rows") ∈ lw_all := lw_g (lw_at lw_m1 92 rfl) rfl
theorem q149 : (Jvm.Cond.lays "JoinLoom$Tree" "JoinLoom$Tree" "many" "I") ∈ lw_all := lw_g (lw_at lw_m1 93 rfl) rfl
theorem q150 : (Jvm.Cond.soleField "JoinLoom$Tree" "many") ∈ lw_all := lw_g (lw_at lw_m1 94 rfl) rfl
theorem q151 : (Jvm.Cond.laysFinal "JoinLoom$Tree" "JoinLoom$Tree" "name" "[I") ∈ lw_all := lw_g (lw_at lw_m1 95 rfl) rfl
theorem q152 : (Jvm.Cond.soleField "JoinLoom$Tree" "name") ∈ lw_all := lw_g (lw_at lw_m1 96 rfl) rfl
theorem q153 : (Jvm.Cond.laysFinal "JoinLoom$Tree" "JoinLoom$Tree" "column" "[I") ∈ lw_all := lw_g (lw_at lw_m1 97 rfl) rfl
theorem q154 : (Jvm.Cond.soleField "JoinLoom$Tree" "column") ∈ lw_all := lw_g (lw_at lw_m1 98 rfl) rfl
theorem q155 : (Jvm.Cond.lays "JoinLoom$Tree" "JoinLoom$Tree" "deep" "I") ∈ lw_all := lw_g (lw_at lw_m1 99 rfl) rfl
theorem q156 : (Jvm.Cond.soleField "JoinLoom$Tree" "deep") ∈ lw_all := lw_g (lw_at lw_m1 100 rfl) rfl
theorem q157 : (Jvm.Cond.laysFinal "JoinLoom$Tree" "JoinLoom$Tree" "low" "[I") ∈ lw_all := lw_g (lw_at lw_m1 101 rfl) rfl
theorem q158 : (Jvm.Cond.soleField "JoinLoom$Tree" "low") ∈ lw_all := lw_g (lw_at lw_m1 102 rfl) rfl
theorem q159 : (Jvm.Cond.laysFinal "JoinLoom$Tree" "JoinLoom$Tree" "high" "[I") ∈ lw_all := lw_g (lw_at lw_m1 103 rfl) rfl
theorem q160 : (Jvm.Cond.soleField "JoinLoom$Tree" "high") ∈ lw_all := lw_g (lw_at lw_m1 104 rfl) rfl
theorem q161 : (Jvm.Cond.laysFinal "JoinLoom$Tree" "JoinLoom$Tree" "from" "[I") ∈ lw_all := lw_g (lw_at lw_m1 105 rfl) rfl
theorem q162 : (Jvm.Cond.soleField "JoinLoom$Tree" "from") ∈ lw_all := lw_g (lw_at lw_m1 106 rfl) rfl
theorem q163 : (Jvm.Cond.laysFinal "JoinLoom$Tree" "JoinLoom$Tree" "to" "[I") ∈ lw_all := lw_g (lw_at lw_m1 107 rfl) rfl
theorem q164 : (Jvm.Cond.soleField "JoinLoom$Tree" "to") ∈ lw_all := lw_g (lw_at lw_m1 108 rfl) rfl
theorem q165 : (Jvm.Cond.lays "JoinLoom$Tree" "JoinLoom$Tree" "level" "I") ∈ lw_all := lw_g (lw_at lw_m1 109 rfl) rfl
theorem q166 : (Jvm.Cond.soleField "JoinLoom$Tree" "level") ∈ lw_all := lw_g (lw_at lw_m1 110 rfl) rfl
theorem q167 : (Jvm.Cond.superclass "JoinLoom$Tree" "java/lang/Object") ∈ lw_all := lw_g (lw_at lw_m1 111 rfl) rfl
theorem q250 : (Jvm.Cond.fieldLinkNest "JoinLoom$Tree" (58 : Nat) "JoinLoom$Table" "many" "I" "JoinLoom") ∈ lw_tbl := lw_at lw_m1 194 rfl
theorem q366 : (Jvm.Cond.fieldLink "JoinLoom$Tree" (54 : Nat) "JoinLoom$Has" "table" "LJoinLoom$Table;") ∈ lw_all := lw_g (lw_at lw_m2 70 rfl) rfl
theorem q371 : (Jvm.Cond.fieldLink "JoinLoom$Tree" (49 : Nat) "JoinLoom$Has" "name" "[I") ∈ lw_all := lw_g (lw_at lw_m2 75 rfl) rfl
theorem q374 : (Jvm.Cond.fieldLink "JoinLoom$Tree" (76 : Nat) "JoinLoom$Has" "told" "[I") ∈ lw_all := lw_g (lw_at lw_m2 78 rfl) rfl
theorem q377 : (Jvm.Cond.fieldLink "JoinLoom$Tree" (44 : Nat) "JoinLoom$Has" "places" "I") ∈ lw_all := lw_g (lw_at lw_m2 81 rfl) rfl
theorem q507 : (Jvm.Cond.instanceMethod ({ cls := "JoinLoom$Tree", name := "is", desc := "(LJoinLoom$Has;[II)V" } : Jvm.MethodName)) ∈ lw_all := lw_g (lw_at lw_m2 211 rfl) rfl
theorem q508 : (Jvm.Cond.selects "JoinLoom$Tree" ({ cls := "JoinLoom$Tree", name := "is", desc := "(LJoinLoom$Has;[II)V" } : Jvm.MethodName) ({ cls := "JoinLoom$Tree", name := "is", desc := "(LJoinLoom$Has;[II)V" } : Jvm.MethodName)) ∈ lw_all := lw_g (lw_at lw_m2 212 rfl) rfl
theorem q509 : (Jvm.Cond.code ({ cls := "JoinLoom$Tree", name := "is", desc := "(LJoinLoom$Has;[II)V" } : Jvm.MethodName) prog_11_method_2_code (6 : Nat) (Option.none : Option Jvm.ClassFile.FieldType)) ∈ lw_all := lw_g (lw_at lw_m2 213 rfl) rfl
theorem q510 : (Jvm.Cond.methodLink "JoinLoom$Tree" (50 : Nat) ({ cls := "JoinLoom$Has", name := "names", desc := "()I" } : Jvm.MethodName)) ∈ lw_all := lw_g (lw_at lw_m2 214 rfl) rfl
theorem q511 : (Jvm.Cond.methodLink "JoinLoom$Tree" (61 : Nat) ({ cls := "JoinLoom$Tree", name := "isIn", desc := "(I)Z" } : Jvm.MethodName)) ∈ lw_all := lw_g (lw_at lw_m2 215 rfl) rfl
theorem q512 : (Jvm.Cond.privateMethod ({ cls := "JoinLoom$Tree", name := "isIn", desc := "(I)Z" } : Jvm.MethodName)) ∈ lw_tbl := lw_at lw_m2 216 rfl
theorem q513 : (Jvm.Cond.instanceMethod ({ cls := "JoinLoom$Tree", name := "isIn", desc := "(I)Z" } : Jvm.MethodName)) ∈ lw_all := lw_g (lw_at lw_m2 217 rfl) rfl
theorem q514 : (Jvm.Cond.code ({ cls := "JoinLoom$Tree", name := "isIn", desc := "(I)Z" } : Jvm.MethodName) prog_11_method_3_code (5 : Nat) (Option.some Jvm.ClassFile.FieldType.boolean)) ∈ lw_all := lw_g (lw_at lw_m2 218 rfl) rfl
theorem q515 : (Jvm.Cond.methodLink "JoinLoom$Tree" (72 : Nat) ({ cls := "JoinLoom$Table", name := "at", desc := "(II)I" } : Jvm.MethodName)) ∈ lw_all := lw_g (lw_at lw_m2 219 rfl) rfl
theorem q516 : (Jvm.Cond.methodLink "JoinLoom$Tree" (65 : Nat) ({ cls := "JoinLoom$Tree", name := "comes", desc := "(I)V" } : Jvm.MethodName)) ∈ lw_all := lw_g (lw_at lw_m2 220 rfl) rfl
theorem q517 : (Jvm.Cond.privateMethod ({ cls := "JoinLoom$Tree", name := "comes", desc := "(I)V" } : Jvm.MethodName)) ∈ lw_tbl := lw_at lw_m2 221 rfl
theorem q518 : (Jvm.Cond.instanceMethod ({ cls := "JoinLoom$Tree", name := "comes", desc := "(I)V" } : Jvm.MethodName)) ∈ lw_all := lw_g (lw_at lw_m2 222 rfl) rfl
theorem q519 : (Jvm.Cond.code ({ cls := "JoinLoom$Tree", name := "comes", desc := "(I)V" } : Jvm.MethodName) prog_11_method_5_code (3 : Nat) (Option.none : Option Jvm.ClassFile.FieldType)) ∈ lw_all := lw_g (lw_at lw_m2 223 rfl) rfl
theorem q520 : (Jvm.Cond.methodLink "JoinLoom$Tree" (83 : Nat) ({ cls := "JoinLoom$Tree", name := "compare", desc := "(II)I" } : Jvm.MethodName)) ∈ lw_all := lw_g (lw_at lw_m2 224 rfl) rfl
theorem q521 : (Jvm.Cond.privateMethod ({ cls := "JoinLoom$Tree", name := "compare", desc := "(II)I" } : Jvm.MethodName)) ∈ lw_tbl := lw_at lw_m2 225 rfl
theorem q522 : (Jvm.Cond.instanceMethod ({ cls := "JoinLoom$Tree", name := "compare", desc := "(II)I" } : Jvm.MethodName)) ∈ lw_all := lw_g (lw_at lw_m2 226 rfl) rfl
theorem q523 : (Jvm.Cond.code ({ cls := "JoinLoom$Tree", name := "compare", desc := "(II)I" } : Jvm.MethodName) prog_11_method_4_code (6 : Nat) (Option.some Jvm.ClassFile.FieldType.int)) ∈ lw_all := lw_g (lw_at lw_m2 227 rfl) rfl
theorem q524 : (Jvm.Cond.methodLinkNest "JoinLoom$Tree" (79 : Nat) ({ cls := "JoinLoom", name := "rank", desc := "(I)J" } : Jvm.MethodName) "JoinLoom") ∈ lw_tbl := lw_at lw_m2 228 rfl
theorem q543 : (Jvm.Cond.instanceMethod ({ cls := "JoinLoom$Tree", name := "hasNext", desc := "(I)Z" } : Jvm.MethodName)) ∈ lw_all := lw_g (lw_at lw_m3 7 rfl) rfl
theorem q544 : (Jvm.Cond.selects "JoinLoom$Tree" ({ cls := "JoinLoom$Tree", name := "hasNext", desc := "(I)Z" } : Jvm.MethodName) ({ cls := "JoinLoom$Tree", name := "hasNext", desc := "(I)Z" } : Jvm.MethodName)) ∈ lw_all := lw_g (lw_at lw_m3 8 rfl) rfl
theorem q545 : (Jvm.Cond.code ({ cls := "JoinLoom$Tree", name := "hasNext", desc := "(I)Z" } : Jvm.MethodName) prog_11_method_6_code (2 : Nat) (Option.some Jvm.ClassFile.FieldType.boolean)) ∈ lw_all := lw_g (lw_at lw_m3 9 rfl) rfl
theorem q547 : (Jvm.Cond.instanceMethod ({ cls := "JoinLoom$Tree", name := "opens", desc := "()V" } : Jvm.MethodName)) ∈ lw_all := lw_g (lw_at lw_m3 11 rfl) rfl
theorem q548 : (Jvm.Cond.selects "JoinLoom$Tree" ({ cls := "JoinLoom$Tree", name := "opens", desc := "()V" } : Jvm.MethodName) ({ cls := "JoinLoom$Tree", name := "opens", desc := "()V" } : Jvm.MethodName)) ∈ lw_all := lw_g (lw_at lw_m3 12 rfl) rfl
theorem q549 : (Jvm.Cond.code ({ cls := "JoinLoom$Tree", name := "opens", desc := "()V" } : Jvm.MethodName) prog_11_method_10_code (1 : Nat) (Option.none : Option Jvm.ClassFile.FieldType)) ∈ lw_all := lw_g (lw_at lw_m3 13 rfl) rfl
theorem q550 : (Jvm.Cond.methodLink "JoinLoom$Tree" (86 : Nat) ({ cls := "JoinLoom$Tree", name := "spans", desc := "()V" } : Jvm.MethodName)) ∈ lw_all := lw_g (lw_at lw_m3 14 rfl) rfl
theorem q551 : (Jvm.Cond.privateMethod ({ cls := "JoinLoom$Tree", name := "spans", desc := "()V" } : Jvm.MethodName)) ∈ lw_tbl := lw_at lw_m3 15 rfl
theorem q552 : (Jvm.Cond.instanceMethod ({ cls := "JoinLoom$Tree", name := "spans", desc := "()V" } : Jvm.MethodName)) ∈ lw_all := lw_g (lw_at lw_m3 16 rfl) rfl
theorem q553 : (Jvm.Cond.code ({ cls := "JoinLoom$Tree", name := "spans", desc := "()V" } : Jvm.MethodName) prog_11_method_11_code (1 : Nat) (Option.none : Option Jvm.ClassFile.FieldType)) ∈ lw_all := lw_g (lw_at lw_m3 17 rfl) rfl
theorem q554 : (Jvm.Cond.methodLink "JoinLoom$Tree" (89 : Nat) ({ cls := "JoinLoom$Tree", name := "key", desc := "(I)J" } : Jvm.MethodName)) ∈ lw_all := lw_g (lw_at lw_m3 18 rfl) rfl
theorem q555 : (Jvm.Cond.privateMethod ({ cls := "JoinLoom$Tree", name := "key", desc := "(I)J" } : Jvm.MethodName)) ∈ lw_tbl := lw_at lw_m3 19 rfl
theorem q556 : (Jvm.Cond.instanceMethod ({ cls := "JoinLoom$Tree", name := "key", desc := "(I)J" } : Jvm.MethodName)) ∈ lw_all := lw_g (lw_at lw_m3 20 rfl) rfl
theorem q557 : (Jvm.Cond.code ({ cls := "JoinLoom$Tree", name := "key", desc := "(I)J" } : Jvm.MethodName) prog_11_method_7_code (2 : Nat) (Option.some Jvm.ClassFile.FieldType.long)) ∈ lw_all := lw_g (lw_at lw_m3 21 rfl) rfl
theorem q562 : (Jvm.Cond.instanceMethod ({ cls := "JoinLoom$Tree", name := "isAtEnd", desc := "()Z" } : Jvm.MethodName)) ∈ lw_all := lw_g (lw_at lw_m3 26 rfl) rfl
theorem q563 : (Jvm.Cond.selects "JoinLoom$Tree" ({ cls := "JoinLoom$Tree", name := "isAtEnd", desc := "()Z" } : Jvm.MethodName) ({ cls := "JoinLoom$Tree", name := "isAtEnd", desc := "()Z" } : Jvm.MethodName)) ∈ lw_all := lw_g (lw_at lw_m3 27 rfl) rfl
theorem q564 : (Jvm.Cond.code ({ cls := "JoinLoom$Tree", name := "isAtEnd", desc := "()Z" } : Jvm.MethodName) prog_11_method_9_code (1 : Nat) (Option.some Jvm.ClassFile.FieldType.boolean)) ∈ lw_all := lw_g (lw_at lw_m3 28 rfl) rfl
theorem q566 : (Jvm.Cond.instanceMethod ({ cls := "JoinLoom$Tree", name := "value", desc := "()I" } : Jvm.MethodName)) ∈ lw_all := lw_g (lw_at lw_m3 30 rfl) rfl
theorem q567 : (Jvm.Cond.selects "JoinLoom$Tree" ({ cls := "JoinLoom$Tree", name := "value", desc := "()I" } : Jvm.MethodName) ({ cls := "JoinLoom$Tree", name := "value", desc := "()I" } : Jvm.MethodName)) ∈ lw_all := lw_g (lw_at lw_m3 31 rfl) rfl
theorem q568 : (Jvm.Cond.code ({ cls := "JoinLoom$Tree", name := "value", desc := "()I" } : Jvm.MethodName) prog_11_method_8_code (1 : Nat) (Option.some Jvm.ClassFile.FieldType.int)) ∈ lw_all := lw_g (lw_at lw_m3 32 rfl) rfl
theorem q571 : (Jvm.Cond.instanceMethod ({ cls := "JoinLoom$Tree", name := "seeks", desc := "(J)V" } : Jvm.MethodName)) ∈ lw_all := lw_g (lw_at lw_m3 35 rfl) rfl
theorem q572 : (Jvm.Cond.selects "JoinLoom$Tree" ({ cls := "JoinLoom$Tree", name := "seeks", desc := "(J)V" } : Jvm.MethodName) ({ cls := "JoinLoom$Tree", name := "seeks", desc := "(J)V" } : Jvm.MethodName)) ∈ lw_all := lw_g (lw_at lw_m3 36 rfl) rfl
theorem q573 : (Jvm.Cond.code ({ cls := "JoinLoom$Tree", name := "seeks", desc := "(J)V" } : Jvm.MethodName) prog_11_method_13_code (8 : Nat) (Option.none : Option Jvm.ClassFile.FieldType)) ∈ lw_all := lw_g (lw_at lw_m3 37 rfl) rfl
theorem q574 : (Jvm.Cond.methodLink "JoinLoom$Tree" (92 : Nat) ({ cls := "java/lang/Math", name := "min", desc := "(II)I" } : Jvm.MethodName)) ∈ lw_all := lw_g (lw_at lw_m3 38 rfl) rfl
theorem q622 : (Jvm.Cond.instanceMethod ({ cls := "JoinLoom$Tree", name := "down", desc := "()V" } : Jvm.MethodName)) ∈ lw_all := lw_g (lw_at lw_m3 86 rfl) rfl
theorem q623 : (Jvm.Cond.selects "JoinLoom$Tree" ({ cls := "JoinLoom$Tree", name := "down", desc := "()V" } : Jvm.MethodName) ({ cls := "JoinLoom$Tree", name := "down", desc := "()V" } : Jvm.MethodName)) ∈ lw_all := lw_g (lw_at lw_m3 87 rfl) rfl
theorem q624 : (Jvm.Cond.code ({ cls := "JoinLoom$Tree", name := "down", desc := "()V" } : Jvm.MethodName) prog_11_method_14_code (1 : Nat) (Option.none : Option Jvm.ClassFile.FieldType)) ∈ lw_all := lw_g (lw_at lw_m3 88 rfl) rfl
theorem q626 : (Jvm.Cond.instanceMethod ({ cls := "JoinLoom$Tree", name := "up", desc := "()V" } : Jvm.MethodName)) ∈ lw_all := lw_g (lw_at lw_m3 90 rfl) rfl
theorem q627 : (Jvm.Cond.selects "JoinLoom$Tree" ({ cls := "JoinLoom$Tree", name := "up", desc := "()V" } : Jvm.MethodName) ({ cls := "JoinLoom$Tree", name := "up", desc := "()V" } : Jvm.MethodName)) ∈ lw_all := lw_g (lw_at lw_m3 91 rfl) rfl
theorem q628 : (Jvm.Cond.code ({ cls := "JoinLoom$Tree", name := "up", desc := "()V" } : Jvm.MethodName) prog_11_method_15_code (1 : Nat) (Option.none : Option Jvm.ClassFile.FieldType)) ∈ lw_all := lw_g (lw_at lw_m3 92 rfl) rfl
theorem q630 : (Jvm.Cond.instanceMethod ({ cls := "JoinLoom$Tree", name := "next", desc := "()V" } : Jvm.MethodName)) ∈ lw_all := lw_g (lw_at lw_m3 94 rfl) rfl
theorem q631 : (Jvm.Cond.selects "JoinLoom$Tree" ({ cls := "JoinLoom$Tree", name := "next", desc := "()V" } : Jvm.MethodName) ({ cls := "JoinLoom$Tree", name := "next", desc := "()V" } : Jvm.MethodName)) ∈ lw_all := lw_g (lw_at lw_m3 95 rfl) rfl
theorem q632 : (Jvm.Cond.code ({ cls := "JoinLoom$Tree", name := "next", desc := "()V" } : Jvm.MethodName) prog_11_method_12_code (1 : Nat) (Option.none : Option Jvm.ClassFile.FieldType)) ∈ lw_all := lw_g (lw_at lw_m3 96 rfl) rfl
theorem in_X3 : ∀ w ∈ wsX30, w ∈ lw_all := lw_in wsX30 [145, 147, 149, 151, 153, 155, 157, 159, 161, 163, 165] (by decide +kernel) (by decide +kernel)
