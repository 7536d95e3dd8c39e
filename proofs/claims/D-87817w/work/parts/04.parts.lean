/-! JoinLoom$Part -/
set_option maxRecDepth 100000
def RX7 : String := "JoinLoom$Part"
abbrev cX7_init : ByteArray := prog_7_method_1_code
def yX7_init : MethodName := ⟨RX7, "<init>", "(I)V"⟩
def dkwX7_init_0 : List UInt8 := [42, 183, 0, 1, 42, 27, 181, 0, 7, 177]
abbrev dktX7_init_0 : List UInt8 := dkwX7_init_0 ++ []
theorem dksX7_init_0 : cX7_init.data.toList.drop 0 = dktX7_init_0 := by decide +kernel
theorem dX7_init_0 : decode cX7_init 0 = .ok (.aload_n 0, 1) := dk_42 (dk_at dksX7_init_0 0 rfl rfl)
theorem dX7_init_1 : decode cX7_init 1 = .ok (.invokespecial 1, 3) := dk_183 0 1 (dk_at dksX7_init_0 1 rfl rfl)
theorem dX7_init_4 : decode cX7_init 4 = .ok (.aload_n 0, 1) := dk_42 (dk_at dksX7_init_0 4 rfl rfl)
theorem dX7_init_5 : decode cX7_init 5 = .ok (.iload_n 1, 1) := dk_27 (dk_at dksX7_init_0 5 rfl rfl)
theorem dX7_init_6 : decode cX7_init 6 = .ok (.putfield 7, 3) := dk_181 0 7 (dk_at dksX7_init_0 6 rfl rfl)
theorem dX7_init_9 : decode cX7_init 9 = .ok (.return_, 1) := dk_177 (dk_at dksX7_init_0 9 rfl rfl)
abbrev cX7_isWhole : ByteArray := prog_7_method_4_code
def yX7_isWhole : MethodName := ⟨RX7, "isWhole", "()Z"⟩
theorem dX7_isWhole_0 : decode cX7_isWhole 0 = .ok (.iconst 1, 1) := by decide +kernel
theorem dX7_isWhole_1 : decode cX7_isWhole 1 = .ok (.ireturn, 1) := by decide +kernel
theorem q64 : (Jvm.Cond.initialized "JoinLoom$Part") ∈ lw_all := lw_g (lw_at lw_m1 8 rfl) rfl
theorem q362 : (Jvm.Cond.instanceMethod ({ cls := "JoinLoom$Part", name := "<init>", desc := "(I)V" } : Jvm.MethodName)) ∈ lw_all := lw_g (lw_at lw_m2 66 rfl) rfl
theorem q363 : (Jvm.Cond.code ({ cls := "JoinLoom$Part", name := "<init>", desc := "(I)V" } : Jvm.MethodName) prog_7_method_1_code (2 : Nat) (Option.none : Option Jvm.ClassFile.FieldType)) ∈ lw_all := lw_g (lw_at lw_m2 67 rfl) rfl
theorem q364 : (Jvm.Cond.methodLink "JoinLoom$Part" (1 : Nat) ({ cls := "java/lang/Object", name := "<init>", desc := "()V" } : Jvm.MethodName)) ∈ lw_all := lw_g (lw_at lw_m2 68 rfl) rfl
theorem q379 : (Jvm.Cond.fieldLink "JoinLoom$Part" (7 : Nat) "JoinLoom$Part" "kind" "I") ∈ lw_all := lw_g (lw_at lw_m2 83 rfl) rfl
theorem q395 : (Jvm.Cond.soleField "JoinLoom$Part" "kind") ∈ lw_all := lw_g (lw_at lw_m2 99 rfl) rfl
theorem q481 : (Jvm.Cond.instanceMethod ({ cls := "JoinLoom$Part", name := "isWhole", desc := "()Z" } : Jvm.MethodName)) ∈ lw_all := lw_g (lw_at lw_m2 185 rfl) rfl
theorem q482 : (Jvm.Cond.sameMethod "JoinLoom$Part" "JoinLoom$Part" "isWhole" "()Z") ∈ lw_all := lw_g (lw_at lw_m2 186 rfl) rfl
theorem q489 : (Jvm.Cond.code ({ cls := "JoinLoom$Part", name := "isWhole", desc := "()Z" } : Jvm.MethodName) prog_7_method_4_code (1 : Nat) (Option.some Jvm.ClassFile.FieldType.boolean)) ∈ lw_all := lw_g (lw_at lw_m2 193 rfl) rfl
theorem q491 : (Jvm.Cond.declares ({ cls := "JoinLoom$Part", name := "names", desc := "()I" } : Jvm.MethodName)) ∈ lw_tbl := lw_at lw_m2 195 rfl
theorem q492 : (Jvm.Cond.sameMethod "JoinLoom$Part" "JoinLoom$Part" "names" "()I") ∈ lw_all := lw_g (lw_at lw_m2 196 rfl) rfl
theorem q583 : (Jvm.Cond.declares ({ cls := "JoinLoom$Part", name := "isTrue", desc := "([I)Z" } : Jvm.MethodName)) ∈ lw_tbl := lw_at lw_m3 47 rfl
theorem q584 : (Jvm.Cond.sameMethod "JoinLoom$Part" "JoinLoom$Part" "isTrue" "([I)Z") ∈ lw_all := lw_g (lw_at lw_m3 48 rfl) rfl
/-! JoinLoom$Has -/
set_option maxRecDepth 100000
def RX8 : String := "JoinLoom$Has"
def TX8 : u_T := fun k => match k with
  | 0 => ("JoinLoom$Part", "kind", "I", true)
  | 1 => ("JoinLoom$Has", "table", "LJoinLoom$Table;", true)
  | 2 => ("JoinLoom$Has", "tableNumber", "I", true)
  | 3 => ("JoinLoom$Has", "name", "[I", true)
  | 4 => ("JoinLoom$Has", "told", "[I", true)
  | _ => ("JoinLoom$Has", "places", "I", false)
def tyX8 : Nat → FieldType := fun k => match k with
  | 0 => .int
  | 1 => .object "JoinLoom$Table"
  | 2 => .int
  | 3 => .array .int
  | 4 => .array .int
  | _ => .int
abbrev wsX80 : List Cond := u_ws RX8 TX8 6
theorem nmX8 : ∀ a, a < 6 → ∀ b, b < 6 → a ≠ b → (TX8 a).2.1 ≠ (TX8 b).2.1 := by decide +kernel
theorem tyX8_ok : ∀ k, k < 6 → parseFieldDescriptor (TX8 k).2.2.1 = some (tyX8 k) := by decide +kernel
abbrev cX8_init : ByteArray := prog_3_method_1_code
def yX8_init : MethodName := ⟨RX8, "<init>", "(ILJoinLoom$Table;I)V"⟩
def dkwX8_init_1 : List UInt8 := [42, 29, 181, 0, 22, 177]
abbrev dktX8_init_1 : List UInt8 := dkwX8_init_1 ++ []
def dkwX8_init_0 : List UInt8 := [42, 27, 183, 0, 3, 42, 6, 188, 10, 181, 0, 9, 42, 6, 188, 10, 181, 0, 15, 42, 44, 181, 0, 18]
abbrev dktX8_init_0 : List UInt8 := dkwX8_init_0 ++ dktX8_init_1
theorem dksX8_init_0 : cX8_init.data.toList.drop 0 = dktX8_init_0 := by decide +kernel
theorem dksX8_init_1 : cX8_init.data.toList.drop 24 = dktX8_init_1 := dk_seg dksX8_init_0 24 rfl rfl
theorem dX8_init_0 : decode cX8_init 0 = .ok (.aload_n 0, 1) := dk_42 (dk_at dksX8_init_0 0 rfl rfl)
theorem dX8_init_1 : decode cX8_init 1 = .ok (.iload_n 1, 1) := dk_27 (dk_at dksX8_init_0 1 rfl rfl)
theorem dX8_init_2 : decode cX8_init 2 = .ok (.invokespecial 3, 3) := dk_183 0 3 (dk_at dksX8_init_0 2 rfl rfl)
theorem dX8_init_5 : decode cX8_init 5 = .ok (.aload_n 0, 1) := dk_42 (dk_at dksX8_init_0 5 rfl rfl)
theorem dX8_init_6 : decode cX8_init 6 = .ok (.iconst 3, 1) := dk_6 (dk_at dksX8_init_0 6 rfl rfl)
theorem dX8_init_7 : decode cX8_init 7 = .ok (.newarray .int, 2) := dk_188_10 (dk_at dksX8_init_0 7 rfl rfl)
theorem dX8_init_9 : decode cX8_init 9 = .ok (.putfield 9, 3) := dk_181 0 9 (dk_at dksX8_init_0 9 rfl rfl)
theorem dX8_init_12 : decode cX8_init 12 = .ok (.aload_n 0, 1) := dk_42 (dk_at dksX8_init_0 12 rfl rfl)
theorem dX8_init_13 : decode cX8_init 13 = .ok (.iconst 3, 1) := dk_6 (dk_at dksX8_init_0 13 rfl rfl)
theorem dX8_init_14 : decode cX8_init 14 = .ok (.newarray .int, 2) := dk_188_10 (dk_at dksX8_init_0 14 rfl rfl)
theorem dX8_init_16 : decode cX8_init 16 = .ok (.putfield 15, 3) := dk_181 0 15 (dk_at dksX8_init_0 16 rfl rfl)
theorem dX8_init_19 : decode cX8_init 19 = .ok (.aload_n 0, 1) := dk_42 (dk_at dksX8_init_0 19 rfl rfl)
theorem dX8_init_20 : decode cX8_init 20 = .ok (.aload_n 2, 1) := dk_44 (dk_at dksX8_init_0 20 rfl rfl)
theorem dX8_init_21 : decode cX8_init 21 = .ok (.putfield 18, 3) := dk_181 0 18 (dk_at dksX8_init_0 21 rfl rfl)
theorem dX8_init_24 : decode cX8_init 24 = .ok (.aload_n 0, 1) := dk_42 (dk_at dksX8_init_1 0 rfl rfl)
theorem dX8_init_25 : decode cX8_init 25 = .ok (.iload_n 3, 1) := dk_29 (dk_at dksX8_init_1 1 rfl rfl)
theorem dX8_init_26 : decode cX8_init 26 = .ok (.putfield 22, 3) := dk_181 0 22 (dk_at dksX8_init_1 2 rfl rfl)
theorem dX8_init_29 : decode cX8_init 29 = .ok (.return_, 1) := dk_177 (dk_at dksX8_init_1 5 rfl rfl)
abbrev cX8_isWhole : ByteArray := prog_3_method_3_code
def yX8_isWhole : MethodName := ⟨RX8, "isWhole", "()Z"⟩
def dkwX8_isWhole_0 : List UInt8 := [42, 180, 0, 26, 42, 180, 0, 18, 180, 0, 29, 160, 0, 7, 4, 167, 0, 4, 3, 172]
abbrev dktX8_isWhole_0 : List UInt8 := dkwX8_isWhole_0 ++ []
theorem dksX8_isWhole_0 : cX8_isWhole.data.toList.drop 0 = dktX8_isWhole_0 := by decide +kernel
theorem dX8_isWhole_0 : decode cX8_isWhole 0 = .ok (.aload_n 0, 1) := dk_42 (dk_at dksX8_isWhole_0 0 rfl rfl)
theorem dX8_isWhole_1 : decode cX8_isWhole 1 = .ok (.getfield 26, 3) := dk_180 0 26 (dk_at dksX8_isWhole_0 1 rfl rfl)
theorem dX8_isWhole_4 : decode cX8_isWhole 4 = .ok (.aload_n 0, 1) := dk_42 (dk_at dksX8_isWhole_0 4 rfl rfl)
theorem dX8_isWhole_5 : decode cX8_isWhole 5 = .ok (.getfield 18, 3) := dk_180 0 18 (dk_at dksX8_isWhole_0 5 rfl rfl)
theorem dX8_isWhole_8 : decode cX8_isWhole 8 = .ok (.getfield 29, 3) := dk_180 0 29 (dk_at dksX8_isWhole_0 8 rfl rfl)
theorem dX8_isWhole_11 : decode cX8_isWhole 11 = .ok (.if_icmp .ne 7, 3) := dk_160 0 7 (dk_at dksX8_isWhole_0 11 rfl rfl)
theorem dX8_isWhole_14 : decode cX8_isWhole 14 = .ok (.iconst 1, 1) := dk_4 (dk_at dksX8_isWhole_0 14 rfl rfl)
theorem dX8_isWhole_15 : decode cX8_isWhole 15 = .ok (.goto 4, 3) := dk_167 0 4 (dk_at dksX8_isWhole_0 15 rfl rfl)
theorem dX8_isWhole_18 : decode cX8_isWhole 18 = .ok (.iconst 0, 1) := dk_3 (dk_at dksX8_isWhole_0 18 rfl rfl)
theorem dX8_isWhole_19 : decode cX8_isWhole 19 = .ok (.ireturn, 1) := dk_172 (dk_at dksX8_isWhole_0 19 rfl rfl)
abbrev cX8_names : ByteArray := prog_3_method_2_code
def yX8_names : MethodName := ⟨RX8, "names", "()I"⟩
def dkwX8_names_1 : List UInt8 := [42, 180, 0, 9, 28, 46, 120, 128, 60, 132, 2, 1, 167, 255, 224, 27, 172]
abbrev dktX8_names_1 : List UInt8 := dkwX8_names_1 ++ []
def dkwX8_names_0 : List UInt8 := [3, 60, 3, 61, 28, 42, 180, 0, 26, 162, 0, 30, 42, 180, 0, 9, 28, 46, 2, 159, 0, 14, 27, 4]
abbrev dktX8_names_0 : List UInt8 := dkwX8_names_0 ++ dktX8_names_1
theorem dksX8_names_0 : cX8_names.data.toList.drop 0 = dktX8_names_0 := by decide +kernel
theorem dksX8_names_1 : cX8_names.data.toList.drop 24 = dktX8_names_1 := dk_seg dksX8_names_0 24 rfl rfl
theorem dX8_names_0 : decode cX8_names 0 = .ok (.iconst 0, 1) := dk_3 (dk_at dksX8_names_0 0 rfl rfl)
theorem dX8_names_1 : decode cX8_names 1 = .ok (.istore_n 1, 1) := dk_60 (dk_at dksX8_names_0 1 rfl rfl)
theorem dX8_names_2 : decode cX8_names 2 = .ok (.iconst 0, 1) := dk_3 (dk_at dksX8_names_0 2 rfl rfl)
theorem dX8_names_3 : decode cX8_names 3 = .ok (.istore_n 2, 1) := dk_61 (dk_at dksX8_names_0 3 rfl rfl)
theorem dX8_names_4 : decode cX8_names 4 = .ok (.iload_n 2, 1) := dk_28 (dk_at dksX8_names_0 4 rfl rfl)
theorem dX8_names_5 : decode cX8_names 5 = .ok (.aload_n 0, 1) := dk_42 (dk_at dksX8_names_0 5 rfl rfl)
theorem dX8_names_6 : decode cX8_names 6 = .ok (.getfield 26, 3) := dk_180 0 26 (dk_at dksX8_names_0 6 rfl rfl)
theorem dX8_names_9 : decode cX8_names 9 = .ok (.if_icmp .ge 30, 3) := dk_162 0 30 (dk_at dksX8_names_0 9 rfl rfl)
theorem dX8_names_12 : decode cX8_names 12 = .ok (.aload_n 0, 1) := dk_42 (dk_at dksX8_names_0 12 rfl rfl)
theorem dX8_names_13 : decode cX8_names 13 = .ok (.getfield 9, 3) := dk_180 0 9 (dk_at dksX8_names_0 13 rfl rfl)
theorem dX8_names_16 : decode cX8_names 16 = .ok (.iload_n 2, 1) := dk_28 (dk_at dksX8_names_0 16 rfl rfl)
theorem dX8_names_17 : decode cX8_names 17 = .ok (.iaload, 1) := dk_46 (dk_at dksX8_names_0 17 rfl rfl)
theorem dX8_names_18 : decode cX8_names 18 = .ok (.iconst (-1), 1) := dk_2 (dk_at dksX8_names_0 18 rfl rfl)
theorem dX8_names_19 : decode cX8_names 19 = .ok (.if_icmp .eq 14, 3) := dk_159 0 14 (dk_at dksX8_names_0 19 rfl rfl)
theorem dX8_names_22 : decode cX8_names 22 = .ok (.iload_n 1, 1) := dk_27 (dk_at dksX8_names_0 22 rfl rfl)
theorem dX8_names_23 : decode cX8_names 23 = .ok (.iconst 1, 1) := dk_4 (dk_at dksX8_names_0 23 rfl rfl)
theorem dX8_names_24 : decode cX8_names 24 = .ok (.aload_n 0, 1) := dk_42 (dk_at dksX8_names_1 0 rfl rfl)
theorem dX8_names_25 : decode cX8_names 25 = .ok (.getfield 9, 3) := dk_180 0 9 (dk_at dksX8_names_1 1 rfl rfl)
theorem dX8_names_28 : decode cX8_names 28 = .ok (.iload_n 2, 1) := dk_28 (dk_at dksX8_names_1 4 rfl rfl)
theorem dX8_names_29 : decode cX8_names 29 = .ok (.iaload, 1) := dk_46 (dk_at dksX8_names_1 5 rfl rfl)
theorem dX8_names_30 : decode cX8_names 30 = .ok (.ishl, 1) := dk_120 (dk_at dksX8_names_1 6 rfl rfl)
theorem dX8_names_31 : decode cX8_names 31 = .ok (.ior, 1) := dk_128 (dk_at dksX8_names_1 7 rfl rfl)
theorem dX8_names_32 : decode cX8_names 32 = .ok (.istore_n 1, 1) := dk_60 (dk_at dksX8_names_1 8 rfl rfl)
theorem dX8_names_33 : decode cX8_names 33 = .ok (.iinc 2 1, 3) := dk_132 2 1 (dk_at dksX8_names_1 9 rfl rfl)
theorem dX8_names_36 : decode cX8_names 36 = .ok (.goto (-32), 3) := dk_167 255 224 (dk_at dksX8_names_1 12 rfl rfl)
theorem dX8_names_39 : decode cX8_names 39 = .ok (.iload_n 1, 1) := dk_27 (dk_at dksX8_names_1 15 rfl rfl)
theorem dX8_names_40 : decode cX8_names 40 = .ok (.ireturn, 1) := dk_172 (dk_at dksX8_names_1 16 rfl rfl)
abbrev cX8_isTrue : ByteArray := prog_3_method_6_code
def yX8_isTrue : MethodName := ⟨RX8, "isTrue", "([I)Z"⟩
def dkwX8_isTrue_0 : List UInt8 := [42, 43, 182, 0, 42, 2, 159, 0, 7, 4, 167, 0, 4, 3, 172]
abbrev dktX8_isTrue_0 : List UInt8 := dkwX8_isTrue_0 ++ []
theorem dksX8_isTrue_0 : cX8_isTrue.data.toList.drop 0 = dktX8_isTrue_0 := by decide +kernel
theorem dX8_isTrue_0 : decode cX8_isTrue 0 = .ok (.aload_n 0, 1) := dk_42 (dk_at dksX8_isTrue_0 0 rfl rfl)
theorem dX8_isTrue_1 : decode cX8_isTrue 1 = .ok (.aload_n 1, 1) := dk_43 (dk_at dksX8_isTrue_0 1 rfl rfl)
theorem dX8_isTrue_2 : decode cX8_isTrue 2 = .ok (.invokevirtual 42, 3) := dk_182 0 42 (dk_at dksX8_isTrue_0 2 rfl rfl)
theorem dX8_isTrue_5 : decode cX8_isTrue 5 = .ok (.iconst (-1), 1) := dk_2 (dk_at dksX8_isTrue_0 5 rfl rfl)
theorem dX8_isTrue_6 : decode cX8_isTrue 6 = .ok (.if_icmp .eq 7, 3) := dk_159 0 7 (dk_at dksX8_isTrue_0 6 rfl rfl)
theorem dX8_isTrue_9 : decode cX8_isTrue 9 = .ok (.iconst 1, 1) := dk_4 (dk_at dksX8_isTrue_0 9 rfl rfl)
theorem dX8_isTrue_10 : decode cX8_isTrue 10 = .ok (.goto 4, 3) := dk_167 0 4 (dk_at dksX8_isTrue_0 10 rfl rfl)
theorem dX8_isTrue_13 : decode cX8_isTrue 13 = .ok (.iconst 0, 1) := dk_3 (dk_at dksX8_isTrue_0 13 rfl rfl)
theorem dX8_isTrue_14 : decode cX8_isTrue 14 = .ok (.ireturn, 1) := dk_172 (dk_at dksX8_isTrue_0 14 rfl rfl)
abbrev cX8_row : ByteArray := prog_3_method_5_code
def yX8_row : MethodName := ⟨RX8, "row", "([I)I"⟩
def dkwX8_row_1 : List UInt8 := [182, 0, 38, 172]
abbrev dktX8_row_1 : List UInt8 := dkwX8_row_1 ++ []
def dkwX8_row_0 : List UInt8 := [42, 180, 0, 18, 42, 3, 43, 182, 0, 34, 42, 4, 43, 182, 0, 34, 42, 5, 43, 182, 0, 34]
abbrev dktX8_row_0 : List UInt8 := dkwX8_row_0 ++ dktX8_row_1
theorem dksX8_row_0 : cX8_row.data.toList.drop 0 = dktX8_row_0 := by decide +kernel
theorem dksX8_row_1 : cX8_row.data.toList.drop 22 = dktX8_row_1 := dk_seg dksX8_row_0 22 rfl rfl
theorem dX8_row_0 : decode cX8_row 0 = .ok (.aload_n 0, 1) := dk_42 (dk_at dksX8_row_0 0 rfl rfl)
theorem dX8_row_1 : decode cX8_row 1 = .ok (.getfield 18, 3) := dk_180 0 18 (dk_at dksX8_row_0 1 rfl rfl)
theorem dX8_row_4 : decode cX8_row 4 = .ok (.aload_n 0, 1) := dk_42 (dk_at dksX8_row_0 4 rfl rfl)
theorem dX8_row_5 : decode cX8_row 5 = .ok (.iconst 0, 1) := dk_3 (dk_at dksX8_row_0 5 rfl rfl)
theorem dX8_row_6 : decode cX8_row 6 = .ok (.aload_n 1, 1) := dk_43 (dk_at dksX8_row_0 6 rfl rfl)
theorem dX8_row_7 : decode cX8_row 7 = .ok (.invokevirtual 34, 3) := dk_182 0 34 (dk_at dksX8_row_0 7 rfl rfl)
theorem dX8_row_10 : decode cX8_row 10 = .ok (.aload_n 0, 1) := dk_42 (dk_at dksX8_row_0 10 rfl rfl)
theorem dX8_row_11 : decode cX8_row 11 = .ok (.iconst 1, 1) := dk_4 (dk_at dksX8_row_0 11 rfl rfl)
theorem dX8_row_12 : decode cX8_row 12 = .ok (.aload_n 1, 1) := dk_43 (dk_at dksX8_row_0 12 rfl rfl)
theorem dX8_row_13 : decode cX8_row 13 = .ok (.invokevirtual 34, 3) := dk_182 0 34 (dk_at dksX8_row_0 13 rfl rfl)
theorem dX8_row_16 : decode cX8_row 16 = .ok (.aload_n 0, 1) := dk_42 (dk_at dksX8_row_0 16 rfl rfl)
theorem dX8_row_17 : decode cX8_row 17 = .ok (.iconst 2, 1) := dk_5 (dk_at dksX8_row_0 17 rfl rfl)
theorem dX8_row_18 : decode cX8_row 18 = .ok (.aload_n 1, 1) := dk_43 (dk_at dksX8_row_0 18 rfl rfl)
theorem dX8_row_19 : decode cX8_row 19 = .ok (.invokevirtual 34, 3) := dk_182 0 34 (dk_at dksX8_row_0 19 rfl rfl)
theorem dX8_row_22 : decode cX8_row 22 = .ok (.invokevirtual 38, 3) := dk_182 0 38 (dk_at dksX8_row_1 0 rfl rfl)
theorem dX8_row_25 : decode cX8_row 25 = .ok (.ireturn, 1) := dk_172 (dk_at dksX8_row_1 3 rfl rfl)
abbrev cX8_value : ByteArray := prog_3_method_4_code
def yX8_value : MethodName := ⟨RX8, "value", "(I[I)I"⟩
def dkwX8_value_1 : List UInt8 := [180, 0, 15, 27, 46, 167, 0, 11, 44, 42, 180, 0, 9, 27, 46, 46, 172]
abbrev dktX8_value_1 : List UInt8 := dkwX8_value_1 ++ []
def dkwX8_value_0 : List UInt8 := [27, 42, 180, 0, 26, 161, 0, 7, 3, 167, 0, 30, 42, 180, 0, 9, 27, 46, 2, 160, 0, 12, 42]
abbrev dktX8_value_0 : List UInt8 := dkwX8_value_0 ++ dktX8_value_1
theorem dksX8_value_0 : cX8_value.data.toList.drop 0 = dktX8_value_0 := by decide +kernel
theorem dksX8_value_1 : cX8_value.data.toList.drop 23 = dktX8_value_1 := dk_seg dksX8_value_0 23 rfl rfl
theorem dX8_value_0 : decode cX8_value 0 = .ok (.iload_n 1, 1) := dk_27 (dk_at dksX8_value_0 0 rfl rfl)
theorem dX8_value_1 : decode cX8_value 1 = .ok (.aload_n 0, 1) := dk_42 (dk_at dksX8_value_0 1 rfl rfl)
theorem dX8_value_2 : decode cX8_value 2 = .ok (.getfield 26, 3) := dk_180 0 26 (dk_at dksX8_value_0 2 rfl rfl)
theorem dX8_value_5 : decode cX8_value 5 = .ok (.if_icmp .lt 7, 3) := dk_161 0 7 (dk_at dksX8_value_0 5 rfl rfl)
theorem dX8_value_8 : decode cX8_value 8 = .ok (.iconst 0, 1) := dk_3 (dk_at dksX8_value_0 8 rfl rfl)
theorem dX8_value_9 : decode cX8_value 9 = .ok (.goto 30, 3) := dk_167 0 30 (dk_at dksX8_value_0 9 rfl rfl)
theorem dX8_value_12 : decode cX8_value 12 = .ok (.aload_n 0, 1) := dk_42 (dk_at dksX8_value_0 12 rfl rfl)
theorem dX8_value_13 : decode cX8_value 13 = .ok (.getfield 9, 3) := dk_180 0 9 (dk_at dksX8_value_0 13 rfl rfl)
theorem dX8_value_16 : decode cX8_value 16 = .ok (.iload_n 1, 1) := dk_27 (dk_at dksX8_value_0 16 rfl rfl)
theorem dX8_value_17 : decode cX8_value 17 = .ok (.iaload, 1) := dk_46 (dk_at dksX8_value_0 17 rfl rfl)
theorem dX8_value_18 : decode cX8_value 18 = .ok (.iconst (-1), 1) := dk_2 (dk_at dksX8_value_0 18 rfl rfl)
theorem dX8_value_19 : decode cX8_value 19 = .ok (.if_icmp .ne 12, 3) := dk_160 0 12 (dk_at dksX8_value_0 19 rfl rfl)
theorem dX8_value_22 : decode cX8_value 22 = .ok (.aload_n 0, 1) := dk_42 (dk_at dksX8_value_0 22 rfl rfl)
theorem dX8_value_23 : decode cX8_value 23 = .ok (.getfield 15, 3) := dk_180 0 15 (dk_at dksX8_value_1 0 rfl rfl)
theorem dX8_value_26 : decode cX8_value 26 = .ok (.iload_n 1, 1) := dk_27 (dk_at dksX8_value_1 3 rfl rfl)
theorem dX8_value_27 : decode cX8_value 27 = .ok (.iaload, 1) := dk_46 (dk_at dksX8_value_1 4 rfl rfl)
theorem dX8_value_28 : decode cX8_value 28 = .ok (.goto 11, 3) := dk_167 0 11 (dk_at dksX8_value_1 5 rfl rfl)
theorem dX8_value_31 : decode cX8_value 31 = .ok (.aload_n 2, 1) := dk_44 (dk_at dksX8_value_1 8 rfl rfl)
theorem dX8_value_32 : decode cX8_value 32 = .ok (.aload_n 0, 1) := dk_42 (dk_at dksX8_value_1 9 rfl rfl)
theorem dX8_value_33 : decode cX8_value 33 = .ok (.getfield 9, 3) := dk_180 0 9 (dk_at dksX8_value_1 10 rfl rfl)
theorem dX8_value_36 : decode cX8_value 36 = .ok (.iload_n 1, 1) := dk_27 (dk_at dksX8_value_1 13 rfl rfl)
theorem dX8_value_37 : decode cX8_value 37 = .ok (.iaload, 1) := dk_46 (dk_at dksX8_value_1 14 rfl rfl)
theorem dX8_value_38 : decode cX8_value 38 = .ok (.iaload, 1) := dk_46 (dk_at dksX8_value_1 15 rfl rfl)
theorem dX8_value_39 : decode cX8_value 39 = .ok (.ireturn, 1) := dk_172 (dk_at dksX8_value_1 16 rfl rfl)
theorem q65 : (Jvm.Cond.initialized "JoinLoom$Has") ∈ lw_all := lw_g (lw_at lw_m1 9 rfl) rfl
theorem q247 : (Jvm.Cond.fieldLinkNest "JoinLoom$Has" (29 : Nat) "JoinLoom$Table" "columns" "I" "JoinLoom") ∈ lw_tbl := lw_at lw_m1 191 rfl
theorem q357 : (Jvm.Cond.instantiable "JoinLoom$Has" (6 : Nat)) ∈ lw_all := lw_g (lw_at lw_m2 61 rfl) rfl
theorem q359 : (Jvm.Cond.instanceMethod ({ cls := "JoinLoom$Has", name := "<init>", desc := "(ILJoinLoom$Table;I)V" } : Jvm.MethodName)) ∈ lw_all := lw_g (lw_at lw_m2 63 rfl) rfl
theorem q360 : (Jvm.Cond.code ({ cls := "JoinLoom$Has", name := "<init>", desc := "(ILJoinLoom$Table;I)V" } : Jvm.MethodName) prog_3_method_1_code (4 : Nat) (Option.none : Option Jvm.ClassFile.FieldType)) ∈ lw_all := lw_g (lw_at lw_m2 64 rfl) rfl
theorem q361 : (Jvm.Cond.methodLink "JoinLoom$Has" (3 : Nat) ({ cls := "JoinLoom$Part", name := "<init>", desc := "(I)V" } : Jvm.MethodName)) ∈ lw_all := lw_g (lw_at lw_m2 65 rfl) rfl
theorem q365 : (Jvm.Cond.fieldLink "JoinLoom$Has" (18 : Nat) "JoinLoom$Has" "table" "LJoinLoom$Table;") ∈ lw_all := lw_g (lw_at lw_m2 69 rfl) rfl
theorem q368 : (Jvm.Cond.fieldLink "JoinLoom$Has" (22 : Nat) "JoinLoom$Has" "tableNumber" "I") ∈ lw_all := lw_g (lw_at lw_m2 72 rfl) rfl
theorem q370 : (Jvm.Cond.fieldLink "JoinLoom$Has" (9 : Nat) "JoinLoom$Has" "name" "[I") ∈ lw_all := lw_g (lw_at lw_m2 74 rfl) rfl
theorem q373 : (Jvm.Cond.fieldLink "JoinLoom$Has" (15 : Nat) "JoinLoom$Has" "told" "[I") ∈ lw_all := lw_g (lw_at lw_m2 77 rfl) rfl
theorem q376 : (Jvm.Cond.fieldLink "JoinLoom$Has" (26 : Nat) "JoinLoom$Has" "places" "I") ∈ lw_all := lw_g (lw_at lw_m2 80 rfl) rfl
theorem q384 : (Jvm.Cond.laysFinal "JoinLoom$Has" "JoinLoom$Has" "table" "LJoinLoom$Table;") ∈ lw_all := lw_g (lw_at lw_m2 88 rfl) rfl
theorem q385 : (Jvm.Cond.soleField "JoinLoom$Has" "table") ∈ lw_all := lw_g (lw_at lw_m2 89 rfl) rfl
theorem q386 : (Jvm.Cond.laysFinal "JoinLoom$Has" "JoinLoom$Has" "tableNumber" "I") ∈ lw_all := lw_g (lw_at lw_m2 90 rfl) rfl
theorem q387 : (Jvm.Cond.soleField "JoinLoom$Has" "tableNumber") ∈ lw_all := lw_g (lw_at lw_m2 91 rfl) rfl
theorem q388 : (Jvm.Cond.laysFinal "JoinLoom$Has" "JoinLoom$Has" "name" "[I") ∈ lw_all := lw_g (lw_at lw_m2 92 rfl) rfl
theorem q389 : (Jvm.Cond.soleField "JoinLoom$Has" "name") ∈ lw_all := lw_g (lw_at lw_m2 93 rfl) rfl
theorem q390 : (Jvm.Cond.laysFinal "JoinLoom$Has" "JoinLoom$Has" "told" "[I") ∈ lw_all := lw_g (lw_at lw_m2 94 rfl) rfl
theorem q391 : (Jvm.Cond.soleField "JoinLoom$Has" "told") ∈ lw_all := lw_g (lw_at lw_m2 95 rfl) rfl
theorem q392 : (Jvm.Cond.lays "JoinLoom$Has" "JoinLoom$Has" "places" "I") ∈ lw_all := lw_g (lw_at lw_m2 96 rfl) rfl
theorem q393 : (Jvm.Cond.soleField "JoinLoom$Has" "places") ∈ lw_all := lw_g (lw_at lw_m2 97 rfl) rfl
theorem q394 : (Jvm.Cond.laysFinal "JoinLoom$Has" "JoinLoom$Part" "kind" "I") ∈ lw_all := lw_g (lw_at lw_m2 98 rfl) rfl
theorem q396 : (Jvm.Cond.superclass "JoinLoom$Has" "JoinLoom$Part") ∈ lw_all := lw_g (lw_at lw_m2 100 rfl) rfl
theorem q483 : (Jvm.Cond.selects "JoinLoom$Has" ({ cls := "JoinLoom$Part", name := "isWhole", desc := "()Z" } : Jvm.MethodName) ({ cls := "JoinLoom$Has", name := "isWhole", desc := "()Z" } : Jvm.MethodName)) ∈ lw_all := lw_g (lw_at lw_m2 187 rfl) rfl
theorem q484 : (Jvm.Cond.instanceMethod ({ cls := "JoinLoom$Has", name := "isWhole", desc := "()Z" } : Jvm.MethodName)) ∈ lw_all := lw_g (lw_at lw_m2 188 rfl) rfl
theorem q485 : (Jvm.Cond.code ({ cls := "JoinLoom$Has", name := "isWhole", desc := "()Z" } : Jvm.MethodName) prog_3_method_3_code (1 : Nat) (Option.some Jvm.ClassFile.FieldType.boolean)) ∈ lw_all := lw_g (lw_at lw_m2 189 rfl) rfl
theorem q493 : (Jvm.Cond.selects "JoinLoom$Has" ({ cls := "JoinLoom$Part", name := "names", desc := "()I" } : Jvm.MethodName) ({ cls := "JoinLoom$Has", name := "names", desc := "()I" } : Jvm.MethodName)) ∈ lw_all := lw_g (lw_at lw_m2 197 rfl) rfl
theorem q494 : (Jvm.Cond.instanceMethod ({ cls := "JoinLoom$Has", name := "names", desc := "()I" } : Jvm.MethodName)) ∈ lw_all := lw_g (lw_at lw_m2 198 rfl) rfl
theorem q495 : (Jvm.Cond.code ({ cls := "JoinLoom$Has", name := "names", desc := "()I" } : Jvm.MethodName) prog_3_method_2_code (3 : Nat) (Option.some Jvm.ClassFile.FieldType.int)) ∈ lw_all := lw_g (lw_at lw_m2 199 rfl) rfl
theorem q585 : (Jvm.Cond.selects "JoinLoom$Has" ({ cls := "JoinLoom$Part", name := "isTrue", desc := "([I)Z" } : Jvm.MethodName) ({ cls := "JoinLoom$Has", name := "isTrue", desc := "([I)Z" } : Jvm.MethodName)) ∈ lw_all := lw_g (lw_at lw_m3 49 rfl) rfl
theorem q586 : (Jvm.Cond.instanceMethod ({ cls := "JoinLoom$Has", name := "isTrue", desc := "([I)Z" } : Jvm.MethodName)) ∈ lw_all := lw_g (lw_at lw_m3 50 rfl) rfl
theorem q587 : (Jvm.Cond.code ({ cls := "JoinLoom$Has", name := "isTrue", desc := "([I)Z" } : Jvm.MethodName) prog_3_method_6_code (2 : Nat) (Option.some Jvm.ClassFile.FieldType.boolean)) ∈ lw_all := lw_g (lw_at lw_m3 51 rfl) rfl
theorem q588 : (Jvm.Cond.methodLink "JoinLoom$Has" (42 : Nat) ({ cls := "JoinLoom$Has", name := "row", desc := "([I)I" } : Jvm.MethodName)) ∈ lw_all := lw_g (lw_at lw_m3 52 rfl) rfl
theorem q589 : (Jvm.Cond.instanceMethod ({ cls := "JoinLoom$Has", name := "row", desc := "([I)I" } : Jvm.MethodName)) ∈ lw_all := lw_g (lw_at lw_m3 53 rfl) rfl
theorem q590 : (Jvm.Cond.selects "JoinLoom$Has" ({ cls := "JoinLoom$Has", name := "row", desc := "([I)I" } : Jvm.MethodName) ({ cls := "JoinLoom$Has", name := "row", desc := "([I)I" } : Jvm.MethodName)) ∈ lw_all := lw_g (lw_at lw_m3 54 rfl) rfl
theorem q591 : (Jvm.Cond.sameMethod "JoinLoom$Has" "JoinLoom$Has" "row" "([I)I") ∈ lw_all := lw_g (lw_at lw_m3 55 rfl) rfl
theorem q593 : (Jvm.Cond.code ({ cls := "JoinLoom$Has", name := "row", desc := "([I)I" } : Jvm.MethodName) prog_3_method_5_code (2 : Nat) (Option.some Jvm.ClassFile.FieldType.int)) ∈ lw_all := lw_g (lw_at lw_m3 57 rfl) rfl
theorem q594 : (Jvm.Cond.methodLink "JoinLoom$Has" (34 : Nat) ({ cls := "JoinLoom$Has", name := "value", desc := "(I[I)I" } : Jvm.MethodName)) ∈ lw_all := lw_g (lw_at lw_m3 58 rfl) rfl
theorem q595 : (Jvm.Cond.privateMethod ({ cls := "JoinLoom$Has", name := "value", desc := "(I[I)I" } : Jvm.MethodName)) ∈ lw_tbl := lw_at lw_m3 59 rfl
theorem q596 : (Jvm.Cond.instanceMethod ({ cls := "JoinLoom$Has", name := "value", desc := "(I[I)I" } : Jvm.MethodName)) ∈ lw_all := lw_g (lw_at lw_m3 60 rfl) rfl
theorem q597 : (Jvm.Cond.code ({ cls := "JoinLoom$Has", name := "value", desc := "(I[I)I" } : Jvm.MethodName) prog_3_method_4_code (3 : Nat) (Option.some Jvm.ClassFile.FieldType.int)) ∈ lw_all := lw_g (lw_at lw_m3 61 rfl) rfl
theorem q598 : (Jvm.Cond.methodLink "JoinLoom$Has" (38 : Nat) ({ cls := "JoinLoom$Table", name := "find", desc := "(III)I" } : Jvm.MethodName)) ∈ lw_all := lw_g (lw_at lw_m3 62 rfl) rfl
theorem q1102 : (Jvm.Cond.sameMethod "JoinLoom$Has" "JoinLoom$Has" "names" "()I") ∈ lw_all := lw_g (lw_at lw_m5 86 rfl) rfl
theorem q1103 : (Jvm.Cond.selects "JoinLoom$Has" ({ cls := "JoinLoom$Has", name := "names", desc := "()I" } : Jvm.MethodName) ({ cls := "JoinLoom$Has", name := "names", desc := "()I" } : Jvm.MethodName)) ∈ lw_all := lw_g (lw_at lw_m5 87 rfl) rfl
theorem q1105 : (Jvm.Cond.sameMethod "JoinLoom$Has" "JoinLoom$Has" "value" "(I[I)I") ∈ lw_all := lw_g (lw_at lw_m5 89 rfl) rfl
theorem q1106 : (Jvm.Cond.sameMethod "JoinLoom$Has" "JoinLoom$Has" "isTrue" "([I)Z") ∈ lw_all := lw_g (lw_at lw_m5 90 rfl) rfl
theorem q1111 : (Jvm.Cond.castable "JoinLoom$Has" "JoinLoom$Part") ∈ lw_tbl := lw_at lw_m5 95 rfl
theorem in_X8 : ∀ w ∈ wsX80, w ∈ lw_all := lw_in wsX80 [394, 384, 386, 388, 390, 392] (by decide +kernel) (by decide +kernel)
/-! JoinLoom$Not -/
set_option maxRecDepth 100000
def RX9 : String := "JoinLoom$Not"
def TX9 : u_T := fun k => match k with
  | 0 => ("JoinLoom$Part", "kind", "I", true)
  | 1 => ("JoinLoom$Has", "table", "LJoinLoom$Table;", true)
  | 2 => ("JoinLoom$Has", "tableNumber", "I", true)
  | 3 => ("JoinLoom$Has", "name", "[I", true)
  | 4 => ("JoinLoom$Has", "told", "[I", true)
  | _ => ("JoinLoom$Has", "places", "I", false)
def tyX9 : Nat → FieldType := fun k => match k with
  | 0 => .int
  | 1 => .object "JoinLoom$Table"
  | 2 => .int
  | 3 => .array .int
  | 4 => .array .int
  | _ => .int
abbrev wsX90 : List Cond := u_ws RX9 TX9 6
theorem nmX9 : ∀ a, a < 6 → ∀ b, b < 6 → a ≠ b → (TX9 a).2.1 ≠ (TX9 b).2.1 := by decide +kernel
theorem tyX9_ok : ∀ k, k < 6 → parseFieldDescriptor (TX9 k).2.2.1 = some (tyX9 k) := by decide +kernel
abbrev cX9_init : ByteArray := prog_6_method_1_code
def yX9_init : MethodName := ⟨RX9, "<init>", "(LJoinLoom$Table;I)V"⟩
def dkwX9_init_0 : List UInt8 := [42, 4, 43, 28, 183, 0, 3, 177]
abbrev dktX9_init_0 : List UInt8 := dkwX9_init_0 ++ []
theorem dksX9_init_0 : cX9_init.data.toList.drop 0 = dktX9_init_0 := by decide +kernel
theorem dX9_init_0 : decode cX9_init 0 = .ok (.aload_n 0, 1) := dk_42 (dk_at dksX9_init_0 0 rfl rfl)
theorem dX9_init_1 : decode cX9_init 1 = .ok (.iconst 1, 1) := dk_4 (dk_at dksX9_init_0 1 rfl rfl)
theorem dX9_init_2 : decode cX9_init 2 = .ok (.aload_n 1, 1) := dk_43 (dk_at dksX9_init_0 2 rfl rfl)
theorem dX9_init_3 : decode cX9_init 3 = .ok (.iload_n 2, 1) := dk_28 (dk_at dksX9_init_0 3 rfl rfl)
theorem dX9_init_4 : decode cX9_init 4 = .ok (.invokespecial 3, 3) := dk_183 0 3 (dk_at dksX9_init_0 4 rfl rfl)
theorem dX9_init_7 : decode cX9_init 7 = .ok (.return_, 1) := dk_177 (dk_at dksX9_init_0 7 rfl rfl)
abbrev cX9_isTrue : ByteArray := prog_6_method_2_code
def yX9_isTrue : MethodName := ⟨RX9, "isTrue", "([I)Z"⟩
def dkwX9_isTrue_0 : List UInt8 := [42, 43, 183, 0, 9, 154, 0, 7, 4, 167, 0, 4, 3, 172]
abbrev dktX9_isTrue_0 : List UInt8 := dkwX9_isTrue_0 ++ []
theorem dksX9_isTrue_0 : cX9_isTrue.data.toList.drop 0 = dktX9_isTrue_0 := by decide +kernel
theorem dX9_isTrue_0 : decode cX9_isTrue 0 = .ok (.aload_n 0, 1) := dk_42 (dk_at dksX9_isTrue_0 0 rfl rfl)
theorem dX9_isTrue_1 : decode cX9_isTrue 1 = .ok (.aload_n 1, 1) := dk_43 (dk_at dksX9_isTrue_0 1 rfl rfl)
theorem dX9_isTrue_2 : decode cX9_isTrue 2 = .ok (.invokespecial 9, 3) := dk_183 0 9 (dk_at dksX9_isTrue_0 2 rfl rfl)
theorem dX9_isTrue_5 : decode cX9_isTrue 5 = .ok (.ifCond .ne 7, 3) := dk_154 0 7 (dk_at dksX9_isTrue_0 5 rfl rfl)
theorem dX9_isTrue_8 : decode cX9_isTrue 8 = .ok (.iconst 1, 1) := dk_4 (dk_at dksX9_isTrue_0 8 rfl rfl)
theorem dX9_isTrue_9 : decode cX9_isTrue 9 = .ok (.goto 4, 3) := dk_167 0 4 (dk_at dksX9_isTrue_0 9 rfl rfl)
theorem dX9_isTrue_12 : decode cX9_isTrue 12 = .ok (.iconst 0, 1) := dk_3 (dk_at dksX9_isTrue_0 12 rfl rfl)
theorem dX9_isTrue_13 : decode cX9_isTrue 13 = .ok (.ireturn, 1) := dk_172 (dk_at dksX9_isTrue_0 13 rfl rfl)
theorem q66 : (Jvm.Cond.initialized "JoinLoom$Not") ∈ lw_all := lw_g (lw_at lw_m1 10 rfl) rfl
theorem q398 : (Jvm.Cond.instantiable "JoinLoom$Not" (6 : Nat)) ∈ lw_all := lw_g (lw_at lw_m2 102 rfl) rfl
theorem q400 : (Jvm.Cond.instanceMethod ({ cls := "JoinLoom$Not", name := "<init>", desc := "(LJoinLoom$Table;I)V" } : Jvm.MethodName)) ∈ lw_all := lw_g (lw_at lw_m2 104 rfl) rfl
theorem q401 : (Jvm.Cond.code ({ cls := "JoinLoom$Not", name := "<init>", desc := "(LJoinLoom$Table;I)V" } : Jvm.MethodName) prog_6_method_1_code (3 : Nat) (Option.none : Option Jvm.ClassFile.FieldType)) ∈ lw_all := lw_g (lw_at lw_m2 105 rfl) rfl
theorem q402 : (Jvm.Cond.methodLink "JoinLoom$Not" (3 : Nat) ({ cls := "JoinLoom$Has", name := "<init>", desc := "(ILJoinLoom$Table;I)V" } : Jvm.MethodName)) ∈ lw_all := lw_g (lw_at lw_m2 106 rfl) rfl
theorem q403 : (Jvm.Cond.laysFinal "JoinLoom$Not" "JoinLoom$Has" "table" "LJoinLoom$Table;") ∈ lw_all := lw_g (lw_at lw_m2 107 rfl) rfl
theorem q404 : (Jvm.Cond.laysFinal "JoinLoom$Not" "JoinLoom$Has" "tableNumber" "I") ∈ lw_all := lw_g (lw_at lw_m2 108 rfl) rfl
theorem q405 : (Jvm.Cond.laysFinal "JoinLoom$Not" "JoinLoom$Has" "name" "[I") ∈ lw_all := lw_g (lw_at lw_m2 109 rfl) rfl
theorem q406 : (Jvm.Cond.laysFinal "JoinLoom$Not" "JoinLoom$Has" "told" "[I") ∈ lw_all := lw_g (lw_at lw_m2 110 rfl) rfl
theorem q407 : (Jvm.Cond.lays "JoinLoom$Not" "JoinLoom$Has" "places" "I") ∈ lw_all := lw_g (lw_at lw_m2 111 rfl) rfl
theorem q408 : (Jvm.Cond.laysFinal "JoinLoom$Not" "JoinLoom$Part" "kind" "I") ∈ lw_all := lw_g (lw_at lw_m2 112 rfl) rfl
theorem q409 : (Jvm.Cond.superclass "JoinLoom$Not" "JoinLoom$Has") ∈ lw_all := lw_g (lw_at lw_m2 113 rfl) rfl
theorem q487 : (Jvm.Cond.selects "JoinLoom$Not" ({ cls := "JoinLoom$Part", name := "isWhole", desc := "()Z" } : Jvm.MethodName) ({ cls := "JoinLoom$Has", name := "isWhole", desc := "()Z" } : Jvm.MethodName)) ∈ lw_all := lw_g (lw_at lw_m2 191 rfl) rfl
theorem q499 : (Jvm.Cond.selects "JoinLoom$Not" ({ cls := "JoinLoom$Part", name := "names", desc := "()I" } : Jvm.MethodName) ({ cls := "JoinLoom$Has", name := "names", desc := "()I" } : Jvm.MethodName)) ∈ lw_all := lw_g (lw_at lw_m2 203 rfl) rfl
theorem q592 : (Jvm.Cond.selects "JoinLoom$Not" ({ cls := "JoinLoom$Has", name := "row", desc := "([I)I" } : Jvm.MethodName) ({ cls := "JoinLoom$Has", name := "row", desc := "([I)I" } : Jvm.MethodName)) ∈ lw_all := lw_g (lw_at lw_m3 56 rfl) rfl
theorem q609 : (Jvm.Cond.selects "JoinLoom$Not" ({ cls := "JoinLoom$Part", name := "isTrue", desc := "([I)Z" } : Jvm.MethodName) ({ cls := "JoinLoom$Not", name := "isTrue", desc := "([I)Z" } : Jvm.MethodName)) ∈ lw_all := lw_g (lw_at lw_m3 73 rfl) rfl
theorem q610 : (Jvm.Cond.instanceMethod ({ cls := "JoinLoom$Not", name := "isTrue", desc := "([I)Z" } : Jvm.MethodName)) ∈ lw_all := lw_g (lw_at lw_m3 74 rfl) rfl
theorem q611 : (Jvm.Cond.code ({ cls := "JoinLoom$Not", name := "isTrue", desc := "([I)Z" } : Jvm.MethodName) prog_6_method_2_code (2 : Nat) (Option.some Jvm.ClassFile.FieldType.boolean)) ∈ lw_all := lw_g (lw_at lw_m3 75 rfl) rfl
theorem q612 : (Jvm.Cond.methodLink "JoinLoom$Not" (9 : Nat) ({ cls := "JoinLoom$Has", name := "isTrue", desc := "([I)Z" } : Jvm.MethodName)) ∈ lw_all := lw_g (lw_at lw_m3 76 rfl) rfl
theorem q1104 : (Jvm.Cond.selects "JoinLoom$Not" ({ cls := "JoinLoom$Has", name := "names", desc := "()I" } : Jvm.MethodName) ({ cls := "JoinLoom$Has", name := "names", desc := "()I" } : Jvm.MethodName)) ∈ lw_all := lw_g (lw_at lw_m5 88 rfl) rfl
theorem q1110 : (Jvm.Cond.castable "JoinLoom$Not" "JoinLoom$Has") ∈ lw_tbl := lw_at lw_m5 94 rfl
theorem q1112 : (Jvm.Cond.castable "JoinLoom$Not" "JoinLoom$Part") ∈ lw_tbl := lw_at lw_m5 96 rfl
theorem in_X9 : ∀ w ∈ wsX90, w ∈ lw_all := lw_in wsX90 [408, 403, 404, 405, 406, 407] (by decide +kernel) (by decide +kernel)
/-! JoinLoom$Same -/
set_option maxRecDepth 100000
def RX10 : String := "JoinLoom$Same"
def TX10 : u_T := fun k => match k with
  | 0 => ("JoinLoom$Part", "kind", "I", true)
  | 1 => ("JoinLoom$Same", "first", "I", true)
  | 2 => ("JoinLoom$Same", "second", "I", true)
  | _ => ("JoinLoom$Same", "told", "I", true)
def tyX10 : Nat → FieldType := fun k => match k with
  | 0 => .int
  | 1 => .int
  | 2 => .int
  | _ => .int
abbrev wsX100 : List Cond := u_ws RX10 TX10 4
theorem nmX10 : ∀ a, a < 4 → ∀ b, b < 4 → a ≠ b → (TX10 a).2.1 ≠ (TX10 b).2.1 := by decide +kernel
theorem tyX10_ok : ∀ k, k < 4 → parseFieldDescriptor (TX10 k).2.2.1 = some (tyX10 k) := by decide +kernel
abbrev cX10_init : ByteArray := prog_9_method_1_code
def yX10_init : MethodName := ⟨RX10, "<init>", "(IIII)V"⟩
def dkwX10_init_0 : List UInt8 := [42, 27, 183, 0, 3, 42, 28, 181, 0, 9, 42, 29, 181, 0, 15, 42, 21, 4, 181, 0, 18, 177]
abbrev dktX10_init_0 : List UInt8 := dkwX10_init_0 ++ []
theorem dksX10_init_0 : cX10_init.data.toList.drop 0 = dktX10_init_0 := by decide +kernel
theorem dX10_init_0 : decode cX10_init 0 = .ok (.aload_n 0, 1) := dk_42 (dk_at dksX10_init_0 0 rfl rfl)
theorem dX10_init_1 : decode cX10_init 1 = .ok (.iload_n 1, 1) := dk_27 (dk_at dksX10_init_0 1 rfl rfl)
theorem dX10_init_2 : decode cX10_init 2 = .ok (.invokespecial 3, 3) := dk_183 0 3 (dk_at dksX10_init_0 2 rfl rfl)
theorem dX10_init_5 : decode cX10_init 5 = .ok (.aload_n 0, 1) := dk_42 (dk_at dksX10_init_0 5 rfl rfl)
theorem dX10_init_6 : decode cX10_init 6 = .ok (.iload_n 2, 1) := dk_28 (dk_at dksX10_init_0 6 rfl rfl)
theorem dX10_init_7 : decode cX10_init 7 = .ok (.putfield 9, 3) := dk_181 0 9 (dk_at dksX10_init_0 7 rfl rfl)
theorem dX10_init_10 : decode cX10_init 10 = .ok (.aload_n 0, 1) := dk_42 (dk_at dksX10_init_0 10 rfl rfl)
theorem dX10_init_11 : decode cX10_init 11 = .ok (.iload_n 3, 1) := dk_29 (dk_at dksX10_init_0 11 rfl rfl)
theorem dX10_init_12 : decode cX10_init 12 = .ok (.putfield 15, 3) := dk_181 0 15 (dk_at dksX10_init_0 12 rfl rfl)
theorem dX10_init_15 : decode cX10_init 15 = .ok (.aload_n 0, 1) := dk_42 (dk_at dksX10_init_0 15 rfl rfl)
theorem dX10_init_16 : decode cX10_init 16 = .ok (.iload 4, 2) := dk_21 4 (dk_at dksX10_init_0 16 rfl rfl)
theorem dX10_init_18 : decode cX10_init 18 = .ok (.putfield 18, 3) := dk_181 0 18 (dk_at dksX10_init_0 18 rfl rfl)
theorem dX10_init_21 : decode cX10_init 21 = .ok (.return_, 1) := dk_177 (dk_at dksX10_init_0 21 rfl rfl)
abbrev cX10_names : ByteArray := prog_9_method_2_code
def yX10_names : MethodName := ⟨RX10, "names", "()I"⟩
def dkwX10_names_1 : List UInt8 := [128, 172]
abbrev dktX10_names_1 : List UInt8 := dkwX10_names_1 ++ []
def dkwX10_names_0 : List UInt8 := [4, 42, 180, 0, 9, 120, 42, 180, 0, 15, 2, 160, 0, 7, 3, 167, 0, 9, 4, 42, 180, 0, 15, 120]
abbrev dktX10_names_0 : List UInt8 := dkwX10_names_0 ++ dktX10_names_1
theorem dksX10_names_0 : cX10_names.data.toList.drop 0 = dktX10_names_0 := by decide +kernel
theorem dksX10_names_1 : cX10_names.data.toList.drop 24 = dktX10_names_1 := dk_seg dksX10_names_0 24 rfl rfl
theorem dX10_names_0 : decode cX10_names 0 = .ok (.iconst 1, 1) := dk_4 (dk_at dksX10_names_0 0 rfl rfl)
theorem dX10_names_1 : decode cX10_names 1 = .ok (.aload_n 0, 1) := dk_42 (dk_at dksX10_names_0 1 rfl rfl)
theorem dX10_names_2 : decode cX10_names 2 = .ok (.getfield 9, 3) := dk_180 0 9 (dk_at dksX10_names_0 2 rfl rfl)
theorem dX10_names_5 : decode cX10_names 5 = .ok (.ishl, 1) := dk_120 (dk_at dksX10_names_0 5 rfl rfl)
theorem dX10_names_6 : decode cX10_names 6 = .ok (.aload_n 0, 1) := dk_42 (dk_at dksX10_names_0 6 rfl rfl)
theorem dX10_names_7 : decode cX10_names 7 = .ok (.getfield 15, 3) := dk_180 0 15 (dk_at dksX10_names_0 7 rfl rfl)
theorem dX10_names_10 : decode cX10_names 10 = .ok (.iconst (-1), 1) := dk_2 (dk_at dksX10_names_0 10 rfl rfl)
theorem dX10_names_11 : decode cX10_names 11 = .ok (.if_icmp .ne 7, 3) := dk_160 0 7 (dk_at dksX10_names_0 11 rfl rfl)
theorem dX10_names_14 : decode cX10_names 14 = .ok (.iconst 0, 1) := dk_3 (dk_at dksX10_names_0 14 rfl rfl)
theorem dX10_names_15 : decode cX10_names 15 = .ok (.goto 9, 3) := dk_167 0 9 (dk_at dksX10_names_0 15 rfl rfl)
theorem dX10_names_18 : decode cX10_names 18 = .ok (.iconst 1, 1) := dk_4 (dk_at dksX10_names_0 18 rfl rfl)
theorem dX10_names_19 : decode cX10_names 19 = .ok (.aload_n 0, 1) := dk_42 (dk_at dksX10_names_0 19 rfl rfl)
theorem dX10_names_20 : decode cX10_names 20 = .ok (.getfield 15, 3) := dk_180 0 15 (dk_at dksX10_names_0 20 rfl rfl)
theorem dX10_names_23 : decode cX10_names 23 = .ok (.ishl, 1) := dk_120 (dk_at dksX10_names_0 23 rfl rfl)
theorem dX10_names_24 : decode cX10_names 24 = .ok (.ior, 1) := dk_128 (dk_at dksX10_names_1 0 rfl rfl)
theorem dX10_names_25 : decode cX10_names 25 = .ok (.ireturn, 1) := dk_172 (dk_at dksX10_names_1 1 rfl rfl)
abbrev cX10_other : ByteArray := prog_9_method_3_code
def yX10_other : MethodName := ⟨RX10, "other", "([I)I"⟩
def dkwX10_other_0 : List UInt8 := [42, 180, 0, 15, 2, 160, 0, 10, 42, 180, 0, 18, 167, 0, 9, 43, 42, 180, 0, 15, 46, 172]
abbrev dktX10_other_0 : List UInt8 := dkwX10_other_0 ++ []
theorem dksX10_other_0 : cX10_other.data.toList.drop 0 = dktX10_other_0 := by decide +kernel
theorem dX10_other_0 : decode cX10_other 0 = .ok (.aload_n 0, 1) := dk_42 (dk_at dksX10_other_0 0 rfl rfl)
theorem dX10_other_1 : decode cX10_other 1 = .ok (.getfield 15, 3) := dk_180 0 15 (dk_at dksX10_other_0 1 rfl rfl)
theorem dX10_other_4 : decode cX10_other 4 = .ok (.iconst (-1), 1) := dk_2 (dk_at dksX10_other_0 4 rfl rfl)
theorem dX10_other_5 : decode cX10_other 5 = .ok (.if_icmp .ne 10, 3) := dk_160 0 10 (dk_at dksX10_other_0 5 rfl rfl)
theorem dX10_other_8 : decode cX10_other 8 = .ok (.aload_n 0, 1) := dk_42 (dk_at dksX10_other_0 8 rfl rfl)
theorem dX10_other_9 : decode cX10_other 9 = .ok (.getfield 18, 3) := dk_180 0 18 (dk_at dksX10_other_0 9 rfl rfl)
theorem dX10_other_12 : decode cX10_other 12 = .ok (.goto 9, 3) := dk_167 0 9 (dk_at dksX10_other_0 12 rfl rfl)
theorem dX10_other_15 : decode cX10_other 15 = .ok (.aload_n 1, 1) := dk_43 (dk_at dksX10_other_0 15 rfl rfl)
theorem dX10_other_16 : decode cX10_other 16 = .ok (.aload_n 0, 1) := dk_42 (dk_at dksX10_other_0 16 rfl rfl)
theorem dX10_other_17 : decode cX10_other 17 = .ok (.getfield 15, 3) := dk_180 0 15 (dk_at dksX10_other_0 17 rfl rfl)
theorem dX10_other_20 : decode cX10_other 20 = .ok (.iaload, 1) := dk_46 (dk_at dksX10_other_0 20 rfl rfl)
theorem dX10_other_21 : decode cX10_other 21 = .ok (.ireturn, 1) := dk_172 (dk_at dksX10_other_0 21 rfl rfl)
abbrev cX10_isTrue : ByteArray := prog_9_method_4_code
def yX10_isTrue : MethodName := ⟨RX10, "isTrue", "([I)Z"⟩
def dkwX10_isTrue_0 : List UInt8 := [43, 42, 180, 0, 9, 46, 42, 43, 182, 0, 21, 160, 0, 7, 4, 167, 0, 4, 3, 172]
abbrev dktX10_isTrue_0 : List UInt8 := dkwX10_isTrue_0 ++ []
theorem dksX10_isTrue_0 : cX10_isTrue.data.toList.drop 0 = dktX10_isTrue_0 := by decide +kernel
theorem dX10_isTrue_0 : decode cX10_isTrue 0 = .ok (.aload_n 1, 1) := dk_43 (dk_at dksX10_isTrue_0 0 rfl rfl)
theorem dX10_isTrue_1 : decode cX10_isTrue 1 = .ok (.aload_n 0, 1) := dk_42 (dk_at dksX10_isTrue_0 1 rfl rfl)
theorem dX10_isTrue_2 : decode cX10_isTrue 2 = .ok (.getfield 9, 3) := dk_180 0 9 (dk_at dksX10_isTrue_0 2 rfl rfl)
theorem dX10_isTrue_5 : decode cX10_isTrue 5 = .ok (.iaload, 1) := dk_46 (dk_at dksX10_isTrue_0 5 rfl rfl)
theorem dX10_isTrue_6 : decode cX10_isTrue 6 = .ok (.aload_n 0, 1) := dk_42 (dk_at dksX10_isTrue_0 6 rfl rfl)
theorem dX10_isTrue_7 : decode cX10_isTrue 7 = .ok (.aload_n 1, 1) := dk_43 (dk_at dksX10_isTrue_0 7 rfl rfl)
theorem dX10_isTrue_8 : decode cX10_isTrue 8 = .ok (.invokevirtual 21, 3) := dk_182 0 21 (dk_at dksX10_isTrue_0 8 rfl rfl)
theorem dX10_isTrue_11 : decode cX10_isTrue 11 = .ok (.if_icmp .ne 7, 3) := dk_160 0 7 (dk_at dksX10_isTrue_0 11 rfl rfl)
theorem dX10_isTrue_14 : decode cX10_isTrue 14 = .ok (.iconst 1, 1) := dk_4 (dk_at dksX10_isTrue_0 14 rfl rfl)
theorem dX10_isTrue_15 : decode cX10_isTrue 15 = .ok (.goto 4, 3) := dk_167 0 4 (dk_at dksX10_isTrue_0 15 rfl rfl)
theorem dX10_isTrue_18 : decode cX10_isTrue 18 = .ok (.iconst 0, 1) := dk_3 (dk_at dksX10_isTrue_0 18 rfl rfl)
theorem dX10_isTrue_19 : decode cX10_isTrue 19 = .ok (.ireturn, 1) := dk_172 (dk_at dksX10_isTrue_0 19 rfl rfl)
theorem q67 : (Jvm.Cond.initialized "JoinLoom$Same") ∈ lw_all := lw_g (lw_at lw_m1 11 rfl) rfl
theorem q435 : (Jvm.Cond.instantiable "JoinLoom$Same" (4 : Nat)) ∈ lw_all := lw_g (lw_at lw_m2 139 rfl) rfl
theorem q437 : (Jvm.Cond.instanceMethod ({ cls := "JoinLoom$Same", name := "<init>", desc := "(IIII)V" } : Jvm.MethodName)) ∈ lw_all := lw_g (lw_at lw_m2 141 rfl) rfl
theorem q438 : (Jvm.Cond.code ({ cls := "JoinLoom$Same", name := "<init>", desc := "(IIII)V" } : Jvm.MethodName) prog_9_method_1_code (5 : Nat) (Option.none : Option Jvm.ClassFile.FieldType)) ∈ lw_all := lw_g (lw_at lw_m2 142 rfl) rfl
theorem q439 : (Jvm.Cond.methodLink "JoinLoom$Same" (3 : Nat) ({ cls := "JoinLoom$Part", name := "<init>", desc := "(I)V" } : Jvm.MethodName)) ∈ lw_all := lw_g (lw_at lw_m2 143 rfl) rfl
theorem q440 : (Jvm.Cond.fieldLink "JoinLoom$Same" (9 : Nat) "JoinLoom$Same" "first" "I") ∈ lw_all := lw_g (lw_at lw_m2 144 rfl) rfl
theorem q443 : (Jvm.Cond.fieldLink "JoinLoom$Same" (15 : Nat) "JoinLoom$Same" "second" "I") ∈ lw_all := lw_g (lw_at lw_m2 147 rfl) rfl
theorem q444 : (Jvm.Cond.fieldLink "JoinLoom$Same" (18 : Nat) "JoinLoom$Same" "told" "I") ∈ lw_all := lw_g (lw_at lw_m2 148 rfl) rfl
theorem q445 : (Jvm.Cond.laysFinal "JoinLoom$Same" "JoinLoom$Same" "first" "I") ∈ lw_all := lw_g (lw_at lw_m2 149 rfl) rfl
theorem q446 : (Jvm.Cond.soleField "JoinLoom$Same" "first") ∈ lw_all := lw_g (lw_at lw_m2 150 rfl) rfl
theorem q447 : (Jvm.Cond.laysFinal "JoinLoom$Same" "JoinLoom$Same" "second" "I") ∈ lw_all := lw_g (lw_at lw_m2 151 rfl) rfl
theorem q448 : (Jvm.Cond.soleField "JoinLoom$Same" "second") ∈ lw_all := lw_g (lw_at lw_m2 152 rfl) rfl
theorem q449 : (Jvm.Cond.laysFinal "JoinLoom$Same" "JoinLoom$Same" "told" "I") ∈ lw_all := lw_g (lw_at lw_m2 153 rfl) rfl
theorem q450 : (Jvm.Cond.soleField "JoinLoom$Same" "told") ∈ lw_all := lw_g (lw_at lw_m2 154 rfl) rfl
theorem q451 : (Jvm.Cond.laysFinal "JoinLoom$Same" "JoinLoom$Part" "kind" "I") ∈ lw_all := lw_g (lw_at lw_m2 155 rfl) rfl
theorem q452 : (Jvm.Cond.superclass "JoinLoom$Same" "JoinLoom$Part") ∈ lw_all := lw_g (lw_at lw_m2 156 rfl) rfl
theorem q488 : (Jvm.Cond.selects "JoinLoom$Same" ({ cls := "JoinLoom$Part", name := "isWhole", desc := "()Z" } : Jvm.MethodName) ({ cls := "JoinLoom$Part", name := "isWhole", desc := "()Z" } : Jvm.MethodName)) ∈ lw_all := lw_g (lw_at lw_m2 192 rfl) rfl
theorem q497 : (Jvm.Cond.instanceMethod ({ cls := "JoinLoom$Same", name := "names", desc := "()I" } : Jvm.MethodName)) ∈ lw_all := lw_g (lw_at lw_m2 201 rfl) rfl
theorem q498 : (Jvm.Cond.code ({ cls := "JoinLoom$Same", name := "names", desc := "()I" } : Jvm.MethodName) prog_9_method_2_code (1 : Nat) (Option.some Jvm.ClassFile.FieldType.int)) ∈ lw_all := lw_g (lw_at lw_m2 202 rfl) rfl
theorem q500 : (Jvm.Cond.selects "JoinLoom$Same" ({ cls := "JoinLoom$Part", name := "names", desc := "()I" } : Jvm.MethodName) ({ cls := "JoinLoom$Same", name := "names", desc := "()I" } : Jvm.MethodName)) ∈ lw_all := lw_g (lw_at lw_m2 204 rfl) rfl
theorem q605 : (Jvm.Cond.declares ({ cls := "JoinLoom$Same", name := "other", desc := "([I)I" } : Jvm.MethodName)) ∈ lw_tbl := lw_at lw_m3 69 rfl
theorem q607 : (Jvm.Cond.instanceMethod ({ cls := "JoinLoom$Same", name := "other", desc := "([I)I" } : Jvm.MethodName)) ∈ lw_all := lw_g (lw_at lw_m3 71 rfl) rfl
theorem q608 : (Jvm.Cond.code ({ cls := "JoinLoom$Same", name := "other", desc := "([I)I" } : Jvm.MethodName) prog_9_method_3_code (2 : Nat) (Option.some Jvm.ClassFile.FieldType.int)) ∈ lw_all := lw_g (lw_at lw_m3 72 rfl) rfl
theorem q613 : (Jvm.Cond.selects "JoinLoom$Same" ({ cls := "JoinLoom$Part", name := "isTrue", desc := "([I)Z" } : Jvm.MethodName) ({ cls := "JoinLoom$Same", name := "isTrue", desc := "([I)Z" } : Jvm.MethodName)) ∈ lw_all := lw_g (lw_at lw_m3 77 rfl) rfl
theorem q614 : (Jvm.Cond.instanceMethod ({ cls := "JoinLoom$Same", name := "isTrue", desc := "([I)Z" } : Jvm.MethodName)) ∈ lw_all := lw_g (lw_at lw_m3 78 rfl) rfl
theorem q615 : (Jvm.Cond.code ({ cls := "JoinLoom$Same", name := "isTrue", desc := "([I)Z" } : Jvm.MethodName) prog_9_method_4_code (2 : Nat) (Option.some Jvm.ClassFile.FieldType.boolean)) ∈ lw_all := lw_g (lw_at lw_m3 79 rfl) rfl
theorem q616 : (Jvm.Cond.methodLink "JoinLoom$Same" (21 : Nat) ({ cls := "JoinLoom$Same", name := "other", desc := "([I)I" } : Jvm.MethodName)) ∈ lw_all := lw_g (lw_at lw_m3 80 rfl) rfl
theorem q1107 : (Jvm.Cond.sameMethod "JoinLoom$Same" "JoinLoom$Same" "other" "([I)I") ∈ lw_all := lw_g (lw_at lw_m5 91 rfl) rfl
theorem q1109 : (Jvm.Cond.selects "JoinLoom$Same" ({ cls := "JoinLoom$Same", name := "other", desc := "([I)I" } : Jvm.MethodName) ({ cls := "JoinLoom$Same", name := "other", desc := "([I)I" } : Jvm.MethodName)) ∈ lw_all := lw_g (lw_at lw_m5 93 rfl) rfl
theorem q1113 : (Jvm.Cond.castable "JoinLoom$Same" "JoinLoom$Part") ∈ lw_tbl := lw_at lw_m5 97 rfl
theorem in_X10 : ∀ w ∈ wsX100, w ∈ lw_all := lw_in wsX100 [451, 445, 447, 449] (by decide +kernel) (by decide +kernel)
/-! JoinLoom$Less -/
set_option maxRecDepth 100000
def RX11 : String := "JoinLoom$Less"
def TX11 : u_T := fun k => match k with
  | 0 => ("JoinLoom$Part", "kind", "I", true)
  | 1 => ("JoinLoom$Same", "first", "I", true)
  | 2 => ("JoinLoom$Same", "second", "I", true)
  | _ => ("JoinLoom$Same", "told", "I", true)
def tyX11 : Nat → FieldType := fun k => match k with
  | 0 => .int
  | 1 => .int
  | 2 => .int
  | _ => .int
abbrev wsX110 : List Cond := u_ws RX11 TX11 4
theorem nmX11 : ∀ a, a < 4 → ∀ b, b < 4 → a ≠ b → (TX11 a).2.1 ≠ (TX11 b).2.1 := by decide +kernel
theorem tyX11_ok : ∀ k, k < 4 → parseFieldDescriptor (TX11 k).2.2.1 = some (tyX11 k) := by decide +kernel
abbrev cX11_init : ByteArray := prog_4_method_1_code
def yX11_init : MethodName := ⟨RX11, "<init>", "(III)V"⟩
def dkwX11_init_0 : List UInt8 := [42, 6, 27, 28, 29, 183, 0, 3, 177]
abbrev dktX11_init_0 : List UInt8 := dkwX11_init_0 ++ []
theorem dksX11_init_0 : cX11_init.data.toList.drop 0 = dktX11_init_0 := by decide +kernel
theorem dX11_init_0 : decode cX11_init 0 = .ok (.aload_n 0, 1) := dk_42 (dk_at dksX11_init_0 0 rfl rfl)
theorem dX11_init_1 : decode cX11_init 1 = .ok (.iconst 3, 1) := dk_6 (dk_at dksX11_init_0 1 rfl rfl)
theorem dX11_init_2 : decode cX11_init 2 = .ok (.iload_n 1, 1) := dk_27 (dk_at dksX11_init_0 2 rfl rfl)
theorem dX11_init_3 : decode cX11_init 3 = .ok (.iload_n 2, 1) := dk_28 (dk_at dksX11_init_0 3 rfl rfl)
theorem dX11_init_4 : decode cX11_init 4 = .ok (.iload_n 3, 1) := dk_29 (dk_at dksX11_init_0 4 rfl rfl)
theorem dX11_init_5 : decode cX11_init 5 = .ok (.invokespecial 3, 3) := dk_183 0 3 (dk_at dksX11_init_0 5 rfl rfl)
theorem dX11_init_8 : decode cX11_init 8 = .ok (.return_, 1) := dk_177 (dk_at dksX11_init_0 8 rfl rfl)
abbrev cX11_isTrue : ByteArray := prog_4_method_2_code
def yX11_isTrue : MethodName := ⟨RX11, "isTrue", "([I)Z"⟩
def dkwX11_isTrue_1 : List UInt8 := [167, 0, 4, 3, 172]
abbrev dktX11_isTrue_1 : List UInt8 := dkwX11_isTrue_1 ++ []
def dkwX11_isTrue_0 : List UInt8 := [43, 42, 180, 0, 9, 46, 184, 0, 15, 42, 43, 182, 0, 19, 184, 0, 15, 148, 156, 0, 7, 4]
abbrev dktX11_isTrue_0 : List UInt8 := dkwX11_isTrue_0 ++ dktX11_isTrue_1
theorem dksX11_isTrue_0 : cX11_isTrue.data.toList.drop 0 = dktX11_isTrue_0 := by decide +kernel
theorem dksX11_isTrue_1 : cX11_isTrue.data.toList.drop 22 = dktX11_isTrue_1 := dk_seg dksX11_isTrue_0 22 rfl rfl
theorem dX11_isTrue_0 : decode cX11_isTrue 0 = .ok (.aload_n 1, 1) := dk_43 (dk_at dksX11_isTrue_0 0 rfl rfl)
theorem dX11_isTrue_1 : decode cX11_isTrue 1 = .ok (.aload_n 0, 1) := dk_42 (dk_at dksX11_isTrue_0 1 rfl rfl)
theorem dX11_isTrue_2 : decode cX11_isTrue 2 = .ok (.getfield 9, 3) := dk_180 0 9 (dk_at dksX11_isTrue_0 2 rfl rfl)
theorem dX11_isTrue_5 : decode cX11_isTrue 5 = .ok (.iaload, 1) := dk_46 (dk_at dksX11_isTrue_0 5 rfl rfl)
theorem dX11_isTrue_6 : decode cX11_isTrue 6 = .ok (.invokestatic 15, 3) := dk_184 0 15 (dk_at dksX11_isTrue_0 6 rfl rfl)
theorem dX11_isTrue_9 : decode cX11_isTrue 9 = .ok (.aload_n 0, 1) := dk_42 (dk_at dksX11_isTrue_0 9 rfl rfl)
theorem dX11_isTrue_10 : decode cX11_isTrue 10 = .ok (.aload_n 1, 1) := dk_43 (dk_at dksX11_isTrue_0 10 rfl rfl)
theorem dX11_isTrue_11 : decode cX11_isTrue 11 = .ok (.invokevirtual 19, 3) := dk_182 0 19 (dk_at dksX11_isTrue_0 11 rfl rfl)
theorem dX11_isTrue_14 : decode cX11_isTrue 14 = .ok (.invokestatic 15, 3) := dk_184 0 15 (dk_at dksX11_isTrue_0 14 rfl rfl)
theorem dX11_isTrue_17 : decode cX11_isTrue 17 = .ok (.lcmp, 1) := dk_148 (dk_at dksX11_isTrue_0 17 rfl rfl)
theorem dX11_isTrue_18 : decode cX11_isTrue 18 = .ok (.ifCond .ge 7, 3) := dk_156 0 7 (dk_at dksX11_isTrue_0 18 rfl rfl)
theorem dX11_isTrue_21 : decode cX11_isTrue 21 = .ok (.iconst 1, 1) := dk_4 (dk_at dksX11_isTrue_0 21 rfl rfl)
theorem dX11_isTrue_22 : decode cX11_isTrue 22 = .ok (.goto 4, 3) := dk_167 0 4 (dk_at dksX11_isTrue_1 0 rfl rfl)
theorem dX11_isTrue_25 : decode cX11_isTrue 25 = .ok (.iconst 0, 1) := dk_3 (dk_at dksX11_isTrue_1 3 rfl rfl)
theorem dX11_isTrue_26 : decode cX11_isTrue 26 = .ok (.ireturn, 1) := dk_172 (dk_at dksX11_isTrue_1 4 rfl rfl)
theorem q68 : (Jvm.Cond.initialized "JoinLoom$Less") ∈ lw_all := lw_g (lw_at lw_m1 12 rfl) rfl
theorem q441 : (Jvm.Cond.fieldLink "JoinLoom$Less" (9 : Nat) "JoinLoom$Less" "first" "I") ∈ lw_all := lw_g (lw_at lw_m2 145 rfl) rfl
theorem q442 : (Jvm.Cond.sameField "JoinLoom$Less" "JoinLoom$Same" "first" "I") ∈ lw_all := lw_g (lw_at lw_m2 146 rfl) rfl
theorem q454 : (Jvm.Cond.instantiable "JoinLoom$Less" (4 : Nat)) ∈ lw_all := lw_g (lw_at lw_m2 158 rfl) rfl
theorem q456 : (Jvm.Cond.instanceMethod ({ cls := "JoinLoom$Less", name := "<init>", desc := "(III)V" } : Jvm.MethodName)) ∈ lw_all := lw_g (lw_at lw_m2 160 rfl) rfl
theorem q457 : (Jvm.Cond.code ({ cls := "JoinLoom$Less", name := "<init>", desc := "(III)V" } : Jvm.MethodName) prog_4_method_1_code (4 : Nat) (Option.none : Option Jvm.ClassFile.FieldType)) ∈ lw_all := lw_g (lw_at lw_m2 161 rfl) rfl
theorem q458 : (Jvm.Cond.methodLink "JoinLoom$Less" (3 : Nat) ({ cls := "JoinLoom$Same", name := "<init>", desc := "(IIII)V" } : Jvm.MethodName)) ∈ lw_all := lw_g (lw_at lw_m2 162 rfl) rfl
theorem q459 : (Jvm.Cond.laysFinal "JoinLoom$Less" "JoinLoom$Same" "first" "I") ∈ lw_all := lw_g (lw_at lw_m2 163 rfl) rfl
theorem q460 : (Jvm.Cond.laysFinal "JoinLoom$Less" "JoinLoom$Same" "second" "I") ∈ lw_all := lw_g (lw_at lw_m2 164 rfl) rfl
theorem q461 : (Jvm.Cond.laysFinal "JoinLoom$Less" "JoinLoom$Same" "told" "I") ∈ lw_all := lw_g (lw_at lw_m2 165 rfl) rfl
theorem q462 : (Jvm.Cond.laysFinal "JoinLoom$Less" "JoinLoom$Part" "kind" "I") ∈ lw_all := lw_g (lw_at lw_m2 166 rfl) rfl
theorem q463 : (Jvm.Cond.superclass "JoinLoom$Less" "JoinLoom$Same") ∈ lw_all := lw_g (lw_at lw_m2 167 rfl) rfl
theorem q486 : (Jvm.Cond.selects "JoinLoom$Less" ({ cls := "JoinLoom$Part", name := "isWhole", desc := "()Z" } : Jvm.MethodName) ({ cls := "JoinLoom$Part", name := "isWhole", desc := "()Z" } : Jvm.MethodName)) ∈ lw_all := lw_g (lw_at lw_m2 190 rfl) rfl
theorem q496 : (Jvm.Cond.selects "JoinLoom$Less" ({ cls := "JoinLoom$Part", name := "names", desc := "()I" } : Jvm.MethodName) ({ cls := "JoinLoom$Same", name := "names", desc := "()I" } : Jvm.MethodName)) ∈ lw_all := lw_g (lw_at lw_m2 200 rfl) rfl
theorem q599 : (Jvm.Cond.selects "JoinLoom$Less" ({ cls := "JoinLoom$Part", name := "isTrue", desc := "([I)Z" } : Jvm.MethodName) ({ cls := "JoinLoom$Less", name := "isTrue", desc := "([I)Z" } : Jvm.MethodName)) ∈ lw_all := lw_g (lw_at lw_m3 63 rfl) rfl
theorem q600 : (Jvm.Cond.instanceMethod ({ cls := "JoinLoom$Less", name := "isTrue", desc := "([I)Z" } : Jvm.MethodName)) ∈ lw_all := lw_g (lw_at lw_m3 64 rfl) rfl
theorem q601 : (Jvm.Cond.code ({ cls := "JoinLoom$Less", name := "isTrue", desc := "([I)Z" } : Jvm.MethodName) prog_4_method_2_code (2 : Nat) (Option.some Jvm.ClassFile.FieldType.boolean)) ∈ lw_all := lw_g (lw_at lw_m3 65 rfl) rfl
theorem q602 : (Jvm.Cond.methodLinkNest "JoinLoom$Less" (15 : Nat) ({ cls := "JoinLoom", name := "rank", desc := "(I)J" } : Jvm.MethodName) "JoinLoom") ∈ lw_tbl := lw_at lw_m3 66 rfl
theorem q603 : (Jvm.Cond.methodLink "JoinLoom$Less" (19 : Nat) ({ cls := "JoinLoom$Less", name := "other", desc := "([I)I" } : Jvm.MethodName)) ∈ lw_all := lw_g (lw_at lw_m3 67 rfl) rfl
theorem q604 : (Jvm.Cond.sameMethod "JoinLoom$Less" "JoinLoom$Same" "other" "([I)I") ∈ lw_all := lw_g (lw_at lw_m3 68 rfl) rfl
theorem q606 : (Jvm.Cond.selects "JoinLoom$Less" ({ cls := "JoinLoom$Less", name := "other", desc := "([I)I" } : Jvm.MethodName) ({ cls := "JoinLoom$Same", name := "other", desc := "([I)I" } : Jvm.MethodName)) ∈ lw_all := lw_g (lw_at lw_m3 70 rfl) rfl
theorem q1108 : (Jvm.Cond.selects "JoinLoom$Less" ({ cls := "JoinLoom$Same", name := "other", desc := "([I)I" } : Jvm.MethodName) ({ cls := "JoinLoom$Same", name := "other", desc := "([I)I" } : Jvm.MethodName)) ∈ lw_all := lw_g (lw_at lw_m5 92 rfl) rfl
theorem q1114 : (Jvm.Cond.castable "JoinLoom$Less" "JoinLoom$Part") ∈ lw_tbl := lw_at lw_m5 98 rfl
theorem in_X11 : ∀ w ∈ wsX110, w ∈ lw_all := lw_in wsX110 [462, 459, 460, 461] (by decide +kernel) (by decide +kernel)
