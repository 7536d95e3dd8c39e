/-! java/lang/Object -/
set_option maxRecDepth 100000
def RJ1 : String := "java/lang/Object"
abbrev cJ1_init : ByteArray := object_method_1_code
def yJ1_init : MethodName := ⟨RJ1, "<init>", "()V"⟩
theorem dJ1_init_0 : decode cJ1_init 0 = .ok (.return_, 1) := by decide +kernel
theorem q77 : (Jvm.Cond.instanceMethod ({ cls := "java/lang/Object", name := "<init>", desc := "()V" } : Jvm.MethodName)) ∈ lw_all := lw_g (lw_at lw_m1 21 rfl) rfl
theorem q78 : (Jvm.Cond.code ({ cls := "java/lang/Object", name := "<init>", desc := "()V" } : Jvm.MethodName) object_method_1_code (1 : Nat) (Option.none : Option Jvm.ClassFile.FieldType)) ∈ lw_all := lw_g (lw_at lw_m1 22 rfl) rfl
/-! java/lang/Math -/
set_option maxRecDepth 100000
def RJ0 : String := "java/lang/Math"
abbrev cJ0_min : ByteArray := prog_14_method_69_code
def yJ0_min : MethodName := ⟨RJ0, "min", "(II)I"⟩
def dkwJ0_min_0 : List UInt8 := [26, 27, 163, 0, 7, 26, 167, 0, 4, 27, 172]
abbrev dktJ0_min_0 : List UInt8 := dkwJ0_min_0 ++ []
theorem dksJ0_min_0 : cJ0_min.data.toList.drop 0 = dktJ0_min_0 := by decide +kernel
theorem dJ0_min_0 : decode cJ0_min 0 = .ok (.iload_n 0, 1) := dk_26 (dk_at dksJ0_min_0 0 rfl rfl)
theorem dJ0_min_1 : decode cJ0_min 1 = .ok (.iload_n 1, 1) := dk_27 (dk_at dksJ0_min_0 1 rfl rfl)
theorem dJ0_min_2 : decode cJ0_min 2 = .ok (.if_icmp .gt 7, 3) := dk_163 0 7 (dk_at dksJ0_min_0 2 rfl rfl)
theorem dJ0_min_5 : decode cJ0_min 5 = .ok (.iload_n 0, 1) := dk_26 (dk_at dksJ0_min_0 5 rfl rfl)
theorem dJ0_min_6 : decode cJ0_min 6 = .ok (.goto 4, 3) := dk_167 0 4 (dk_at dksJ0_min_0 6 rfl rfl)
theorem dJ0_min_9 : decode cJ0_min 9 = .ok (.iload_n 1, 1) := dk_27 (dk_at dksJ0_min_0 9 rfl rfl)
theorem dJ0_min_10 : decode cJ0_min 10 = .ok (.ireturn, 1) := dk_172 (dk_at dksJ0_min_0 10 rfl rfl)
abbrev cJ0_max : ByteArray := prog_14_method_65_code
def yJ0_max : MethodName := ⟨RJ0, "max", "(II)I"⟩
def dkwJ0_max_0 : List UInt8 := [26, 27, 161, 0, 7, 26, 167, 0, 4, 27, 172]
abbrev dktJ0_max_0 : List UInt8 := dkwJ0_max_0 ++ []
theorem dksJ0_max_0 : cJ0_max.data.toList.drop 0 = dktJ0_max_0 := by decide +kernel
theorem dJ0_max_0 : decode cJ0_max 0 = .ok (.iload_n 0, 1) := dk_26 (dk_at dksJ0_max_0 0 rfl rfl)
theorem dJ0_max_1 : decode cJ0_max 1 = .ok (.iload_n 1, 1) := dk_27 (dk_at dksJ0_max_0 1 rfl rfl)
theorem dJ0_max_2 : decode cJ0_max 2 = .ok (.if_icmp .lt 7, 3) := dk_161 0 7 (dk_at dksJ0_max_0 2 rfl rfl)
theorem dJ0_max_5 : decode cJ0_max 5 = .ok (.iload_n 0, 1) := dk_26 (dk_at dksJ0_max_0 5 rfl rfl)
theorem dJ0_max_6 : decode cJ0_max 6 = .ok (.goto 4, 3) := dk_167 0 4 (dk_at dksJ0_max_0 6 rfl rfl)
theorem dJ0_max_9 : decode cJ0_max 9 = .ok (.iload_n 1, 1) := dk_27 (dk_at dksJ0_max_0 9 rfl rfl)
theorem dJ0_max_10 : decode cJ0_max 10 = .ok (.ireturn, 1) := dk_172 (dk_at dksJ0_max_0 10 rfl rfl)
theorem q69 : (Jvm.Cond.initialized "java/lang/Math") ∈ lw_all := lw_g (lw_at lw_m1 13 rfl) rfl
theorem q575 : (Jvm.Cond.static ({ cls := "java/lang/Math", name := "min", desc := "(II)I" } : Jvm.MethodName)) ∈ lw_all := lw_g (lw_at lw_m3 39 rfl) rfl
theorem q576 : (Jvm.Cond.code ({ cls := "java/lang/Math", name := "min", desc := "(II)I" } : Jvm.MethodName) prog_14_method_69_code (2 : Nat) (Option.some Jvm.ClassFile.FieldType.int)) ∈ lw_all := lw_g (lw_at lw_m3 40 rfl) rfl
theorem q672 : (Jvm.Cond.static ({ cls := "java/lang/Math", name := "max", desc := "(II)I" } : Jvm.MethodName)) ∈ lw_all := lw_g (lw_at lw_m3 136 rfl) rfl
theorem q673 : (Jvm.Cond.code ({ cls := "java/lang/Math", name := "max", desc := "(II)I" } : Jvm.MethodName) prog_14_method_65_code (2 : Nat) (Option.some Jvm.ClassFile.FieldType.int)) ∈ lw_all := lw_g (lw_at lw_m3 137 rfl) rfl
theorem q80 : (Jvm.Cond.arrayOver (Jvm.ClassFile.FieldType.object "JoinLoom$Table")) ∈ lw_tbl := lw_at lw_m1 24 rfl
set_option maxRecDepth 100000
theorem q118 : (Jvm.Cond.arrayClass Jvm.ClassFile.FieldType.int) ∈ lw_all := lw_g (lw_at lw_m1 62 rfl) rfl
theorem q126 : (Jvm.Cond.arrayOver (Jvm.ClassFile.FieldType.object "JoinLoom$Tree")) ∈ lw_tbl := lw_at lw_m1 70 rfl
theorem q169 : (Jvm.Cond.arrayOver (Jvm.ClassFile.FieldType.array (Jvm.ClassFile.FieldType.object "JoinLoom$Tree"))) ∈ lw_tbl := lw_at lw_m1 113 rfl
theorem q326 : (Jvm.Cond.arrayOver (Jvm.ClassFile.FieldType.object "JoinLoom$Part")) ∈ lw_tbl := lw_at lw_m2 30 rfl
theorem q859 : (Jvm.Cond.arrayClass Jvm.ClassFile.FieldType.boolean) ∈ lw_all := lw_g (lw_at lw_m4 83 rfl) rfl
theorem q56 : (Jvm.Cond.initialized "JoinLoomLaw") ∈ lw_all := lw_g (lw_at lw_m1 0 rfl) rfl
set_option maxRecDepth 100000
theorem q71 : (Jvm.Cond.classLink "JoinLoomLaw" (7 : Nat) "JoinLoom") ∈ lw_all := lw_g (lw_at lw_m1 15 rfl) rfl
theorem q73 : (Jvm.Cond.methodLink "JoinLoomLaw" (9 : Nat) ({ cls := "JoinLoom", name := "<init>", desc := "()V" } : Jvm.MethodName)) ∈ lw_all := lw_g (lw_at lw_m1 17 rfl) rfl
theorem q229 : (Jvm.Cond.methodLink "JoinLoomLaw" (13 : Nat) ({ cls := "JoinLoom", name := "table", desc := "(II)Z" } : Jvm.MethodName)) ∈ lw_all := lw_g (lw_at lw_m1 173 rfl) rfl
theorem q260 : (Jvm.Cond.methodLink "JoinLoomLaw" (18 : Nat) ({ cls := "JoinLoom", name := "put", desc := "(IIII)I" } : Jvm.MethodName)) ∈ lw_all := lw_g (lw_at lw_m1 204 rfl) rfl
theorem q298 : (Jvm.Cond.methodLink "JoinLoomLaw" (23 : Nat) ({ cls := "JoinLoom", name := "drop", desc := "(IIII)Z" } : Jvm.MethodName)) ∈ lw_all := lw_g (lw_at lw_m2 2 rfl) rfl
theorem q306 : (Jvm.Cond.methodLink "JoinLoomLaw" (28 : Nat) ({ cls := "JoinLoom", name := "rows", desc := "(I)I" } : Jvm.MethodName)) ∈ lw_all := lw_g (lw_at lw_m2 10 rfl) rfl
theorem q310 : (Jvm.Cond.methodLink "JoinLoomLaw" (33 : Nat) ({ cls := "JoinLoom", name := "row", desc := "(III)I" } : Jvm.MethodName)) ∈ lw_all := lw_g (lw_at lw_m2 14 rfl) rfl
theorem q315 : (Jvm.Cond.methodLink "JoinLoomLaw" (38 : Nat) ({ cls := "JoinLoom", name := "ask", desc := "(I)Z" } : Jvm.MethodName)) ∈ lw_all := lw_g (lw_at lw_m2 19 rfl) rfl
theorem q352 : (Jvm.Cond.methodLink "JoinLoomLaw" (43 : Nat) ({ cls := "JoinLoom", name := "part", desc := "(II)I" } : Jvm.MethodName)) ∈ lw_all := lw_g (lw_at lw_m2 56 rfl) rfl
theorem q414 : (Jvm.Cond.methodLink "JoinLoomLaw" (48 : Nat) ({ cls := "JoinLoom", name := "name", desc := "(I)I" } : Jvm.MethodName)) ∈ lw_all := lw_g (lw_at lw_m2 118 rfl) rfl
theorem q426 : (Jvm.Cond.methodLink "JoinLoomLaw" (52 : Nat) ({ cls := "JoinLoom", name := "value", desc := "(I)I" } : Jvm.MethodName)) ∈ lw_all := lw_g (lw_at lw_m2 130 rfl) rfl
theorem q430 : (Jvm.Cond.methodLink "JoinLoomLaw" (56 : Nat) ({ cls := "JoinLoom", name := "compare", desc := "(IIZI)I" } : Jvm.MethodName)) ∈ lw_all := lw_g (lw_at lw_m2 134 rfl) rfl
theorem q464 : (Jvm.Cond.methodLink "JoinLoomLaw" (61 : Nat) ({ cls := "JoinLoom", name := "order", desc := "(II)Z" } : Jvm.MethodName)) ∈ lw_all := lw_g (lw_at lw_m2 168 rfl) rfl
theorem q468 : (Jvm.Cond.methodLink "JoinLoomLaw" (65 : Nat) ({ cls := "JoinLoom", name := "weave", desc := "()I" } : Jvm.MethodName)) ∈ lw_all := lw_g (lw_at lw_m2 172 rfl) rfl
theorem q646 : (Jvm.Cond.methodLink "JoinLoomLaw" (70 : Nat) ({ cls := "JoinLoom", name := "answer", desc := "(II)I" } : Jvm.MethodName)) ∈ lw_all := lw_g (lw_at lw_m3 110 rfl) rfl
theorem q659 : (Jvm.Cond.methodLink "JoinLoomLaw" (74 : Nat) ({ cls := "JoinLoom", name := "meetings", desc := "(I)I" } : Jvm.MethodName)) ∈ lw_all := lw_g (lw_at lw_m3 123 rfl) rfl
theorem q663 : (Jvm.Cond.methodLink "JoinLoomLaw" (78 : Nat) ({ cls := "JoinLoom", name := "witness", desc := "(II)I" } : Jvm.MethodName)) ∈ lw_all := lw_g (lw_at lw_m3 127 rfl) rfl
theorem q667 : (Jvm.Cond.methodLink "JoinLoomLaw" (82 : Nat) ({ cls := "JoinLoom", name := "sum", desc := "(II)J" } : Jvm.MethodName)) ∈ lw_all := lw_g (lw_at lw_m3 131 rfl) rfl
theorem q679 : (Jvm.Cond.methodLink "JoinLoomLaw" (87 : Nat) ({ cls := "JoinLoom", name := "group", desc := "(IIII)J" } : Jvm.MethodName)) ∈ lw_all := lw_g (lw_at lw_m3 143 rfl) rfl
theorem q683 : (Jvm.Cond.methodLink "JoinLoomLaw" (92 : Nat) ({ cls := "JoinLoom", name := "keep", desc := "()I" } : Jvm.MethodName)) ∈ lw_all := lw_g (lw_at lw_m3 147 rfl) rfl
theorem q687 : (Jvm.Cond.methodLink "JoinLoomLaw" (96 : Nat) ({ cls := "JoinLoom", name := "delta", desc := "(I)I" } : Jvm.MethodName)) ∈ lw_all := lw_g (lw_at lw_m3 151 rfl) rfl
theorem q703 : (Jvm.Cond.methodLink "JoinLoomLaw" (100 : Nat) ({ cls := "JoinLoom", name := "change", desc := "(III)I" } : Jvm.MethodName)) ∈ lw_all := lw_g (lw_at lw_m3 167 rfl) rfl
theorem q707 : (Jvm.Cond.methodLink "JoinLoomLaw" (104 : Nat) ({ cls := "JoinLoom", name := "bound", desc := "()J" } : Jvm.MethodName)) ∈ lw_all := lw_g (lw_at lw_m3 171 rfl) rfl
theorem q725 : (Jvm.Cond.methodLink "JoinLoomLaw" (109 : Nat) ({ cls := "JoinLoom", name := "cover", desc := "(I)I" } : Jvm.MethodName)) ∈ lw_all := lw_g (lw_at lw_m3 189 rfl) rfl
theorem q729 : (Jvm.Cond.methodLink "JoinLoomLaw" (113 : Nat) ({ cls := "JoinLoom", name := "best", desc := "()I" } : Jvm.MethodName)) ∈ lw_all := lw_g (lw_at lw_m3 193 rfl) rfl
theorem q737 : (Jvm.Cond.methodLink "JoinLoomLaw" (117 : Nat) ({ cls := "JoinLoom", name := "rings", desc := "(I)I" } : Jvm.MethodName)) ∈ lw_all := lw_g (lw_at lw_m3 201 rfl) rfl
theorem q751 : (Jvm.Cond.methodLink "JoinLoomLaw" (121 : Nat) ({ cls := "JoinLoom", name := "ring", desc := "(III)I" } : Jvm.MethodName)) ∈ lw_all := lw_g (lw_at lw_m3 215 rfl) rfl
theorem q755 : (Jvm.Cond.methodLink "JoinLoomLaw" (125 : Nat) ({ cls := "JoinLoom", name := "count", desc := "(I)I" } : Jvm.MethodName)) ∈ lw_all := lw_g (lw_at lw_m3 219 rfl) rfl
theorem q759 : (Jvm.Cond.classLink "JoinLoomLaw" (10 : Nat) "JoinLoomModel") ∈ lw_all := lw_g (lw_at lw_m3 223 rfl) rfl
theorem q761 : (Jvm.Cond.methodLink "JoinLoomLaw" (12 : Nat) ({ cls := "JoinLoomModel", name := "<init>", desc := "()V" } : Jvm.MethodName)) ∈ lw_all := lw_g (lw_at lw_m3 225 rfl) rfl
theorem q860 : (Jvm.Cond.methodLink "JoinLoomLaw" (17 : Nat) ({ cls := "JoinLoomModel", name := "table", desc := "(II)Z" } : Jvm.MethodName)) ∈ lw_all := lw_g (lw_at lw_m4 84 rfl) rfl
theorem q867 : (Jvm.Cond.methodLink "JoinLoomLaw" (22 : Nat) ({ cls := "JoinLoomModel", name := "put", desc := "(IIII)I" } : Jvm.MethodName)) ∈ lw_all := lw_g (lw_at lw_m4 91 rfl) rfl
theorem q895 : (Jvm.Cond.methodLink "JoinLoomLaw" (27 : Nat) ({ cls := "JoinLoomModel", name := "drop", desc := "(IIII)Z" } : Jvm.MethodName)) ∈ lw_all := lw_g (lw_at lw_m4 119 rfl) rfl
theorem q899 : (Jvm.Cond.methodLink "JoinLoomLaw" (32 : Nat) ({ cls := "JoinLoomModel", name := "rows", desc := "(I)I" } : Jvm.MethodName)) ∈ lw_all := lw_g (lw_at lw_m4 123 rfl) rfl
theorem q903 : (Jvm.Cond.methodLink "JoinLoomLaw" (37 : Nat) ({ cls := "JoinLoomModel", name := "row", desc := "(III)I" } : Jvm.MethodName)) ∈ lw_all := lw_g (lw_at lw_m4 127 rfl) rfl
theorem q907 : (Jvm.Cond.methodLink "JoinLoomLaw" (42 : Nat) ({ cls := "JoinLoomModel", name := "ask", desc := "(I)Z" } : Jvm.MethodName)) ∈ lw_all := lw_g (lw_at lw_m4 131 rfl) rfl
theorem q911 : (Jvm.Cond.methodLink "JoinLoomLaw" (47 : Nat) ({ cls := "JoinLoomModel", name := "part", desc := "(II)I" } : Jvm.MethodName)) ∈ lw_all := lw_g (lw_at lw_m4 135 rfl) rfl
theorem q915 : (Jvm.Cond.methodLink "JoinLoomLaw" (51 : Nat) ({ cls := "JoinLoomModel", name := "name", desc := "(I)I" } : Jvm.MethodName)) ∈ lw_all := lw_g (lw_at lw_m4 139 rfl) rfl
theorem q923 : (Jvm.Cond.methodLink "JoinLoomLaw" (55 : Nat) ({ cls := "JoinLoomModel", name := "value", desc := "(I)I" } : Jvm.MethodName)) ∈ lw_all := lw_g (lw_at lw_m4 147 rfl) rfl
theorem q927 : (Jvm.Cond.methodLink "JoinLoomLaw" (60 : Nat) ({ cls := "JoinLoomModel", name := "compare", desc := "(IIZI)I" } : Jvm.MethodName)) ∈ lw_all := lw_g (lw_at lw_m4 151 rfl) rfl
theorem q931 : (Jvm.Cond.methodLink "JoinLoomLaw" (69 : Nat) ({ cls := "JoinLoomModel", name := "weave", desc := "()I" } : Jvm.MethodName)) ∈ lw_all := lw_g (lw_at lw_m4 155 rfl) rfl
theorem q994 : (Jvm.Cond.methodLink "JoinLoomLaw" (73 : Nat) ({ cls := "JoinLoomModel", name := "answer", desc := "(II)I" } : Jvm.MethodName)) ∈ lw_all := lw_g (lw_at lw_m4 218 rfl) rfl
theorem q1002 : (Jvm.Cond.methodLink "JoinLoomLaw" (77 : Nat) ({ cls := "JoinLoomModel", name := "meetings", desc := "(I)I" } : Jvm.MethodName)) ∈ lw_all := lw_g (lw_at lw_m4 226 rfl) rfl
theorem q1006 : (Jvm.Cond.methodLink "JoinLoomLaw" (81 : Nat) ({ cls := "JoinLoomModel", name := "witness", desc := "(II)I" } : Jvm.MethodName)) ∈ lw_all := lw_g (lw_at lw_m4 230 rfl) rfl
theorem q1010 : (Jvm.Cond.methodLink "JoinLoomLaw" (86 : Nat) ({ cls := "JoinLoomModel", name := "sum", desc := "(II)J" } : Jvm.MethodName)) ∈ lw_all := lw_g (lw_at lw_m4 234 rfl) rfl
theorem q1018 : (Jvm.Cond.methodLink "JoinLoomLaw" (91 : Nat) ({ cls := "JoinLoomModel", name := "group", desc := "(IIII)J" } : Jvm.MethodName)) ∈ lw_all := lw_g (lw_at lw_m5 2 rfl) rfl
theorem q1022 : (Jvm.Cond.methodLink "JoinLoomLaw" (95 : Nat) ({ cls := "JoinLoomModel", name := "keep", desc := "()I" } : Jvm.MethodName)) ∈ lw_all := lw_g (lw_at lw_m5 6 rfl) rfl
theorem q1026 : (Jvm.Cond.methodLink "JoinLoomLaw" (99 : Nat) ({ cls := "JoinLoomModel", name := "delta", desc := "(I)I" } : Jvm.MethodName)) ∈ lw_all := lw_g (lw_at lw_m5 10 rfl) rfl
theorem q1041 : (Jvm.Cond.methodLink "JoinLoomLaw" (103 : Nat) ({ cls := "JoinLoomModel", name := "change", desc := "(III)I" } : Jvm.MethodName)) ∈ lw_all := lw_g (lw_at lw_m5 25 rfl) rfl
theorem q1045 : (Jvm.Cond.methodLink "JoinLoomLaw" (108 : Nat) ({ cls := "JoinLoomModel", name := "bound", desc := "()J" } : Jvm.MethodName)) ∈ lw_all := lw_g (lw_at lw_m5 29 rfl) rfl
theorem q1062 : (Jvm.Cond.methodLink "JoinLoomLaw" (112 : Nat) ({ cls := "JoinLoomModel", name := "cover", desc := "(I)I" } : Jvm.MethodName)) ∈ lw_all := lw_g (lw_at lw_m5 46 rfl) rfl
theorem q1066 : (Jvm.Cond.methodLink "JoinLoomLaw" (64 : Nat) ({ cls := "JoinLoomModel", name := "order", desc := "(II)Z" } : Jvm.MethodName)) ∈ lw_all := lw_g (lw_at lw_m5 50 rfl) rfl
theorem q1070 : (Jvm.Cond.methodLink "JoinLoomLaw" (116 : Nat) ({ cls := "JoinLoomModel", name := "best", desc := "()I" } : Jvm.MethodName)) ∈ lw_all := lw_g (lw_at lw_m5 54 rfl) rfl
theorem q1078 : (Jvm.Cond.methodLink "JoinLoomLaw" (120 : Nat) ({ cls := "JoinLoomModel", name := "rings", desc := "(I)I" } : Jvm.MethodName)) ∈ lw_all := lw_g (lw_at lw_m5 62 rfl) rfl
theorem q1094 : (Jvm.Cond.methodLink "JoinLoomLaw" (124 : Nat) ({ cls := "JoinLoomModel", name := "ring", desc := "(III)I" } : Jvm.MethodName)) ∈ lw_all := lw_g (lw_at lw_m5 78 rfl) rfl
theorem q1098 : (Jvm.Cond.methodLink "JoinLoomLaw" (128 : Nat) ({ cls := "JoinLoomModel", name := "count", desc := "(I)I" } : Jvm.MethodName)) ∈ lw_all := lw_g (lw_at lw_m5 82 rfl) rfl
theorem q70 : (Jvm.Cond.initialized "java/lang/System") ∈ lw_all := lw_g (lw_at lw_m1 14 rfl) rfl
set_option maxRecDepth 100000
theorem q644 : (Jvm.Cond.static ({ cls := "java/lang/System", name := "arraycopy", desc := "(Ljava/lang/Object;ILjava/lang/Object;II)V" } : Jvm.MethodName)) ∈ lw_all := lw_g (lw_at lw_m3 108 rfl) rfl
theorem q645 : (Jvm.Cond.native ({ cls := "java/lang/System", name := "arraycopy", desc := "(Ljava/lang/Object;ILjava/lang/Object;II)V" } : Jvm.MethodName)) ∈ lw_all := lw_g (lw_at lw_m3 109 rfl) rfl
