/-! SandKeepsSeaLaw -/
set_option maxRecDepth 100000
def RX0 : String := "SandKeepsSeaLaw"
abbrev cX0_cell : ByteArray := method_3_code
def yX0_cell : MethodName := ⟨RX0, "cell", "(LSandKeepsSea;II[J)I"⟩
def dkwX0_cell_0 : List UInt8 := [45, 3, 42, 27, 28, 182, 0, 7, 133, 80, 167, 0, 7, 58, 4, 4, 172, 3, 172]
abbrev dktX0_cell_0 : List UInt8 := dkwX0_cell_0 ++ []
theorem dksX0_cell_0 : cX0_cell.data.toList.drop 0 = dktX0_cell_0 := by decide +kernel
theorem dX0_cell_0 : decode cX0_cell 0 = .ok (.aload_n 3, 1) := dk_45 (dk_at dksX0_cell_0 0 rfl rfl)
theorem dX0_cell_1 : decode cX0_cell 1 = .ok (.iconst 0, 1) := dk_3 (dk_at dksX0_cell_0 1 rfl rfl)
theorem dX0_cell_2 : decode cX0_cell 2 = .ok (.aload_n 0, 1) := dk_42 (dk_at dksX0_cell_0 2 rfl rfl)
theorem dX0_cell_3 : decode cX0_cell 3 = .ok (.iload_n 1, 1) := dk_27 (dk_at dksX0_cell_0 3 rfl rfl)
theorem dX0_cell_4 : decode cX0_cell 4 = .ok (.iload_n 2, 1) := dk_28 (dk_at dksX0_cell_0 4 rfl rfl)
theorem dX0_cell_5 : decode cX0_cell 5 = .ok (.invokevirtual 7, 3) := dk_182 0 7 (dk_at dksX0_cell_0 5 rfl rfl)
theorem dX0_cell_8 : decode cX0_cell 8 = .ok (.i2l, 1) := dk_133 (dk_at dksX0_cell_0 8 rfl rfl)
theorem dX0_cell_9 : decode cX0_cell 9 = .ok (.lastore, 1) := dk_80 (dk_at dksX0_cell_0 9 rfl rfl)
theorem dX0_cell_10 : decode cX0_cell 10 = .ok (.goto 7, 3) := dk_167 0 7 (dk_at dksX0_cell_0 10 rfl rfl)
theorem dX0_cell_13 : decode cX0_cell 13 = .ok (.astore 4, 2) := dk_58 4 (dk_at dksX0_cell_0 13 rfl rfl)
theorem dX0_cell_15 : decode cX0_cell 15 = .ok (.iconst 1, 1) := dk_4 (dk_at dksX0_cell_0 15 rfl rfl)
theorem dX0_cell_16 : decode cX0_cell 16 = .ok (.ireturn, 1) := dk_172 (dk_at dksX0_cell_0 16 rfl rfl)
theorem dX0_cell_17 : decode cX0_cell 17 = .ok (.iconst 0, 1) := dk_3 (dk_at dksX0_cell_0 17 rfl rfl)
theorem dX0_cell_18 : decode cX0_cell 18 = .ok (.ireturn, 1) := dk_172 (dk_at dksX0_cell_0 18 rfl rfl)
abbrev cX0_child : ByteArray := method_4_code
def yX0_child : MethodName := ⟨RX0, "child", "(LSandKeepsSea;II[J)I"⟩
def dkwX0_child_0 : List UInt8 := [45, 3, 42, 27, 28, 182, 0, 15, 133, 80, 167, 0, 7, 58, 4, 4, 172, 3, 172]
abbrev dktX0_child_0 : List UInt8 := dkwX0_child_0 ++ []
theorem dksX0_child_0 : cX0_child.data.toList.drop 0 = dktX0_child_0 := by decide +kernel
theorem dX0_child_0 : decode cX0_child 0 = .ok (.aload_n 3, 1) := dk_45 (dk_at dksX0_child_0 0 rfl rfl)
theorem dX0_child_1 : decode cX0_child 1 = .ok (.iconst 0, 1) := dk_3 (dk_at dksX0_child_0 1 rfl rfl)
theorem dX0_child_2 : decode cX0_child 2 = .ok (.aload_n 0, 1) := dk_42 (dk_at dksX0_child_0 2 rfl rfl)
theorem dX0_child_3 : decode cX0_child 3 = .ok (.iload_n 1, 1) := dk_27 (dk_at dksX0_child_0 3 rfl rfl)
theorem dX0_child_4 : decode cX0_child 4 = .ok (.iload_n 2, 1) := dk_28 (dk_at dksX0_child_0 4 rfl rfl)
theorem dX0_child_5 : decode cX0_child 5 = .ok (.invokevirtual 15, 3) := dk_182 0 15 (dk_at dksX0_child_0 5 rfl rfl)
theorem dX0_child_8 : decode cX0_child 8 = .ok (.i2l, 1) := dk_133 (dk_at dksX0_child_0 8 rfl rfl)
theorem dX0_child_9 : decode cX0_child 9 = .ok (.lastore, 1) := dk_80 (dk_at dksX0_child_0 9 rfl rfl)
theorem dX0_child_10 : decode cX0_child 10 = .ok (.goto 7, 3) := dk_167 0 7 (dk_at dksX0_child_0 10 rfl rfl)
theorem dX0_child_13 : decode cX0_child 13 = .ok (.astore 4, 2) := dk_58 4 (dk_at dksX0_child_0 13 rfl rfl)
theorem dX0_child_15 : decode cX0_child 15 = .ok (.iconst 1, 1) := dk_4 (dk_at dksX0_child_0 15 rfl rfl)
theorem dX0_child_16 : decode cX0_child 16 = .ok (.ireturn, 1) := dk_172 (dk_at dksX0_child_0 16 rfl rfl)
theorem dX0_child_17 : decode cX0_child 17 = .ok (.iconst 0, 1) := dk_3 (dk_at dksX0_child_0 17 rfl rfl)
theorem dX0_child_18 : decode cX0_child 18 = .ok (.ireturn, 1) := dk_172 (dk_at dksX0_child_0 18 rfl rfl)
abbrev cX0_row : ByteArray := method_5_code
def yX0_row : MethodName := ⟨RX0, "row", "(LSandKeepsSea;I[J)I"⟩
def dkwX0_row_0 : List UInt8 := [44, 3, 42, 27, 182, 0, 18, 80, 167, 0, 6, 78, 4, 172, 3, 172]
abbrev dktX0_row_0 : List UInt8 := dkwX0_row_0 ++ []
theorem dksX0_row_0 : cX0_row.data.toList.drop 0 = dktX0_row_0 := by decide +kernel
theorem dX0_row_0 : decode cX0_row 0 = .ok (.aload_n 2, 1) := dk_44 (dk_at dksX0_row_0 0 rfl rfl)
theorem dX0_row_1 : decode cX0_row 1 = .ok (.iconst 0, 1) := dk_3 (dk_at dksX0_row_0 1 rfl rfl)
theorem dX0_row_2 : decode cX0_row 2 = .ok (.aload_n 0, 1) := dk_42 (dk_at dksX0_row_0 2 rfl rfl)
theorem dX0_row_3 : decode cX0_row 3 = .ok (.iload_n 1, 1) := dk_27 (dk_at dksX0_row_0 3 rfl rfl)
theorem dX0_row_4 : decode cX0_row 4 = .ok (.invokevirtual 18, 3) := dk_182 0 18 (dk_at dksX0_row_0 4 rfl rfl)
theorem dX0_row_7 : decode cX0_row 7 = .ok (.lastore, 1) := dk_80 (dk_at dksX0_row_0 7 rfl rfl)
theorem dX0_row_8 : decode cX0_row 8 = .ok (.goto 6, 3) := dk_167 0 6 (dk_at dksX0_row_0 8 rfl rfl)
theorem dX0_row_11 : decode cX0_row 11 = .ok (.astore_n 3, 1) := dk_78 (dk_at dksX0_row_0 11 rfl rfl)
theorem dX0_row_12 : decode cX0_row 12 = .ok (.iconst 1, 1) := dk_4 (dk_at dksX0_row_0 12 rfl rfl)
theorem dX0_row_13 : decode cX0_row 13 = .ok (.ireturn, 1) := dk_172 (dk_at dksX0_row_0 13 rfl rfl)
theorem dX0_row_14 : decode cX0_row 14 = .ok (.iconst 0, 1) := dk_3 (dk_at dksX0_row_0 14 rfl rfl)
theorem dX0_row_15 : decode cX0_row 15 = .ok (.ireturn, 1) := dk_172 (dk_at dksX0_row_0 15 rfl rfl)
theorem q93 : (Jvm.Cond.initialized "SandKeepsSeaLaw") ∈ lw_all := lw_g (lw_at lw_m1 0 rfl) rfl
theorem q120 : (Jvm.Cond.classLink "SandKeepsSeaLaw" (8 : Nat) "SandKeepsSea") ∈ lw_all := lw_g (lw_at lw_m1 27 rfl) rfl
theorem q122 : (Jvm.Cond.methodLink "SandKeepsSeaLaw" (22 : Nat) ({ cls := "SandKeepsSea", name := "<init>", desc := "()V" } : Jvm.MethodName)) ∈ lw_all := lw_g (lw_at lw_m1 29 rfl) rfl
theorem q290 : (Jvm.Cond.methodLink "SandKeepsSeaLaw" (26 : Nat) ({ cls := "SandKeepsSea", name := "sign", desc := "(I)I" } : Jvm.MethodName)) ∈ lw_all := lw_g (lw_at lw_m1 197 rfl) rfl
theorem q294 : (Jvm.Cond.methodLink "SandKeepsSeaLaw" (31 : Nat) ({ cls := "SandKeepsSea", name := "end", desc := "(I)Z" } : Jvm.MethodName)) ∈ lw_all := lw_g (lw_at lw_m1 201 rfl) rfl
theorem q301 : (Jvm.Cond.methodLink "SandKeepsSeaLaw" (36 : Nat) ({ cls := "SandKeepsSea", name := "shore", desc := "()I" } : Jvm.MethodName)) ∈ lw_all := lw_g (lw_at lw_m1 208 rfl) rfl
theorem q472 : (Jvm.Cond.methodLink "SandKeepsSeaLaw" (41 : Nat) ({ cls := "SandKeepsSea", name := "children", desc := "()I" } : Jvm.MethodName)) ∈ lw_all := lw_g (lw_at lw_m2 139 rfl) rfl
theorem q499 : (Jvm.Cond.methodLink "SandKeepsSeaLaw" (45 : Nat) ({ cls := "SandKeepsSea", name := "rule", desc := "()I" } : Jvm.MethodName)) ∈ lw_all := lw_g (lw_at lw_m2 166 rfl) rfl
theorem q580 : (Jvm.Cond.methodLink "SandKeepsSeaLaw" (61 : Nat) ({ cls := "SandKeepsSea", name := "set", desc := "(II)I" } : Jvm.MethodName)) ∈ lw_all := lw_g (lw_at lw_m3 7 rfl) rfl
theorem q592 : (Jvm.Cond.methodLink "SandKeepsSeaLaw" (65 : Nat) ({ cls := "SandKeepsSea", name := "sheet", desc := "(IIII)I" } : Jvm.MethodName)) ∈ lw_all := lw_g (lw_at lw_m3 19 rfl) rfl
theorem q639 : (Jvm.Cond.methodLink "SandKeepsSeaLaw" (70 : Nat) ({ cls := "SandKeepsSea", name := "go", desc := "(II)I" } : Jvm.MethodName)) ∈ lw_all := lw_g (lw_at lw_m3 66 rfl) rfl
theorem q664 : (Jvm.Cond.methodLink "SandKeepsSeaLaw" (74 : Nat) ({ cls := "SandKeepsSea", name := "home", desc := "(I)I" } : Jvm.MethodName)) ∈ lw_all := lw_g (lw_at lw_m3 91 rfl) rfl
theorem q672 : (Jvm.Cond.methodLink "SandKeepsSeaLaw" (78 : Nat) ({ cls := "SandKeepsSea", name := "spade", desc := "(I)I" } : Jvm.MethodName)) ∈ lw_all := lw_g (lw_at lw_m3 99 rfl) rfl
theorem q683 : (Jvm.Cond.methodLink "SandKeepsSeaLaw" (82 : Nat) ({ cls := "SandKeepsSea", name := "treat", desc := "(I)I" } : Jvm.MethodName)) ∈ lw_all := lw_g (lw_at lw_m3 110 rfl) rfl
theorem q691 : (Jvm.Cond.methodLink "SandKeepsSeaLaw" (86 : Nat) ({ cls := "SandKeepsSea", name := "moat", desc := "(I)I" } : Jvm.MethodName)) ∈ lw_all := lw_g (lw_at lw_m3 118 rfl) rfl
theorem q695 : (Jvm.Cond.methodLink "SandKeepsSeaLaw" (90 : Nat) ({ cls := "SandKeepsSea", name := "build", desc := "(I)I" } : Jvm.MethodName)) ∈ lw_all := lw_g (lw_at lw_m3 122 rfl) rfl
theorem q732 : (Jvm.Cond.methodLink "SandKeepsSeaLaw" (94 : Nat) ({ cls := "SandKeepsSea", name := "tide", desc := "()I" } : Jvm.MethodName)) ∈ lw_all := lw_g (lw_at lw_m3 159 rfl) rfl
theorem q768 : (Jvm.Cond.methodLink "SandKeepsSeaLaw" (98 : Nat) ({ cls := "SandKeepsSea", name := "pump", desc := "(I)I" } : Jvm.MethodName)) ∈ lw_all := lw_g (lw_at lw_m3 195 rfl) rfl
theorem q777 : (Jvm.Cond.methodLink "SandKeepsSeaLaw" (102 : Nat) ({ cls := "SandKeepsSea", name := "summer", desc := "()I" } : Jvm.MethodName)) ∈ lw_all := lw_g (lw_at lw_m3 204 rfl) rfl
theorem q917 : (Jvm.Cond.methodLink "SandKeepsSeaLaw" (106 : Nat) ({ cls := "SandKeepsSea", name := "undo", desc := "()I" } : Jvm.MethodName)) ∈ lw_all := lw_g (lw_at lw_m4 104 rfl) rfl
theorem q921 : (Jvm.Cond.methodLink "SandKeepsSeaLaw" (110 : Nat) ({ cls := "SandKeepsSea", name := "level", desc := "(I)I" } : Jvm.MethodName)) ∈ lw_all := lw_g (lw_at lw_m4 108 rfl) rfl
theorem q925 : (Jvm.Cond.methodLink "SandKeepsSeaLaw" (114 : Nat) ({ cls := "SandKeepsSea", name := "holds", desc := "()I" } : Jvm.MethodName)) ∈ lw_all := lw_g (lw_at lw_m4 112 rfl) rfl
theorem q933 : (Jvm.Cond.methodLink "SandKeepsSeaLaw" (118 : Nat) ({ cls := "SandKeepsSea", name := "tides", desc := "(I)I" } : Jvm.MethodName)) ∈ lw_all := lw_g (lw_at lw_m4 120 rfl) rfl
theorem q942 : (Jvm.Cond.methodLink "SandKeepsSeaLaw" (122 : Nat) ({ cls := "SandKeepsSea", name := "spells", desc := "()I" } : Jvm.MethodName)) ∈ lw_all := lw_g (lw_at lw_m4 129 rfl) rfl
theorem q946 : (Jvm.Cond.methodLink "SandKeepsSeaLaw" (126 : Nat) ({ cls := "SandKeepsSea", name := "floods", desc := "(II)I" } : Jvm.MethodName)) ∈ lw_all := lw_g (lw_at lw_m4 133 rfl) rfl
theorem q959 : (Jvm.Cond.methodLink "SandKeepsSeaLaw" (130 : Nat) ({ cls := "SandKeepsSea", name := "raise", desc := "(II)I" } : Jvm.MethodName)) ∈ lw_all := lw_g (lw_at lw_m4 146 rfl) rfl
theorem q963 : (Jvm.Cond.methodLink "SandKeepsSeaLaw" (134 : Nat) ({ cls := "SandKeepsSea", name := "crew", desc := "(II)I" } : Jvm.MethodName)) ∈ lw_all := lw_g (lw_at lw_m4 150 rfl) rfl
theorem q1022 : (Jvm.Cond.methodLink "SandKeepsSeaLaw" (138 : Nat) ({ cls := "SandKeepsSea", name := "post", desc := "(II)I" } : Jvm.MethodName)) ∈ lw_all := lw_g (lw_at lw_m4 209 rfl) rfl
theorem q1055 : (Jvm.Cond.methodLink "SandKeepsSeaLaw" (142 : Nat) ({ cls := "SandKeepsSea", name := "moats", desc := "(I)I" } : Jvm.MethodName)) ∈ lw_all := lw_g (lw_at lw_m5 2 rfl) rfl
theorem q1060 : (Jvm.Cond.methodLink "SandKeepsSeaLaw" (146 : Nat) ({ cls := "SandKeepsSea", name := "spades", desc := "()I" } : Jvm.MethodName)) ∈ lw_all := lw_g (lw_at lw_m5 7 rfl) rfl
theorem q1068 : (Jvm.Cond.methodLink "SandKeepsSeaLaw" (150 : Nat) ({ cls := "SandKeepsSea", name := "treats", desc := "(I)I" } : Jvm.MethodName)) ∈ lw_all := lw_g (lw_at lw_m5 15 rfl) rfl
theorem q1072 : (Jvm.Cond.methodLink "SandKeepsSeaLaw" (154 : Nat) ({ cls := "SandKeepsSea", name := "work", desc := "(I)I" } : Jvm.MethodName)) ∈ lw_all := lw_g (lw_at lw_m5 19 rfl) rfl
theorem q1076 : (Jvm.Cond.methodLink "SandKeepsSeaLaw" (158 : Nat) ({ cls := "SandKeepsSea", name := "law", desc := "()I" } : Jvm.MethodName)) ∈ lw_all := lw_g (lw_at lw_m5 23 rfl) rfl
theorem q1080 : (Jvm.Cond.methodLink "SandKeepsSeaLaw" (162 : Nat) ({ cls := "SandKeepsSea", name := "seen", desc := "(II)I" } : Jvm.MethodName)) ∈ lw_all := lw_g (lw_at lw_m5 27 rfl) rfl
theorem q1084 : (Jvm.Cond.methodLink "SandKeepsSeaLaw" (166 : Nat) ({ cls := "SandKeepsSea", name := "forget", desc := "()I" } : Jvm.MethodName)) ∈ lw_all := lw_g (lw_at lw_m5 31 rfl) rfl
theorem q1088 : (Jvm.Cond.methodLink "SandKeepsSeaLaw" (170 : Nat) ({ cls := "SandKeepsSea", name := "ways", desc := "()I" } : Jvm.MethodName)) ∈ lw_all := lw_g (lw_at lw_m5 35 rfl) rfl
theorem q1100 : (Jvm.Cond.methodLink "SandKeepsSeaLaw" (174 : Nat) ({ cls := "SandKeepsSea", name := "was", desc := "(I)I" } : Jvm.MethodName)) ∈ lw_all := lw_g (lw_at lw_m5 47 rfl) rfl
theorem q1104 : (Jvm.Cond.methodLink "SandKeepsSeaLaw" (178 : Nat) ({ cls := "SandKeepsSea", name := "rain", desc := "(III)I" } : Jvm.MethodName)) ∈ lw_all := lw_g (lw_at lw_m5 51 rfl) rfl
theorem q1116 : (Jvm.Cond.methodLink "SandKeepsSeaLaw" (183 : Nat) ({ cls := "SandKeepsSea", name := "rests", desc := "(II)I" } : Jvm.MethodName)) ∈ lw_all := lw_g (lw_at lw_m5 63 rfl) rfl
theorem q1126 : (Jvm.Cond.methodLink "SandKeepsSeaLaw" (187 : Nat) ({ cls := "SandKeepsSea", name := "summers", desc := "(II)I" } : Jvm.MethodName)) ∈ lw_all := lw_g (lw_at lw_m5 73 rfl) rfl
theorem q1135 : (Jvm.Cond.methodLink "SandKeepsSeaLaw" (191 : Nat) ({ cls := "SandKeepsSea", name := "keep", desc := "(I)Z" } : Jvm.MethodName)) ∈ lw_all := lw_g (lw_at lw_m5 82 rfl) rfl
theorem q1160 : (Jvm.Cond.methodLink "SandKeepsSeaLaw" (195 : Nat) ({ cls := "SandKeepsSea", name := "again", desc := "(I)Z" } : Jvm.MethodName)) ∈ lw_all := lw_g (lw_at lw_m5 107 rfl) rfl
theorem q1164 : (Jvm.Cond.methodLink "SandKeepsSeaLaw" (199 : Nat) ({ cls := "SandKeepsSea", name := "count", desc := "(I)I" } : Jvm.MethodName)) ∈ lw_all := lw_g (lw_at lw_m5 111 rfl) rfl
theorem q1168 : (Jvm.Cond.methodLink "SandKeepsSeaLaw" (49 : Nat) ({ cls := "SandKeepsSeaLaw", name := "cell", desc := "(LSandKeepsSea;II[J)I" } : Jvm.MethodName)) ∈ lw_all := lw_g (lw_at lw_m5 115 rfl) rfl
theorem q1169 : (Jvm.Cond.static ({ cls := "SandKeepsSeaLaw", name := "cell", desc := "(LSandKeepsSea;II[J)I" } : Jvm.MethodName)) ∈ lw_all := lw_g (lw_at lw_m5 116 rfl) rfl
theorem q1170 : (Jvm.Cond.codeWith ({ cls := "SandKeepsSeaLaw", name := "cell", desc := "(LSandKeepsSea;II[J)I" } : Jvm.MethodName) method_3_code (5 : Nat) (Option.some Jvm.ClassFile.FieldType.int) [((0 : Nat), (10 : Nat), (13 : Nat), (13 : Nat))]) ∈ lw_all := lw_g (lw_at lw_m5 117 rfl) rfl
theorem q1171 : (Jvm.Cond.classLink "SandKeepsSeaLaw" (13 : Nat) "java/util/NoSuchElementException") ∈ lw_all := lw_g (lw_at lw_m5 118 rfl) rfl
theorem q1172 : (Jvm.Cond.methodLink "SandKeepsSeaLaw" (7 : Nat) ({ cls := "SandKeepsSea", name := "cell", desc := "(II)I" } : Jvm.MethodName)) ∈ lw_all := lw_g (lw_at lw_m5 119 rfl) rfl
theorem q1198 : (Jvm.Cond.methodLink "SandKeepsSeaLaw" (58 : Nat) ({ cls := "SandKeepsSeaLaw", name := "child", desc := "(LSandKeepsSea;II[J)I" } : Jvm.MethodName)) ∈ lw_all := lw_g (lw_at lw_m5 145 rfl) rfl
theorem q1199 : (Jvm.Cond.static ({ cls := "SandKeepsSeaLaw", name := "child", desc := "(LSandKeepsSea;II[J)I" } : Jvm.MethodName)) ∈ lw_all := lw_g (lw_at lw_m5 146 rfl) rfl
theorem q1200 : (Jvm.Cond.codeWith ({ cls := "SandKeepsSeaLaw", name := "child", desc := "(LSandKeepsSea;II[J)I" } : Jvm.MethodName) method_4_code (5 : Nat) (Option.some Jvm.ClassFile.FieldType.int) [((0 : Nat), (10 : Nat), (13 : Nat), (13 : Nat))]) ∈ lw_all := lw_g (lw_at lw_m5 147 rfl) rfl
theorem q1201 : (Jvm.Cond.methodLink "SandKeepsSeaLaw" (15 : Nat) ({ cls := "SandKeepsSea", name := "child", desc := "(II)I" } : Jvm.MethodName)) ∈ lw_all := lw_g (lw_at lw_m5 148 rfl) rfl
theorem q1205 : (Jvm.Cond.methodLink "SandKeepsSeaLaw" (203 : Nat) ({ cls := "SandKeepsSeaLaw", name := "row", desc := "(LSandKeepsSea;I[J)I" } : Jvm.MethodName)) ∈ lw_all := lw_g (lw_at lw_m5 152 rfl) rfl
theorem q1206 : (Jvm.Cond.static ({ cls := "SandKeepsSeaLaw", name := "row", desc := "(LSandKeepsSea;I[J)I" } : Jvm.MethodName)) ∈ lw_all := lw_g (lw_at lw_m5 153 rfl) rfl
theorem q1207 : (Jvm.Cond.codeWith ({ cls := "SandKeepsSeaLaw", name := "row", desc := "(LSandKeepsSea;I[J)I" } : Jvm.MethodName) method_5_code (4 : Nat) (Option.some Jvm.ClassFile.FieldType.int) [((0 : Nat), (8 : Nat), (11 : Nat), (13 : Nat))]) ∈ lw_all := lw_g (lw_at lw_m5 154 rfl) rfl
theorem q1208 : (Jvm.Cond.methodLink "SandKeepsSeaLaw" (18 : Nat) ({ cls := "SandKeepsSea", name := "row", desc := "(I)J" } : Jvm.MethodName)) ∈ lw_all := lw_g (lw_at lw_m5 155 rfl) rfl
theorem q1212 : (Jvm.Cond.classLink "SandKeepsSeaLaw" (23 : Nat) "SandKeepsSeaModel") ∈ lw_all := lw_g (lw_at lw_m5 159 rfl) rfl
theorem q1214 : (Jvm.Cond.methodLink "SandKeepsSeaLaw" (25 : Nat) ({ cls := "SandKeepsSeaModel", name := "<init>", desc := "()V" } : Jvm.MethodName)) ∈ lw_all := lw_g (lw_at lw_m5 161 rfl) rfl
theorem q1379 : (Jvm.Cond.methodLink "SandKeepsSeaLaw" (55 : Nat) ({ cls := "SandKeepsSeaModel", name := "thrown", desc := "()I" } : Jvm.MethodName)) ∈ lw_all := lw_g (lw_at lw_m6 86 rfl) rfl
theorem q1383 : (Jvm.Cond.methodLink "SandKeepsSeaLaw" (30 : Nat) ({ cls := "SandKeepsSeaModel", name := "sign", desc := "(I)I" } : Jvm.MethodName)) ∈ lw_all := lw_g (lw_at lw_m6 90 rfl) rfl
theorem q1387 : (Jvm.Cond.methodLink "SandKeepsSeaLaw" (35 : Nat) ({ cls := "SandKeepsSeaModel", name := "end", desc := "(I)Z" } : Jvm.MethodName)) ∈ lw_all := lw_g (lw_at lw_m6 94 rfl) rfl
theorem q1394 : (Jvm.Cond.methodLink "SandKeepsSeaLaw" (40 : Nat) ({ cls := "SandKeepsSeaModel", name := "shore", desc := "()I" } : Jvm.MethodName)) ∈ lw_all := lw_g (lw_at lw_m6 101 rfl) rfl
theorem q1420 : (Jvm.Cond.methodLink "SandKeepsSeaLaw" (44 : Nat) ({ cls := "SandKeepsSeaModel", name := "children", desc := "()I" } : Jvm.MethodName)) ∈ lw_all := lw_g (lw_at lw_m6 127 rfl) rfl
theorem q1440 : (Jvm.Cond.methodLink "SandKeepsSeaLaw" (48 : Nat) ({ cls := "SandKeepsSeaModel", name := "rule", desc := "()I" } : Jvm.MethodName)) ∈ lw_all := lw_g (lw_at lw_m6 147 rfl) rfl
theorem q1497 : (Jvm.Cond.methodLink "SandKeepsSeaLaw" (54 : Nat) ({ cls := "SandKeepsSeaModel", name := "cell", desc := "(II)I" } : Jvm.MethodName)) ∈ lw_all := lw_g (lw_at lw_m6 204 rfl) rfl
theorem q1524 : (Jvm.Cond.methodLink "SandKeepsSeaLaw" (60 : Nat) ({ cls := "SandKeepsSeaModel", name := "child", desc := "(II)I" } : Jvm.MethodName)) ∈ lw_all := lw_g (lw_at lw_m6 231 rfl) rfl
theorem q1548 : (Jvm.Cond.methodLink "SandKeepsSeaLaw" (64 : Nat) ({ cls := "SandKeepsSeaModel", name := "set", desc := "(II)I" } : Jvm.MethodName)) ∈ lw_all := lw_g (lw_at lw_m7 15 rfl) rfl
theorem q1555 : (Jvm.Cond.methodLink "SandKeepsSeaLaw" (69 : Nat) ({ cls := "SandKeepsSeaModel", name := "sheet", desc := "(IIII)I" } : Jvm.MethodName)) ∈ lw_all := lw_g (lw_at lw_m7 22 rfl) rfl
theorem q1561 : (Jvm.Cond.methodLink "SandKeepsSeaLaw" (109 : Nat) ({ cls := "SandKeepsSeaModel", name := "undo", desc := "()I" } : Jvm.MethodName)) ∈ lw_all := lw_g (lw_at lw_m7 28 rfl) rfl
theorem q1565 : (Jvm.Cond.methodLink "SandKeepsSeaLaw" (73 : Nat) ({ cls := "SandKeepsSeaModel", name := "go", desc := "(II)I" } : Jvm.MethodName)) ∈ lw_all := lw_g (lw_at lw_m7 32 rfl) rfl
theorem q1585 : (Jvm.Cond.methodLink "SandKeepsSeaLaw" (77 : Nat) ({ cls := "SandKeepsSeaModel", name := "home", desc := "(I)I" } : Jvm.MethodName)) ∈ lw_all := lw_g (lw_at lw_m7 52 rfl) rfl
theorem q1593 : (Jvm.Cond.methodLink "SandKeepsSeaLaw" (81 : Nat) ({ cls := "SandKeepsSeaModel", name := "spade", desc := "(I)I" } : Jvm.MethodName)) ∈ lw_all := lw_g (lw_at lw_m7 60 rfl) rfl
theorem q1601 : (Jvm.Cond.methodLink "SandKeepsSeaLaw" (85 : Nat) ({ cls := "SandKeepsSeaModel", name := "treat", desc := "(I)I" } : Jvm.MethodName)) ∈ lw_all := lw_g (lw_at lw_m7 68 rfl) rfl
theorem q1609 : (Jvm.Cond.methodLink "SandKeepsSeaLaw" (89 : Nat) ({ cls := "SandKeepsSeaModel", name := "moat", desc := "(I)I" } : Jvm.MethodName)) ∈ lw_all := lw_g (lw_at lw_m7 76 rfl) rfl
theorem q1617 : (Jvm.Cond.methodLink "SandKeepsSeaLaw" (93 : Nat) ({ cls := "SandKeepsSeaModel", name := "build", desc := "(I)I" } : Jvm.MethodName)) ∈ lw_all := lw_g (lw_at lw_m7 84 rfl) rfl
theorem q1638 : (Jvm.Cond.methodLink "SandKeepsSeaLaw" (97 : Nat) ({ cls := "SandKeepsSeaModel", name := "tide", desc := "()I" } : Jvm.MethodName)) ∈ lw_all := lw_g (lw_at lw_m7 105 rfl) rfl
theorem q1669 : (Jvm.Cond.methodLink "SandKeepsSeaLaw" (101 : Nat) ({ cls := "SandKeepsSeaModel", name := "pump", desc := "(I)I" } : Jvm.MethodName)) ∈ lw_all := lw_g (lw_at lw_m7 136 rfl) rfl
theorem q1678 : (Jvm.Cond.methodLink "SandKeepsSeaLaw" (105 : Nat) ({ cls := "SandKeepsSeaModel", name := "summer", desc := "()I" } : Jvm.MethodName)) ∈ lw_all := lw_g (lw_at lw_m7 145 rfl) rfl
theorem q1693 : (Jvm.Cond.methodLink "SandKeepsSeaLaw" (113 : Nat) ({ cls := "SandKeepsSeaModel", name := "level", desc := "(I)I" } : Jvm.MethodName)) ∈ lw_all := lw_g (lw_at lw_m7 160 rfl) rfl
theorem q1697 : (Jvm.Cond.methodLink "SandKeepsSeaLaw" (117 : Nat) ({ cls := "SandKeepsSeaModel", name := "holds", desc := "()I" } : Jvm.MethodName)) ∈ lw_all := lw_g (lw_at lw_m7 164 rfl) rfl
theorem q1709 : (Jvm.Cond.methodLink "SandKeepsSeaLaw" (121 : Nat) ({ cls := "SandKeepsSeaModel", name := "tides", desc := "(I)I" } : Jvm.MethodName)) ∈ lw_all := lw_g (lw_at lw_m7 176 rfl) rfl
theorem q1718 : (Jvm.Cond.methodLink "SandKeepsSeaLaw" (125 : Nat) ({ cls := "SandKeepsSeaModel", name := "spells", desc := "()I" } : Jvm.MethodName)) ∈ lw_all := lw_g (lw_at lw_m7 185 rfl) rfl
theorem q1726 : (Jvm.Cond.methodLink "SandKeepsSeaLaw" (129 : Nat) ({ cls := "SandKeepsSeaModel", name := "floods", desc := "(II)I" } : Jvm.MethodName)) ∈ lw_all := lw_g (lw_at lw_m7 193 rfl) rfl
theorem q1739 : (Jvm.Cond.methodLink "SandKeepsSeaLaw" (133 : Nat) ({ cls := "SandKeepsSeaModel", name := "raise", desc := "(II)I" } : Jvm.MethodName)) ∈ lw_all := lw_g (lw_at lw_m7 206 rfl) rfl
theorem q1743 : (Jvm.Cond.methodLink "SandKeepsSeaLaw" (137 : Nat) ({ cls := "SandKeepsSeaModel", name := "crew", desc := "(II)I" } : Jvm.MethodName)) ∈ lw_all := lw_g (lw_at lw_m7 210 rfl) rfl
theorem q1756 : (Jvm.Cond.methodLink "SandKeepsSeaLaw" (141 : Nat) ({ cls := "SandKeepsSeaModel", name := "post", desc := "(II)I" } : Jvm.MethodName)) ∈ lw_all := lw_g (lw_at lw_m7 223 rfl) rfl
theorem q1761 : (Jvm.Cond.methodLink "SandKeepsSeaLaw" (145 : Nat) ({ cls := "SandKeepsSeaModel", name := "moats", desc := "(I)I" } : Jvm.MethodName)) ∈ lw_all := lw_g (lw_at lw_m7 228 rfl) rfl
theorem q1766 : (Jvm.Cond.methodLink "SandKeepsSeaLaw" (149 : Nat) ({ cls := "SandKeepsSeaModel", name := "spades", desc := "()I" } : Jvm.MethodName)) ∈ lw_all := lw_g (lw_at lw_m7 233 rfl) rfl
theorem q1774 : (Jvm.Cond.methodLink "SandKeepsSeaLaw" (153 : Nat) ({ cls := "SandKeepsSeaModel", name := "treats", desc := "(I)I" } : Jvm.MethodName)) ∈ lw_all := lw_g (lw_at lw_m8 1 rfl) rfl
theorem q1778 : (Jvm.Cond.methodLink "SandKeepsSeaLaw" (157 : Nat) ({ cls := "SandKeepsSeaModel", name := "work", desc := "(I)I" } : Jvm.MethodName)) ∈ lw_all := lw_g (lw_at lw_m8 5 rfl) rfl
theorem q1782 : (Jvm.Cond.methodLink "SandKeepsSeaLaw" (161 : Nat) ({ cls := "SandKeepsSeaModel", name := "law", desc := "()I" } : Jvm.MethodName)) ∈ lw_all := lw_g (lw_at lw_m8 9 rfl) rfl
theorem q1786 : (Jvm.Cond.methodLink "SandKeepsSeaLaw" (165 : Nat) ({ cls := "SandKeepsSeaModel", name := "seen", desc := "(II)I" } : Jvm.MethodName)) ∈ lw_all := lw_g (lw_at lw_m8 13 rfl) rfl
theorem q1790 : (Jvm.Cond.methodLink "SandKeepsSeaLaw" (169 : Nat) ({ cls := "SandKeepsSeaModel", name := "forget", desc := "()I" } : Jvm.MethodName)) ∈ lw_all := lw_g (lw_at lw_m8 17 rfl) rfl
theorem q1794 : (Jvm.Cond.methodLink "SandKeepsSeaLaw" (173 : Nat) ({ cls := "SandKeepsSeaModel", name := "ways", desc := "()I" } : Jvm.MethodName)) ∈ lw_all := lw_g (lw_at lw_m8 21 rfl) rfl
theorem q1810 : (Jvm.Cond.methodLink "SandKeepsSeaLaw" (177 : Nat) ({ cls := "SandKeepsSeaModel", name := "was", desc := "(I)I" } : Jvm.MethodName)) ∈ lw_all := lw_g (lw_at lw_m8 37 rfl) rfl
theorem q1814 : (Jvm.Cond.methodLink "SandKeepsSeaLaw" (182 : Nat) ({ cls := "SandKeepsSeaModel", name := "rain", desc := "(III)I" } : Jvm.MethodName)) ∈ lw_all := lw_g (lw_at lw_m8 41 rfl) rfl
theorem q1826 : (Jvm.Cond.methodLink "SandKeepsSeaLaw" (186 : Nat) ({ cls := "SandKeepsSeaModel", name := "rests", desc := "(II)I" } : Jvm.MethodName)) ∈ lw_all := lw_g (lw_at lw_m8 53 rfl) rfl
theorem q1836 : (Jvm.Cond.methodLink "SandKeepsSeaLaw" (190 : Nat) ({ cls := "SandKeepsSeaModel", name := "summers", desc := "(II)I" } : Jvm.MethodName)) ∈ lw_all := lw_g (lw_at lw_m8 63 rfl) rfl
theorem q1845 : (Jvm.Cond.methodLink "SandKeepsSeaLaw" (194 : Nat) ({ cls := "SandKeepsSeaModel", name := "keep", desc := "(I)Z" } : Jvm.MethodName)) ∈ lw_all := lw_g (lw_at lw_m8 72 rfl) rfl
theorem q1850 : (Jvm.Cond.methodLink "SandKeepsSeaLaw" (198 : Nat) ({ cls := "SandKeepsSeaModel", name := "again", desc := "(I)Z" } : Jvm.MethodName)) ∈ lw_all := lw_g (lw_at lw_m8 77 rfl) rfl
theorem q1854 : (Jvm.Cond.methodLink "SandKeepsSeaLaw" (202 : Nat) ({ cls := "SandKeepsSeaModel", name := "count", desc := "(I)I" } : Jvm.MethodName)) ∈ lw_all := lw_g (lw_at lw_m8 81 rfl) rfl
theorem q1858 : (Jvm.Cond.methodLink "SandKeepsSeaLaw" (206 : Nat) ({ cls := "SandKeepsSeaModel", name := "row", desc := "(I)J" } : Jvm.MethodName)) ∈ lw_all := lw_g (lw_at lw_m8 85 rfl) rfl

/-! SandKeepsSea$Beach -/
set_option maxRecDepth 100000
def RX2 : String := "SandKeepsSea$Beach"
def TX2 : u_T := fun k => match k with
  | 0 => ("SandKeepsSea$Beach", "wall", "[I", true)
  | 1 => ("SandKeepsSea$Beach", "depth", "[I", true)
  | 2 => ("SandKeepsSea$Beach", "at", "[I", true)
  | 3 => ("SandKeepsSea$Beach", "mood", "[I", true)
  | 4 => ("SandKeepsSea$Beach", "moats", "I", false)
  | 5 => ("SandKeepsSea$Beach", "spades", "I", false)
  | _ => ("SandKeepsSea$Beach", "tide", "I", false)
def tyX2 : Nat → FieldType := fun k => match k with
  | 0 => .array .int
  | 1 => .array .int
  | 2 => .array .int
  | 3 => .array .int
  | 4 => .int
  | 5 => .int
  | _ => .int
abbrev wsX20 : List Cond := u_ws RX2 TX2 7
theorem nmX2 : ∀ a, a < 7 → ∀ b, b < 7 → a ≠ b → (TX2 a).2.1 ≠ (TX2 b).2.1 := by decide +kernel
theorem tyX2_ok : ∀ k, k < 7 → parseFieldDescriptor (TX2 k).2.2.1 = some (tyX2 k) := by decide +kernel
abbrev cX2_init : ByteArray := prog_2_method_1_code
def yX2_init : MethodName := ⟨RX2, "<init>", "()V"⟩
def dkwX2_init_1 : List UInt8 := [188, 10, 181, 0, 18, 42, 16, 8, 188, 10, 181, 0, 21, 177]
abbrev dktX2_init_1 : List UInt8 := dkwX2_init_1 ++ []
def dkwX2_init_0 : List UInt8 := [42, 183, 0, 3, 42, 16, 12, 188, 10, 181, 0, 9, 42, 16, 12, 188, 10, 181, 0, 15, 42, 16, 8]
abbrev dktX2_init_0 : List UInt8 := dkwX2_init_0 ++ dktX2_init_1
theorem dksX2_init_0 : cX2_init.data.toList.drop 0 = dktX2_init_0 := by decide +kernel
theorem dksX2_init_1 : cX2_init.data.toList.drop 23 = dktX2_init_1 := dk_seg dksX2_init_0 23 rfl rfl
theorem dX2_init_0 : decode cX2_init 0 = .ok (.aload_n 0, 1) := dk_42 (dk_at dksX2_init_0 0 rfl rfl)
theorem dX2_init_1 : decode cX2_init 1 = .ok (.invokespecial 3, 3) := dk_183 0 3 (dk_at dksX2_init_0 1 rfl rfl)
theorem dX2_init_4 : decode cX2_init 4 = .ok (.aload_n 0, 1) := dk_42 (dk_at dksX2_init_0 4 rfl rfl)
theorem dX2_init_5 : decode cX2_init 5 = .ok (.bipush 12, 2) := dk_16 12 (dk_at dksX2_init_0 5 rfl rfl)
theorem dX2_init_7 : decode cX2_init 7 = .ok (.newarray .int, 2) := dk_188_10 (dk_at dksX2_init_0 7 rfl rfl)
theorem dX2_init_9 : decode cX2_init 9 = .ok (.putfield 9, 3) := dk_181 0 9 (dk_at dksX2_init_0 9 rfl rfl)
theorem dX2_init_12 : decode cX2_init 12 = .ok (.aload_n 0, 1) := dk_42 (dk_at dksX2_init_0 12 rfl rfl)
theorem dX2_init_13 : decode cX2_init 13 = .ok (.bipush 12, 2) := dk_16 12 (dk_at dksX2_init_0 13 rfl rfl)
theorem dX2_init_15 : decode cX2_init 15 = .ok (.newarray .int, 2) := dk_188_10 (dk_at dksX2_init_0 15 rfl rfl)
theorem dX2_init_17 : decode cX2_init 17 = .ok (.putfield 15, 3) := dk_181 0 15 (dk_at dksX2_init_0 17 rfl rfl)
theorem dX2_init_20 : decode cX2_init 20 = .ok (.aload_n 0, 1) := dk_42 (dk_at dksX2_init_0 20 rfl rfl)
theorem dX2_init_21 : decode cX2_init 21 = .ok (.bipush 8, 2) := dk_16 8 (dk_at dksX2_init_0 21 rfl rfl)
theorem dX2_init_23 : decode cX2_init 23 = .ok (.newarray .int, 2) := dk_188_10 (dk_at dksX2_init_1 0 rfl rfl)
theorem dX2_init_25 : decode cX2_init 25 = .ok (.putfield 18, 3) := dk_181 0 18 (dk_at dksX2_init_1 2 rfl rfl)
theorem dX2_init_28 : decode cX2_init 28 = .ok (.aload_n 0, 1) := dk_42 (dk_at dksX2_init_1 5 rfl rfl)
theorem dX2_init_29 : decode cX2_init 29 = .ok (.bipush 8, 2) := dk_16 8 (dk_at dksX2_init_1 6 rfl rfl)
theorem dX2_init_31 : decode cX2_init 31 = .ok (.newarray .int, 2) := dk_188_10 (dk_at dksX2_init_1 8 rfl rfl)
theorem dX2_init_33 : decode cX2_init 33 = .ok (.putfield 21, 3) := dk_181 0 21 (dk_at dksX2_init_1 10 rfl rfl)
theorem dX2_init_36 : decode cX2_init 36 = .ok (.return_, 1) := dk_177 (dk_at dksX2_init_1 13 rfl rfl)
abbrev cX2_clear : ByteArray := prog_2_method_3_code
def yX2_clear : MethodName := ⟨RX2, "clear", "()V"⟩
def dkwX2_clear_1 : List UInt8 := [42, 3, 181, 0, 30, 42, 3, 181, 0, 37, 177]
abbrev dktX2_clear_1 : List UInt8 := dkwX2_clear_1 ++ []
def dkwX2_clear_0 : List UInt8 := [42, 180, 0, 9, 3, 184, 0, 40, 42, 180, 0, 15, 3, 184, 0, 40, 42, 180, 0, 18, 2, 184, 0, 40]
abbrev dktX2_clear_0 : List UInt8 := dkwX2_clear_0 ++ dktX2_clear_1
theorem dksX2_clear_0 : cX2_clear.data.toList.drop 0 = dktX2_clear_0 := by decide +kernel
theorem dksX2_clear_1 : cX2_clear.data.toList.drop 24 = dktX2_clear_1 := dk_seg dksX2_clear_0 24 rfl rfl
theorem dX2_clear_0 : decode cX2_clear 0 = .ok (.aload_n 0, 1) := dk_42 (dk_at dksX2_clear_0 0 rfl rfl)
theorem dX2_clear_1 : decode cX2_clear 1 = .ok (.getfield 9, 3) := dk_180 0 9 (dk_at dksX2_clear_0 1 rfl rfl)
theorem dX2_clear_4 : decode cX2_clear 4 = .ok (.iconst 0, 1) := dk_3 (dk_at dksX2_clear_0 4 rfl rfl)
theorem dX2_clear_5 : decode cX2_clear 5 = .ok (.invokestatic 40, 3) := dk_184 0 40 (dk_at dksX2_clear_0 5 rfl rfl)
theorem dX2_clear_8 : decode cX2_clear 8 = .ok (.aload_n 0, 1) := dk_42 (dk_at dksX2_clear_0 8 rfl rfl)
theorem dX2_clear_9 : decode cX2_clear 9 = .ok (.getfield 15, 3) := dk_180 0 15 (dk_at dksX2_clear_0 9 rfl rfl)
theorem dX2_clear_12 : decode cX2_clear 12 = .ok (.iconst 0, 1) := dk_3 (dk_at dksX2_clear_0 12 rfl rfl)
theorem dX2_clear_13 : decode cX2_clear 13 = .ok (.invokestatic 40, 3) := dk_184 0 40 (dk_at dksX2_clear_0 13 rfl rfl)
theorem dX2_clear_16 : decode cX2_clear 16 = .ok (.aload_n 0, 1) := dk_42 (dk_at dksX2_clear_0 16 rfl rfl)
theorem dX2_clear_17 : decode cX2_clear 17 = .ok (.getfield 18, 3) := dk_180 0 18 (dk_at dksX2_clear_0 17 rfl rfl)
theorem dX2_clear_20 : decode cX2_clear 20 = .ok (.iconst (-1), 1) := dk_2 (dk_at dksX2_clear_0 20 rfl rfl)
theorem dX2_clear_21 : decode cX2_clear 21 = .ok (.invokestatic 40, 3) := dk_184 0 40 (dk_at dksX2_clear_0 21 rfl rfl)
theorem dX2_clear_24 : decode cX2_clear 24 = .ok (.aload_n 0, 1) := dk_42 (dk_at dksX2_clear_1 0 rfl rfl)
theorem dX2_clear_25 : decode cX2_clear 25 = .ok (.iconst 0, 1) := dk_3 (dk_at dksX2_clear_1 1 rfl rfl)
theorem dX2_clear_26 : decode cX2_clear 26 = .ok (.putfield 30, 3) := dk_181 0 30 (dk_at dksX2_clear_1 2 rfl rfl)
theorem dX2_clear_29 : decode cX2_clear 29 = .ok (.aload_n 0, 1) := dk_42 (dk_at dksX2_clear_1 5 rfl rfl)
theorem dX2_clear_30 : decode cX2_clear 30 = .ok (.iconst 0, 1) := dk_3 (dk_at dksX2_clear_1 6 rfl rfl)
theorem dX2_clear_31 : decode cX2_clear 31 = .ok (.putfield 37, 3) := dk_181 0 37 (dk_at dksX2_clear_1 7 rfl rfl)
theorem dX2_clear_34 : decode cX2_clear 34 = .ok (.return_, 1) := dk_177 (dk_at dksX2_clear_1 10 rfl rfl)
abbrev cX2_be : ByteArray := prog_2_method_2_code
def yX2_be : MethodName := ⟨RX2, "be", "(LSandKeepsSea$Beach;)V"⟩
def dkwX2_be_3 : List UInt8 := [180, 0, 34, 181, 0, 34, 42, 43, 180, 0, 37, 181, 0, 37, 177]
abbrev dktX2_be_3 : List UInt8 := dkwX2_be_3 ++ []
def dkwX2_be_2 : List UInt8 := [180, 0, 21, 3, 42, 180, 0, 21, 3, 16, 8, 184, 0, 24, 42, 43, 180, 0, 30, 181, 0, 30, 42, 43]
abbrev dktX2_be_2 : List UInt8 := dkwX2_be_2 ++ dktX2_be_3
def dkwX2_be_1 : List UInt8 := [3, 16, 12, 184, 0, 24, 43, 180, 0, 18, 3, 42, 180, 0, 18, 3, 16, 8, 184, 0, 24, 43]
abbrev dktX2_be_1 : List UInt8 := dkwX2_be_1 ++ dktX2_be_2
def dkwX2_be_0 : List UInt8 := [43, 180, 0, 9, 3, 42, 180, 0, 9, 3, 16, 12, 184, 0, 24, 43, 180, 0, 15, 3, 42, 180, 0, 15]
abbrev dktX2_be_0 : List UInt8 := dkwX2_be_0 ++ dktX2_be_1
theorem dksX2_be_0 : cX2_be.data.toList.drop 0 = dktX2_be_0 := by decide +kernel
theorem dksX2_be_1 : cX2_be.data.toList.drop 24 = dktX2_be_1 := dk_seg dksX2_be_0 24 rfl rfl
theorem dksX2_be_2 : cX2_be.data.toList.drop 46 = dktX2_be_2 := dk_seg dksX2_be_1 22 rfl rfl
theorem dksX2_be_3 : cX2_be.data.toList.drop 70 = dktX2_be_3 := dk_seg dksX2_be_2 24 rfl rfl
theorem dX2_be_0 : decode cX2_be 0 = .ok (.aload_n 1, 1) := dk_43 (dk_at dksX2_be_0 0 rfl rfl)
theorem dX2_be_1 : decode cX2_be 1 = .ok (.getfield 9, 3) := dk_180 0 9 (dk_at dksX2_be_0 1 rfl rfl)
theorem dX2_be_4 : decode cX2_be 4 = .ok (.iconst 0, 1) := dk_3 (dk_at dksX2_be_0 4 rfl rfl)
theorem dX2_be_5 : decode cX2_be 5 = .ok (.aload_n 0, 1) := dk_42 (dk_at dksX2_be_0 5 rfl rfl)
theorem dX2_be_6 : decode cX2_be 6 = .ok (.getfield 9, 3) := dk_180 0 9 (dk_at dksX2_be_0 6 rfl rfl)
theorem dX2_be_9 : decode cX2_be 9 = .ok (.iconst 0, 1) := dk_3 (dk_at dksX2_be_0 9 rfl rfl)
theorem dX2_be_10 : decode cX2_be 10 = .ok (.bipush 12, 2) := dk_16 12 (dk_at dksX2_be_0 10 rfl rfl)
theorem dX2_be_12 : decode cX2_be 12 = .ok (.invokestatic 24, 3) := dk_184 0 24 (dk_at dksX2_be_0 12 rfl rfl)
theorem dX2_be_15 : decode cX2_be 15 = .ok (.aload_n 1, 1) := dk_43 (dk_at dksX2_be_0 15 rfl rfl)
theorem dX2_be_16 : decode cX2_be 16 = .ok (.getfield 15, 3) := dk_180 0 15 (dk_at dksX2_be_0 16 rfl rfl)
theorem dX2_be_19 : decode cX2_be 19 = .ok (.iconst 0, 1) := dk_3 (dk_at dksX2_be_0 19 rfl rfl)
theorem dX2_be_20 : decode cX2_be 20 = .ok (.aload_n 0, 1) := dk_42 (dk_at dksX2_be_0 20 rfl rfl)
theorem dX2_be_21 : decode cX2_be 21 = .ok (.getfield 15, 3) := dk_180 0 15 (dk_at dksX2_be_0 21 rfl rfl)
theorem dX2_be_24 : decode cX2_be 24 = .ok (.iconst 0, 1) := dk_3 (dk_at dksX2_be_1 0 rfl rfl)
theorem dX2_be_25 : decode cX2_be 25 = .ok (.bipush 12, 2) := dk_16 12 (dk_at dksX2_be_1 1 rfl rfl)
theorem dX2_be_27 : decode cX2_be 27 = .ok (.invokestatic 24, 3) := dk_184 0 24 (dk_at dksX2_be_1 3 rfl rfl)
theorem dX2_be_30 : decode cX2_be 30 = .ok (.aload_n 1, 1) := dk_43 (dk_at dksX2_be_1 6 rfl rfl)
theorem dX2_be_31 : decode cX2_be 31 = .ok (.getfield 18, 3) := dk_180 0 18 (dk_at dksX2_be_1 7 rfl rfl)
theorem dX2_be_34 : decode cX2_be 34 = .ok (.iconst 0, 1) := dk_3 (dk_at dksX2_be_1 10 rfl rfl)
theorem dX2_be_35 : decode cX2_be 35 = .ok (.aload_n 0, 1) := dk_42 (dk_at dksX2_be_1 11 rfl rfl)
theorem dX2_be_36 : decode cX2_be 36 = .ok (.getfield 18, 3) := dk_180 0 18 (dk_at dksX2_be_1 12 rfl rfl)
theorem dX2_be_39 : decode cX2_be 39 = .ok (.iconst 0, 1) := dk_3 (dk_at dksX2_be_1 15 rfl rfl)
theorem dX2_be_40 : decode cX2_be 40 = .ok (.bipush 8, 2) := dk_16 8 (dk_at dksX2_be_1 16 rfl rfl)
theorem dX2_be_42 : decode cX2_be 42 = .ok (.invokestatic 24, 3) := dk_184 0 24 (dk_at dksX2_be_1 18 rfl rfl)
theorem dX2_be_45 : decode cX2_be 45 = .ok (.aload_n 1, 1) := dk_43 (dk_at dksX2_be_1 21 rfl rfl)
theorem dX2_be_46 : decode cX2_be 46 = .ok (.getfield 21, 3) := dk_180 0 21 (dk_at dksX2_be_2 0 rfl rfl)
theorem dX2_be_49 : decode cX2_be 49 = .ok (.iconst 0, 1) := dk_3 (dk_at dksX2_be_2 3 rfl rfl)
theorem dX2_be_50 : decode cX2_be 50 = .ok (.aload_n 0, 1) := dk_42 (dk_at dksX2_be_2 4 rfl rfl)
theorem dX2_be_51 : decode cX2_be 51 = .ok (.getfield 21, 3) := dk_180 0 21 (dk_at dksX2_be_2 5 rfl rfl)
theorem dX2_be_54 : decode cX2_be 54 = .ok (.iconst 0, 1) := dk_3 (dk_at dksX2_be_2 8 rfl rfl)
theorem dX2_be_55 : decode cX2_be 55 = .ok (.bipush 8, 2) := dk_16 8 (dk_at dksX2_be_2 9 rfl rfl)
theorem dX2_be_57 : decode cX2_be 57 = .ok (.invokestatic 24, 3) := dk_184 0 24 (dk_at dksX2_be_2 11 rfl rfl)
theorem dX2_be_60 : decode cX2_be 60 = .ok (.aload_n 0, 1) := dk_42 (dk_at dksX2_be_2 14 rfl rfl)
theorem dX2_be_61 : decode cX2_be 61 = .ok (.aload_n 1, 1) := dk_43 (dk_at dksX2_be_2 15 rfl rfl)
theorem dX2_be_62 : decode cX2_be 62 = .ok (.getfield 30, 3) := dk_180 0 30 (dk_at dksX2_be_2 16 rfl rfl)
theorem dX2_be_65 : decode cX2_be 65 = .ok (.putfield 30, 3) := dk_181 0 30 (dk_at dksX2_be_2 19 rfl rfl)
theorem dX2_be_68 : decode cX2_be 68 = .ok (.aload_n 0, 1) := dk_42 (dk_at dksX2_be_2 22 rfl rfl)
theorem dX2_be_69 : decode cX2_be 69 = .ok (.aload_n 1, 1) := dk_43 (dk_at dksX2_be_2 23 rfl rfl)
theorem dX2_be_70 : decode cX2_be 70 = .ok (.getfield 34, 3) := dk_180 0 34 (dk_at dksX2_be_3 0 rfl rfl)
theorem dX2_be_73 : decode cX2_be 73 = .ok (.putfield 34, 3) := dk_181 0 34 (dk_at dksX2_be_3 3 rfl rfl)
theorem dX2_be_76 : decode cX2_be 76 = .ok (.aload_n 0, 1) := dk_42 (dk_at dksX2_be_3 6 rfl rfl)
theorem dX2_be_77 : decode cX2_be 77 = .ok (.aload_n 1, 1) := dk_43 (dk_at dksX2_be_3 7 rfl rfl)
theorem dX2_be_78 : decode cX2_be 78 = .ok (.getfield 37, 3) := dk_180 0 37 (dk_at dksX2_be_3 8 rfl rfl)
theorem dX2_be_81 : decode cX2_be 81 = .ok (.putfield 37, 3) := dk_181 0 37 (dk_at dksX2_be_3 11 rfl rfl)
theorem dX2_be_84 : decode cX2_be 84 = .ok (.return_, 1) := dk_177 (dk_at dksX2_be_3 14 rfl rfl)
abbrev cX2_atHome : ByteArray := prog_2_method_6_code
def yX2_atHome : MethodName := ⟨RX2, "atHome", "(I)I"⟩
def dkwX2_atHome_1 : List UInt8 := [167, 0, 4, 3, 128, 61, 132, 3, 1, 167, 255, 228, 28, 172]
abbrev dktX2_atHome_1 : List UInt8 := dkwX2_atHome_1 ++ []
def dkwX2_atHome_0 : List UInt8 := [3, 61, 3, 62, 29, 27, 162, 0, 29, 28, 42, 180, 0, 18, 29, 46, 2, 160, 0, 9, 4, 29, 120]
abbrev dktX2_atHome_0 : List UInt8 := dkwX2_atHome_0 ++ dktX2_atHome_1
theorem dksX2_atHome_0 : cX2_atHome.data.toList.drop 0 = dktX2_atHome_0 := by decide +kernel
theorem dksX2_atHome_1 : cX2_atHome.data.toList.drop 23 = dktX2_atHome_1 := dk_seg dksX2_atHome_0 23 rfl rfl
theorem dX2_atHome_0 : decode cX2_atHome 0 = .ok (.iconst 0, 1) := dk_3 (dk_at dksX2_atHome_0 0 rfl rfl)
theorem dX2_atHome_1 : decode cX2_atHome 1 = .ok (.istore_n 2, 1) := dk_61 (dk_at dksX2_atHome_0 1 rfl rfl)
theorem dX2_atHome_2 : decode cX2_atHome 2 = .ok (.iconst 0, 1) := dk_3 (dk_at dksX2_atHome_0 2 rfl rfl)
theorem dX2_atHome_3 : decode cX2_atHome 3 = .ok (.istore_n 3, 1) := dk_62 (dk_at dksX2_atHome_0 3 rfl rfl)
theorem dX2_atHome_4 : decode cX2_atHome 4 = .ok (.iload_n 3, 1) := dk_29 (dk_at dksX2_atHome_0 4 rfl rfl)
theorem dX2_atHome_5 : decode cX2_atHome 5 = .ok (.iload_n 1, 1) := dk_27 (dk_at dksX2_atHome_0 5 rfl rfl)
theorem dX2_atHome_6 : decode cX2_atHome 6 = .ok (.if_icmp .ge 29, 3) := dk_162 0 29 (dk_at dksX2_atHome_0 6 rfl rfl)
theorem dX2_atHome_9 : decode cX2_atHome 9 = .ok (.iload_n 2, 1) := dk_28 (dk_at dksX2_atHome_0 9 rfl rfl)
theorem dX2_atHome_10 : decode cX2_atHome 10 = .ok (.aload_n 0, 1) := dk_42 (dk_at dksX2_atHome_0 10 rfl rfl)
theorem dX2_atHome_11 : decode cX2_atHome 11 = .ok (.getfield 18, 3) := dk_180 0 18 (dk_at dksX2_atHome_0 11 rfl rfl)
theorem dX2_atHome_14 : decode cX2_atHome 14 = .ok (.iload_n 3, 1) := dk_29 (dk_at dksX2_atHome_0 14 rfl rfl)
theorem dX2_atHome_15 : decode cX2_atHome 15 = .ok (.iaload, 1) := dk_46 (dk_at dksX2_atHome_0 15 rfl rfl)
theorem dX2_atHome_16 : decode cX2_atHome 16 = .ok (.iconst (-1), 1) := dk_2 (dk_at dksX2_atHome_0 16 rfl rfl)
theorem dX2_atHome_17 : decode cX2_atHome 17 = .ok (.if_icmp .ne 9, 3) := dk_160 0 9 (dk_at dksX2_atHome_0 17 rfl rfl)
theorem dX2_atHome_20 : decode cX2_atHome 20 = .ok (.iconst 1, 1) := dk_4 (dk_at dksX2_atHome_0 20 rfl rfl)
theorem dX2_atHome_21 : decode cX2_atHome 21 = .ok (.iload_n 3, 1) := dk_29 (dk_at dksX2_atHome_0 21 rfl rfl)
theorem dX2_atHome_22 : decode cX2_atHome 22 = .ok (.ishl, 1) := dk_120 (dk_at dksX2_atHome_0 22 rfl rfl)
theorem dX2_atHome_23 : decode cX2_atHome 23 = .ok (.goto 4, 3) := dk_167 0 4 (dk_at dksX2_atHome_1 0 rfl rfl)
theorem dX2_atHome_26 : decode cX2_atHome 26 = .ok (.iconst 0, 1) := dk_3 (dk_at dksX2_atHome_1 3 rfl rfl)
theorem dX2_atHome_27 : decode cX2_atHome 27 = .ok (.ior, 1) := dk_128 (dk_at dksX2_atHome_1 4 rfl rfl)
theorem dX2_atHome_28 : decode cX2_atHome 28 = .ok (.istore_n 2, 1) := dk_61 (dk_at dksX2_atHome_1 5 rfl rfl)
theorem dX2_atHome_29 : decode cX2_atHome 29 = .ok (.iinc 3 1, 3) := dk_132 3 1 (dk_at dksX2_atHome_1 6 rfl rfl)
theorem dX2_atHome_32 : decode cX2_atHome 32 = .ok (.goto (-28), 3) := dk_167 255 228 (dk_at dksX2_atHome_1 9 rfl rfl)
theorem dX2_atHome_35 : decode cX2_atHome 35 = .ok (.iload_n 2, 1) := dk_28 (dk_at dksX2_atHome_1 12 rfl rfl)
theorem dX2_atHome_36 : decode cX2_atHome 36 = .ok (.ireturn, 1) := dk_172 (dk_at dksX2_atHome_1 13 rfl rfl)
abbrev cX2_sum : ByteArray := prog_2_method_4_code
def yX2_sum : MethodName := ⟨RX2, "sum", "([I)I"⟩
def dkwX2_sum_1 : List UInt8 := [21, 5, 96, 60, 132, 4, 1, 167, 255, 236, 27, 172]
abbrev dktX2_sum_1 : List UInt8 := dkwX2_sum_1 ++ []
def dkwX2_sum_0 : List UInt8 := [3, 60, 42, 77, 44, 190, 62, 3, 54, 4, 21, 4, 29, 162, 0, 20, 44, 21, 4, 46, 54, 5, 27]
abbrev dktX2_sum_0 : List UInt8 := dkwX2_sum_0 ++ dktX2_sum_1
theorem dksX2_sum_0 : cX2_sum.data.toList.drop 0 = dktX2_sum_0 := by decide +kernel
theorem dksX2_sum_1 : cX2_sum.data.toList.drop 23 = dktX2_sum_1 := dk_seg dksX2_sum_0 23 rfl rfl
theorem dX2_sum_0 : decode cX2_sum 0 = .ok (.iconst 0, 1) := dk_3 (dk_at dksX2_sum_0 0 rfl rfl)
theorem dX2_sum_1 : decode cX2_sum 1 = .ok (.istore_n 1, 1) := dk_60 (dk_at dksX2_sum_0 1 rfl rfl)
theorem dX2_sum_2 : decode cX2_sum 2 = .ok (.aload_n 0, 1) := dk_42 (dk_at dksX2_sum_0 2 rfl rfl)
theorem dX2_sum_3 : decode cX2_sum 3 = .ok (.astore_n 2, 1) := dk_77 (dk_at dksX2_sum_0 3 rfl rfl)
theorem dX2_sum_4 : decode cX2_sum 4 = .ok (.aload_n 2, 1) := dk_44 (dk_at dksX2_sum_0 4 rfl rfl)
theorem dX2_sum_5 : decode cX2_sum 5 = .ok (.arraylength, 1) := dk_190 (dk_at dksX2_sum_0 5 rfl rfl)
theorem dX2_sum_6 : decode cX2_sum 6 = .ok (.istore_n 3, 1) := dk_62 (dk_at dksX2_sum_0 6 rfl rfl)
theorem dX2_sum_7 : decode cX2_sum 7 = .ok (.iconst 0, 1) := dk_3 (dk_at dksX2_sum_0 7 rfl rfl)
theorem dX2_sum_8 : decode cX2_sum 8 = .ok (.istore 4, 2) := dk_54 4 (dk_at dksX2_sum_0 8 rfl rfl)
theorem dX2_sum_10 : decode cX2_sum 10 = .ok (.iload 4, 2) := dk_21 4 (dk_at dksX2_sum_0 10 rfl rfl)
theorem dX2_sum_12 : decode cX2_sum 12 = .ok (.iload_n 3, 1) := dk_29 (dk_at dksX2_sum_0 12 rfl rfl)
theorem dX2_sum_13 : decode cX2_sum 13 = .ok (.if_icmp .ge 20, 3) := dk_162 0 20 (dk_at dksX2_sum_0 13 rfl rfl)
theorem dX2_sum_16 : decode cX2_sum 16 = .ok (.aload_n 2, 1) := dk_44 (dk_at dksX2_sum_0 16 rfl rfl)
theorem dX2_sum_17 : decode cX2_sum 17 = .ok (.iload 4, 2) := dk_21 4 (dk_at dksX2_sum_0 17 rfl rfl)
theorem dX2_sum_19 : decode cX2_sum 19 = .ok (.iaload, 1) := dk_46 (dk_at dksX2_sum_0 19 rfl rfl)
theorem dX2_sum_20 : decode cX2_sum 20 = .ok (.istore 5, 2) := dk_54 5 (dk_at dksX2_sum_0 20 rfl rfl)
theorem dX2_sum_22 : decode cX2_sum 22 = .ok (.iload_n 1, 1) := dk_27 (dk_at dksX2_sum_0 22 rfl rfl)
theorem dX2_sum_23 : decode cX2_sum 23 = .ok (.iload 5, 2) := dk_21 5 (dk_at dksX2_sum_1 0 rfl rfl)
theorem dX2_sum_25 : decode cX2_sum 25 = .ok (.iadd, 1) := dk_96 (dk_at dksX2_sum_1 2 rfl rfl)
theorem dX2_sum_26 : decode cX2_sum 26 = .ok (.istore_n 1, 1) := dk_60 (dk_at dksX2_sum_1 3 rfl rfl)
theorem dX2_sum_27 : decode cX2_sum 27 = .ok (.iinc 4 1, 3) := dk_132 4 1 (dk_at dksX2_sum_1 4 rfl rfl)
theorem dX2_sum_30 : decode cX2_sum 30 = .ok (.goto (-20), 3) := dk_167 255 236 (dk_at dksX2_sum_1 7 rfl rfl)
theorem dX2_sum_33 : decode cX2_sum 33 = .ok (.iload_n 1, 1) := dk_27 (dk_at dksX2_sum_1 10 rfl rfl)
theorem dX2_sum_34 : decode cX2_sum 34 = .ok (.ireturn, 1) := dk_172 (dk_at dksX2_sum_1 11 rfl rfl)
abbrev cX2_flow : ByteArray := prog_2_method_8_code
def yX2_flow : MethodName := ⟨RX2, "flow", "(I[I)V"⟩
def dkwX2_flow_2 : List UInt8 := [46, 182, 0, 46, 128, 62, 132, 4, 1, 167, 255, 211, 167, 255, 199, 177]
abbrev dktX2_flow_2 : List UInt8 := dkwX2_flow_2 ++ []
def dkwX2_flow_1 : List UInt8 := [21, 4, 4, 96, 44, 21, 4, 46, 182, 0, 46, 128, 62, 29, 42, 21, 4, 4, 96, 21, 4, 44, 21, 4]
abbrev dktX2_flow_1 : List UInt8 := dkwX2_flow_1 ++ dktX2_flow_2
def dkwX2_flow_0 : List UInt8 := [4, 62, 29, 153, 0, 59, 3, 62, 3, 54, 4, 21, 4, 4, 96, 27, 162, 0, 43, 29, 42, 21, 4]
abbrev dktX2_flow_0 : List UInt8 := dkwX2_flow_0 ++ dktX2_flow_1
theorem dksX2_flow_0 : cX2_flow.data.toList.drop 0 = dktX2_flow_0 := by decide +kernel
theorem dksX2_flow_1 : cX2_flow.data.toList.drop 23 = dktX2_flow_1 := dk_seg dksX2_flow_0 23 rfl rfl
theorem dksX2_flow_2 : cX2_flow.data.toList.drop 47 = dktX2_flow_2 := dk_seg dksX2_flow_1 24 rfl rfl
theorem dX2_flow_0 : decode cX2_flow 0 = .ok (.iconst 1, 1) := dk_4 (dk_at dksX2_flow_0 0 rfl rfl)
theorem dX2_flow_1 : decode cX2_flow 1 = .ok (.istore_n 3, 1) := dk_62 (dk_at dksX2_flow_0 1 rfl rfl)
theorem dX2_flow_2 : decode cX2_flow 2 = .ok (.iload_n 3, 1) := dk_29 (dk_at dksX2_flow_0 2 rfl rfl)
theorem dX2_flow_3 : decode cX2_flow 3 = .ok (.ifCond .eq 59, 3) := dk_153 0 59 (dk_at dksX2_flow_0 3 rfl rfl)
theorem dX2_flow_6 : decode cX2_flow 6 = .ok (.iconst 0, 1) := dk_3 (dk_at dksX2_flow_0 6 rfl rfl)
theorem dX2_flow_7 : decode cX2_flow 7 = .ok (.istore_n 3, 1) := dk_62 (dk_at dksX2_flow_0 7 rfl rfl)
theorem dX2_flow_8 : decode cX2_flow 8 = .ok (.iconst 0, 1) := dk_3 (dk_at dksX2_flow_0 8 rfl rfl)
theorem dX2_flow_9 : decode cX2_flow 9 = .ok (.istore 4, 2) := dk_54 4 (dk_at dksX2_flow_0 9 rfl rfl)
theorem dX2_flow_11 : decode cX2_flow 11 = .ok (.iload 4, 2) := dk_21 4 (dk_at dksX2_flow_0 11 rfl rfl)
theorem dX2_flow_13 : decode cX2_flow 13 = .ok (.iconst 1, 1) := dk_4 (dk_at dksX2_flow_0 13 rfl rfl)
theorem dX2_flow_14 : decode cX2_flow 14 = .ok (.iadd, 1) := dk_96 (dk_at dksX2_flow_0 14 rfl rfl)
theorem dX2_flow_15 : decode cX2_flow 15 = .ok (.iload_n 1, 1) := dk_27 (dk_at dksX2_flow_0 15 rfl rfl)
theorem dX2_flow_16 : decode cX2_flow 16 = .ok (.if_icmp .ge 43, 3) := dk_162 0 43 (dk_at dksX2_flow_0 16 rfl rfl)
theorem dX2_flow_19 : decode cX2_flow 19 = .ok (.iload_n 3, 1) := dk_29 (dk_at dksX2_flow_0 19 rfl rfl)
theorem dX2_flow_20 : decode cX2_flow 20 = .ok (.aload_n 0, 1) := dk_42 (dk_at dksX2_flow_0 20 rfl rfl)
theorem dX2_flow_21 : decode cX2_flow 21 = .ok (.iload 4, 2) := dk_21 4 (dk_at dksX2_flow_0 21 rfl rfl)
theorem dX2_flow_23 : decode cX2_flow 23 = .ok (.iload 4, 2) := dk_21 4 (dk_at dksX2_flow_1 0 rfl rfl)
theorem dX2_flow_25 : decode cX2_flow 25 = .ok (.iconst 1, 1) := dk_4 (dk_at dksX2_flow_1 2 rfl rfl)
theorem dX2_flow_26 : decode cX2_flow 26 = .ok (.iadd, 1) := dk_96 (dk_at dksX2_flow_1 3 rfl rfl)
theorem dX2_flow_27 : decode cX2_flow 27 = .ok (.aload_n 2, 1) := dk_44 (dk_at dksX2_flow_1 4 rfl rfl)
theorem dX2_flow_28 : decode cX2_flow 28 = .ok (.iload 4, 2) := dk_21 4 (dk_at dksX2_flow_1 5 rfl rfl)
theorem dX2_flow_30 : decode cX2_flow 30 = .ok (.iaload, 1) := dk_46 (dk_at dksX2_flow_1 7 rfl rfl)
theorem dX2_flow_31 : decode cX2_flow 31 = .ok (.invokevirtual 46, 3) := dk_182 0 46 (dk_at dksX2_flow_1 8 rfl rfl)
theorem dX2_flow_34 : decode cX2_flow 34 = .ok (.ior, 1) := dk_128 (dk_at dksX2_flow_1 11 rfl rfl)
theorem dX2_flow_35 : decode cX2_flow 35 = .ok (.istore_n 3, 1) := dk_62 (dk_at dksX2_flow_1 12 rfl rfl)
theorem dX2_flow_36 : decode cX2_flow 36 = .ok (.iload_n 3, 1) := dk_29 (dk_at dksX2_flow_1 13 rfl rfl)
theorem dX2_flow_37 : decode cX2_flow 37 = .ok (.aload_n 0, 1) := dk_42 (dk_at dksX2_flow_1 14 rfl rfl)
theorem dX2_flow_38 : decode cX2_flow 38 = .ok (.iload 4, 2) := dk_21 4 (dk_at dksX2_flow_1 15 rfl rfl)
theorem dX2_flow_40 : decode cX2_flow 40 = .ok (.iconst 1, 1) := dk_4 (dk_at dksX2_flow_1 17 rfl rfl)
theorem dX2_flow_41 : decode cX2_flow 41 = .ok (.iadd, 1) := dk_96 (dk_at dksX2_flow_1 18 rfl rfl)
theorem dX2_flow_42 : decode cX2_flow 42 = .ok (.iload 4, 2) := dk_21 4 (dk_at dksX2_flow_1 19 rfl rfl)
theorem dX2_flow_44 : decode cX2_flow 44 = .ok (.aload_n 2, 1) := dk_44 (dk_at dksX2_flow_1 21 rfl rfl)
theorem dX2_flow_45 : decode cX2_flow 45 = .ok (.iload 4, 2) := dk_21 4 (dk_at dksX2_flow_1 22 rfl rfl)
theorem dX2_flow_47 : decode cX2_flow 47 = .ok (.iaload, 1) := dk_46 (dk_at dksX2_flow_2 0 rfl rfl)
theorem dX2_flow_48 : decode cX2_flow 48 = .ok (.invokevirtual 46, 3) := dk_182 0 46 (dk_at dksX2_flow_2 1 rfl rfl)
theorem dX2_flow_51 : decode cX2_flow 51 = .ok (.ior, 1) := dk_128 (dk_at dksX2_flow_2 4 rfl rfl)
theorem dX2_flow_52 : decode cX2_flow 52 = .ok (.istore_n 3, 1) := dk_62 (dk_at dksX2_flow_2 5 rfl rfl)
theorem dX2_flow_53 : decode cX2_flow 53 = .ok (.iinc 4 1, 3) := dk_132 4 1 (dk_at dksX2_flow_2 6 rfl rfl)
theorem dX2_flow_56 : decode cX2_flow 56 = .ok (.goto (-45), 3) := dk_167 255 211 (dk_at dksX2_flow_2 9 rfl rfl)
theorem dX2_flow_59 : decode cX2_flow 59 = .ok (.goto (-57), 3) := dk_167 255 199 (dk_at dksX2_flow_2 12 rfl rfl)
theorem dX2_flow_62 : decode cX2_flow 62 = .ok (.return_, 1) := dk_177 (dk_at dksX2_flow_2 15 rfl rfl)
abbrev cX2_spill : ByteArray := prog_2_method_9_code
def yX2_spill : MethodName := ⟨RX2, "spill", "(III)Z"⟩
def dkwX2_spill_1 : List UInt8 := [172, 42, 180, 0, 15, 28, 21, 4, 79, 4, 172]
abbrev dktX2_spill_1 : List UInt8 := dkwX2_spill_1 ++ []
def dkwX2_spill_0 : List UInt8 := [42, 180, 0, 15, 27, 46, 29, 100, 4, 100, 54, 4, 21, 4, 42, 180, 0, 15, 28, 46, 163, 0, 5, 3]
abbrev dktX2_spill_0 : List UInt8 := dkwX2_spill_0 ++ dktX2_spill_1
theorem dksX2_spill_0 : cX2_spill.data.toList.drop 0 = dktX2_spill_0 := by decide +kernel
theorem dksX2_spill_1 : cX2_spill.data.toList.drop 24 = dktX2_spill_1 := dk_seg dksX2_spill_0 24 rfl rfl
theorem dX2_spill_0 : decode cX2_spill 0 = .ok (.aload_n 0, 1) := dk_42 (dk_at dksX2_spill_0 0 rfl rfl)
theorem dX2_spill_1 : decode cX2_spill 1 = .ok (.getfield 15, 3) := dk_180 0 15 (dk_at dksX2_spill_0 1 rfl rfl)
theorem dX2_spill_4 : decode cX2_spill 4 = .ok (.iload_n 1, 1) := dk_27 (dk_at dksX2_spill_0 4 rfl rfl)
theorem dX2_spill_5 : decode cX2_spill 5 = .ok (.iaload, 1) := dk_46 (dk_at dksX2_spill_0 5 rfl rfl)
theorem dX2_spill_6 : decode cX2_spill 6 = .ok (.iload_n 3, 1) := dk_29 (dk_at dksX2_spill_0 6 rfl rfl)
theorem dX2_spill_7 : decode cX2_spill 7 = .ok (.isub, 1) := dk_100 (dk_at dksX2_spill_0 7 rfl rfl)
theorem dX2_spill_8 : decode cX2_spill 8 = .ok (.iconst 1, 1) := dk_4 (dk_at dksX2_spill_0 8 rfl rfl)
theorem dX2_spill_9 : decode cX2_spill 9 = .ok (.isub, 1) := dk_100 (dk_at dksX2_spill_0 9 rfl rfl)
theorem dX2_spill_10 : decode cX2_spill 10 = .ok (.istore 4, 2) := dk_54 4 (dk_at dksX2_spill_0 10 rfl rfl)
theorem dX2_spill_12 : decode cX2_spill 12 = .ok (.iload 4, 2) := dk_21 4 (dk_at dksX2_spill_0 12 rfl rfl)
theorem dX2_spill_14 : decode cX2_spill 14 = .ok (.aload_n 0, 1) := dk_42 (dk_at dksX2_spill_0 14 rfl rfl)
theorem dX2_spill_15 : decode cX2_spill 15 = .ok (.getfield 15, 3) := dk_180 0 15 (dk_at dksX2_spill_0 15 rfl rfl)
theorem dX2_spill_18 : decode cX2_spill 18 = .ok (.iload_n 2, 1) := dk_28 (dk_at dksX2_spill_0 18 rfl rfl)
theorem dX2_spill_19 : decode cX2_spill 19 = .ok (.iaload, 1) := dk_46 (dk_at dksX2_spill_0 19 rfl rfl)
theorem dX2_spill_20 : decode cX2_spill 20 = .ok (.if_icmp .gt 5, 3) := dk_163 0 5 (dk_at dksX2_spill_0 20 rfl rfl)
theorem dX2_spill_23 : decode cX2_spill 23 = .ok (.iconst 0, 1) := dk_3 (dk_at dksX2_spill_0 23 rfl rfl)
theorem dX2_spill_24 : decode cX2_spill 24 = .ok (.ireturn, 1) := dk_172 (dk_at dksX2_spill_1 0 rfl rfl)
theorem dX2_spill_25 : decode cX2_spill 25 = .ok (.aload_n 0, 1) := dk_42 (dk_at dksX2_spill_1 1 rfl rfl)
theorem dX2_spill_26 : decode cX2_spill 26 = .ok (.getfield 15, 3) := dk_180 0 15 (dk_at dksX2_spill_1 2 rfl rfl)
theorem dX2_spill_29 : decode cX2_spill 29 = .ok (.iload_n 2, 1) := dk_28 (dk_at dksX2_spill_1 5 rfl rfl)
theorem dX2_spill_30 : decode cX2_spill 30 = .ok (.iload 4, 2) := dk_21 4 (dk_at dksX2_spill_1 6 rfl rfl)
theorem dX2_spill_32 : decode cX2_spill 32 = .ok (.iastore, 1) := dk_79 (dk_at dksX2_spill_1 8 rfl rfl)
theorem dX2_spill_33 : decode cX2_spill 33 = .ok (.iconst 1, 1) := dk_4 (dk_at dksX2_spill_1 9 rfl rfl)
theorem dX2_spill_34 : decode cX2_spill 34 = .ok (.ireturn, 1) := dk_172 (dk_at dksX2_spill_1 10 rfl rfl)
abbrev cX2_wet : ByteArray := prog_2_method_5_code
def yX2_wet : MethodName := ⟨RX2, "wet", "(I)I"⟩
def dkwX2_wet_1 : List UInt8 := [167, 0, 4, 3, 128, 61, 132, 3, 1, 167, 255, 229, 28, 172]
abbrev dktX2_wet_1 : List UInt8 := dkwX2_wet_1 ++ []
def dkwX2_wet_0 : List UInt8 := [3, 61, 3, 62, 29, 27, 162, 0, 28, 28, 42, 180, 0, 15, 29, 46, 158, 0, 9, 4, 29, 120]
abbrev dktX2_wet_0 : List UInt8 := dkwX2_wet_0 ++ dktX2_wet_1
theorem dksX2_wet_0 : cX2_wet.data.toList.drop 0 = dktX2_wet_0 := by decide +kernel
theorem dksX2_wet_1 : cX2_wet.data.toList.drop 22 = dktX2_wet_1 := dk_seg dksX2_wet_0 22 rfl rfl
theorem dX2_wet_0 : decode cX2_wet 0 = .ok (.iconst 0, 1) := dk_3 (dk_at dksX2_wet_0 0 rfl rfl)
theorem dX2_wet_1 : decode cX2_wet 1 = .ok (.istore_n 2, 1) := dk_61 (dk_at dksX2_wet_0 1 rfl rfl)
theorem dX2_wet_2 : decode cX2_wet 2 = .ok (.iconst 0, 1) := dk_3 (dk_at dksX2_wet_0 2 rfl rfl)
theorem dX2_wet_3 : decode cX2_wet 3 = .ok (.istore_n 3, 1) := dk_62 (dk_at dksX2_wet_0 3 rfl rfl)
theorem dX2_wet_4 : decode cX2_wet 4 = .ok (.iload_n 3, 1) := dk_29 (dk_at dksX2_wet_0 4 rfl rfl)
theorem dX2_wet_5 : decode cX2_wet 5 = .ok (.iload_n 1, 1) := dk_27 (dk_at dksX2_wet_0 5 rfl rfl)
theorem dX2_wet_6 : decode cX2_wet 6 = .ok (.if_icmp .ge 28, 3) := dk_162 0 28 (dk_at dksX2_wet_0 6 rfl rfl)
theorem dX2_wet_9 : decode cX2_wet 9 = .ok (.iload_n 2, 1) := dk_28 (dk_at dksX2_wet_0 9 rfl rfl)
theorem dX2_wet_10 : decode cX2_wet 10 = .ok (.aload_n 0, 1) := dk_42 (dk_at dksX2_wet_0 10 rfl rfl)
theorem dX2_wet_11 : decode cX2_wet 11 = .ok (.getfield 15, 3) := dk_180 0 15 (dk_at dksX2_wet_0 11 rfl rfl)
theorem dX2_wet_14 : decode cX2_wet 14 = .ok (.iload_n 3, 1) := dk_29 (dk_at dksX2_wet_0 14 rfl rfl)
theorem dX2_wet_15 : decode cX2_wet 15 = .ok (.iaload, 1) := dk_46 (dk_at dksX2_wet_0 15 rfl rfl)
theorem dX2_wet_16 : decode cX2_wet 16 = .ok (.ifCond .le 9, 3) := dk_158 0 9 (dk_at dksX2_wet_0 16 rfl rfl)
theorem dX2_wet_19 : decode cX2_wet 19 = .ok (.iconst 1, 1) := dk_4 (dk_at dksX2_wet_0 19 rfl rfl)
theorem dX2_wet_20 : decode cX2_wet 20 = .ok (.iload_n 3, 1) := dk_29 (dk_at dksX2_wet_0 20 rfl rfl)
theorem dX2_wet_21 : decode cX2_wet 21 = .ok (.ishl, 1) := dk_120 (dk_at dksX2_wet_0 21 rfl rfl)
theorem dX2_wet_22 : decode cX2_wet 22 = .ok (.goto 4, 3) := dk_167 0 4 (dk_at dksX2_wet_1 0 rfl rfl)
theorem dX2_wet_25 : decode cX2_wet 25 = .ok (.iconst 0, 1) := dk_3 (dk_at dksX2_wet_1 3 rfl rfl)
theorem dX2_wet_26 : decode cX2_wet 26 = .ok (.ior, 1) := dk_128 (dk_at dksX2_wet_1 4 rfl rfl)
theorem dX2_wet_27 : decode cX2_wet 27 = .ok (.istore_n 2, 1) := dk_61 (dk_at dksX2_wet_1 5 rfl rfl)
theorem dX2_wet_28 : decode cX2_wet 28 = .ok (.iinc 3 1, 3) := dk_132 3 1 (dk_at dksX2_wet_1 6 rfl rfl)
theorem dX2_wet_31 : decode cX2_wet 31 = .ok (.goto (-27), 3) := dk_167 255 229 (dk_at dksX2_wet_1 9 rfl rfl)
theorem dX2_wet_34 : decode cX2_wet 34 = .ok (.iload_n 2, 1) := dk_28 (dk_at dksX2_wet_1 12 rfl rfl)
theorem dX2_wet_35 : decode cX2_wet 35 = .ok (.ireturn, 1) := dk_172 (dk_at dksX2_wet_1 13 rfl rfl)
abbrev cX2_those : ByteArray := prog_2_method_7_code
def yX2_those : MethodName := ⟨RX2, "those", "(II)I"⟩
def dkwX2_those_1 : List UInt8 := [21, 4, 120, 167, 0, 4, 3, 128, 62, 132, 4, 1, 167, 255, 225, 29, 172]
abbrev dktX2_those_1 : List UInt8 := dkwX2_those_1 ++ []
def dkwX2_those_0 : List UInt8 := [3, 62, 3, 54, 4, 21, 4, 28, 162, 0, 31, 29, 42, 180, 0, 18, 21, 4, 46, 27, 160, 0, 10, 4]
abbrev dktX2_those_0 : List UInt8 := dkwX2_those_0 ++ dktX2_those_1
theorem dksX2_those_0 : cX2_those.data.toList.drop 0 = dktX2_those_0 := by decide +kernel
theorem dksX2_those_1 : cX2_those.data.toList.drop 24 = dktX2_those_1 := dk_seg dksX2_those_0 24 rfl rfl
theorem dX2_those_0 : decode cX2_those 0 = .ok (.iconst 0, 1) := dk_3 (dk_at dksX2_those_0 0 rfl rfl)
theorem dX2_those_1 : decode cX2_those 1 = .ok (.istore_n 3, 1) := dk_62 (dk_at dksX2_those_0 1 rfl rfl)
theorem dX2_those_2 : decode cX2_those 2 = .ok (.iconst 0, 1) := dk_3 (dk_at dksX2_those_0 2 rfl rfl)
theorem dX2_those_3 : decode cX2_those 3 = .ok (.istore 4, 2) := dk_54 4 (dk_at dksX2_those_0 3 rfl rfl)
theorem dX2_those_5 : decode cX2_those 5 = .ok (.iload 4, 2) := dk_21 4 (dk_at dksX2_those_0 5 rfl rfl)
theorem dX2_those_7 : decode cX2_those 7 = .ok (.iload_n 2, 1) := dk_28 (dk_at dksX2_those_0 7 rfl rfl)
theorem dX2_those_8 : decode cX2_those 8 = .ok (.if_icmp .ge 31, 3) := dk_162 0 31 (dk_at dksX2_those_0 8 rfl rfl)
theorem dX2_those_11 : decode cX2_those 11 = .ok (.iload_n 3, 1) := dk_29 (dk_at dksX2_those_0 11 rfl rfl)
theorem dX2_those_12 : decode cX2_those 12 = .ok (.aload_n 0, 1) := dk_42 (dk_at dksX2_those_0 12 rfl rfl)
theorem dX2_those_13 : decode cX2_those 13 = .ok (.getfield 18, 3) := dk_180 0 18 (dk_at dksX2_those_0 13 rfl rfl)
theorem dX2_those_16 : decode cX2_those 16 = .ok (.iload 4, 2) := dk_21 4 (dk_at dksX2_those_0 16 rfl rfl)
theorem dX2_those_18 : decode cX2_those 18 = .ok (.iaload, 1) := dk_46 (dk_at dksX2_those_0 18 rfl rfl)
theorem dX2_those_19 : decode cX2_those 19 = .ok (.iload_n 1, 1) := dk_27 (dk_at dksX2_those_0 19 rfl rfl)
theorem dX2_those_20 : decode cX2_those 20 = .ok (.if_icmp .ne 10, 3) := dk_160 0 10 (dk_at dksX2_those_0 20 rfl rfl)
theorem dX2_those_23 : decode cX2_those 23 = .ok (.iconst 1, 1) := dk_4 (dk_at dksX2_those_0 23 rfl rfl)
theorem dX2_those_24 : decode cX2_those 24 = .ok (.iload 4, 2) := dk_21 4 (dk_at dksX2_those_1 0 rfl rfl)
theorem dX2_those_26 : decode cX2_those 26 = .ok (.ishl, 1) := dk_120 (dk_at dksX2_those_1 2 rfl rfl)
theorem dX2_those_27 : decode cX2_those 27 = .ok (.goto 4, 3) := dk_167 0 4 (dk_at dksX2_those_1 3 rfl rfl)
theorem dX2_those_30 : decode cX2_those 30 = .ok (.iconst 0, 1) := dk_3 (dk_at dksX2_those_1 6 rfl rfl)
theorem dX2_those_31 : decode cX2_those 31 = .ok (.ior, 1) := dk_128 (dk_at dksX2_those_1 7 rfl rfl)
theorem dX2_those_32 : decode cX2_those 32 = .ok (.istore_n 3, 1) := dk_62 (dk_at dksX2_those_1 8 rfl rfl)
theorem dX2_those_33 : decode cX2_those 33 = .ok (.iinc 4 1, 3) := dk_132 4 1 (dk_at dksX2_those_1 9 rfl rfl)
theorem dX2_those_36 : decode cX2_those 36 = .ok (.goto (-31), 3) := dk_167 255 225 (dk_at dksX2_those_1 12 rfl rfl)
theorem dX2_those_39 : decode cX2_those 39 = .ok (.iload_n 3, 1) := dk_29 (dk_at dksX2_those_1 15 rfl rfl)
theorem dX2_those_40 : decode cX2_those 40 = .ok (.ireturn, 1) := dk_172 (dk_at dksX2_those_1 16 rfl rfl)
theorem q95 : (Jvm.Cond.initialized "SandKeepsSea$Beach") ∈ lw_all := lw_g (lw_at lw_m1 2 rfl) rfl
theorem q129 : (Jvm.Cond.instantiable "SandKeepsSea$Beach" (7 : Nat)) ∈ lw_all := lw_g (lw_at lw_m1 36 rfl) rfl
theorem q131 : (Jvm.Cond.instanceMethod ({ cls := "SandKeepsSea$Beach", name := "<init>", desc := "()V" } : Jvm.MethodName)) ∈ lw_all := lw_g (lw_at lw_m1 38 rfl) rfl
theorem q132 : (Jvm.Cond.code ({ cls := "SandKeepsSea$Beach", name := "<init>", desc := "()V" } : Jvm.MethodName) prog_2_method_1_code (1 : Nat) (Option.none : Option Jvm.ClassFile.FieldType)) ∈ lw_all := lw_g (lw_at lw_m1 39 rfl) rfl
theorem q133 : (Jvm.Cond.methodLink "SandKeepsSea$Beach" (3 : Nat) ({ cls := "java/lang/Object", name := "<init>", desc := "()V" } : Jvm.MethodName)) ∈ lw_all := lw_g (lw_at lw_m1 40 rfl) rfl
theorem q134 : (Jvm.Cond.fieldLink "SandKeepsSea$Beach" (9 : Nat) "SandKeepsSea$Beach" "wall" "[I") ∈ lw_all := lw_g (lw_at lw_m1 41 rfl) rfl
theorem q136 : (Jvm.Cond.fieldLink "SandKeepsSea$Beach" (15 : Nat) "SandKeepsSea$Beach" "depth" "[I") ∈ lw_all := lw_g (lw_at lw_m1 43 rfl) rfl
theorem q138 : (Jvm.Cond.fieldLink "SandKeepsSea$Beach" (18 : Nat) "SandKeepsSea$Beach" "at" "[I") ∈ lw_all := lw_g (lw_at lw_m1 45 rfl) rfl
theorem q142 : (Jvm.Cond.fieldLink "SandKeepsSea$Beach" (21 : Nat) "SandKeepsSea$Beach" "mood" "[I") ∈ lw_all := lw_g (lw_at lw_m1 49 rfl) rfl
theorem q145 : (Jvm.Cond.fieldLink "SandKeepsSea$Beach" (30 : Nat) "SandKeepsSea$Beach" "moats" "I") ∈ lw_all := lw_g (lw_at lw_m1 52 rfl) rfl
theorem q147 : (Jvm.Cond.fieldLink "SandKeepsSea$Beach" (34 : Nat) "SandKeepsSea$Beach" "spades" "I") ∈ lw_all := lw_g (lw_at lw_m1 54 rfl) rfl
theorem q149 : (Jvm.Cond.fieldLink "SandKeepsSea$Beach" (37 : Nat) "SandKeepsSea$Beach" "tide" "I") ∈ lw_all := lw_g (lw_at lw_m1 56 rfl) rfl
theorem q152 : (Jvm.Cond.laysFinal "SandKeepsSea$Beach" "SandKeepsSea$Beach" "wall" "[I") ∈ lw_all := lw_g (lw_at lw_m1 59 rfl) rfl
theorem q153 : (Jvm.Cond.soleField "SandKeepsSea$Beach" "wall") ∈ lw_all := lw_g (lw_at lw_m1 60 rfl) rfl
theorem q154 : (Jvm.Cond.laysFinal "SandKeepsSea$Beach" "SandKeepsSea$Beach" "depth" "[I") ∈ lw_all := lw_g (lw_at lw_m1 61 rfl) rfl
theorem q155 : (Jvm.Cond.soleField "SandKeepsSea$Beach" "depth") ∈ lw_all := lw_g (lw_at lw_m1 62 rfl) rfl
theorem q156 : (Jvm.Cond.laysFinal "SandKeepsSea$Beach" "SandKeepsSea$Beach" "at" "[I") ∈ lw_all := lw_g (lw_at lw_m1 63 rfl) rfl
theorem q157 : (Jvm.Cond.soleField "SandKeepsSea$Beach" "at") ∈ lw_all := lw_g (lw_at lw_m1 64 rfl) rfl
theorem q158 : (Jvm.Cond.laysFinal "SandKeepsSea$Beach" "SandKeepsSea$Beach" "mood" "[I") ∈ lw_all := lw_g (lw_at lw_m1 65 rfl) rfl
theorem q159 : (Jvm.Cond.soleField "SandKeepsSea$Beach" "mood") ∈ lw_all := lw_g (lw_at lw_m1 66 rfl) rfl
theorem q160 : (Jvm.Cond.lays "SandKeepsSea$Beach" "SandKeepsSea$Beach" "moats" "I") ∈ lw_all := lw_g (lw_at lw_m1 67 rfl) rfl
theorem q161 : (Jvm.Cond.soleField "SandKeepsSea$Beach" "moats") ∈ lw_all := lw_g (lw_at lw_m1 68 rfl) rfl
theorem q162 : (Jvm.Cond.lays "SandKeepsSea$Beach" "SandKeepsSea$Beach" "spades" "I") ∈ lw_all := lw_g (lw_at lw_m1 69 rfl) rfl
theorem q163 : (Jvm.Cond.soleField "SandKeepsSea$Beach" "spades") ∈ lw_all := lw_g (lw_at lw_m1 70 rfl) rfl
theorem q164 : (Jvm.Cond.lays "SandKeepsSea$Beach" "SandKeepsSea$Beach" "tide" "I") ∈ lw_all := lw_g (lw_at lw_m1 71 rfl) rfl
theorem q165 : (Jvm.Cond.soleField "SandKeepsSea$Beach" "tide") ∈ lw_all := lw_g (lw_at lw_m1 72 rfl) rfl
theorem q166 : (Jvm.Cond.superclass "SandKeepsSea$Beach" "java/lang/Object") ∈ lw_all := lw_g (lw_at lw_m1 73 rfl) rfl
theorem q172 : (Jvm.Cond.instanceMethod ({ cls := "SandKeepsSea$Beach", name := "clear", desc := "()V" } : Jvm.MethodName)) ∈ lw_all := lw_g (lw_at lw_m1 79 rfl) rfl
theorem q173 : (Jvm.Cond.selects "SandKeepsSea$Beach" ({ cls := "SandKeepsSea$Beach", name := "clear", desc := "()V" } : Jvm.MethodName) ({ cls := "SandKeepsSea$Beach", name := "clear", desc := "()V" } : Jvm.MethodName)) ∈ lw_all := lw_g (lw_at lw_m1 80 rfl) rfl
theorem q174 : (Jvm.Cond.code ({ cls := "SandKeepsSea$Beach", name := "clear", desc := "()V" } : Jvm.MethodName) prog_2_method_3_code (1 : Nat) (Option.none : Option Jvm.ClassFile.FieldType)) ∈ lw_all := lw_g (lw_at lw_m1 81 rfl) rfl
theorem q175 : (Jvm.Cond.methodLink "SandKeepsSea$Beach" (40 : Nat) ({ cls := "java/util/Arrays", name := "fill", desc := "([II)V" } : Jvm.MethodName)) ∈ lw_all := lw_g (lw_at lw_m1 82 rfl) rfl
theorem q660 : (Jvm.Cond.instanceMethod ({ cls := "SandKeepsSea$Beach", name := "be", desc := "(LSandKeepsSea$Beach;)V" } : Jvm.MethodName)) ∈ lw_all := lw_g (lw_at lw_m3 87 rfl) rfl
theorem q661 : (Jvm.Cond.selects "SandKeepsSea$Beach" ({ cls := "SandKeepsSea$Beach", name := "be", desc := "(LSandKeepsSea$Beach;)V" } : Jvm.MethodName) ({ cls := "SandKeepsSea$Beach", name := "be", desc := "(LSandKeepsSea$Beach;)V" } : Jvm.MethodName)) ∈ lw_all := lw_g (lw_at lw_m3 88 rfl) rfl
theorem q662 : (Jvm.Cond.code ({ cls := "SandKeepsSea$Beach", name := "be", desc := "(LSandKeepsSea$Beach;)V" } : Jvm.MethodName) prog_2_method_2_code (2 : Nat) (Option.none : Option Jvm.ClassFile.FieldType)) ∈ lw_all := lw_g (lw_at lw_m3 89 rfl) rfl
theorem q663 : (Jvm.Cond.methodLink "SandKeepsSea$Beach" (24 : Nat) ({ cls := "java/lang/System", name := "arraycopy", desc := "(Ljava/lang/Object;ILjava/lang/Object;II)V" } : Jvm.MethodName)) ∈ lw_all := lw_g (lw_at lw_m3 90 rfl) rfl
theorem q701 : (Jvm.Cond.instanceMethod ({ cls := "SandKeepsSea$Beach", name := "atHome", desc := "(I)I" } : Jvm.MethodName)) ∈ lw_all := lw_g (lw_at lw_m3 128 rfl) rfl
theorem q702 : (Jvm.Cond.selects "SandKeepsSea$Beach" ({ cls := "SandKeepsSea$Beach", name := "atHome", desc := "(I)I" } : Jvm.MethodName) ({ cls := "SandKeepsSea$Beach", name := "atHome", desc := "(I)I" } : Jvm.MethodName)) ∈ lw_all := lw_g (lw_at lw_m3 129 rfl) rfl
theorem q703 : (Jvm.Cond.code ({ cls := "SandKeepsSea$Beach", name := "atHome", desc := "(I)I" } : Jvm.MethodName) prog_2_method_6_code (4 : Nat) (Option.some Jvm.ClassFile.FieldType.int)) ∈ lw_all := lw_g (lw_at lw_m3 130 rfl) rfl
theorem q746 : (Jvm.Cond.static ({ cls := "SandKeepsSea$Beach", name := "sum", desc := "([I)I" } : Jvm.MethodName)) ∈ lw_all := lw_g (lw_at lw_m3 173 rfl) rfl
theorem q747 : (Jvm.Cond.code ({ cls := "SandKeepsSea$Beach", name := "sum", desc := "([I)I" } : Jvm.MethodName) prog_2_method_4_code (6 : Nat) (Option.some Jvm.ClassFile.FieldType.int)) ∈ lw_all := lw_g (lw_at lw_m3 174 rfl) rfl
theorem q761 : (Jvm.Cond.instanceMethod ({ cls := "SandKeepsSea$Beach", name := "flow", desc := "(I[I)V" } : Jvm.MethodName)) ∈ lw_all := lw_g (lw_at lw_m3 188 rfl) rfl
theorem q762 : (Jvm.Cond.selects "SandKeepsSea$Beach" ({ cls := "SandKeepsSea$Beach", name := "flow", desc := "(I[I)V" } : Jvm.MethodName) ({ cls := "SandKeepsSea$Beach", name := "flow", desc := "(I[I)V" } : Jvm.MethodName)) ∈ lw_all := lw_g (lw_at lw_m3 189 rfl) rfl
theorem q763 : (Jvm.Cond.code ({ cls := "SandKeepsSea$Beach", name := "flow", desc := "(I[I)V" } : Jvm.MethodName) prog_2_method_8_code (5 : Nat) (Option.none : Option Jvm.ClassFile.FieldType)) ∈ lw_all := lw_g (lw_at lw_m3 190 rfl) rfl
theorem q764 : (Jvm.Cond.methodLink "SandKeepsSea$Beach" (46 : Nat) ({ cls := "SandKeepsSea$Beach", name := "spill", desc := "(III)Z" } : Jvm.MethodName)) ∈ lw_all := lw_g (lw_at lw_m3 191 rfl) rfl
theorem q765 : (Jvm.Cond.privateMethod ({ cls := "SandKeepsSea$Beach", name := "spill", desc := "(III)Z" } : Jvm.MethodName)) ∈ lw_tbl := lw_at lw_m3 192 rfl
theorem q766 : (Jvm.Cond.instanceMethod ({ cls := "SandKeepsSea$Beach", name := "spill", desc := "(III)Z" } : Jvm.MethodName)) ∈ lw_all := lw_g (lw_at lw_m3 193 rfl) rfl
theorem q767 : (Jvm.Cond.code ({ cls := "SandKeepsSea$Beach", name := "spill", desc := "(III)Z" } : Jvm.MethodName) prog_2_method_9_code (5 : Nat) (Option.some Jvm.ClassFile.FieldType.boolean)) ∈ lw_all := lw_g (lw_at lw_m3 194 rfl) rfl
theorem q774 : (Jvm.Cond.instanceMethod ({ cls := "SandKeepsSea$Beach", name := "wet", desc := "(I)I" } : Jvm.MethodName)) ∈ lw_all := lw_g (lw_at lw_m3 201 rfl) rfl
theorem q775 : (Jvm.Cond.selects "SandKeepsSea$Beach" ({ cls := "SandKeepsSea$Beach", name := "wet", desc := "(I)I" } : Jvm.MethodName) ({ cls := "SandKeepsSea$Beach", name := "wet", desc := "(I)I" } : Jvm.MethodName)) ∈ lw_all := lw_g (lw_at lw_m3 202 rfl) rfl
theorem q776 : (Jvm.Cond.code ({ cls := "SandKeepsSea$Beach", name := "wet", desc := "(I)I" } : Jvm.MethodName) prog_2_method_5_code (4 : Nat) (Option.some Jvm.ClassFile.FieldType.int)) ∈ lw_all := lw_g (lw_at lw_m3 203 rfl) rfl
theorem q1195 : (Jvm.Cond.instanceMethod ({ cls := "SandKeepsSea$Beach", name := "those", desc := "(II)I" } : Jvm.MethodName)) ∈ lw_all := lw_g (lw_at lw_m5 142 rfl) rfl
theorem q1196 : (Jvm.Cond.selects "SandKeepsSea$Beach" ({ cls := "SandKeepsSea$Beach", name := "those", desc := "(II)I" } : Jvm.MethodName) ({ cls := "SandKeepsSea$Beach", name := "those", desc := "(II)I" } : Jvm.MethodName)) ∈ lw_all := lw_g (lw_at lw_m5 143 rfl) rfl
theorem q1197 : (Jvm.Cond.code ({ cls := "SandKeepsSea$Beach", name := "those", desc := "(II)I" } : Jvm.MethodName) prog_2_method_7_code (5 : Nat) (Option.some Jvm.ClassFile.FieldType.int)) ∈ lw_all := lw_g (lw_at lw_m5 144 rfl) rfl
theorem q1866 : (Jvm.Cond.castable "SandKeepsSea$Beach" "java/lang/Object") ∈ lw_tbl := lw_at lw_m8 93 rfl
theorem in_X2 : ∀ w ∈ wsX20, w ∈ lw_all := lw_in wsX20 [152, 154, 156, 158, 160, 162, 164] (by decide +kernel) (by decide +kernel)

/-! SandKeepsSea$Shore -/
set_option maxRecDepth 100000
def RX4 : String := "SandKeepsSea$Shore"
def TX4 : u_T := fun k => match k with
  | 0 => ("SandKeepsSea$Shore", "base", "[I", true)
  | 1 => ("SandKeepsSea$Shore", "dyke", "[I", true)
  | _ => ("SandKeepsSea$Shore", "many", "I", false)
def tyX4 : Nat → FieldType := fun k => match k with
  | 0 => .array .int
  | 1 => .array .int
  | _ => .int
abbrev wsX40 : List Cond := u_ws RX4 TX4 3
theorem nmX4 : ∀ a, a < 3 → ∀ b, b < 3 → a ≠ b → (TX4 a).2.1 ≠ (TX4 b).2.1 := by decide +kernel
theorem tyX4_ok : ∀ k, k < 3 → parseFieldDescriptor (TX4 k).2.2.1 = some (tyX4 k) := by decide +kernel
abbrev cX4_init : ByteArray := prog_10_method_1_code
def yX4_init : MethodName := ⟨RX4, "<init>", "()V"⟩
def dkwX4_init_0 : List UInt8 := [42, 183, 0, 3, 42, 16, 12, 188, 10, 181, 0, 9, 42, 16, 12, 188, 10, 181, 0, 15, 177]
abbrev dktX4_init_0 : List UInt8 := dkwX4_init_0 ++ []
theorem dksX4_init_0 : cX4_init.data.toList.drop 0 = dktX4_init_0 := by decide +kernel
theorem dX4_init_0 : decode cX4_init 0 = .ok (.aload_n 0, 1) := dk_42 (dk_at dksX4_init_0 0 rfl rfl)
theorem dX4_init_1 : decode cX4_init 1 = .ok (.invokespecial 3, 3) := dk_183 0 3 (dk_at dksX4_init_0 1 rfl rfl)
theorem dX4_init_4 : decode cX4_init 4 = .ok (.aload_n 0, 1) := dk_42 (dk_at dksX4_init_0 4 rfl rfl)
theorem dX4_init_5 : decode cX4_init 5 = .ok (.bipush 12, 2) := dk_16 12 (dk_at dksX4_init_0 5 rfl rfl)
theorem dX4_init_7 : decode cX4_init 7 = .ok (.newarray .int, 2) := dk_188_10 (dk_at dksX4_init_0 7 rfl rfl)
theorem dX4_init_9 : decode cX4_init 9 = .ok (.putfield 9, 3) := dk_181 0 9 (dk_at dksX4_init_0 9 rfl rfl)
theorem dX4_init_12 : decode cX4_init 12 = .ok (.aload_n 0, 1) := dk_42 (dk_at dksX4_init_0 12 rfl rfl)
theorem dX4_init_13 : decode cX4_init 13 = .ok (.bipush 12, 2) := dk_16 12 (dk_at dksX4_init_0 13 rfl rfl)
theorem dX4_init_15 : decode cX4_init 15 = .ok (.newarray .int, 2) := dk_188_10 (dk_at dksX4_init_0 15 rfl rfl)
theorem dX4_init_17 : decode cX4_init 17 = .ok (.putfield 15, 3) := dk_181 0 15 (dk_at dksX4_init_0 17 rfl rfl)
theorem dX4_init_20 : decode cX4_init 20 = .ok (.return_, 1) := dk_177 (dk_at dksX4_init_0 20 rfl rfl)
abbrev cX4_read : ByteArray := prog_10_method_2_code
def yX4_read : MethodName := ⟨RX4, "read", "(LSandKeepsSea$Words;)LSandKeepsSea$Shore;"⟩
def dkwX4_read_4 : List UInt8 := [20, 0, 42, 184, 0, 44, 182, 0, 22, 43, 182, 0, 36, 2, 160, 255, 151, 43, 182, 0, 48, 42, 176]
abbrev dktX4_read_4 : List UInt8 := dkwX4_read_4 ++ []
def dkwX4_read_3 : List UInt8 := [180, 0, 18, 4, 100, 43, 16, 48, 16, 10, 182, 0, 28, 79, 43, 43, 182, 0, 36, 133, 20, 0, 40]
abbrev dktX4_read_3 : List UInt8 := dkwX4_read_3 ++ dktX4_read_4
def dkwX4_read_2 : List UInt8 := [180, 0, 18, 16, 12, 162, 0, 49, 43, 16, 124, 182, 0, 32, 153, 0, 40, 42, 180, 0, 15, 42]
abbrev dktX4_read_2 : List UInt8 := dkwX4_read_2 ++ dktX4_read_3
def dkwX4_read_1 : List UInt8 := [180, 0, 18, 43, 16, 48, 16, 10, 182, 0, 28, 79, 42, 89, 180, 0, 18, 4, 96, 181, 0, 18, 42]
abbrev dktX4_read_1 : List UInt8 := dkwX4_read_1 ++ dktX4_read_2
def dkwX4_read_0 : List UInt8 := [43, 42, 180, 0, 18, 16, 12, 162, 0, 7, 4, 167, 0, 4, 3, 182, 0, 22, 42, 180, 0, 9, 42]
abbrev dktX4_read_0 : List UInt8 := dkwX4_read_0 ++ dktX4_read_1
theorem dksX4_read_0 : cX4_read.data.toList.drop 0 = dktX4_read_0 := by decide +kernel
theorem dksX4_read_1 : cX4_read.data.toList.drop 23 = dktX4_read_1 := dk_seg dksX4_read_0 23 rfl rfl
theorem dksX4_read_2 : cX4_read.data.toList.drop 46 = dktX4_read_2 := dk_seg dksX4_read_1 23 rfl rfl
theorem dksX4_read_3 : cX4_read.data.toList.drop 68 = dktX4_read_3 := dk_seg dksX4_read_2 22 rfl rfl
theorem dksX4_read_4 : cX4_read.data.toList.drop 91 = dktX4_read_4 := dk_seg dksX4_read_3 23 rfl rfl
theorem dX4_read_0 : decode cX4_read 0 = .ok (.aload_n 1, 1) := dk_43 (dk_at dksX4_read_0 0 rfl rfl)
theorem dX4_read_1 : decode cX4_read 1 = .ok (.aload_n 0, 1) := dk_42 (dk_at dksX4_read_0 1 rfl rfl)
theorem dX4_read_2 : decode cX4_read 2 = .ok (.getfield 18, 3) := dk_180 0 18 (dk_at dksX4_read_0 2 rfl rfl)
theorem dX4_read_5 : decode cX4_read 5 = .ok (.bipush 12, 2) := dk_16 12 (dk_at dksX4_read_0 5 rfl rfl)
theorem dX4_read_7 : decode cX4_read 7 = .ok (.if_icmp .ge 7, 3) := dk_162 0 7 (dk_at dksX4_read_0 7 rfl rfl)
theorem dX4_read_10 : decode cX4_read 10 = .ok (.iconst 1, 1) := dk_4 (dk_at dksX4_read_0 10 rfl rfl)
theorem dX4_read_11 : decode cX4_read 11 = .ok (.goto 4, 3) := dk_167 0 4 (dk_at dksX4_read_0 11 rfl rfl)
theorem dX4_read_14 : decode cX4_read 14 = .ok (.iconst 0, 1) := dk_3 (dk_at dksX4_read_0 14 rfl rfl)
theorem dX4_read_15 : decode cX4_read 15 = .ok (.invokevirtual 22, 3) := dk_182 0 22 (dk_at dksX4_read_0 15 rfl rfl)
theorem dX4_read_18 : decode cX4_read 18 = .ok (.aload_n 0, 1) := dk_42 (dk_at dksX4_read_0 18 rfl rfl)
theorem dX4_read_19 : decode cX4_read 19 = .ok (.getfield 9, 3) := dk_180 0 9 (dk_at dksX4_read_0 19 rfl rfl)
theorem dX4_read_22 : decode cX4_read 22 = .ok (.aload_n 0, 1) := dk_42 (dk_at dksX4_read_0 22 rfl rfl)
theorem dX4_read_23 : decode cX4_read 23 = .ok (.getfield 18, 3) := dk_180 0 18 (dk_at dksX4_read_1 0 rfl rfl)
theorem dX4_read_26 : decode cX4_read 26 = .ok (.aload_n 1, 1) := dk_43 (dk_at dksX4_read_1 3 rfl rfl)
theorem dX4_read_27 : decode cX4_read 27 = .ok (.bipush 48, 2) := dk_16 48 (dk_at dksX4_read_1 4 rfl rfl)
theorem dX4_read_29 : decode cX4_read 29 = .ok (.bipush 10, 2) := dk_16 10 (dk_at dksX4_read_1 6 rfl rfl)
theorem dX4_read_31 : decode cX4_read 31 = .ok (.invokevirtual 28, 3) := dk_182 0 28 (dk_at dksX4_read_1 8 rfl rfl)
theorem dX4_read_34 : decode cX4_read 34 = .ok (.iastore, 1) := dk_79 (dk_at dksX4_read_1 11 rfl rfl)
theorem dX4_read_35 : decode cX4_read 35 = .ok (.aload_n 0, 1) := dk_42 (dk_at dksX4_read_1 12 rfl rfl)
theorem dX4_read_36 : decode cX4_read 36 = .ok (.dup, 1) := dk_89 (dk_at dksX4_read_1 13 rfl rfl)
theorem dX4_read_37 : decode cX4_read 37 = .ok (.getfield 18, 3) := dk_180 0 18 (dk_at dksX4_read_1 14 rfl rfl)
theorem dX4_read_40 : decode cX4_read 40 = .ok (.iconst 1, 1) := dk_4 (dk_at dksX4_read_1 17 rfl rfl)
theorem dX4_read_41 : decode cX4_read 41 = .ok (.iadd, 1) := dk_96 (dk_at dksX4_read_1 18 rfl rfl)
theorem dX4_read_42 : decode cX4_read 42 = .ok (.putfield 18, 3) := dk_181 0 18 (dk_at dksX4_read_1 19 rfl rfl)
theorem dX4_read_45 : decode cX4_read 45 = .ok (.aload_n 0, 1) := dk_42 (dk_at dksX4_read_1 22 rfl rfl)
theorem dX4_read_46 : decode cX4_read 46 = .ok (.getfield 18, 3) := dk_180 0 18 (dk_at dksX4_read_2 0 rfl rfl)
theorem dX4_read_49 : decode cX4_read 49 = .ok (.bipush 12, 2) := dk_16 12 (dk_at dksX4_read_2 3 rfl rfl)
theorem dX4_read_51 : decode cX4_read 51 = .ok (.if_icmp .ge 49, 3) := dk_162 0 49 (dk_at dksX4_read_2 5 rfl rfl)
theorem dX4_read_54 : decode cX4_read 54 = .ok (.aload_n 1, 1) := dk_43 (dk_at dksX4_read_2 8 rfl rfl)
theorem dX4_read_55 : decode cX4_read 55 = .ok (.bipush 124, 2) := dk_16 124 (dk_at dksX4_read_2 9 rfl rfl)
theorem dX4_read_57 : decode cX4_read 57 = .ok (.invokevirtual 32, 3) := dk_182 0 32 (dk_at dksX4_read_2 11 rfl rfl)
theorem dX4_read_60 : decode cX4_read 60 = .ok (.ifCond .eq 40, 3) := dk_153 0 40 (dk_at dksX4_read_2 14 rfl rfl)
theorem dX4_read_63 : decode cX4_read 63 = .ok (.aload_n 0, 1) := dk_42 (dk_at dksX4_read_2 17 rfl rfl)
theorem dX4_read_64 : decode cX4_read 64 = .ok (.getfield 15, 3) := dk_180 0 15 (dk_at dksX4_read_2 18 rfl rfl)
theorem dX4_read_67 : decode cX4_read 67 = .ok (.aload_n 0, 1) := dk_42 (dk_at dksX4_read_2 21 rfl rfl)
theorem dX4_read_68 : decode cX4_read 68 = .ok (.getfield 18, 3) := dk_180 0 18 (dk_at dksX4_read_3 0 rfl rfl)
theorem dX4_read_71 : decode cX4_read 71 = .ok (.iconst 1, 1) := dk_4 (dk_at dksX4_read_3 3 rfl rfl)
theorem dX4_read_72 : decode cX4_read 72 = .ok (.isub, 1) := dk_100 (dk_at dksX4_read_3 4 rfl rfl)
theorem dX4_read_73 : decode cX4_read 73 = .ok (.aload_n 1, 1) := dk_43 (dk_at dksX4_read_3 5 rfl rfl)
theorem dX4_read_74 : decode cX4_read 74 = .ok (.bipush 48, 2) := dk_16 48 (dk_at dksX4_read_3 6 rfl rfl)
theorem dX4_read_76 : decode cX4_read 76 = .ok (.bipush 10, 2) := dk_16 10 (dk_at dksX4_read_3 8 rfl rfl)
theorem dX4_read_78 : decode cX4_read 78 = .ok (.invokevirtual 28, 3) := dk_182 0 28 (dk_at dksX4_read_3 10 rfl rfl)
theorem dX4_read_81 : decode cX4_read 81 = .ok (.iastore, 1) := dk_79 (dk_at dksX4_read_3 13 rfl rfl)
theorem dX4_read_82 : decode cX4_read 82 = .ok (.aload_n 1, 1) := dk_43 (dk_at dksX4_read_3 14 rfl rfl)
theorem dX4_read_83 : decode cX4_read 83 = .ok (.aload_n 1, 1) := dk_43 (dk_at dksX4_read_3 15 rfl rfl)
theorem dX4_read_84 : decode cX4_read 84 = .ok (.invokevirtual 36, 3) := dk_182 0 36 (dk_at dksX4_read_3 16 rfl rfl)
theorem dX4_read_87 : decode cX4_read 87 = .ok (.i2l, 1) := dk_133 (dk_at dksX4_read_3 19 rfl rfl)
theorem dX4_read_88 : decode cX4_read 88 = .ok (.ldc2_w 40, 3) := dk_20 0 40 (dk_at dksX4_read_3 20 rfl rfl)
theorem dX4_read_91 : decode cX4_read 91 = .ok (.ldc2_w 42, 3) := dk_20 0 42 (dk_at dksX4_read_4 0 rfl rfl)
theorem dX4_read_94 : decode cX4_read 94 = .ok (.invokestatic 44, 3) := dk_184 0 44 (dk_at dksX4_read_4 3 rfl rfl)
theorem dX4_read_97 : decode cX4_read 97 = .ok (.invokevirtual 22, 3) := dk_182 0 22 (dk_at dksX4_read_4 6 rfl rfl)
theorem dX4_read_100 : decode cX4_read 100 = .ok (.aload_n 1, 1) := dk_43 (dk_at dksX4_read_4 9 rfl rfl)
theorem dX4_read_101 : decode cX4_read 101 = .ok (.invokevirtual 36, 3) := dk_182 0 36 (dk_at dksX4_read_4 10 rfl rfl)
theorem dX4_read_104 : decode cX4_read 104 = .ok (.iconst (-1), 1) := dk_2 (dk_at dksX4_read_4 13 rfl rfl)
theorem dX4_read_105 : decode cX4_read 105 = .ok (.if_icmp .ne (-105), 3) := dk_160 255 151 (dk_at dksX4_read_4 14 rfl rfl)
theorem dX4_read_108 : decode cX4_read 108 = .ok (.aload_n 1, 1) := dk_43 (dk_at dksX4_read_4 17 rfl rfl)
theorem dX4_read_109 : decode cX4_read 109 = .ok (.invokevirtual 48, 3) := dk_182 0 48 (dk_at dksX4_read_4 18 rfl rfl)
theorem dX4_read_112 : decode cX4_read 112 = .ok (.aload_n 0, 1) := dk_42 (dk_at dksX4_read_4 21 rfl rfl)
theorem dX4_read_113 : decode cX4_read 113 = .ok (.areturn, 1) := dk_176 (dk_at dksX4_read_4 22 rfl rfl)
theorem q98 : (Jvm.Cond.initialized "SandKeepsSea$Shore") ∈ lw_all := lw_g (lw_at lw_m1 5 rfl) rfl
theorem q307 : (Jvm.Cond.instantiable "SandKeepsSea$Shore" (3 : Nat)) ∈ lw_all := lw_g (lw_at lw_m1 214 rfl) rfl
theorem q309 : (Jvm.Cond.instanceMethod ({ cls := "SandKeepsSea$Shore", name := "<init>", desc := "()V" } : Jvm.MethodName)) ∈ lw_all := lw_g (lw_at lw_m1 216 rfl) rfl
theorem q310 : (Jvm.Cond.code ({ cls := "SandKeepsSea$Shore", name := "<init>", desc := "()V" } : Jvm.MethodName) prog_10_method_1_code (1 : Nat) (Option.none : Option Jvm.ClassFile.FieldType)) ∈ lw_all := lw_g (lw_at lw_m1 217 rfl) rfl
theorem q311 : (Jvm.Cond.methodLink "SandKeepsSea$Shore" (3 : Nat) ({ cls := "java/lang/Object", name := "<init>", desc := "()V" } : Jvm.MethodName)) ∈ lw_all := lw_g (lw_at lw_m1 218 rfl) rfl
theorem q312 : (Jvm.Cond.fieldLink "SandKeepsSea$Shore" (9 : Nat) "SandKeepsSea$Shore" "base" "[I") ∈ lw_all := lw_g (lw_at lw_m1 219 rfl) rfl
theorem q314 : (Jvm.Cond.fieldLink "SandKeepsSea$Shore" (15 : Nat) "SandKeepsSea$Shore" "dyke" "[I") ∈ lw_all := lw_g (lw_at lw_m1 221 rfl) rfl
theorem q316 : (Jvm.Cond.fieldLink "SandKeepsSea$Shore" (18 : Nat) "SandKeepsSea$Shore" "many" "I") ∈ lw_all := lw_g (lw_at lw_m1 223 rfl) rfl
theorem q318 : (Jvm.Cond.laysFinal "SandKeepsSea$Shore" "SandKeepsSea$Shore" "base" "[I") ∈ lw_all := lw_g (lw_at lw_m1 225 rfl) rfl
theorem q319 : (Jvm.Cond.soleField "SandKeepsSea$Shore" "base") ∈ lw_all := lw_g (lw_at lw_m1 226 rfl) rfl
theorem q320 : (Jvm.Cond.laysFinal "SandKeepsSea$Shore" "SandKeepsSea$Shore" "dyke" "[I") ∈ lw_all := lw_g (lw_at lw_m1 227 rfl) rfl
theorem q321 : (Jvm.Cond.soleField "SandKeepsSea$Shore" "dyke") ∈ lw_all := lw_g (lw_at lw_m1 228 rfl) rfl
theorem q322 : (Jvm.Cond.lays "SandKeepsSea$Shore" "SandKeepsSea$Shore" "many" "I") ∈ lw_all := lw_g (lw_at lw_m1 229 rfl) rfl
theorem q323 : (Jvm.Cond.soleField "SandKeepsSea$Shore" "many") ∈ lw_all := lw_g (lw_at lw_m1 230 rfl) rfl
theorem q324 : (Jvm.Cond.superclass "SandKeepsSea$Shore" "java/lang/Object") ∈ lw_all := lw_g (lw_at lw_m1 231 rfl) rfl
theorem q359 : (Jvm.Cond.instanceMethod ({ cls := "SandKeepsSea$Shore", name := "read", desc := "(LSandKeepsSea$Words;)LSandKeepsSea$Shore;" } : Jvm.MethodName)) ∈ lw_all := lw_g (lw_at lw_m2 26 rfl) rfl
theorem q360 : (Jvm.Cond.selects "SandKeepsSea$Shore" ({ cls := "SandKeepsSea$Shore", name := "read", desc := "(LSandKeepsSea$Words;)LSandKeepsSea$Shore;" } : Jvm.MethodName) ({ cls := "SandKeepsSea$Shore", name := "read", desc := "(LSandKeepsSea$Words;)LSandKeepsSea$Shore;" } : Jvm.MethodName)) ∈ lw_all := lw_g (lw_at lw_m2 27 rfl) rfl
theorem q361 : (Jvm.Cond.code ({ cls := "SandKeepsSea$Shore", name := "read", desc := "(LSandKeepsSea$Words;)LSandKeepsSea$Shore;" } : Jvm.MethodName) prog_10_method_2_code (2 : Nat) (Option.some (Jvm.ClassFile.FieldType.object "SandKeepsSea$Shore"))) ∈ lw_all := lw_g (lw_at lw_m2 28 rfl) rfl
theorem q362 : (Jvm.Cond.methodLink "SandKeepsSea$Shore" (22 : Nat) ({ cls := "SandKeepsSea$Words", name := "need", desc := "(Z)V" } : Jvm.MethodName)) ∈ lw_all := lw_g (lw_at lw_m2 29 rfl) rfl
theorem q432 : (Jvm.Cond.methodLink "SandKeepsSea$Shore" (28 : Nat) ({ cls := "SandKeepsSea$Words", name := "one", desc := "(CI)I" } : Jvm.MethodName)) ∈ lw_all := lw_g (lw_at lw_m2 99 rfl) rfl
theorem q448 : (Jvm.Cond.methodLink "SandKeepsSea$Shore" (32 : Nat) ({ cls := "SandKeepsSea$Words", name := "passes", desc := "(C)Z" } : Jvm.MethodName)) ∈ lw_all := lw_g (lw_at lw_m2 115 rfl) rfl
theorem q455 : (Jvm.Cond.methodLink "SandKeepsSea$Shore" (36 : Nat) ({ cls := "SandKeepsSea$Words", name := "here", desc := "()I" } : Jvm.MethodName)) ∈ lw_all := lw_g (lw_at lw_m2 122 rfl) rfl
theorem q456 : (Jvm.Cond.constantLong "SandKeepsSea$Shore" (40 : Nat) (48 : Int64)) ∈ lw_all := lw_g (lw_at lw_m2 123 rfl) rfl
theorem q457 : (Jvm.Cond.constantLong "SandKeepsSea$Shore" (42 : Nat) (57 : Int64)) ∈ lw_all := lw_g (lw_at lw_m2 124 rfl) rfl
theorem q458 : (Jvm.Cond.methodLinkNest "SandKeepsSea$Shore" (44 : Nat) ({ cls := "SandKeepsSea", name := "in", desc := "(JJJ)Z" } : Jvm.MethodName) "SandKeepsSea") ∈ lw_tbl := lw_at lw_m2 125 rfl
theorem q459 : (Jvm.Cond.methodLink "SandKeepsSea$Shore" (48 : Nat) ({ cls := "SandKeepsSea$Words", name := "needEnd", desc := "()V" } : Jvm.MethodName)) ∈ lw_all := lw_g (lw_at lw_m2 126 rfl) rfl
theorem q1868 : (Jvm.Cond.castable "SandKeepsSea$Shore" "java/lang/Object") ∈ lw_tbl := lw_at lw_m8 95 rfl
theorem in_X4 : ∀ w ∈ wsX40, w ∈ lw_all := lw_in wsX40 [318, 320, 322] (by decide +kernel) (by decide +kernel)

/-! SandKeepsSea$Words -/
set_option maxRecDepth 100000
def RX5 : String := "SandKeepsSea$Words"
def TX5 : u_T := fun k => match k with
  | 0 => ("SandKeepsSea$Words", "of", "[B", true)
  | 1 => ("SandKeepsSea$Words", "size", "I", true)
  | 2 => ("SandKeepsSea$Words", "end", "I", true)
  | _ => ("SandKeepsSea$Words", "at", "I", false)
def tyX5 : Nat → FieldType := fun k => match k with
  | 0 => .array .byte
  | 1 => .int
  | 2 => .int
  | _ => .int
abbrev wsX50 : List Cond := u_ws RX5 TX5 4
theorem nmX5 : ∀ a, a < 4 → ∀ b, b < 4 → a ≠ b → (TX5 a).2.1 ≠ (TX5 b).2.1 := by decide +kernel
theorem tyX5_ok : ∀ k, k < 4 → parseFieldDescriptor (TX5 k).2.2.1 = some (tyX5 k) := by decide +kernel
abbrev cX5_init : ByteArray := prog_11_method_1_code
def yX5_init : MethodName := ⟨RX5, "<init>", "([BII)V"⟩
def dkwX5_init_0 : List UInt8 := [42, 183, 0, 3, 42, 43, 181, 0, 9, 42, 28, 181, 0, 15, 42, 28, 29, 184, 0, 19, 181, 0, 25, 177]
abbrev dktX5_init_0 : List UInt8 := dkwX5_init_0 ++ []
theorem dksX5_init_0 : cX5_init.data.toList.drop 0 = dktX5_init_0 := by decide +kernel
theorem dX5_init_0 : decode cX5_init 0 = .ok (.aload_n 0, 1) := dk_42 (dk_at dksX5_init_0 0 rfl rfl)
theorem dX5_init_1 : decode cX5_init 1 = .ok (.invokespecial 3, 3) := dk_183 0 3 (dk_at dksX5_init_0 1 rfl rfl)
theorem dX5_init_4 : decode cX5_init 4 = .ok (.aload_n 0, 1) := dk_42 (dk_at dksX5_init_0 4 rfl rfl)
theorem dX5_init_5 : decode cX5_init 5 = .ok (.aload_n 1, 1) := dk_43 (dk_at dksX5_init_0 5 rfl rfl)
theorem dX5_init_6 : decode cX5_init 6 = .ok (.putfield 9, 3) := dk_181 0 9 (dk_at dksX5_init_0 6 rfl rfl)
theorem dX5_init_9 : decode cX5_init 9 = .ok (.aload_n 0, 1) := dk_42 (dk_at dksX5_init_0 9 rfl rfl)
theorem dX5_init_10 : decode cX5_init 10 = .ok (.iload_n 2, 1) := dk_28 (dk_at dksX5_init_0 10 rfl rfl)
theorem dX5_init_11 : decode cX5_init 11 = .ok (.putfield 15, 3) := dk_181 0 15 (dk_at dksX5_init_0 11 rfl rfl)
theorem dX5_init_14 : decode cX5_init 14 = .ok (.aload_n 0, 1) := dk_42 (dk_at dksX5_init_0 14 rfl rfl)
theorem dX5_init_15 : decode cX5_init 15 = .ok (.iload_n 2, 1) := dk_28 (dk_at dksX5_init_0 15 rfl rfl)
theorem dX5_init_16 : decode cX5_init 16 = .ok (.iload_n 3, 1) := dk_29 (dk_at dksX5_init_0 16 rfl rfl)
theorem dX5_init_17 : decode cX5_init 17 = .ok (.invokestatic 19, 3) := dk_184 0 19 (dk_at dksX5_init_0 17 rfl rfl)
theorem dX5_init_20 : decode cX5_init 20 = .ok (.putfield 25, 3) := dk_181 0 25 (dk_at dksX5_init_0 20 rfl rfl)
theorem dX5_init_23 : decode cX5_init 23 = .ok (.return_, 1) := dk_177 (dk_at dksX5_init_0 23 rfl rfl)
abbrev cX5_need : ByteArray := prog_11_method_3_code
def yX5_need : MethodName := ⟨RX5, "need", "(Z)V"⟩
def dkwX5_need_0 : List UInt8 := [27, 154, 0, 15, 187, 0, 31, 89, 42, 180, 0, 28, 183, 0, 33, 191, 177]
abbrev dktX5_need_0 : List UInt8 := dkwX5_need_0 ++ []
theorem dksX5_need_0 : cX5_need.data.toList.drop 0 = dktX5_need_0 := by decide +kernel
theorem dX5_need_0 : decode cX5_need 0 = .ok (.iload_n 1, 1) := dk_27 (dk_at dksX5_need_0 0 rfl rfl)
theorem dX5_need_1 : decode cX5_need 1 = .ok (.ifCond .ne 15, 3) := dk_154 0 15 (dk_at dksX5_need_0 1 rfl rfl)
theorem dX5_need_4 : decode cX5_need 4 = .ok (.new 31, 3) := dk_187 0 31 (dk_at dksX5_need_0 4 rfl rfl)
theorem dX5_need_7 : decode cX5_need 7 = .ok (.dup, 1) := dk_89 (dk_at dksX5_need_0 7 rfl rfl)
theorem dX5_need_8 : decode cX5_need 8 = .ok (.aload_n 0, 1) := dk_42 (dk_at dksX5_need_0 8 rfl rfl)
theorem dX5_need_9 : decode cX5_need 9 = .ok (.getfield 28, 3) := dk_180 0 28 (dk_at dksX5_need_0 9 rfl rfl)
theorem dX5_need_12 : decode cX5_need 12 = .ok (.invokespecial 33, 3) := dk_183 0 33 (dk_at dksX5_need_0 12 rfl rfl)
theorem dX5_need_15 : decode cX5_need 15 = .ok (.athrow, 1) := dk_191 (dk_at dksX5_need_0 15 rfl rfl)
theorem dX5_need_16 : decode cX5_need 16 = .ok (.return_, 1) := dk_177 (dk_at dksX5_need_0 16 rfl rfl)
abbrev cX5_one : ByteArray := prog_11_method_6_code
def yX5_one : MethodName := ⟨RX5, "one", "(CI)I"⟩
def dkwX5_one_1 : List UInt8 := [180, 0, 28, 4, 96, 181, 0, 28, 42, 180, 0, 9, 42, 180, 0, 28, 4, 100, 51, 27, 100, 172]
abbrev dktX5_one_1 : List UInt8 := dkwX5_one_1 ++ []
def dkwX5_one_0 : List UInt8 := [42, 42, 182, 0, 40, 133, 27, 133, 27, 28, 96, 4, 100, 133, 184, 0, 44, 182, 0, 36, 42, 89]
abbrev dktX5_one_0 : List UInt8 := dkwX5_one_0 ++ dktX5_one_1
theorem dksX5_one_0 : cX5_one.data.toList.drop 0 = dktX5_one_0 := by decide +kernel
theorem dksX5_one_1 : cX5_one.data.toList.drop 22 = dktX5_one_1 := dk_seg dksX5_one_0 22 rfl rfl
theorem dX5_one_0 : decode cX5_one 0 = .ok (.aload_n 0, 1) := dk_42 (dk_at dksX5_one_0 0 rfl rfl)
theorem dX5_one_1 : decode cX5_one 1 = .ok (.aload_n 0, 1) := dk_42 (dk_at dksX5_one_0 1 rfl rfl)
theorem dX5_one_2 : decode cX5_one 2 = .ok (.invokevirtual 40, 3) := dk_182 0 40 (dk_at dksX5_one_0 2 rfl rfl)
theorem dX5_one_5 : decode cX5_one 5 = .ok (.i2l, 1) := dk_133 (dk_at dksX5_one_0 5 rfl rfl)
theorem dX5_one_6 : decode cX5_one 6 = .ok (.iload_n 1, 1) := dk_27 (dk_at dksX5_one_0 6 rfl rfl)
theorem dX5_one_7 : decode cX5_one 7 = .ok (.i2l, 1) := dk_133 (dk_at dksX5_one_0 7 rfl rfl)
theorem dX5_one_8 : decode cX5_one 8 = .ok (.iload_n 1, 1) := dk_27 (dk_at dksX5_one_0 8 rfl rfl)
theorem dX5_one_9 : decode cX5_one 9 = .ok (.iload_n 2, 1) := dk_28 (dk_at dksX5_one_0 9 rfl rfl)
theorem dX5_one_10 : decode cX5_one 10 = .ok (.iadd, 1) := dk_96 (dk_at dksX5_one_0 10 rfl rfl)
theorem dX5_one_11 : decode cX5_one 11 = .ok (.iconst 1, 1) := dk_4 (dk_at dksX5_one_0 11 rfl rfl)
theorem dX5_one_12 : decode cX5_one 12 = .ok (.isub, 1) := dk_100 (dk_at dksX5_one_0 12 rfl rfl)
theorem dX5_one_13 : decode cX5_one 13 = .ok (.i2l, 1) := dk_133 (dk_at dksX5_one_0 13 rfl rfl)
theorem dX5_one_14 : decode cX5_one 14 = .ok (.invokestatic 44, 3) := dk_184 0 44 (dk_at dksX5_one_0 14 rfl rfl)
theorem dX5_one_17 : decode cX5_one 17 = .ok (.invokevirtual 36, 3) := dk_182 0 36 (dk_at dksX5_one_0 17 rfl rfl)
theorem dX5_one_20 : decode cX5_one 20 = .ok (.aload_n 0, 1) := dk_42 (dk_at dksX5_one_0 20 rfl rfl)
theorem dX5_one_21 : decode cX5_one 21 = .ok (.dup, 1) := dk_89 (dk_at dksX5_one_0 21 rfl rfl)
theorem dX5_one_22 : decode cX5_one 22 = .ok (.getfield 28, 3) := dk_180 0 28 (dk_at dksX5_one_1 0 rfl rfl)
theorem dX5_one_25 : decode cX5_one 25 = .ok (.iconst 1, 1) := dk_4 (dk_at dksX5_one_1 3 rfl rfl)
theorem dX5_one_26 : decode cX5_one 26 = .ok (.iadd, 1) := dk_96 (dk_at dksX5_one_1 4 rfl rfl)
theorem dX5_one_27 : decode cX5_one 27 = .ok (.putfield 28, 3) := dk_181 0 28 (dk_at dksX5_one_1 5 rfl rfl)
theorem dX5_one_30 : decode cX5_one 30 = .ok (.aload_n 0, 1) := dk_42 (dk_at dksX5_one_1 8 rfl rfl)
theorem dX5_one_31 : decode cX5_one 31 = .ok (.getfield 9, 3) := dk_180 0 9 (dk_at dksX5_one_1 9 rfl rfl)
theorem dX5_one_34 : decode cX5_one 34 = .ok (.aload_n 0, 1) := dk_42 (dk_at dksX5_one_1 12 rfl rfl)
theorem dX5_one_35 : decode cX5_one 35 = .ok (.getfield 28, 3) := dk_180 0 28 (dk_at dksX5_one_1 13 rfl rfl)
theorem dX5_one_38 : decode cX5_one 38 = .ok (.iconst 1, 1) := dk_4 (dk_at dksX5_one_1 16 rfl rfl)
theorem dX5_one_39 : decode cX5_one 39 = .ok (.isub, 1) := dk_100 (dk_at dksX5_one_1 17 rfl rfl)
theorem dX5_one_40 : decode cX5_one 40 = .ok (.baload, 1) := dk_51 (dk_at dksX5_one_1 18 rfl rfl)
theorem dX5_one_41 : decode cX5_one 41 = .ok (.iload_n 1, 1) := dk_27 (dk_at dksX5_one_1 19 rfl rfl)
theorem dX5_one_42 : decode cX5_one 42 = .ok (.isub, 1) := dk_100 (dk_at dksX5_one_1 20 rfl rfl)
theorem dX5_one_43 : decode cX5_one 43 = .ok (.ireturn, 1) := dk_172 (dk_at dksX5_one_1 21 rfl rfl)
abbrev cX5_here : ByteArray := prog_11_method_2_code
def yX5_here : MethodName := ⟨RX5, "here", "()I"⟩
def dkwX5_here_1 : List UInt8 := [167, 0, 4, 2, 172]
abbrev dktX5_here_1 : List UInt8 := dkwX5_here_1 ++ []
def dkwX5_here_0 : List UInt8 := [42, 180, 0, 28, 42, 180, 0, 25, 162, 0, 19, 42, 180, 0, 9, 42, 180, 0, 28, 51, 17, 0, 255, 126]
abbrev dktX5_here_0 : List UInt8 := dkwX5_here_0 ++ dktX5_here_1
theorem dksX5_here_0 : cX5_here.data.toList.drop 0 = dktX5_here_0 := by decide +kernel
theorem dksX5_here_1 : cX5_here.data.toList.drop 24 = dktX5_here_1 := dk_seg dksX5_here_0 24 rfl rfl
theorem dX5_here_0 : decode cX5_here 0 = .ok (.aload_n 0, 1) := dk_42 (dk_at dksX5_here_0 0 rfl rfl)
theorem dX5_here_1 : decode cX5_here 1 = .ok (.getfield 28, 3) := dk_180 0 28 (dk_at dksX5_here_0 1 rfl rfl)
theorem dX5_here_4 : decode cX5_here 4 = .ok (.aload_n 0, 1) := dk_42 (dk_at dksX5_here_0 4 rfl rfl)
theorem dX5_here_5 : decode cX5_here 5 = .ok (.getfield 25, 3) := dk_180 0 25 (dk_at dksX5_here_0 5 rfl rfl)
theorem dX5_here_8 : decode cX5_here 8 = .ok (.if_icmp .ge 19, 3) := dk_162 0 19 (dk_at dksX5_here_0 8 rfl rfl)
theorem dX5_here_11 : decode cX5_here 11 = .ok (.aload_n 0, 1) := dk_42 (dk_at dksX5_here_0 11 rfl rfl)
theorem dX5_here_12 : decode cX5_here 12 = .ok (.getfield 9, 3) := dk_180 0 9 (dk_at dksX5_here_0 12 rfl rfl)
theorem dX5_here_15 : decode cX5_here 15 = .ok (.aload_n 0, 1) := dk_42 (dk_at dksX5_here_0 15 rfl rfl)
theorem dX5_here_16 : decode cX5_here 16 = .ok (.getfield 28, 3) := dk_180 0 28 (dk_at dksX5_here_0 16 rfl rfl)
theorem dX5_here_19 : decode cX5_here 19 = .ok (.baload, 1) := dk_51 (dk_at dksX5_here_0 19 rfl rfl)
theorem dX5_here_20 : decode cX5_here 20 = .ok (.sipush 255, 3) := dk_17 0 255 (dk_at dksX5_here_0 20 rfl rfl)
theorem dX5_here_23 : decode cX5_here 23 = .ok (.iand, 1) := dk_126 (dk_at dksX5_here_0 23 rfl rfl)
theorem dX5_here_24 : decode cX5_here 24 = .ok (.goto 4, 3) := dk_167 0 4 (dk_at dksX5_here_1 0 rfl rfl)
theorem dX5_here_27 : decode cX5_here 27 = .ok (.iconst (-1), 1) := dk_2 (dk_at dksX5_here_1 3 rfl rfl)
theorem dX5_here_28 : decode cX5_here 28 = .ok (.ireturn, 1) := dk_172 (dk_at dksX5_here_1 4 rfl rfl)
abbrev cX5_passes : ByteArray := prog_11_method_5_code
def yX5_passes : MethodName := ⟨RX5, "passes", "(C)Z"⟩
def dkwX5_passes_0 : List UInt8 := [42, 182, 0, 40, 27, 159, 0, 5, 3, 172, 42, 89, 180, 0, 28, 4, 96, 181, 0, 28, 4, 172]
abbrev dktX5_passes_0 : List UInt8 := dkwX5_passes_0 ++ []
theorem dksX5_passes_0 : cX5_passes.data.toList.drop 0 = dktX5_passes_0 := by decide +kernel
theorem dX5_passes_0 : decode cX5_passes 0 = .ok (.aload_n 0, 1) := dk_42 (dk_at dksX5_passes_0 0 rfl rfl)
theorem dX5_passes_1 : decode cX5_passes 1 = .ok (.invokevirtual 40, 3) := dk_182 0 40 (dk_at dksX5_passes_0 1 rfl rfl)
theorem dX5_passes_4 : decode cX5_passes 4 = .ok (.iload_n 1, 1) := dk_27 (dk_at dksX5_passes_0 4 rfl rfl)
theorem dX5_passes_5 : decode cX5_passes 5 = .ok (.if_icmp .eq 5, 3) := dk_159 0 5 (dk_at dksX5_passes_0 5 rfl rfl)
theorem dX5_passes_8 : decode cX5_passes 8 = .ok (.iconst 0, 1) := dk_3 (dk_at dksX5_passes_0 8 rfl rfl)
theorem dX5_passes_9 : decode cX5_passes 9 = .ok (.ireturn, 1) := dk_172 (dk_at dksX5_passes_0 9 rfl rfl)
theorem dX5_passes_10 : decode cX5_passes 10 = .ok (.aload_n 0, 1) := dk_42 (dk_at dksX5_passes_0 10 rfl rfl)
theorem dX5_passes_11 : decode cX5_passes 11 = .ok (.dup, 1) := dk_89 (dk_at dksX5_passes_0 11 rfl rfl)
theorem dX5_passes_12 : decode cX5_passes 12 = .ok (.getfield 28, 3) := dk_180 0 28 (dk_at dksX5_passes_0 12 rfl rfl)
theorem dX5_passes_15 : decode cX5_passes 15 = .ok (.iconst 1, 1) := dk_4 (dk_at dksX5_passes_0 15 rfl rfl)
theorem dX5_passes_16 : decode cX5_passes 16 = .ok (.iadd, 1) := dk_96 (dk_at dksX5_passes_0 16 rfl rfl)
theorem dX5_passes_17 : decode cX5_passes 17 = .ok (.putfield 28, 3) := dk_181 0 28 (dk_at dksX5_passes_0 17 rfl rfl)
theorem dX5_passes_20 : decode cX5_passes 20 = .ok (.iconst 1, 1) := dk_4 (dk_at dksX5_passes_0 20 rfl rfl)
theorem dX5_passes_21 : decode cX5_passes 21 = .ok (.ireturn, 1) := dk_172 (dk_at dksX5_passes_0 21 rfl rfl)
abbrev cX5_needEnd : ByteArray := prog_11_method_4_code
def yX5_needEnd : MethodName := ⟨RX5, "needEnd", "()V"⟩
def dkwX5_needEnd_0 : List UInt8 := [42, 42, 180, 0, 28, 42, 180, 0, 15, 160, 0, 7, 4, 167, 0, 4, 3, 182, 0, 36, 177]
abbrev dktX5_needEnd_0 : List UInt8 := dkwX5_needEnd_0 ++ []
theorem dksX5_needEnd_0 : cX5_needEnd.data.toList.drop 0 = dktX5_needEnd_0 := by decide +kernel
theorem dX5_needEnd_0 : decode cX5_needEnd 0 = .ok (.aload_n 0, 1) := dk_42 (dk_at dksX5_needEnd_0 0 rfl rfl)
theorem dX5_needEnd_1 : decode cX5_needEnd 1 = .ok (.aload_n 0, 1) := dk_42 (dk_at dksX5_needEnd_0 1 rfl rfl)
theorem dX5_needEnd_2 : decode cX5_needEnd 2 = .ok (.getfield 28, 3) := dk_180 0 28 (dk_at dksX5_needEnd_0 2 rfl rfl)
theorem dX5_needEnd_5 : decode cX5_needEnd 5 = .ok (.aload_n 0, 1) := dk_42 (dk_at dksX5_needEnd_0 5 rfl rfl)
theorem dX5_needEnd_6 : decode cX5_needEnd 6 = .ok (.getfield 15, 3) := dk_180 0 15 (dk_at dksX5_needEnd_0 6 rfl rfl)
theorem dX5_needEnd_9 : decode cX5_needEnd 9 = .ok (.if_icmp .ne 7, 3) := dk_160 0 7 (dk_at dksX5_needEnd_0 9 rfl rfl)
theorem dX5_needEnd_12 : decode cX5_needEnd 12 = .ok (.iconst 1, 1) := dk_4 (dk_at dksX5_needEnd_0 12 rfl rfl)
theorem dX5_needEnd_13 : decode cX5_needEnd 13 = .ok (.goto 4, 3) := dk_167 0 4 (dk_at dksX5_needEnd_0 13 rfl rfl)
theorem dX5_needEnd_16 : decode cX5_needEnd 16 = .ok (.iconst 0, 1) := dk_3 (dk_at dksX5_needEnd_0 16 rfl rfl)
theorem dX5_needEnd_17 : decode cX5_needEnd 17 = .ok (.invokevirtual 36, 3) := dk_182 0 36 (dk_at dksX5_needEnd_0 17 rfl rfl)
theorem dX5_needEnd_20 : decode cX5_needEnd 20 = .ok (.return_, 1) := dk_177 (dk_at dksX5_needEnd_0 20 rfl rfl)
abbrev cX5_number : ByteArray := prog_11_method_8_code
def yX5_number : MethodName := ⟨RX5, "number", "(III)I"⟩
def dkwX5_number_1 : List UInt8 := [42, 180, 0, 28, 4, 100, 183, 0, 33, 191, 21, 4, 172]
abbrev dktX5_number_1 : List UInt8 := dkwX5_number_1 ++ []
def dkwX5_number_0 : List UInt8 := [42, 27, 182, 0, 56, 54, 4, 21, 4, 133, 28, 133, 29, 133, 184, 0, 44, 154, 0, 17, 187, 0, 31, 89]
abbrev dktX5_number_0 : List UInt8 := dkwX5_number_0 ++ dktX5_number_1
theorem dksX5_number_0 : cX5_number.data.toList.drop 0 = dktX5_number_0 := by decide +kernel
theorem dksX5_number_1 : cX5_number.data.toList.drop 24 = dktX5_number_1 := dk_seg dksX5_number_0 24 rfl rfl
theorem dX5_number_0 : decode cX5_number 0 = .ok (.aload_n 0, 1) := dk_42 (dk_at dksX5_number_0 0 rfl rfl)
theorem dX5_number_1 : decode cX5_number 1 = .ok (.iload_n 1, 1) := dk_27 (dk_at dksX5_number_0 1 rfl rfl)
theorem dX5_number_2 : decode cX5_number 2 = .ok (.invokevirtual 56, 3) := dk_182 0 56 (dk_at dksX5_number_0 2 rfl rfl)
theorem dX5_number_5 : decode cX5_number 5 = .ok (.istore 4, 2) := dk_54 4 (dk_at dksX5_number_0 5 rfl rfl)
theorem dX5_number_7 : decode cX5_number 7 = .ok (.iload 4, 2) := dk_21 4 (dk_at dksX5_number_0 7 rfl rfl)
theorem dX5_number_9 : decode cX5_number 9 = .ok (.i2l, 1) := dk_133 (dk_at dksX5_number_0 9 rfl rfl)
theorem dX5_number_10 : decode cX5_number 10 = .ok (.iload_n 2, 1) := dk_28 (dk_at dksX5_number_0 10 rfl rfl)
theorem dX5_number_11 : decode cX5_number 11 = .ok (.i2l, 1) := dk_133 (dk_at dksX5_number_0 11 rfl rfl)
theorem dX5_number_12 : decode cX5_number 12 = .ok (.iload_n 3, 1) := dk_29 (dk_at dksX5_number_0 12 rfl rfl)
theorem dX5_number_13 : decode cX5_number 13 = .ok (.i2l, 1) := dk_133 (dk_at dksX5_number_0 13 rfl rfl)
theorem dX5_number_14 : decode cX5_number 14 = .ok (.invokestatic 44, 3) := dk_184 0 44 (dk_at dksX5_number_0 14 rfl rfl)
theorem dX5_number_17 : decode cX5_number 17 = .ok (.ifCond .ne 17, 3) := dk_154 0 17 (dk_at dksX5_number_0 17 rfl rfl)
theorem dX5_number_20 : decode cX5_number 20 = .ok (.new 31, 3) := dk_187 0 31 (dk_at dksX5_number_0 20 rfl rfl)
theorem dX5_number_23 : decode cX5_number 23 = .ok (.dup, 1) := dk_89 (dk_at dksX5_number_0 23 rfl rfl)
theorem dX5_number_24 : decode cX5_number 24 = .ok (.aload_n 0, 1) := dk_42 (dk_at dksX5_number_1 0 rfl rfl)
theorem dX5_number_25 : decode cX5_number 25 = .ok (.getfield 28, 3) := dk_180 0 28 (dk_at dksX5_number_1 1 rfl rfl)
theorem dX5_number_28 : decode cX5_number 28 = .ok (.iconst 1, 1) := dk_4 (dk_at dksX5_number_1 4 rfl rfl)
theorem dX5_number_29 : decode cX5_number 29 = .ok (.isub, 1) := dk_100 (dk_at dksX5_number_1 5 rfl rfl)
theorem dX5_number_30 : decode cX5_number 30 = .ok (.invokespecial 33, 3) := dk_183 0 33 (dk_at dksX5_number_1 6 rfl rfl)
theorem dX5_number_33 : decode cX5_number 33 = .ok (.athrow, 1) := dk_191 (dk_at dksX5_number_1 9 rfl rfl)
theorem dX5_number_34 : decode cX5_number 34 = .ok (.iload 4, 2) := dk_21 4 (dk_at dksX5_number_1 10 rfl rfl)
theorem dX5_number_36 : decode cX5_number 36 = .ok (.ireturn, 1) := dk_172 (dk_at dksX5_number_1 12 rfl rfl)
abbrev cX5_number_2 : ByteArray := prog_11_method_7_code
def yX5_number_2 : MethodName := ⟨RX5, "number", "(I)I"⟩
def dkwX5_number_2_2 : List UInt8 := [132, 3, 1, 167, 255, 217, 28, 172]
abbrev dktX5_number_2_2 : List UInt8 := dkwX5_number_2_2 ++ []
def dkwX5_number_2_1 : List UInt8 := [20, 0, 54, 184, 0, 44, 153, 0, 23, 16, 10, 28, 104, 42, 16, 48, 16, 10, 182, 0, 48, 96, 61]
abbrev dktX5_number_2_1 : List UInt8 := dkwX5_number_2_1 ++ dktX5_number_2_2
def dkwX5_number_2_0 : List UInt8 := [42, 16, 48, 16, 10, 182, 0, 48, 61, 4, 62, 29, 27, 162, 0, 40, 42, 182, 0, 40, 133, 20, 0, 52]
abbrev dktX5_number_2_0 : List UInt8 := dkwX5_number_2_0 ++ dktX5_number_2_1
theorem dksX5_number_2_0 : cX5_number_2.data.toList.drop 0 = dktX5_number_2_0 := by decide +kernel
theorem dksX5_number_2_1 : cX5_number_2.data.toList.drop 24 = dktX5_number_2_1 := dk_seg dksX5_number_2_0 24 rfl rfl
theorem dksX5_number_2_2 : cX5_number_2.data.toList.drop 47 = dktX5_number_2_2 := dk_seg dksX5_number_2_1 23 rfl rfl
theorem dX5_number_2_0 : decode cX5_number_2 0 = .ok (.aload_n 0, 1) := dk_42 (dk_at dksX5_number_2_0 0 rfl rfl)
theorem dX5_number_2_1 : decode cX5_number_2 1 = .ok (.bipush 48, 2) := dk_16 48 (dk_at dksX5_number_2_0 1 rfl rfl)
theorem dX5_number_2_3 : decode cX5_number_2 3 = .ok (.bipush 10, 2) := dk_16 10 (dk_at dksX5_number_2_0 3 rfl rfl)
theorem dX5_number_2_5 : decode cX5_number_2 5 = .ok (.invokevirtual 48, 3) := dk_182 0 48 (dk_at dksX5_number_2_0 5 rfl rfl)
theorem dX5_number_2_8 : decode cX5_number_2 8 = .ok (.istore_n 2, 1) := dk_61 (dk_at dksX5_number_2_0 8 rfl rfl)
theorem dX5_number_2_9 : decode cX5_number_2 9 = .ok (.iconst 1, 1) := dk_4 (dk_at dksX5_number_2_0 9 rfl rfl)
theorem dX5_number_2_10 : decode cX5_number_2 10 = .ok (.istore_n 3, 1) := dk_62 (dk_at dksX5_number_2_0 10 rfl rfl)
theorem dX5_number_2_11 : decode cX5_number_2 11 = .ok (.iload_n 3, 1) := dk_29 (dk_at dksX5_number_2_0 11 rfl rfl)
theorem dX5_number_2_12 : decode cX5_number_2 12 = .ok (.iload_n 1, 1) := dk_27 (dk_at dksX5_number_2_0 12 rfl rfl)
theorem dX5_number_2_13 : decode cX5_number_2 13 = .ok (.if_icmp .ge 40, 3) := dk_162 0 40 (dk_at dksX5_number_2_0 13 rfl rfl)
theorem dX5_number_2_16 : decode cX5_number_2 16 = .ok (.aload_n 0, 1) := dk_42 (dk_at dksX5_number_2_0 16 rfl rfl)
theorem dX5_number_2_17 : decode cX5_number_2 17 = .ok (.invokevirtual 40, 3) := dk_182 0 40 (dk_at dksX5_number_2_0 17 rfl rfl)
theorem dX5_number_2_20 : decode cX5_number_2 20 = .ok (.i2l, 1) := dk_133 (dk_at dksX5_number_2_0 20 rfl rfl)
theorem dX5_number_2_21 : decode cX5_number_2 21 = .ok (.ldc2_w 52, 3) := dk_20 0 52 (dk_at dksX5_number_2_0 21 rfl rfl)
theorem dX5_number_2_24 : decode cX5_number_2 24 = .ok (.ldc2_w 54, 3) := dk_20 0 54 (dk_at dksX5_number_2_1 0 rfl rfl)
theorem dX5_number_2_27 : decode cX5_number_2 27 = .ok (.invokestatic 44, 3) := dk_184 0 44 (dk_at dksX5_number_2_1 3 rfl rfl)
theorem dX5_number_2_30 : decode cX5_number_2 30 = .ok (.ifCond .eq 23, 3) := dk_153 0 23 (dk_at dksX5_number_2_1 6 rfl rfl)
theorem dX5_number_2_33 : decode cX5_number_2 33 = .ok (.bipush 10, 2) := dk_16 10 (dk_at dksX5_number_2_1 9 rfl rfl)
theorem dX5_number_2_35 : decode cX5_number_2 35 = .ok (.iload_n 2, 1) := dk_28 (dk_at dksX5_number_2_1 11 rfl rfl)
theorem dX5_number_2_36 : decode cX5_number_2 36 = .ok (.imul, 1) := dk_104 (dk_at dksX5_number_2_1 12 rfl rfl)
theorem dX5_number_2_37 : decode cX5_number_2 37 = .ok (.aload_n 0, 1) := dk_42 (dk_at dksX5_number_2_1 13 rfl rfl)
theorem dX5_number_2_38 : decode cX5_number_2 38 = .ok (.bipush 48, 2) := dk_16 48 (dk_at dksX5_number_2_1 14 rfl rfl)
theorem dX5_number_2_40 : decode cX5_number_2 40 = .ok (.bipush 10, 2) := dk_16 10 (dk_at dksX5_number_2_1 16 rfl rfl)
theorem dX5_number_2_42 : decode cX5_number_2 42 = .ok (.invokevirtual 48, 3) := dk_182 0 48 (dk_at dksX5_number_2_1 18 rfl rfl)
theorem dX5_number_2_45 : decode cX5_number_2 45 = .ok (.iadd, 1) := dk_96 (dk_at dksX5_number_2_1 21 rfl rfl)
theorem dX5_number_2_46 : decode cX5_number_2 46 = .ok (.istore_n 2, 1) := dk_61 (dk_at dksX5_number_2_1 22 rfl rfl)
theorem dX5_number_2_47 : decode cX5_number_2 47 = .ok (.iinc 3 1, 3) := dk_132 3 1 (dk_at dksX5_number_2_2 0 rfl rfl)
theorem dX5_number_2_50 : decode cX5_number_2 50 = .ok (.goto (-39), 3) := dk_167 255 217 (dk_at dksX5_number_2_2 3 rfl rfl)
theorem dX5_number_2_53 : decode cX5_number_2 53 = .ok (.iload_n 2, 1) := dk_28 (dk_at dksX5_number_2_2 6 rfl rfl)
theorem dX5_number_2_54 : decode cX5_number_2 54 = .ok (.ireturn, 1) := dk_172 (dk_at dksX5_number_2_2 7 rfl rfl)
theorem q99 : (Jvm.Cond.initialized "SandKeepsSea$Words") ∈ lw_all := lw_g (lw_at lw_m1 6 rfl) rfl
theorem q330 : (Jvm.Cond.instantiable "SandKeepsSea$Words" (4 : Nat)) ∈ lw_all := lw_g (lw_at lw_m1 237 rfl) rfl
theorem q332 : (Jvm.Cond.instanceMethod ({ cls := "SandKeepsSea$Words", name := "<init>", desc := "([BII)V" } : Jvm.MethodName)) ∈ lw_all := lw_g (lw_at lw_m1 239 rfl) rfl
theorem q333 : (Jvm.Cond.code ({ cls := "SandKeepsSea$Words", name := "<init>", desc := "([BII)V" } : Jvm.MethodName) prog_11_method_1_code (4 : Nat) (Option.none : Option Jvm.ClassFile.FieldType)) ∈ lw_all := lw_g (lw_at lw_m2 0 rfl) rfl
theorem q334 : (Jvm.Cond.methodLink "SandKeepsSea$Words" (3 : Nat) ({ cls := "java/lang/Object", name := "<init>", desc := "()V" } : Jvm.MethodName)) ∈ lw_all := lw_g (lw_at lw_m2 1 rfl) rfl
theorem q335 : (Jvm.Cond.methodLink "SandKeepsSea$Words" (19 : Nat) ({ cls := "java/lang/Math", name := "min", desc := "(II)I" } : Jvm.MethodName)) ∈ lw_all := lw_g (lw_at lw_m2 2 rfl) rfl
theorem q338 : (Jvm.Cond.fieldLink "SandKeepsSea$Words" (9 : Nat) "SandKeepsSea$Words" "of" "[B") ∈ lw_all := lw_g (lw_at lw_m2 5 rfl) rfl
theorem q339 : (Jvm.Cond.fieldLink "SandKeepsSea$Words" (15 : Nat) "SandKeepsSea$Words" "size" "I") ∈ lw_all := lw_g (lw_at lw_m2 6 rfl) rfl
theorem q341 : (Jvm.Cond.fieldLink "SandKeepsSea$Words" (25 : Nat) "SandKeepsSea$Words" "end" "I") ∈ lw_all := lw_g (lw_at lw_m2 8 rfl) rfl
theorem q344 : (Jvm.Cond.fieldLink "SandKeepsSea$Words" (28 : Nat) "SandKeepsSea$Words" "at" "I") ∈ lw_all := lw_g (lw_at lw_m2 11 rfl) rfl
theorem q349 : (Jvm.Cond.laysFinal "SandKeepsSea$Words" "SandKeepsSea$Words" "of" "[B") ∈ lw_all := lw_g (lw_at lw_m2 16 rfl) rfl
theorem q350 : (Jvm.Cond.soleField "SandKeepsSea$Words" "of") ∈ lw_all := lw_g (lw_at lw_m2 17 rfl) rfl
theorem q351 : (Jvm.Cond.laysFinal "SandKeepsSea$Words" "SandKeepsSea$Words" "size" "I") ∈ lw_all := lw_g (lw_at lw_m2 18 rfl) rfl
theorem q352 : (Jvm.Cond.soleField "SandKeepsSea$Words" "size") ∈ lw_all := lw_g (lw_at lw_m2 19 rfl) rfl
theorem q353 : (Jvm.Cond.laysFinal "SandKeepsSea$Words" "SandKeepsSea$Words" "end" "I") ∈ lw_all := lw_g (lw_at lw_m2 20 rfl) rfl
theorem q354 : (Jvm.Cond.soleField "SandKeepsSea$Words" "end") ∈ lw_all := lw_g (lw_at lw_m2 21 rfl) rfl
theorem q355 : (Jvm.Cond.lays "SandKeepsSea$Words" "SandKeepsSea$Words" "at" "I") ∈ lw_all := lw_g (lw_at lw_m2 22 rfl) rfl
theorem q356 : (Jvm.Cond.soleField "SandKeepsSea$Words" "at") ∈ lw_all := lw_g (lw_at lw_m2 23 rfl) rfl
theorem q357 : (Jvm.Cond.superclass "SandKeepsSea$Words" "java/lang/Object") ∈ lw_all := lw_g (lw_at lw_m2 24 rfl) rfl
theorem q363 : (Jvm.Cond.instanceMethod ({ cls := "SandKeepsSea$Words", name := "need", desc := "(Z)V" } : Jvm.MethodName)) ∈ lw_all := lw_g (lw_at lw_m2 30 rfl) rfl
theorem q364 : (Jvm.Cond.selects "SandKeepsSea$Words" ({ cls := "SandKeepsSea$Words", name := "need", desc := "(Z)V" } : Jvm.MethodName) ({ cls := "SandKeepsSea$Words", name := "need", desc := "(Z)V" } : Jvm.MethodName)) ∈ lw_all := lw_g (lw_at lw_m2 31 rfl) rfl
theorem q365 : (Jvm.Cond.sameMethod "SandKeepsSea$Words" "SandKeepsSea$Words" "need" "(Z)V") ∈ lw_all := lw_g (lw_at lw_m2 32 rfl) rfl
theorem q368 : (Jvm.Cond.code ({ cls := "SandKeepsSea$Words", name := "need", desc := "(Z)V" } : Jvm.MethodName) prog_11_method_3_code (2 : Nat) (Option.none : Option Jvm.ClassFile.FieldType)) ∈ lw_all := lw_g (lw_at lw_m2 35 rfl) rfl
theorem q369 : (Jvm.Cond.classLink "SandKeepsSea$Words" (31 : Nat) "SandKeepsSea$Fault") ∈ lw_all := lw_g (lw_at lw_m2 36 rfl) rfl
theorem q408 : (Jvm.Cond.methodLink "SandKeepsSea$Words" (33 : Nat) ({ cls := "SandKeepsSea$Fault", name := "<init>", desc := "(I)V" } : Jvm.MethodName)) ∈ lw_all := lw_g (lw_at lw_m2 75 rfl) rfl
theorem q433 : (Jvm.Cond.instanceMethod ({ cls := "SandKeepsSea$Words", name := "one", desc := "(CI)I" } : Jvm.MethodName)) ∈ lw_all := lw_g (lw_at lw_m2 100 rfl) rfl
theorem q434 : (Jvm.Cond.selects "SandKeepsSea$Words" ({ cls := "SandKeepsSea$Words", name := "one", desc := "(CI)I" } : Jvm.MethodName) ({ cls := "SandKeepsSea$Words", name := "one", desc := "(CI)I" } : Jvm.MethodName)) ∈ lw_all := lw_g (lw_at lw_m2 101 rfl) rfl
theorem q435 : (Jvm.Cond.sameMethod "SandKeepsSea$Words" "SandKeepsSea$Words" "one" "(CI)I") ∈ lw_all := lw_g (lw_at lw_m2 102 rfl) rfl
theorem q438 : (Jvm.Cond.code ({ cls := "SandKeepsSea$Words", name := "one", desc := "(CI)I" } : Jvm.MethodName) prog_11_method_6_code (3 : Nat) (Option.some Jvm.ClassFile.FieldType.int)) ∈ lw_all := lw_g (lw_at lw_m2 105 rfl) rfl
theorem q439 : (Jvm.Cond.methodLink "SandKeepsSea$Words" (40 : Nat) ({ cls := "SandKeepsSea$Words", name := "here", desc := "()I" } : Jvm.MethodName)) ∈ lw_all := lw_g (lw_at lw_m2 106 rfl) rfl
theorem q440 : (Jvm.Cond.instanceMethod ({ cls := "SandKeepsSea$Words", name := "here", desc := "()I" } : Jvm.MethodName)) ∈ lw_all := lw_g (lw_at lw_m2 107 rfl) rfl
theorem q441 : (Jvm.Cond.selects "SandKeepsSea$Words" ({ cls := "SandKeepsSea$Words", name := "here", desc := "()I" } : Jvm.MethodName) ({ cls := "SandKeepsSea$Words", name := "here", desc := "()I" } : Jvm.MethodName)) ∈ lw_all := lw_g (lw_at lw_m2 108 rfl) rfl
theorem q442 : (Jvm.Cond.sameMethod "SandKeepsSea$Words" "SandKeepsSea$Words" "here" "()I") ∈ lw_all := lw_g (lw_at lw_m2 109 rfl) rfl
theorem q445 : (Jvm.Cond.code ({ cls := "SandKeepsSea$Words", name := "here", desc := "()I" } : Jvm.MethodName) prog_11_method_2_code (1 : Nat) (Option.some Jvm.ClassFile.FieldType.int)) ∈ lw_all := lw_g (lw_at lw_m2 112 rfl) rfl
theorem q446 : (Jvm.Cond.methodLinkNest "SandKeepsSea$Words" (44 : Nat) ({ cls := "SandKeepsSea", name := "in", desc := "(JJJ)Z" } : Jvm.MethodName) "SandKeepsSea") ∈ lw_tbl := lw_at lw_m2 113 rfl
theorem q447 : (Jvm.Cond.methodLink "SandKeepsSea$Words" (36 : Nat) ({ cls := "SandKeepsSea$Words", name := "need", desc := "(Z)V" } : Jvm.MethodName)) ∈ lw_all := lw_g (lw_at lw_m2 114 rfl) rfl
theorem q449 : (Jvm.Cond.instanceMethod ({ cls := "SandKeepsSea$Words", name := "passes", desc := "(C)Z" } : Jvm.MethodName)) ∈ lw_all := lw_g (lw_at lw_m2 116 rfl) rfl
theorem q450 : (Jvm.Cond.selects "SandKeepsSea$Words" ({ cls := "SandKeepsSea$Words", name := "passes", desc := "(C)Z" } : Jvm.MethodName) ({ cls := "SandKeepsSea$Words", name := "passes", desc := "(C)Z" } : Jvm.MethodName)) ∈ lw_all := lw_g (lw_at lw_m2 117 rfl) rfl
theorem q451 : (Jvm.Cond.sameMethod "SandKeepsSea$Words" "SandKeepsSea$Words" "passes" "(C)Z") ∈ lw_all := lw_g (lw_at lw_m2 118 rfl) rfl
theorem q454 : (Jvm.Cond.code ({ cls := "SandKeepsSea$Words", name := "passes", desc := "(C)Z" } : Jvm.MethodName) prog_11_method_5_code (2 : Nat) (Option.some Jvm.ClassFile.FieldType.boolean)) ∈ lw_all := lw_g (lw_at lw_m2 121 rfl) rfl
theorem q460 : (Jvm.Cond.instanceMethod ({ cls := "SandKeepsSea$Words", name := "needEnd", desc := "()V" } : Jvm.MethodName)) ∈ lw_all := lw_g (lw_at lw_m2 127 rfl) rfl
theorem q461 : (Jvm.Cond.selects "SandKeepsSea$Words" ({ cls := "SandKeepsSea$Words", name := "needEnd", desc := "()V" } : Jvm.MethodName) ({ cls := "SandKeepsSea$Words", name := "needEnd", desc := "()V" } : Jvm.MethodName)) ∈ lw_all := lw_g (lw_at lw_m2 128 rfl) rfl
theorem q462 : (Jvm.Cond.sameMethod "SandKeepsSea$Words" "SandKeepsSea$Words" "needEnd" "()V") ∈ lw_all := lw_g (lw_at lw_m2 129 rfl) rfl
theorem q465 : (Jvm.Cond.code ({ cls := "SandKeepsSea$Words", name := "needEnd", desc := "()V" } : Jvm.MethodName) prog_11_method_4_code (1 : Nat) (Option.none : Option Jvm.ClassFile.FieldType)) ∈ lw_all := lw_g (lw_at lw_m2 132 rfl) rfl
theorem q480 : (Jvm.Cond.instanceMethod ({ cls := "SandKeepsSea$Words", name := "number", desc := "(III)I" } : Jvm.MethodName)) ∈ lw_all := lw_g (lw_at lw_m2 147 rfl) rfl
theorem q481 : (Jvm.Cond.selects "SandKeepsSea$Words" ({ cls := "SandKeepsSea$Words", name := "number", desc := "(III)I" } : Jvm.MethodName) ({ cls := "SandKeepsSea$Words", name := "number", desc := "(III)I" } : Jvm.MethodName)) ∈ lw_all := lw_g (lw_at lw_m2 148 rfl) rfl
theorem q482 : (Jvm.Cond.sameMethod "SandKeepsSea$Words" "SandKeepsSea$Words" "number" "(III)I") ∈ lw_all := lw_g (lw_at lw_m2 149 rfl) rfl
theorem q485 : (Jvm.Cond.code ({ cls := "SandKeepsSea$Words", name := "number", desc := "(III)I" } : Jvm.MethodName) prog_11_method_8_code (5 : Nat) (Option.some Jvm.ClassFile.FieldType.int)) ∈ lw_all := lw_g (lw_at lw_m2 152 rfl) rfl
theorem q486 : (Jvm.Cond.methodLink "SandKeepsSea$Words" (56 : Nat) ({ cls := "SandKeepsSea$Words", name := "number", desc := "(I)I" } : Jvm.MethodName)) ∈ lw_all := lw_g (lw_at lw_m2 153 rfl) rfl
theorem q487 : (Jvm.Cond.instanceMethod ({ cls := "SandKeepsSea$Words", name := "number", desc := "(I)I" } : Jvm.MethodName)) ∈ lw_all := lw_g (lw_at lw_m2 154 rfl) rfl
theorem q488 : (Jvm.Cond.selects "SandKeepsSea$Words" ({ cls := "SandKeepsSea$Words", name := "number", desc := "(I)I" } : Jvm.MethodName) ({ cls := "SandKeepsSea$Words", name := "number", desc := "(I)I" } : Jvm.MethodName)) ∈ lw_all := lw_g (lw_at lw_m2 155 rfl) rfl
theorem q489 : (Jvm.Cond.sameMethod "SandKeepsSea$Words" "SandKeepsSea$Words" "number" "(I)I") ∈ lw_all := lw_g (lw_at lw_m2 156 rfl) rfl
theorem q492 : (Jvm.Cond.code ({ cls := "SandKeepsSea$Words", name := "number", desc := "(I)I" } : Jvm.MethodName) prog_11_method_7_code (4 : Nat) (Option.some Jvm.ClassFile.FieldType.int)) ∈ lw_all := lw_g (lw_at lw_m2 159 rfl) rfl
theorem q493 : (Jvm.Cond.methodLink "SandKeepsSea$Words" (48 : Nat) ({ cls := "SandKeepsSea$Words", name := "one", desc := "(CI)I" } : Jvm.MethodName)) ∈ lw_all := lw_g (lw_at lw_m2 160 rfl) rfl
theorem q494 : (Jvm.Cond.constantLong "SandKeepsSea$Words" (52 : Nat) (48 : Int64)) ∈ lw_all := lw_g (lw_at lw_m2 161 rfl) rfl
theorem q495 : (Jvm.Cond.constantLong "SandKeepsSea$Words" (54 : Nat) (57 : Int64)) ∈ lw_all := lw_g (lw_at lw_m2 162 rfl) rfl
theorem q555 : (Jvm.Cond.declares ({ cls := "SandKeepsSea$Words", name := "passes", desc := "(C)Z" } : Jvm.MethodName)) ∈ lw_tbl := lw_at lw_m2 222 rfl
theorem q559 : (Jvm.Cond.declares ({ cls := "SandKeepsSea$Words", name := "here", desc := "()I" } : Jvm.MethodName)) ∈ lw_tbl := lw_at lw_m2 226 rfl
theorem q563 : (Jvm.Cond.declares ({ cls := "SandKeepsSea$Words", name := "need", desc := "(Z)V" } : Jvm.MethodName)) ∈ lw_tbl := lw_at lw_m2 230 rfl
theorem q570 : (Jvm.Cond.declares ({ cls := "SandKeepsSea$Words", name := "number", desc := "(I)I" } : Jvm.MethodName)) ∈ lw_tbl := lw_at lw_m2 237 rfl
theorem q578 : (Jvm.Cond.declares ({ cls := "SandKeepsSea$Words", name := "needEnd", desc := "()V" } : Jvm.MethodName)) ∈ lw_tbl := lw_at lw_m3 5 rfl
theorem q908 : (Jvm.Cond.declares ({ cls := "SandKeepsSea$Words", name := "one", desc := "(CI)I" } : Jvm.MethodName)) ∈ lw_tbl := lw_at lw_m4 95 rfl
theorem q1869 : (Jvm.Cond.castable "SandKeepsSea$Words" "java/lang/Object") ∈ lw_tbl := lw_at lw_m8 96 rfl
theorem in_X5 : ∀ w ∈ wsX50, w ∈ lw_all := lw_in wsX50 [349, 351, 353, 355] (by decide +kernel) (by decide +kernel)

/-! SandKeepsSea$Fault -/
set_option maxRecDepth 100000
def RX6 : String := "SandKeepsSea$Fault"
def TX6 : u_T := fun k => match k with
  | 0 => ("java/lang/Throwable", "cause", "Ljava/lang/Throwable;", false)
  | 1 => ("java/lang/Throwable", "stackTrace", "[Ljava/lang/StackTraceElement;", false)
  | 2 => ("java/lang/Throwable", "suppressedExceptions", "Ljava/util/List;", false)
  | 3 => ("java/lang/Throwable", "detailMessage", "Ljava/lang/String;", false)
  | 4 => ("java/lang/Throwable", "backtrace", "Ljava/lang/Object;", false)
  | 5 => ("java/lang/Throwable", "depth", "I", false)
  | _ => ("SandKeepsSea$Fault", "at", "I", true)
def tyX6 : Nat → FieldType := fun k => match k with
  | 0 => .object "java/lang/Throwable"
  | 1 => .array (.object "java/lang/StackTraceElement")
  | 2 => .object "java/util/List"
  | 3 => .object "java/lang/String"
  | 4 => .object "java/lang/Object"
  | 5 => .int
  | _ => .int
abbrev wsX60 : List Cond := u_ws RX6 TX6 7
theorem nmX6 : ∀ a, a < 7 → ∀ b, b < 7 → a ≠ b → (TX6 a).2.1 ≠ (TX6 b).2.1 := by decide +kernel
theorem tyX6_ok : ∀ k, k < 7 → parseFieldDescriptor (TX6 k).2.2.1 = some (tyX6 k) := by decide +kernel
abbrev cX6_init : ByteArray := prog_4_method_1_code
def yX6_init : MethodName := ⟨RX6, "<init>", "(I)V"⟩
def dkwX6_init_0 : List UInt8 := [42, 183, 0, 1, 42, 27, 181, 0, 7, 177]
abbrev dktX6_init_0 : List UInt8 := dkwX6_init_0 ++ []
theorem dksX6_init_0 : cX6_init.data.toList.drop 0 = dktX6_init_0 := by decide +kernel
theorem dX6_init_0 : decode cX6_init 0 = .ok (.aload_n 0, 1) := dk_42 (dk_at dksX6_init_0 0 rfl rfl)
theorem dX6_init_1 : decode cX6_init 1 = .ok (.invokespecial 1, 3) := dk_183 0 1 (dk_at dksX6_init_0 1 rfl rfl)
theorem dX6_init_4 : decode cX6_init 4 = .ok (.aload_n 0, 1) := dk_42 (dk_at dksX6_init_0 4 rfl rfl)
theorem dX6_init_5 : decode cX6_init 5 = .ok (.iload_n 1, 1) := dk_27 (dk_at dksX6_init_0 5 rfl rfl)
theorem dX6_init_6 : decode cX6_init 6 = .ok (.putfield 7, 3) := dk_181 0 7 (dk_at dksX6_init_0 6 rfl rfl)
theorem dX6_init_9 : decode cX6_init 9 = .ok (.return_, 1) := dk_177 (dk_at dksX6_init_0 9 rfl rfl)
theorem q103 : (Jvm.Cond.initialized "SandKeepsSea$Fault") ∈ lw_all := lw_g (lw_at lw_m1 10 rfl) rfl
theorem q370 : (Jvm.Cond.instantiable "SandKeepsSea$Fault" (7 : Nat)) ∈ lw_all := lw_g (lw_at lw_m2 37 rfl) rfl
theorem q371 : (Jvm.Cond.castable "SandKeepsSea$Fault" "SandKeepsSea$Fault") ∈ lw_tbl := lw_at lw_m2 38 rfl
theorem q376 : (Jvm.Cond.selects "SandKeepsSea$Fault" ({ cls := "java/lang/Throwable", name := "fillInStackTrace", desc := "(I)Ljava/lang/Throwable;" } : Jvm.MethodName) ({ cls := "java/lang/Throwable", name := "fillInStackTrace", desc := "(I)Ljava/lang/Throwable;" } : Jvm.MethodName)) ∈ lw_all := lw_g (lw_at lw_m2 43 rfl) rfl
theorem q377 : (Jvm.Cond.selects "SandKeepsSea$Fault" ({ cls := "java/lang/Throwable", name := "fillInStackTrace", desc := "()Ljava/lang/Throwable;" } : Jvm.MethodName) ({ cls := "java/lang/Throwable", name := "fillInStackTrace", desc := "()Ljava/lang/Throwable;" } : Jvm.MethodName)) ∈ lw_all := lw_g (lw_at lw_m2 44 rfl) rfl
theorem q378 : (Jvm.Cond.lays "SandKeepsSea$Fault" "java/lang/Throwable" "cause" "Ljava/lang/Throwable;") ∈ lw_all := lw_g (lw_at lw_m2 45 rfl) rfl
theorem q380 : (Jvm.Cond.lays "SandKeepsSea$Fault" "java/lang/Throwable" "stackTrace" "[Ljava/lang/StackTraceElement;") ∈ lw_all := lw_g (lw_at lw_m2 47 rfl) rfl
theorem q382 : (Jvm.Cond.lays "SandKeepsSea$Fault" "java/lang/Throwable" "suppressedExceptions" "Ljava/util/List;") ∈ lw_all := lw_g (lw_at lw_m2 49 rfl) rfl
theorem q384 : (Jvm.Cond.lays "SandKeepsSea$Fault" "java/lang/Throwable" "detailMessage" "Ljava/lang/String;") ∈ lw_all := lw_g (lw_at lw_m2 51 rfl) rfl
theorem q386 : (Jvm.Cond.lays "SandKeepsSea$Fault" "java/lang/Throwable" "backtrace" "Ljava/lang/Object;") ∈ lw_all := lw_g (lw_at lw_m2 53 rfl) rfl
theorem q409 : (Jvm.Cond.instanceMethod ({ cls := "SandKeepsSea$Fault", name := "<init>", desc := "(I)V" } : Jvm.MethodName)) ∈ lw_all := lw_g (lw_at lw_m2 76 rfl) rfl
theorem q410 : (Jvm.Cond.code ({ cls := "SandKeepsSea$Fault", name := "<init>", desc := "(I)V" } : Jvm.MethodName) prog_4_method_1_code (2 : Nat) (Option.none : Option Jvm.ClassFile.FieldType)) ∈ lw_all := lw_g (lw_at lw_m2 77 rfl) rfl
theorem q411 : (Jvm.Cond.methodLink "SandKeepsSea$Fault" (1 : Nat) ({ cls := "java/lang/Exception", name := "<init>", desc := "()V" } : Jvm.MethodName)) ∈ lw_all := lw_g (lw_at lw_m2 78 rfl) rfl
theorem q415 : (Jvm.Cond.fieldLink "SandKeepsSea$Fault" (7 : Nat) "SandKeepsSea$Fault" "at" "I") ∈ lw_all := lw_g (lw_at lw_m2 82 rfl) rfl
theorem q422 : (Jvm.Cond.laysFinal "SandKeepsSea$Fault" "SandKeepsSea$Fault" "at" "I") ∈ lw_all := lw_g (lw_at lw_m2 89 rfl) rfl
theorem q423 : (Jvm.Cond.soleField "SandKeepsSea$Fault" "at") ∈ lw_all := lw_g (lw_at lw_m2 90 rfl) rfl
theorem q428 : (Jvm.Cond.lays "SandKeepsSea$Fault" "java/lang/Throwable" "depth" "I") ∈ lw_all := lw_g (lw_at lw_m2 95 rfl) rfl
theorem q431 : (Jvm.Cond.superclass "SandKeepsSea$Fault" "java/lang/Exception") ∈ lw_all := lw_g (lw_at lw_m2 98 rfl) rfl
theorem q1870 : (Jvm.Cond.castable "SandKeepsSea$Fault" "java/lang/Object") ∈ lw_tbl := lw_at lw_m8 97 rfl
theorem in_X6 : ∀ w ∈ wsX60, w ∈ lw_all := lw_in wsX60 [378, 380, 382, 384, 386, 428, 422] (by decide +kernel) (by decide +kernel)

/-! SandKeepsSea$Rule -/
set_option maxRecDepth 100000
def RX7 : String := "SandKeepsSea$Rule"
def TX7 : u_T := fun k => match k with
  | 0 => ("SandKeepsSea$Words", "of", "[B", true)
  | 1 => ("SandKeepsSea$Words", "size", "I", true)
  | 2 => ("SandKeepsSea$Words", "end", "I", true)
  | 3 => ("SandKeepsSea$Words", "at", "I", false)
  | 4 => ("SandKeepsSea$Rule", "isAsked", "Z", false)
  | 5 => ("SandKeepsSea$Rule", "tide", "I", false)
  | 6 => ("SandKeepsSea$Rule", "moats", "I", false)
  | _ => ("SandKeepsSea$Rule", "this$0", "LSandKeepsSea;", true)
def tyX7 : Nat → FieldType := fun k => match k with
  | 0 => .array .byte
  | 1 => .int
  | 2 => .int
  | 3 => .int
  | 4 => .boolean
  | 5 => .int
  | 6 => .int
  | _ => .object "SandKeepsSea"
abbrev wsX70 : List Cond := u_ws RX7 TX7 8
theorem nmX7 : ∀ a, a < 8 → ∀ b, b < 8 → a ≠ b → (TX7 a).2.1 ≠ (TX7 b).2.1 := by decide +kernel
theorem tyX7_ok : ∀ k, k < 8 → parseFieldDescriptor (TX7 k).2.2.1 = some (tyX7 k) := by decide +kernel
abbrev cX7_init : ByteArray := prog_8_method_1_code
def yX7_init : MethodName := ⟨RX7, "<init>", "(LSandKeepsSea;[BI)V"⟩
def dkwX7_init_0 : List UInt8 := [42, 43, 181, 0, 3, 42, 44, 29, 16, 40, 183, 0, 9, 177]
abbrev dktX7_init_0 : List UInt8 := dkwX7_init_0 ++ []
theorem dksX7_init_0 : cX7_init.data.toList.drop 0 = dktX7_init_0 := by decide +kernel
theorem dX7_init_0 : decode cX7_init 0 = .ok (.aload_n 0, 1) := dk_42 (dk_at dksX7_init_0 0 rfl rfl)
theorem dX7_init_1 : decode cX7_init 1 = .ok (.aload_n 1, 1) := dk_43 (dk_at dksX7_init_0 1 rfl rfl)
theorem dX7_init_2 : decode cX7_init 2 = .ok (.putfield 3, 3) := dk_181 0 3 (dk_at dksX7_init_0 2 rfl rfl)
theorem dX7_init_5 : decode cX7_init 5 = .ok (.aload_n 0, 1) := dk_42 (dk_at dksX7_init_0 5 rfl rfl)
theorem dX7_init_6 : decode cX7_init 6 = .ok (.aload_n 2, 1) := dk_44 (dk_at dksX7_init_0 6 rfl rfl)
theorem dX7_init_7 : decode cX7_init 7 = .ok (.iload_n 3, 1) := dk_29 (dk_at dksX7_init_0 7 rfl rfl)
theorem dX7_init_8 : decode cX7_init 8 = .ok (.bipush 40, 2) := dk_16 40 (dk_at dksX7_init_0 8 rfl rfl)
theorem dX7_init_10 : decode cX7_init 10 = .ok (.invokespecial 9, 3) := dk_183 0 9 (dk_at dksX7_init_0 10 rfl rfl)
theorem dX7_init_13 : decode cX7_init 13 = .ok (.return_, 1) := dk_177 (dk_at dksX7_init_0 13 rfl rfl)
abbrev cX7_read : ByteArray := prog_8_method_2_code
def yX7_read : MethodName := ⟨RX7, "read", "()LSandKeepsSea$Rule;"⟩
def dkwX7_read_0 : List UInt8 := [42, 3, 182, 0, 15, 87, 42, 182, 0, 19, 42, 176]
abbrev dktX7_read_0 : List UInt8 := dkwX7_read_0 ++ []
theorem dksX7_read_0 : cX7_read.data.toList.drop 0 = dktX7_read_0 := by decide +kernel
theorem dX7_read_0 : decode cX7_read 0 = .ok (.aload_n 0, 1) := dk_42 (dk_at dksX7_read_0 0 rfl rfl)
theorem dX7_read_1 : decode cX7_read 1 = .ok (.iconst 0, 1) := dk_3 (dk_at dksX7_read_0 1 rfl rfl)
theorem dX7_read_2 : decode cX7_read 2 = .ok (.invokevirtual 15, 3) := dk_182 0 15 (dk_at dksX7_read_0 2 rfl rfl)
theorem dX7_read_5 : decode cX7_read 5 = .ok (.pop, 1) := dk_87 (dk_at dksX7_read_0 5 rfl rfl)
theorem dX7_read_6 : decode cX7_read 6 = .ok (.aload_n 0, 1) := dk_42 (dk_at dksX7_read_0 6 rfl rfl)
theorem dX7_read_7 : decode cX7_read 7 = .ok (.invokevirtual 19, 3) := dk_182 0 19 (dk_at dksX7_read_0 7 rfl rfl)
theorem dX7_read_10 : decode cX7_read 10 = .ok (.aload_n 0, 1) := dk_42 (dk_at dksX7_read_0 10 rfl rfl)
theorem dX7_read_11 : decode cX7_read 11 = .ok (.areturn, 1) := dk_176 (dk_at dksX7_read_0 11 rfl rfl)
abbrev cX7_held : ByteArray := prog_8_method_4_code
def yX7_held : MethodName := ⟨RX7, "held", "(I)I"⟩
def dkwX7_held_3 : List UInt8 := [4, 167, 0, 4, 3, 172, 28, 172]
abbrev dktX7_held_3 : List UInt8 := dkwX7_held_3 ++ []
def dkwX7_held_2 : List UInt8 := [4, 167, 0, 4, 3, 172, 42, 16, 61, 182, 0, 42, 153, 0, 18, 28, 42, 27, 182, 0, 39, 160, 0, 7]
abbrev dktX7_held_2 : List UInt8 := dkwX7_held_2 ++ dktX7_held_3
def dkwX7_held_1 : List UInt8 := [4, 167, 0, 4, 3, 172, 42, 16, 62, 182, 0, 42, 153, 0, 18, 28, 42, 27, 182, 0, 39, 164, 0, 7]
abbrev dktX7_held_1 : List UInt8 := dkwX7_held_1 ++ dktX7_held_2
def dkwX7_held_0 : List UInt8 := [42, 27, 182, 0, 39, 61, 42, 16, 60, 182, 0, 42, 153, 0, 18, 28, 42, 27, 182, 0, 39, 162, 0, 7]
abbrev dktX7_held_0 : List UInt8 := dkwX7_held_0 ++ dktX7_held_1
theorem dksX7_held_0 : cX7_held.data.toList.drop 0 = dktX7_held_0 := by decide +kernel
theorem dksX7_held_1 : cX7_held.data.toList.drop 24 = dktX7_held_1 := dk_seg dksX7_held_0 24 rfl rfl
theorem dksX7_held_2 : cX7_held.data.toList.drop 48 = dktX7_held_2 := dk_seg dksX7_held_1 24 rfl rfl
theorem dksX7_held_3 : cX7_held.data.toList.drop 72 = dktX7_held_3 := dk_seg dksX7_held_2 24 rfl rfl
theorem dX7_held_0 : decode cX7_held 0 = .ok (.aload_n 0, 1) := dk_42 (dk_at dksX7_held_0 0 rfl rfl)
theorem dX7_held_1 : decode cX7_held 1 = .ok (.iload_n 1, 1) := dk_27 (dk_at dksX7_held_0 1 rfl rfl)
theorem dX7_held_2 : decode cX7_held 2 = .ok (.invokevirtual 39, 3) := dk_182 0 39 (dk_at dksX7_held_0 2 rfl rfl)
theorem dX7_held_5 : decode cX7_held 5 = .ok (.istore_n 2, 1) := dk_61 (dk_at dksX7_held_0 5 rfl rfl)
theorem dX7_held_6 : decode cX7_held 6 = .ok (.aload_n 0, 1) := dk_42 (dk_at dksX7_held_0 6 rfl rfl)
theorem dX7_held_7 : decode cX7_held 7 = .ok (.bipush 60, 2) := dk_16 60 (dk_at dksX7_held_0 7 rfl rfl)
theorem dX7_held_9 : decode cX7_held 9 = .ok (.invokevirtual 42, 3) := dk_182 0 42 (dk_at dksX7_held_0 9 rfl rfl)
theorem dX7_held_12 : decode cX7_held 12 = .ok (.ifCond .eq 18, 3) := dk_153 0 18 (dk_at dksX7_held_0 12 rfl rfl)
theorem dX7_held_15 : decode cX7_held 15 = .ok (.iload_n 2, 1) := dk_28 (dk_at dksX7_held_0 15 rfl rfl)
theorem dX7_held_16 : decode cX7_held 16 = .ok (.aload_n 0, 1) := dk_42 (dk_at dksX7_held_0 16 rfl rfl)
theorem dX7_held_17 : decode cX7_held 17 = .ok (.iload_n 1, 1) := dk_27 (dk_at dksX7_held_0 17 rfl rfl)
theorem dX7_held_18 : decode cX7_held 18 = .ok (.invokevirtual 39, 3) := dk_182 0 39 (dk_at dksX7_held_0 18 rfl rfl)
theorem dX7_held_21 : decode cX7_held 21 = .ok (.if_icmp .ge 7, 3) := dk_162 0 7 (dk_at dksX7_held_0 21 rfl rfl)
theorem dX7_held_24 : decode cX7_held 24 = .ok (.iconst 1, 1) := dk_4 (dk_at dksX7_held_1 0 rfl rfl)
theorem dX7_held_25 : decode cX7_held 25 = .ok (.goto 4, 3) := dk_167 0 4 (dk_at dksX7_held_1 1 rfl rfl)
theorem dX7_held_28 : decode cX7_held 28 = .ok (.iconst 0, 1) := dk_3 (dk_at dksX7_held_1 4 rfl rfl)
theorem dX7_held_29 : decode cX7_held 29 = .ok (.ireturn, 1) := dk_172 (dk_at dksX7_held_1 5 rfl rfl)
theorem dX7_held_30 : decode cX7_held 30 = .ok (.aload_n 0, 1) := dk_42 (dk_at dksX7_held_1 6 rfl rfl)
theorem dX7_held_31 : decode cX7_held 31 = .ok (.bipush 62, 2) := dk_16 62 (dk_at dksX7_held_1 7 rfl rfl)
theorem dX7_held_33 : decode cX7_held 33 = .ok (.invokevirtual 42, 3) := dk_182 0 42 (dk_at dksX7_held_1 9 rfl rfl)
theorem dX7_held_36 : decode cX7_held 36 = .ok (.ifCond .eq 18, 3) := dk_153 0 18 (dk_at dksX7_held_1 12 rfl rfl)
theorem dX7_held_39 : decode cX7_held 39 = .ok (.iload_n 2, 1) := dk_28 (dk_at dksX7_held_1 15 rfl rfl)
theorem dX7_held_40 : decode cX7_held 40 = .ok (.aload_n 0, 1) := dk_42 (dk_at dksX7_held_1 16 rfl rfl)
theorem dX7_held_41 : decode cX7_held 41 = .ok (.iload_n 1, 1) := dk_27 (dk_at dksX7_held_1 17 rfl rfl)
theorem dX7_held_42 : decode cX7_held 42 = .ok (.invokevirtual 39, 3) := dk_182 0 39 (dk_at dksX7_held_1 18 rfl rfl)
theorem dX7_held_45 : decode cX7_held 45 = .ok (.if_icmp .le 7, 3) := dk_164 0 7 (dk_at dksX7_held_1 21 rfl rfl)
theorem dX7_held_48 : decode cX7_held 48 = .ok (.iconst 1, 1) := dk_4 (dk_at dksX7_held_2 0 rfl rfl)
theorem dX7_held_49 : decode cX7_held 49 = .ok (.goto 4, 3) := dk_167 0 4 (dk_at dksX7_held_2 1 rfl rfl)
theorem dX7_held_52 : decode cX7_held 52 = .ok (.iconst 0, 1) := dk_3 (dk_at dksX7_held_2 4 rfl rfl)
theorem dX7_held_53 : decode cX7_held 53 = .ok (.ireturn, 1) := dk_172 (dk_at dksX7_held_2 5 rfl rfl)
theorem dX7_held_54 : decode cX7_held 54 = .ok (.aload_n 0, 1) := dk_42 (dk_at dksX7_held_2 6 rfl rfl)
theorem dX7_held_55 : decode cX7_held 55 = .ok (.bipush 61, 2) := dk_16 61 (dk_at dksX7_held_2 7 rfl rfl)
theorem dX7_held_57 : decode cX7_held 57 = .ok (.invokevirtual 42, 3) := dk_182 0 42 (dk_at dksX7_held_2 9 rfl rfl)
theorem dX7_held_60 : decode cX7_held 60 = .ok (.ifCond .eq 18, 3) := dk_153 0 18 (dk_at dksX7_held_2 12 rfl rfl)
theorem dX7_held_63 : decode cX7_held 63 = .ok (.iload_n 2, 1) := dk_28 (dk_at dksX7_held_2 15 rfl rfl)
theorem dX7_held_64 : decode cX7_held 64 = .ok (.aload_n 0, 1) := dk_42 (dk_at dksX7_held_2 16 rfl rfl)
theorem dX7_held_65 : decode cX7_held 65 = .ok (.iload_n 1, 1) := dk_27 (dk_at dksX7_held_2 17 rfl rfl)
theorem dX7_held_66 : decode cX7_held 66 = .ok (.invokevirtual 39, 3) := dk_182 0 39 (dk_at dksX7_held_2 18 rfl rfl)
theorem dX7_held_69 : decode cX7_held 69 = .ok (.if_icmp .ne 7, 3) := dk_160 0 7 (dk_at dksX7_held_2 21 rfl rfl)
theorem dX7_held_72 : decode cX7_held 72 = .ok (.iconst 1, 1) := dk_4 (dk_at dksX7_held_3 0 rfl rfl)
theorem dX7_held_73 : decode cX7_held 73 = .ok (.goto 4, 3) := dk_167 0 4 (dk_at dksX7_held_3 1 rfl rfl)
theorem dX7_held_76 : decode cX7_held 76 = .ok (.iconst 0, 1) := dk_3 (dk_at dksX7_held_3 4 rfl rfl)
theorem dX7_held_77 : decode cX7_held 77 = .ok (.ireturn, 1) := dk_172 (dk_at dksX7_held_3 5 rfl rfl)
theorem dX7_held_78 : decode cX7_held 78 = .ok (.iload_n 2, 1) := dk_28 (dk_at dksX7_held_3 6 rfl rfl)
theorem dX7_held_79 : decode cX7_held 79 = .ok (.ireturn, 1) := dk_172 (dk_at dksX7_held_3 7 rfl rfl)
abbrev cX7_sum : ByteArray := prog_8_method_5_code
def yX7_sum : MethodName := ⟨RX7, "sum", "(I)I"⟩
def dkwX7_sum_3 : List UInt8 := [100, 61, 167, 255, 190, 28, 172]
abbrev dktX7_sum_3 : List UInt8 := dkwX7_sum_3 ++ []
def dkwX7_sum_2 : List UInt8 := [181, 0, 34, 42, 27, 182, 0, 46, 54, 4, 29, 153, 0, 10, 28, 21, 4, 96, 167, 0, 7, 28, 21, 4]
abbrev dktX7_sum_2 : List UInt8 := dkwX7_sum_2 ++ dktX7_sum_3
def dkwX7_sum_1 : List UInt8 := [42, 182, 0, 49, 16, 43, 160, 0, 7, 4, 167, 0, 4, 3, 62, 42, 89, 180, 0, 34, 4, 96]
abbrev dktX7_sum_1 : List UInt8 := dkwX7_sum_1 ++ dktX7_sum_2
def dkwX7_sum_0 : List UInt8 := [42, 27, 182, 0, 46, 61, 42, 182, 0, 49, 16, 43, 159, 0, 12, 42, 182, 0, 49, 16, 45, 160, 0, 54]
abbrev dktX7_sum_0 : List UInt8 := dkwX7_sum_0 ++ dktX7_sum_1
theorem dksX7_sum_0 : cX7_sum.data.toList.drop 0 = dktX7_sum_0 := by decide +kernel
theorem dksX7_sum_1 : cX7_sum.data.toList.drop 24 = dktX7_sum_1 := dk_seg dksX7_sum_0 24 rfl rfl
theorem dksX7_sum_2 : cX7_sum.data.toList.drop 46 = dktX7_sum_2 := dk_seg dksX7_sum_1 22 rfl rfl
theorem dksX7_sum_3 : cX7_sum.data.toList.drop 70 = dktX7_sum_3 := dk_seg dksX7_sum_2 24 rfl rfl
theorem dX7_sum_0 : decode cX7_sum 0 = .ok (.aload_n 0, 1) := dk_42 (dk_at dksX7_sum_0 0 rfl rfl)
theorem dX7_sum_1 : decode cX7_sum 1 = .ok (.iload_n 1, 1) := dk_27 (dk_at dksX7_sum_0 1 rfl rfl)
theorem dX7_sum_2 : decode cX7_sum 2 = .ok (.invokevirtual 46, 3) := dk_182 0 46 (dk_at dksX7_sum_0 2 rfl rfl)
theorem dX7_sum_5 : decode cX7_sum 5 = .ok (.istore_n 2, 1) := dk_61 (dk_at dksX7_sum_0 5 rfl rfl)
theorem dX7_sum_6 : decode cX7_sum 6 = .ok (.aload_n 0, 1) := dk_42 (dk_at dksX7_sum_0 6 rfl rfl)
theorem dX7_sum_7 : decode cX7_sum 7 = .ok (.invokevirtual 49, 3) := dk_182 0 49 (dk_at dksX7_sum_0 7 rfl rfl)
theorem dX7_sum_10 : decode cX7_sum 10 = .ok (.bipush 43, 2) := dk_16 43 (dk_at dksX7_sum_0 10 rfl rfl)
theorem dX7_sum_12 : decode cX7_sum 12 = .ok (.if_icmp .eq 12, 3) := dk_159 0 12 (dk_at dksX7_sum_0 12 rfl rfl)
theorem dX7_sum_15 : decode cX7_sum 15 = .ok (.aload_n 0, 1) := dk_42 (dk_at dksX7_sum_0 15 rfl rfl)
theorem dX7_sum_16 : decode cX7_sum 16 = .ok (.invokevirtual 49, 3) := dk_182 0 49 (dk_at dksX7_sum_0 16 rfl rfl)
theorem dX7_sum_19 : decode cX7_sum 19 = .ok (.bipush 45, 2) := dk_16 45 (dk_at dksX7_sum_0 19 rfl rfl)
theorem dX7_sum_21 : decode cX7_sum 21 = .ok (.if_icmp .ne 54, 3) := dk_160 0 54 (dk_at dksX7_sum_0 21 rfl rfl)
theorem dX7_sum_24 : decode cX7_sum 24 = .ok (.aload_n 0, 1) := dk_42 (dk_at dksX7_sum_1 0 rfl rfl)
theorem dX7_sum_25 : decode cX7_sum 25 = .ok (.invokevirtual 49, 3) := dk_182 0 49 (dk_at dksX7_sum_1 1 rfl rfl)
theorem dX7_sum_28 : decode cX7_sum 28 = .ok (.bipush 43, 2) := dk_16 43 (dk_at dksX7_sum_1 4 rfl rfl)
theorem dX7_sum_30 : decode cX7_sum 30 = .ok (.if_icmp .ne 7, 3) := dk_160 0 7 (dk_at dksX7_sum_1 6 rfl rfl)
theorem dX7_sum_33 : decode cX7_sum 33 = .ok (.iconst 1, 1) := dk_4 (dk_at dksX7_sum_1 9 rfl rfl)
theorem dX7_sum_34 : decode cX7_sum 34 = .ok (.goto 4, 3) := dk_167 0 4 (dk_at dksX7_sum_1 10 rfl rfl)
theorem dX7_sum_37 : decode cX7_sum 37 = .ok (.iconst 0, 1) := dk_3 (dk_at dksX7_sum_1 13 rfl rfl)
theorem dX7_sum_38 : decode cX7_sum 38 = .ok (.istore_n 3, 1) := dk_62 (dk_at dksX7_sum_1 14 rfl rfl)
theorem dX7_sum_39 : decode cX7_sum 39 = .ok (.aload_n 0, 1) := dk_42 (dk_at dksX7_sum_1 15 rfl rfl)
theorem dX7_sum_40 : decode cX7_sum 40 = .ok (.dup, 1) := dk_89 (dk_at dksX7_sum_1 16 rfl rfl)
theorem dX7_sum_41 : decode cX7_sum 41 = .ok (.getfield 34, 3) := dk_180 0 34 (dk_at dksX7_sum_1 17 rfl rfl)
theorem dX7_sum_44 : decode cX7_sum 44 = .ok (.iconst 1, 1) := dk_4 (dk_at dksX7_sum_1 20 rfl rfl)
theorem dX7_sum_45 : decode cX7_sum 45 = .ok (.iadd, 1) := dk_96 (dk_at dksX7_sum_1 21 rfl rfl)
theorem dX7_sum_46 : decode cX7_sum 46 = .ok (.putfield 34, 3) := dk_181 0 34 (dk_at dksX7_sum_2 0 rfl rfl)
theorem dX7_sum_49 : decode cX7_sum 49 = .ok (.aload_n 0, 1) := dk_42 (dk_at dksX7_sum_2 3 rfl rfl)
theorem dX7_sum_50 : decode cX7_sum 50 = .ok (.iload_n 1, 1) := dk_27 (dk_at dksX7_sum_2 4 rfl rfl)
theorem dX7_sum_51 : decode cX7_sum 51 = .ok (.invokevirtual 46, 3) := dk_182 0 46 (dk_at dksX7_sum_2 5 rfl rfl)
theorem dX7_sum_54 : decode cX7_sum 54 = .ok (.istore 4, 2) := dk_54 4 (dk_at dksX7_sum_2 8 rfl rfl)
theorem dX7_sum_56 : decode cX7_sum 56 = .ok (.iload_n 3, 1) := dk_29 (dk_at dksX7_sum_2 10 rfl rfl)
theorem dX7_sum_57 : decode cX7_sum 57 = .ok (.ifCond .eq 10, 3) := dk_153 0 10 (dk_at dksX7_sum_2 11 rfl rfl)
theorem dX7_sum_60 : decode cX7_sum 60 = .ok (.iload_n 2, 1) := dk_28 (dk_at dksX7_sum_2 14 rfl rfl)
theorem dX7_sum_61 : decode cX7_sum 61 = .ok (.iload 4, 2) := dk_21 4 (dk_at dksX7_sum_2 15 rfl rfl)
theorem dX7_sum_63 : decode cX7_sum 63 = .ok (.iadd, 1) := dk_96 (dk_at dksX7_sum_2 17 rfl rfl)
theorem dX7_sum_64 : decode cX7_sum 64 = .ok (.goto 7, 3) := dk_167 0 7 (dk_at dksX7_sum_2 18 rfl rfl)
theorem dX7_sum_67 : decode cX7_sum 67 = .ok (.iload_n 2, 1) := dk_28 (dk_at dksX7_sum_2 21 rfl rfl)
theorem dX7_sum_68 : decode cX7_sum 68 = .ok (.iload 4, 2) := dk_21 4 (dk_at dksX7_sum_2 22 rfl rfl)
theorem dX7_sum_70 : decode cX7_sum 70 = .ok (.isub, 1) := dk_100 (dk_at dksX7_sum_3 0 rfl rfl)
theorem dX7_sum_71 : decode cX7_sum 71 = .ok (.istore_n 2, 1) := dk_61 (dk_at dksX7_sum_3 1 rfl rfl)
theorem dX7_sum_72 : decode cX7_sum 72 = .ok (.goto (-66), 3) := dk_167 255 190 (dk_at dksX7_sum_3 2 rfl rfl)
theorem dX7_sum_75 : decode cX7_sum 75 = .ok (.iload_n 2, 1) := dk_28 (dk_at dksX7_sum_3 5 rfl rfl)
theorem dX7_sum_76 : decode cX7_sum 76 = .ok (.ireturn, 1) := dk_172 (dk_at dksX7_sum_3 6 rfl rfl)
abbrev cX7_product : ByteArray := prog_8_method_6_code
def yX7_product : MethodName := ⟨RX7, "product", "(I)I"⟩
def dkwX7_product_3 : List UInt8 := [154, 0, 7, 3, 167, 0, 7, 28, 21, 4, 108, 61, 167, 255, 181, 28, 172]
abbrev dktX7_product_3 : List UInt8 := dkwX7_product_3 ++ []
def dkwX7_product_2 : List UInt8 := [181, 0, 34, 42, 27, 182, 0, 53, 54, 4, 29, 153, 0, 10, 28, 21, 4, 104, 167, 0, 16, 21, 4]
abbrev dktX7_product_2 : List UInt8 := dkwX7_product_2 ++ dktX7_product_3
def dkwX7_product_1 : List UInt8 := [42, 182, 0, 49, 16, 42, 160, 0, 7, 4, 167, 0, 4, 3, 62, 42, 89, 180, 0, 34, 4, 96]
abbrev dktX7_product_1 : List UInt8 := dkwX7_product_1 ++ dktX7_product_2
def dkwX7_product_0 : List UInt8 := [42, 27, 182, 0, 53, 61, 42, 182, 0, 49, 16, 42, 159, 0, 12, 42, 182, 0, 49, 16, 47, 160, 0, 63]
abbrev dktX7_product_0 : List UInt8 := dkwX7_product_0 ++ dktX7_product_1
theorem dksX7_product_0 : cX7_product.data.toList.drop 0 = dktX7_product_0 := by decide +kernel
theorem dksX7_product_1 : cX7_product.data.toList.drop 24 = dktX7_product_1 := dk_seg dksX7_product_0 24 rfl rfl
theorem dksX7_product_2 : cX7_product.data.toList.drop 46 = dktX7_product_2 := dk_seg dksX7_product_1 22 rfl rfl
theorem dksX7_product_3 : cX7_product.data.toList.drop 69 = dktX7_product_3 := dk_seg dksX7_product_2 23 rfl rfl
theorem dX7_product_0 : decode cX7_product 0 = .ok (.aload_n 0, 1) := dk_42 (dk_at dksX7_product_0 0 rfl rfl)
theorem dX7_product_1 : decode cX7_product 1 = .ok (.iload_n 1, 1) := dk_27 (dk_at dksX7_product_0 1 rfl rfl)
theorem dX7_product_2 : decode cX7_product 2 = .ok (.invokevirtual 53, 3) := dk_182 0 53 (dk_at dksX7_product_0 2 rfl rfl)
theorem dX7_product_5 : decode cX7_product 5 = .ok (.istore_n 2, 1) := dk_61 (dk_at dksX7_product_0 5 rfl rfl)
theorem dX7_product_6 : decode cX7_product 6 = .ok (.aload_n 0, 1) := dk_42 (dk_at dksX7_product_0 6 rfl rfl)
theorem dX7_product_7 : decode cX7_product 7 = .ok (.invokevirtual 49, 3) := dk_182 0 49 (dk_at dksX7_product_0 7 rfl rfl)
theorem dX7_product_10 : decode cX7_product 10 = .ok (.bipush 42, 2) := dk_16 42 (dk_at dksX7_product_0 10 rfl rfl)
theorem dX7_product_12 : decode cX7_product 12 = .ok (.if_icmp .eq 12, 3) := dk_159 0 12 (dk_at dksX7_product_0 12 rfl rfl)
theorem dX7_product_15 : decode cX7_product 15 = .ok (.aload_n 0, 1) := dk_42 (dk_at dksX7_product_0 15 rfl rfl)
theorem dX7_product_16 : decode cX7_product 16 = .ok (.invokevirtual 49, 3) := dk_182 0 49 (dk_at dksX7_product_0 16 rfl rfl)
theorem dX7_product_19 : decode cX7_product 19 = .ok (.bipush 47, 2) := dk_16 47 (dk_at dksX7_product_0 19 rfl rfl)
theorem dX7_product_21 : decode cX7_product 21 = .ok (.if_icmp .ne 63, 3) := dk_160 0 63 (dk_at dksX7_product_0 21 rfl rfl)
theorem dX7_product_24 : decode cX7_product 24 = .ok (.aload_n 0, 1) := dk_42 (dk_at dksX7_product_1 0 rfl rfl)
theorem dX7_product_25 : decode cX7_product 25 = .ok (.invokevirtual 49, 3) := dk_182 0 49 (dk_at dksX7_product_1 1 rfl rfl)
theorem dX7_product_28 : decode cX7_product 28 = .ok (.bipush 42, 2) := dk_16 42 (dk_at dksX7_product_1 4 rfl rfl)
theorem dX7_product_30 : decode cX7_product 30 = .ok (.if_icmp .ne 7, 3) := dk_160 0 7 (dk_at dksX7_product_1 6 rfl rfl)
theorem dX7_product_33 : decode cX7_product 33 = .ok (.iconst 1, 1) := dk_4 (dk_at dksX7_product_1 9 rfl rfl)
theorem dX7_product_34 : decode cX7_product 34 = .ok (.goto 4, 3) := dk_167 0 4 (dk_at dksX7_product_1 10 rfl rfl)
theorem dX7_product_37 : decode cX7_product 37 = .ok (.iconst 0, 1) := dk_3 (dk_at dksX7_product_1 13 rfl rfl)
theorem dX7_product_38 : decode cX7_product 38 = .ok (.istore_n 3, 1) := dk_62 (dk_at dksX7_product_1 14 rfl rfl)
theorem dX7_product_39 : decode cX7_product 39 = .ok (.aload_n 0, 1) := dk_42 (dk_at dksX7_product_1 15 rfl rfl)
theorem dX7_product_40 : decode cX7_product 40 = .ok (.dup, 1) := dk_89 (dk_at dksX7_product_1 16 rfl rfl)
theorem dX7_product_41 : decode cX7_product 41 = .ok (.getfield 34, 3) := dk_180 0 34 (dk_at dksX7_product_1 17 rfl rfl)
theorem dX7_product_44 : decode cX7_product 44 = .ok (.iconst 1, 1) := dk_4 (dk_at dksX7_product_1 20 rfl rfl)
theorem dX7_product_45 : decode cX7_product 45 = .ok (.iadd, 1) := dk_96 (dk_at dksX7_product_1 21 rfl rfl)
theorem dX7_product_46 : decode cX7_product 46 = .ok (.putfield 34, 3) := dk_181 0 34 (dk_at dksX7_product_2 0 rfl rfl)
theorem dX7_product_49 : decode cX7_product 49 = .ok (.aload_n 0, 1) := dk_42 (dk_at dksX7_product_2 3 rfl rfl)
theorem dX7_product_50 : decode cX7_product 50 = .ok (.iload_n 1, 1) := dk_27 (dk_at dksX7_product_2 4 rfl rfl)
theorem dX7_product_51 : decode cX7_product 51 = .ok (.invokevirtual 53, 3) := dk_182 0 53 (dk_at dksX7_product_2 5 rfl rfl)
theorem dX7_product_54 : decode cX7_product 54 = .ok (.istore 4, 2) := dk_54 4 (dk_at dksX7_product_2 8 rfl rfl)
theorem dX7_product_56 : decode cX7_product 56 = .ok (.iload_n 3, 1) := dk_29 (dk_at dksX7_product_2 10 rfl rfl)
theorem dX7_product_57 : decode cX7_product 57 = .ok (.ifCond .eq 10, 3) := dk_153 0 10 (dk_at dksX7_product_2 11 rfl rfl)
theorem dX7_product_60 : decode cX7_product 60 = .ok (.iload_n 2, 1) := dk_28 (dk_at dksX7_product_2 14 rfl rfl)
theorem dX7_product_61 : decode cX7_product 61 = .ok (.iload 4, 2) := dk_21 4 (dk_at dksX7_product_2 15 rfl rfl)
theorem dX7_product_63 : decode cX7_product 63 = .ok (.imul, 1) := dk_104 (dk_at dksX7_product_2 17 rfl rfl)
theorem dX7_product_64 : decode cX7_product 64 = .ok (.goto 16, 3) := dk_167 0 16 (dk_at dksX7_product_2 18 rfl rfl)
theorem dX7_product_67 : decode cX7_product 67 = .ok (.iload 4, 2) := dk_21 4 (dk_at dksX7_product_2 21 rfl rfl)
theorem dX7_product_69 : decode cX7_product 69 = .ok (.ifCond .ne 7, 3) := dk_154 0 7 (dk_at dksX7_product_3 0 rfl rfl)
theorem dX7_product_72 : decode cX7_product 72 = .ok (.iconst 0, 1) := dk_3 (dk_at dksX7_product_3 3 rfl rfl)
theorem dX7_product_73 : decode cX7_product 73 = .ok (.goto 7, 3) := dk_167 0 7 (dk_at dksX7_product_3 4 rfl rfl)
theorem dX7_product_76 : decode cX7_product 76 = .ok (.iload_n 2, 1) := dk_28 (dk_at dksX7_product_3 7 rfl rfl)
theorem dX7_product_77 : decode cX7_product 77 = .ok (.iload 4, 2) := dk_21 4 (dk_at dksX7_product_3 8 rfl rfl)
theorem dX7_product_79 : decode cX7_product 79 = .ok (.idiv, 1) := dk_108 (dk_at dksX7_product_3 10 rfl rfl)
theorem dX7_product_80 : decode cX7_product 80 = .ok (.istore_n 2, 1) := dk_61 (dk_at dksX7_product_3 11 rfl rfl)
theorem dX7_product_81 : decode cX7_product 81 = .ok (.goto (-75), 3) := dk_167 255 181 (dk_at dksX7_product_3 12 rfl rfl)
theorem dX7_product_84 : decode cX7_product 84 = .ok (.iload_n 2, 1) := dk_28 (dk_at dksX7_product_3 15 rfl rfl)
theorem dX7_product_85 : decode cX7_product 85 = .ok (.ireturn, 1) := dk_172 (dk_at dksX7_product_3 16 rfl rfl)
abbrev cX7_thing : ByteArray := prog_8_method_7_code
def yX7_thing : MethodName := ⟨RX7, "thing", "(I)I"⟩
def dkwX7_thing_6 : List UInt8 := [180, 0, 23, 153, 0, 11, 42, 28, 182, 0, 71, 167, 0, 4, 3, 172]
abbrev dktX7_thing_6 : List UInt8 := dkwX7_thing_6 ++ []
def dkwX7_thing_5 : List UInt8 := [16, 109, 160, 0, 7, 4, 167, 0, 4, 3, 182, 0, 56, 42, 89, 180, 0, 34, 4, 96, 181, 0, 34, 42]
abbrev dktX7_thing_5 : List UInt8 := dkwX7_thing_5 ++ dktX7_thing_6
def dkwX7_thing_4 : List UInt8 := [182, 0, 49, 61, 42, 28, 16, 110, 159, 0, 21, 28, 16, 119, 159, 0, 15, 28, 16, 99, 159, 0, 9, 28]
abbrev dktX7_thing_4 : List UInt8 := dkwX7_thing_4 ++ dktX7_thing_5
def dkwX7_thing_3 : List UInt8 := [182, 0, 49, 133, 20, 0, 60, 20, 0, 62, 184, 0, 64, 153, 0, 9, 42, 6, 182, 0, 68, 172, 42]
abbrev dktX7_thing_3 : List UInt8 := dkwX7_thing_3 ++ dktX7_thing_4
def dkwX7_thing_2 : List UInt8 := [181, 0, 34, 42, 27, 4, 96, 182, 0, 15, 61, 42, 42, 16, 41, 182, 0, 42, 182, 0, 56, 28, 172, 42]
abbrev dktX7_thing_2 : List UInt8 := dkwX7_thing_2 ++ dktX7_thing_3
def dkwX7_thing_1 : List UInt8 := [160, 0, 47, 42, 27, 7, 162, 0, 7, 4, 167, 0, 4, 3, 182, 0, 56, 42, 89, 180, 0, 34, 4, 96]
abbrev dktX7_thing_1 : List UInt8 := dkwX7_thing_1 ++ dktX7_thing_2
def dkwX7_thing_0 : List UInt8 := [42, 16, 45, 182, 0, 42, 153, 0, 10, 42, 27, 182, 0, 53, 116, 172, 42, 182, 0, 49, 16, 40]
abbrev dktX7_thing_0 : List UInt8 := dkwX7_thing_0 ++ dktX7_thing_1
theorem dksX7_thing_0 : cX7_thing.data.toList.drop 0 = dktX7_thing_0 := by decide +kernel
theorem dksX7_thing_1 : cX7_thing.data.toList.drop 22 = dktX7_thing_1 := dk_seg dksX7_thing_0 22 rfl rfl
theorem dksX7_thing_2 : cX7_thing.data.toList.drop 46 = dktX7_thing_2 := dk_seg dksX7_thing_1 24 rfl rfl
theorem dksX7_thing_3 : cX7_thing.data.toList.drop 70 = dktX7_thing_3 := dk_seg dksX7_thing_2 24 rfl rfl
theorem dksX7_thing_4 : cX7_thing.data.toList.drop 93 = dktX7_thing_4 := dk_seg dksX7_thing_3 23 rfl rfl
theorem dksX7_thing_5 : cX7_thing.data.toList.drop 117 = dktX7_thing_5 := dk_seg dksX7_thing_4 24 rfl rfl
theorem dksX7_thing_6 : cX7_thing.data.toList.drop 141 = dktX7_thing_6 := dk_seg dksX7_thing_5 24 rfl rfl
theorem dX7_thing_0 : decode cX7_thing 0 = .ok (.aload_n 0, 1) := dk_42 (dk_at dksX7_thing_0 0 rfl rfl)
theorem dX7_thing_1 : decode cX7_thing 1 = .ok (.bipush 45, 2) := dk_16 45 (dk_at dksX7_thing_0 1 rfl rfl)
theorem dX7_thing_3 : decode cX7_thing 3 = .ok (.invokevirtual 42, 3) := dk_182 0 42 (dk_at dksX7_thing_0 3 rfl rfl)
theorem dX7_thing_6 : decode cX7_thing 6 = .ok (.ifCond .eq 10, 3) := dk_153 0 10 (dk_at dksX7_thing_0 6 rfl rfl)
theorem dX7_thing_9 : decode cX7_thing 9 = .ok (.aload_n 0, 1) := dk_42 (dk_at dksX7_thing_0 9 rfl rfl)
theorem dX7_thing_10 : decode cX7_thing 10 = .ok (.iload_n 1, 1) := dk_27 (dk_at dksX7_thing_0 10 rfl rfl)
theorem dX7_thing_11 : decode cX7_thing 11 = .ok (.invokevirtual 53, 3) := dk_182 0 53 (dk_at dksX7_thing_0 11 rfl rfl)
theorem dX7_thing_14 : decode cX7_thing 14 = .ok (.ineg, 1) := dk_116 (dk_at dksX7_thing_0 14 rfl rfl)
theorem dX7_thing_15 : decode cX7_thing 15 = .ok (.ireturn, 1) := dk_172 (dk_at dksX7_thing_0 15 rfl rfl)
theorem dX7_thing_16 : decode cX7_thing 16 = .ok (.aload_n 0, 1) := dk_42 (dk_at dksX7_thing_0 16 rfl rfl)
theorem dX7_thing_17 : decode cX7_thing 17 = .ok (.invokevirtual 49, 3) := dk_182 0 49 (dk_at dksX7_thing_0 17 rfl rfl)
theorem dX7_thing_20 : decode cX7_thing 20 = .ok (.bipush 40, 2) := dk_16 40 (dk_at dksX7_thing_0 20 rfl rfl)
theorem dX7_thing_22 : decode cX7_thing 22 = .ok (.if_icmp .ne 47, 3) := dk_160 0 47 (dk_at dksX7_thing_1 0 rfl rfl)
theorem dX7_thing_25 : decode cX7_thing 25 = .ok (.aload_n 0, 1) := dk_42 (dk_at dksX7_thing_1 3 rfl rfl)
theorem dX7_thing_26 : decode cX7_thing 26 = .ok (.iload_n 1, 1) := dk_27 (dk_at dksX7_thing_1 4 rfl rfl)
theorem dX7_thing_27 : decode cX7_thing 27 = .ok (.iconst 4, 1) := dk_7 (dk_at dksX7_thing_1 5 rfl rfl)
theorem dX7_thing_28 : decode cX7_thing 28 = .ok (.if_icmp .ge 7, 3) := dk_162 0 7 (dk_at dksX7_thing_1 6 rfl rfl)
theorem dX7_thing_31 : decode cX7_thing 31 = .ok (.iconst 1, 1) := dk_4 (dk_at dksX7_thing_1 9 rfl rfl)
theorem dX7_thing_32 : decode cX7_thing 32 = .ok (.goto 4, 3) := dk_167 0 4 (dk_at dksX7_thing_1 10 rfl rfl)
theorem dX7_thing_35 : decode cX7_thing 35 = .ok (.iconst 0, 1) := dk_3 (dk_at dksX7_thing_1 13 rfl rfl)
theorem dX7_thing_36 : decode cX7_thing 36 = .ok (.invokevirtual 56, 3) := dk_182 0 56 (dk_at dksX7_thing_1 14 rfl rfl)
theorem dX7_thing_39 : decode cX7_thing 39 = .ok (.aload_n 0, 1) := dk_42 (dk_at dksX7_thing_1 17 rfl rfl)
theorem dX7_thing_40 : decode cX7_thing 40 = .ok (.dup, 1) := dk_89 (dk_at dksX7_thing_1 18 rfl rfl)
theorem dX7_thing_41 : decode cX7_thing 41 = .ok (.getfield 34, 3) := dk_180 0 34 (dk_at dksX7_thing_1 19 rfl rfl)
theorem dX7_thing_44 : decode cX7_thing 44 = .ok (.iconst 1, 1) := dk_4 (dk_at dksX7_thing_1 22 rfl rfl)
theorem dX7_thing_45 : decode cX7_thing 45 = .ok (.iadd, 1) := dk_96 (dk_at dksX7_thing_1 23 rfl rfl)
theorem dX7_thing_46 : decode cX7_thing 46 = .ok (.putfield 34, 3) := dk_181 0 34 (dk_at dksX7_thing_2 0 rfl rfl)
theorem dX7_thing_49 : decode cX7_thing 49 = .ok (.aload_n 0, 1) := dk_42 (dk_at dksX7_thing_2 3 rfl rfl)
theorem dX7_thing_50 : decode cX7_thing 50 = .ok (.iload_n 1, 1) := dk_27 (dk_at dksX7_thing_2 4 rfl rfl)
theorem dX7_thing_51 : decode cX7_thing 51 = .ok (.iconst 1, 1) := dk_4 (dk_at dksX7_thing_2 5 rfl rfl)
theorem dX7_thing_52 : decode cX7_thing 52 = .ok (.iadd, 1) := dk_96 (dk_at dksX7_thing_2 6 rfl rfl)
theorem dX7_thing_53 : decode cX7_thing 53 = .ok (.invokevirtual 15, 3) := dk_182 0 15 (dk_at dksX7_thing_2 7 rfl rfl)
theorem dX7_thing_56 : decode cX7_thing 56 = .ok (.istore_n 2, 1) := dk_61 (dk_at dksX7_thing_2 10 rfl rfl)
theorem dX7_thing_57 : decode cX7_thing 57 = .ok (.aload_n 0, 1) := dk_42 (dk_at dksX7_thing_2 11 rfl rfl)
theorem dX7_thing_58 : decode cX7_thing 58 = .ok (.aload_n 0, 1) := dk_42 (dk_at dksX7_thing_2 12 rfl rfl)
theorem dX7_thing_59 : decode cX7_thing 59 = .ok (.bipush 41, 2) := dk_16 41 (dk_at dksX7_thing_2 13 rfl rfl)
theorem dX7_thing_61 : decode cX7_thing 61 = .ok (.invokevirtual 42, 3) := dk_182 0 42 (dk_at dksX7_thing_2 15 rfl rfl)
theorem dX7_thing_64 : decode cX7_thing 64 = .ok (.invokevirtual 56, 3) := dk_182 0 56 (dk_at dksX7_thing_2 18 rfl rfl)
theorem dX7_thing_67 : decode cX7_thing 67 = .ok (.iload_n 2, 1) := dk_28 (dk_at dksX7_thing_2 21 rfl rfl)
theorem dX7_thing_68 : decode cX7_thing 68 = .ok (.ireturn, 1) := dk_172 (dk_at dksX7_thing_2 22 rfl rfl)
theorem dX7_thing_69 : decode cX7_thing 69 = .ok (.aload_n 0, 1) := dk_42 (dk_at dksX7_thing_2 23 rfl rfl)
theorem dX7_thing_70 : decode cX7_thing 70 = .ok (.invokevirtual 49, 3) := dk_182 0 49 (dk_at dksX7_thing_3 0 rfl rfl)
theorem dX7_thing_73 : decode cX7_thing 73 = .ok (.i2l, 1) := dk_133 (dk_at dksX7_thing_3 3 rfl rfl)
theorem dX7_thing_74 : decode cX7_thing 74 = .ok (.ldc2_w 60, 3) := dk_20 0 60 (dk_at dksX7_thing_3 4 rfl rfl)
theorem dX7_thing_77 : decode cX7_thing 77 = .ok (.ldc2_w 62, 3) := dk_20 0 62 (dk_at dksX7_thing_3 7 rfl rfl)
theorem dX7_thing_80 : decode cX7_thing 80 = .ok (.invokestatic 64, 3) := dk_184 0 64 (dk_at dksX7_thing_3 10 rfl rfl)
theorem dX7_thing_83 : decode cX7_thing 83 = .ok (.ifCond .eq 9, 3) := dk_153 0 9 (dk_at dksX7_thing_3 13 rfl rfl)
theorem dX7_thing_86 : decode cX7_thing 86 = .ok (.aload_n 0, 1) := dk_42 (dk_at dksX7_thing_3 16 rfl rfl)
theorem dX7_thing_87 : decode cX7_thing 87 = .ok (.iconst 3, 1) := dk_6 (dk_at dksX7_thing_3 17 rfl rfl)
theorem dX7_thing_88 : decode cX7_thing 88 = .ok (.invokevirtual 68, 3) := dk_182 0 68 (dk_at dksX7_thing_3 18 rfl rfl)
theorem dX7_thing_91 : decode cX7_thing 91 = .ok (.ireturn, 1) := dk_172 (dk_at dksX7_thing_3 21 rfl rfl)
theorem dX7_thing_92 : decode cX7_thing 92 = .ok (.aload_n 0, 1) := dk_42 (dk_at dksX7_thing_3 22 rfl rfl)
theorem dX7_thing_93 : decode cX7_thing 93 = .ok (.invokevirtual 49, 3) := dk_182 0 49 (dk_at dksX7_thing_4 0 rfl rfl)
theorem dX7_thing_96 : decode cX7_thing 96 = .ok (.istore_n 2, 1) := dk_61 (dk_at dksX7_thing_4 3 rfl rfl)
theorem dX7_thing_97 : decode cX7_thing 97 = .ok (.aload_n 0, 1) := dk_42 (dk_at dksX7_thing_4 4 rfl rfl)
theorem dX7_thing_98 : decode cX7_thing 98 = .ok (.iload_n 2, 1) := dk_28 (dk_at dksX7_thing_4 5 rfl rfl)
theorem dX7_thing_99 : decode cX7_thing 99 = .ok (.bipush 110, 2) := dk_16 110 (dk_at dksX7_thing_4 6 rfl rfl)
theorem dX7_thing_101 : decode cX7_thing 101 = .ok (.if_icmp .eq 21, 3) := dk_159 0 21 (dk_at dksX7_thing_4 8 rfl rfl)
theorem dX7_thing_104 : decode cX7_thing 104 = .ok (.iload_n 2, 1) := dk_28 (dk_at dksX7_thing_4 11 rfl rfl)
theorem dX7_thing_105 : decode cX7_thing 105 = .ok (.bipush 119, 2) := dk_16 119 (dk_at dksX7_thing_4 12 rfl rfl)
theorem dX7_thing_107 : decode cX7_thing 107 = .ok (.if_icmp .eq 15, 3) := dk_159 0 15 (dk_at dksX7_thing_4 14 rfl rfl)
theorem dX7_thing_110 : decode cX7_thing 110 = .ok (.iload_n 2, 1) := dk_28 (dk_at dksX7_thing_4 17 rfl rfl)
theorem dX7_thing_111 : decode cX7_thing 111 = .ok (.bipush 99, 2) := dk_16 99 (dk_at dksX7_thing_4 18 rfl rfl)
theorem dX7_thing_113 : decode cX7_thing 113 = .ok (.if_icmp .eq 9, 3) := dk_159 0 9 (dk_at dksX7_thing_4 20 rfl rfl)
theorem dX7_thing_116 : decode cX7_thing 116 = .ok (.iload_n 2, 1) := dk_28 (dk_at dksX7_thing_4 23 rfl rfl)
theorem dX7_thing_117 : decode cX7_thing 117 = .ok (.bipush 109, 2) := dk_16 109 (dk_at dksX7_thing_5 0 rfl rfl)
theorem dX7_thing_119 : decode cX7_thing 119 = .ok (.if_icmp .ne 7, 3) := dk_160 0 7 (dk_at dksX7_thing_5 2 rfl rfl)
theorem dX7_thing_122 : decode cX7_thing 122 = .ok (.iconst 1, 1) := dk_4 (dk_at dksX7_thing_5 5 rfl rfl)
theorem dX7_thing_123 : decode cX7_thing 123 = .ok (.goto 4, 3) := dk_167 0 4 (dk_at dksX7_thing_5 6 rfl rfl)
theorem dX7_thing_126 : decode cX7_thing 126 = .ok (.iconst 0, 1) := dk_3 (dk_at dksX7_thing_5 9 rfl rfl)
theorem dX7_thing_127 : decode cX7_thing 127 = .ok (.invokevirtual 56, 3) := dk_182 0 56 (dk_at dksX7_thing_5 10 rfl rfl)
theorem dX7_thing_130 : decode cX7_thing 130 = .ok (.aload_n 0, 1) := dk_42 (dk_at dksX7_thing_5 13 rfl rfl)
theorem dX7_thing_131 : decode cX7_thing 131 = .ok (.dup, 1) := dk_89 (dk_at dksX7_thing_5 14 rfl rfl)
theorem dX7_thing_132 : decode cX7_thing 132 = .ok (.getfield 34, 3) := dk_180 0 34 (dk_at dksX7_thing_5 15 rfl rfl)
theorem dX7_thing_135 : decode cX7_thing 135 = .ok (.iconst 1, 1) := dk_4 (dk_at dksX7_thing_5 18 rfl rfl)
theorem dX7_thing_136 : decode cX7_thing 136 = .ok (.iadd, 1) := dk_96 (dk_at dksX7_thing_5 19 rfl rfl)
theorem dX7_thing_137 : decode cX7_thing 137 = .ok (.putfield 34, 3) := dk_181 0 34 (dk_at dksX7_thing_5 20 rfl rfl)
theorem dX7_thing_140 : decode cX7_thing 140 = .ok (.aload_n 0, 1) := dk_42 (dk_at dksX7_thing_5 23 rfl rfl)
theorem dX7_thing_141 : decode cX7_thing 141 = .ok (.getfield 23, 3) := dk_180 0 23 (dk_at dksX7_thing_6 0 rfl rfl)
theorem dX7_thing_144 : decode cX7_thing 144 = .ok (.ifCond .eq 11, 3) := dk_153 0 11 (dk_at dksX7_thing_6 3 rfl rfl)
theorem dX7_thing_147 : decode cX7_thing 147 = .ok (.aload_n 0, 1) := dk_42 (dk_at dksX7_thing_6 6 rfl rfl)
theorem dX7_thing_148 : decode cX7_thing 148 = .ok (.iload_n 2, 1) := dk_28 (dk_at dksX7_thing_6 7 rfl rfl)
theorem dX7_thing_149 : decode cX7_thing 149 = .ok (.invokevirtual 71, 3) := dk_182 0 71 (dk_at dksX7_thing_6 8 rfl rfl)
theorem dX7_thing_152 : decode cX7_thing 152 = .ok (.goto 4, 3) := dk_167 0 4 (dk_at dksX7_thing_6 11 rfl rfl)
theorem dX7_thing_155 : decode cX7_thing 155 = .ok (.iconst 0, 1) := dk_3 (dk_at dksX7_thing_6 14 rfl rfl)
theorem dX7_thing_156 : decode cX7_thing 156 = .ok (.ireturn, 1) := dk_172 (dk_at dksX7_thing_6 15 rfl rfl)
abbrev cX7_value : ByteArray := prog_8_method_8_code
def yX7_value : MethodName := ⟨RX7, "value", "(I)I"⟩
def dkwX7_value_2 : List UInt8 := [167, 0, 7, 42, 180, 0, 31, 172]
abbrev dktX7_value_2 : List UInt8 := dkwX7_value_2 ++ []
def dkwX7_value_1 : List UInt8 := [180, 0, 3, 180, 0, 74, 167, 0, 23, 27, 16, 99, 160, 0, 13, 42, 180, 0, 3, 180, 0, 77]
abbrev dktX7_value_1 : List UInt8 := dkwX7_value_1 ++ dktX7_value_2
def dkwX7_value_0 : List UInt8 := [27, 16, 110, 160, 0, 13, 42, 180, 0, 27, 16, 8, 112, 167, 0, 39, 27, 16, 119, 160, 0, 13, 42]
abbrev dktX7_value_0 : List UInt8 := dkwX7_value_0 ++ dktX7_value_1
theorem dksX7_value_0 : cX7_value.data.toList.drop 0 = dktX7_value_0 := by decide +kernel
theorem dksX7_value_1 : cX7_value.data.toList.drop 23 = dktX7_value_1 := dk_seg dksX7_value_0 23 rfl rfl
theorem dksX7_value_2 : cX7_value.data.toList.drop 45 = dktX7_value_2 := dk_seg dksX7_value_1 22 rfl rfl
theorem dX7_value_0 : decode cX7_value 0 = .ok (.iload_n 1, 1) := dk_27 (dk_at dksX7_value_0 0 rfl rfl)
theorem dX7_value_1 : decode cX7_value 1 = .ok (.bipush 110, 2) := dk_16 110 (dk_at dksX7_value_0 1 rfl rfl)
theorem dX7_value_3 : decode cX7_value 3 = .ok (.if_icmp .ne 13, 3) := dk_160 0 13 (dk_at dksX7_value_0 3 rfl rfl)
theorem dX7_value_6 : decode cX7_value 6 = .ok (.aload_n 0, 1) := dk_42 (dk_at dksX7_value_0 6 rfl rfl)
theorem dX7_value_7 : decode cX7_value 7 = .ok (.getfield 27, 3) := dk_180 0 27 (dk_at dksX7_value_0 7 rfl rfl)
theorem dX7_value_10 : decode cX7_value 10 = .ok (.bipush 8, 2) := dk_16 8 (dk_at dksX7_value_0 10 rfl rfl)
theorem dX7_value_12 : decode cX7_value 12 = .ok (.irem, 1) := dk_112 (dk_at dksX7_value_0 12 rfl rfl)
theorem dX7_value_13 : decode cX7_value 13 = .ok (.goto 39, 3) := dk_167 0 39 (dk_at dksX7_value_0 13 rfl rfl)
theorem dX7_value_16 : decode cX7_value 16 = .ok (.iload_n 1, 1) := dk_27 (dk_at dksX7_value_0 16 rfl rfl)
theorem dX7_value_17 : decode cX7_value 17 = .ok (.bipush 119, 2) := dk_16 119 (dk_at dksX7_value_0 17 rfl rfl)
theorem dX7_value_19 : decode cX7_value 19 = .ok (.if_icmp .ne 13, 3) := dk_160 0 13 (dk_at dksX7_value_0 19 rfl rfl)
theorem dX7_value_22 : decode cX7_value 22 = .ok (.aload_n 0, 1) := dk_42 (dk_at dksX7_value_0 22 rfl rfl)
theorem dX7_value_23 : decode cX7_value 23 = .ok (.getfield 3, 3) := dk_180 0 3 (dk_at dksX7_value_1 0 rfl rfl)
theorem dX7_value_26 : decode cX7_value 26 = .ok (.getfield 74, 3) := dk_180 0 74 (dk_at dksX7_value_1 3 rfl rfl)
theorem dX7_value_29 : decode cX7_value 29 = .ok (.goto 23, 3) := dk_167 0 23 (dk_at dksX7_value_1 6 rfl rfl)
theorem dX7_value_32 : decode cX7_value 32 = .ok (.iload_n 1, 1) := dk_27 (dk_at dksX7_value_1 9 rfl rfl)
theorem dX7_value_33 : decode cX7_value 33 = .ok (.bipush 99, 2) := dk_16 99 (dk_at dksX7_value_1 10 rfl rfl)
theorem dX7_value_35 : decode cX7_value 35 = .ok (.if_icmp .ne 13, 3) := dk_160 0 13 (dk_at dksX7_value_1 12 rfl rfl)
theorem dX7_value_38 : decode cX7_value 38 = .ok (.aload_n 0, 1) := dk_42 (dk_at dksX7_value_1 15 rfl rfl)
theorem dX7_value_39 : decode cX7_value 39 = .ok (.getfield 3, 3) := dk_180 0 3 (dk_at dksX7_value_1 16 rfl rfl)
theorem dX7_value_42 : decode cX7_value 42 = .ok (.getfield 77, 3) := dk_180 0 77 (dk_at dksX7_value_1 19 rfl rfl)
theorem dX7_value_45 : decode cX7_value 45 = .ok (.goto 7, 3) := dk_167 0 7 (dk_at dksX7_value_2 0 rfl rfl)
theorem dX7_value_48 : decode cX7_value 48 = .ok (.aload_n 0, 1) := dk_42 (dk_at dksX7_value_2 3 rfl rfl)
theorem dX7_value_49 : decode cX7_value 49 = .ok (.getfield 31, 3) := dk_180 0 31 (dk_at dksX7_value_2 4 rfl rfl)
theorem dX7_value_52 : decode cX7_value 52 = .ok (.ireturn, 1) := dk_172 (dk_at dksX7_value_2 7 rfl rfl)
abbrev cX7_of : ByteArray := prog_8_method_3_code
def yX7_of : MethodName := ⟨RX7, "of", "(II)I"⟩
def dkwX7_of_2 : List UInt8 := [58, 5, 42, 3, 181, 0, 23, 25, 5, 191]
abbrev dktX7_of_2 : List UInt8 := dkwX7_of_2 ++ []
def dkwX7_of_1 : List UInt8 := [182, 0, 15, 62, 42, 3, 181, 0, 23, 29, 172, 78, 3, 54, 4, 42, 3, 181, 0, 23, 21, 4, 172]
abbrev dktX7_of_1 : List UInt8 := dkwX7_of_1 ++ dktX7_of_2
def dkwX7_of_0 : List UInt8 := [42, 4, 181, 0, 23, 42, 27, 181, 0, 27, 42, 28, 181, 0, 31, 42, 3, 181, 0, 34, 42, 3]
abbrev dktX7_of_0 : List UInt8 := dkwX7_of_0 ++ dktX7_of_1
theorem dksX7_of_0 : cX7_of.data.toList.drop 0 = dktX7_of_0 := by decide +kernel
theorem dksX7_of_1 : cX7_of.data.toList.drop 22 = dktX7_of_1 := dk_seg dksX7_of_0 22 rfl rfl
theorem dksX7_of_2 : cX7_of.data.toList.drop 45 = dktX7_of_2 := dk_seg dksX7_of_1 23 rfl rfl
theorem dX7_of_0 : decode cX7_of 0 = .ok (.aload_n 0, 1) := dk_42 (dk_at dksX7_of_0 0 rfl rfl)
theorem dX7_of_1 : decode cX7_of 1 = .ok (.iconst 1, 1) := dk_4 (dk_at dksX7_of_0 1 rfl rfl)
theorem dX7_of_2 : decode cX7_of 2 = .ok (.putfield 23, 3) := dk_181 0 23 (dk_at dksX7_of_0 2 rfl rfl)
theorem dX7_of_5 : decode cX7_of 5 = .ok (.aload_n 0, 1) := dk_42 (dk_at dksX7_of_0 5 rfl rfl)
theorem dX7_of_6 : decode cX7_of 6 = .ok (.iload_n 1, 1) := dk_27 (dk_at dksX7_of_0 6 rfl rfl)
theorem dX7_of_7 : decode cX7_of 7 = .ok (.putfield 27, 3) := dk_181 0 27 (dk_at dksX7_of_0 7 rfl rfl)
theorem dX7_of_10 : decode cX7_of 10 = .ok (.aload_n 0, 1) := dk_42 (dk_at dksX7_of_0 10 rfl rfl)
theorem dX7_of_11 : decode cX7_of 11 = .ok (.iload_n 2, 1) := dk_28 (dk_at dksX7_of_0 11 rfl rfl)
theorem dX7_of_12 : decode cX7_of 12 = .ok (.putfield 31, 3) := dk_181 0 31 (dk_at dksX7_of_0 12 rfl rfl)
theorem dX7_of_15 : decode cX7_of 15 = .ok (.aload_n 0, 1) := dk_42 (dk_at dksX7_of_0 15 rfl rfl)
theorem dX7_of_16 : decode cX7_of 16 = .ok (.iconst 0, 1) := dk_3 (dk_at dksX7_of_0 16 rfl rfl)
theorem dX7_of_17 : decode cX7_of 17 = .ok (.putfield 34, 3) := dk_181 0 34 (dk_at dksX7_of_0 17 rfl rfl)
theorem dX7_of_20 : decode cX7_of 20 = .ok (.aload_n 0, 1) := dk_42 (dk_at dksX7_of_0 20 rfl rfl)
theorem dX7_of_21 : decode cX7_of 21 = .ok (.iconst 0, 1) := dk_3 (dk_at dksX7_of_0 21 rfl rfl)
theorem dX7_of_22 : decode cX7_of 22 = .ok (.invokevirtual 15, 3) := dk_182 0 15 (dk_at dksX7_of_1 0 rfl rfl)
theorem dX7_of_25 : decode cX7_of 25 = .ok (.istore_n 3, 1) := dk_62 (dk_at dksX7_of_1 3 rfl rfl)
theorem dX7_of_26 : decode cX7_of 26 = .ok (.aload_n 0, 1) := dk_42 (dk_at dksX7_of_1 4 rfl rfl)
theorem dX7_of_27 : decode cX7_of 27 = .ok (.iconst 0, 1) := dk_3 (dk_at dksX7_of_1 5 rfl rfl)
theorem dX7_of_28 : decode cX7_of 28 = .ok (.putfield 23, 3) := dk_181 0 23 (dk_at dksX7_of_1 6 rfl rfl)
theorem dX7_of_31 : decode cX7_of 31 = .ok (.iload_n 3, 1) := dk_29 (dk_at dksX7_of_1 9 rfl rfl)
theorem dX7_of_32 : decode cX7_of 32 = .ok (.ireturn, 1) := dk_172 (dk_at dksX7_of_1 10 rfl rfl)
theorem dX7_of_33 : decode cX7_of 33 = .ok (.astore_n 3, 1) := dk_78 (dk_at dksX7_of_1 11 rfl rfl)
theorem dX7_of_34 : decode cX7_of 34 = .ok (.iconst 0, 1) := dk_3 (dk_at dksX7_of_1 12 rfl rfl)
theorem dX7_of_35 : decode cX7_of 35 = .ok (.istore 4, 2) := dk_54 4 (dk_at dksX7_of_1 13 rfl rfl)
theorem dX7_of_37 : decode cX7_of 37 = .ok (.aload_n 0, 1) := dk_42 (dk_at dksX7_of_1 15 rfl rfl)
theorem dX7_of_38 : decode cX7_of 38 = .ok (.iconst 0, 1) := dk_3 (dk_at dksX7_of_1 16 rfl rfl)
theorem dX7_of_39 : decode cX7_of 39 = .ok (.putfield 23, 3) := dk_181 0 23 (dk_at dksX7_of_1 17 rfl rfl)
theorem dX7_of_42 : decode cX7_of 42 = .ok (.iload 4, 2) := dk_21 4 (dk_at dksX7_of_1 20 rfl rfl)
theorem dX7_of_44 : decode cX7_of 44 = .ok (.ireturn, 1) := dk_172 (dk_at dksX7_of_1 22 rfl rfl)
theorem dX7_of_45 : decode cX7_of 45 = .ok (.astore 5, 2) := dk_58 5 (dk_at dksX7_of_2 0 rfl rfl)
theorem dX7_of_47 : decode cX7_of 47 = .ok (.aload_n 0, 1) := dk_42 (dk_at dksX7_of_2 2 rfl rfl)
theorem dX7_of_48 : decode cX7_of 48 = .ok (.iconst 0, 1) := dk_3 (dk_at dksX7_of_2 3 rfl rfl)
theorem dX7_of_49 : decode cX7_of 49 = .ok (.putfield 23, 3) := dk_181 0 23 (dk_at dksX7_of_2 4 rfl rfl)
theorem dX7_of_52 : decode cX7_of 52 = .ok (.aload 5, 2) := dk_25 5 (dk_at dksX7_of_2 7 rfl rfl)
theorem dX7_of_54 : decode cX7_of 54 = .ok (.athrow, 1) := dk_191 (dk_at dksX7_of_2 9 rfl rfl)
theorem q105 : (Jvm.Cond.initialized "SandKeepsSea$Rule") ∈ lw_all := lw_g (lw_at lw_m1 12 rfl) rfl
theorem q197 : (Jvm.Cond.fieldLinkNest "SandKeepsSea$Rule" (77 : Nat) "SandKeepsSea" "cells" "I" "SandKeepsSea") ∈ lw_tbl := lw_at lw_m1 104 rfl
theorem q200 : (Jvm.Cond.fieldLinkNest "SandKeepsSea$Rule" (74 : Nat) "SandKeepsSea" "wind" "I" "SandKeepsSea") ∈ lw_tbl := lw_at lw_m1 107 rfl
theorem q347 : (Jvm.Cond.fieldLink "SandKeepsSea$Rule" (34 : Nat) "SandKeepsSea$Rule" "at" "I") ∈ lw_all := lw_g (lw_at lw_m2 14 rfl) rfl
theorem q348 : (Jvm.Cond.sameField "SandKeepsSea$Rule" "SandKeepsSea$Words" "at" "I") ∈ lw_all := lw_g (lw_at lw_m2 15 rfl) rfl
theorem q367 : (Jvm.Cond.selects "SandKeepsSea$Rule" ({ cls := "SandKeepsSea$Words", name := "need", desc := "(Z)V" } : Jvm.MethodName) ({ cls := "SandKeepsSea$Words", name := "need", desc := "(Z)V" } : Jvm.MethodName)) ∈ lw_all := lw_g (lw_at lw_m2 34 rfl) rfl
theorem q437 : (Jvm.Cond.selects "SandKeepsSea$Rule" ({ cls := "SandKeepsSea$Words", name := "one", desc := "(CI)I" } : Jvm.MethodName) ({ cls := "SandKeepsSea$Words", name := "one", desc := "(CI)I" } : Jvm.MethodName)) ∈ lw_all := lw_g (lw_at lw_m2 104 rfl) rfl
theorem q444 : (Jvm.Cond.selects "SandKeepsSea$Rule" ({ cls := "SandKeepsSea$Words", name := "here", desc := "()I" } : Jvm.MethodName) ({ cls := "SandKeepsSea$Words", name := "here", desc := "()I" } : Jvm.MethodName)) ∈ lw_all := lw_g (lw_at lw_m2 111 rfl) rfl
theorem q453 : (Jvm.Cond.selects "SandKeepsSea$Rule" ({ cls := "SandKeepsSea$Words", name := "passes", desc := "(C)Z" } : Jvm.MethodName) ({ cls := "SandKeepsSea$Words", name := "passes", desc := "(C)Z" } : Jvm.MethodName)) ∈ lw_all := lw_g (lw_at lw_m2 120 rfl) rfl
theorem q464 : (Jvm.Cond.selects "SandKeepsSea$Rule" ({ cls := "SandKeepsSea$Words", name := "needEnd", desc := "()V" } : Jvm.MethodName) ({ cls := "SandKeepsSea$Words", name := "needEnd", desc := "()V" } : Jvm.MethodName)) ∈ lw_all := lw_g (lw_at lw_m2 131 rfl) rfl
theorem q484 : (Jvm.Cond.selects "SandKeepsSea$Rule" ({ cls := "SandKeepsSea$Words", name := "number", desc := "(III)I" } : Jvm.MethodName) ({ cls := "SandKeepsSea$Words", name := "number", desc := "(III)I" } : Jvm.MethodName)) ∈ lw_all := lw_g (lw_at lw_m2 151 rfl) rfl
theorem q491 : (Jvm.Cond.selects "SandKeepsSea$Rule" ({ cls := "SandKeepsSea$Words", name := "number", desc := "(I)I" } : Jvm.MethodName) ({ cls := "SandKeepsSea$Words", name := "number", desc := "(I)I" } : Jvm.MethodName)) ∈ lw_all := lw_g (lw_at lw_m2 158 rfl) rfl
theorem q511 : (Jvm.Cond.instantiable "SandKeepsSea$Rule" (8 : Nat)) ∈ lw_all := lw_g (lw_at lw_m2 178 rfl) rfl
theorem q513 : (Jvm.Cond.instanceMethod ({ cls := "SandKeepsSea$Rule", name := "<init>", desc := "(LSandKeepsSea;[BI)V" } : Jvm.MethodName)) ∈ lw_all := lw_g (lw_at lw_m2 180 rfl) rfl
theorem q514 : (Jvm.Cond.code ({ cls := "SandKeepsSea$Rule", name := "<init>", desc := "(LSandKeepsSea;[BI)V" } : Jvm.MethodName) prog_8_method_1_code (4 : Nat) (Option.none : Option Jvm.ClassFile.FieldType)) ∈ lw_all := lw_g (lw_at lw_m2 181 rfl) rfl
theorem q515 : (Jvm.Cond.methodLink "SandKeepsSea$Rule" (9 : Nat) ({ cls := "SandKeepsSea$Words", name := "<init>", desc := "([BII)V" } : Jvm.MethodName)) ∈ lw_all := lw_g (lw_at lw_m2 182 rfl) rfl
theorem q516 : (Jvm.Cond.fieldLink "SandKeepsSea$Rule" (23 : Nat) "SandKeepsSea$Rule" "isAsked" "Z") ∈ lw_all := lw_g (lw_at lw_m2 183 rfl) rfl
theorem q517 : (Jvm.Cond.fieldLink "SandKeepsSea$Rule" (27 : Nat) "SandKeepsSea$Rule" "tide" "I") ∈ lw_all := lw_g (lw_at lw_m2 184 rfl) rfl
theorem q518 : (Jvm.Cond.fieldLink "SandKeepsSea$Rule" (31 : Nat) "SandKeepsSea$Rule" "moats" "I") ∈ lw_all := lw_g (lw_at lw_m2 185 rfl) rfl
theorem q519 : (Jvm.Cond.fieldLink "SandKeepsSea$Rule" (3 : Nat) "SandKeepsSea$Rule" "this$0" "LSandKeepsSea;") ∈ lw_all := lw_g (lw_at lw_m2 186 rfl) rfl
theorem q520 : (Jvm.Cond.lays "SandKeepsSea$Rule" "SandKeepsSea$Rule" "isAsked" "Z") ∈ lw_all := lw_g (lw_at lw_m2 187 rfl) rfl
theorem q521 : (Jvm.Cond.soleField "SandKeepsSea$Rule" "isAsked") ∈ lw_all := lw_g (lw_at lw_m2 188 rfl) rfl
theorem q522 : (Jvm.Cond.lays "SandKeepsSea$Rule" "SandKeepsSea$Rule" "tide" "I") ∈ lw_all := lw_g (lw_at lw_m2 189 rfl) rfl
theorem q523 : (Jvm.Cond.soleField "SandKeepsSea$Rule" "tide") ∈ lw_all := lw_g (lw_at lw_m2 190 rfl) rfl
theorem q524 : (Jvm.Cond.lays "SandKeepsSea$Rule" "SandKeepsSea$Rule" "moats" "I") ∈ lw_all := lw_g (lw_at lw_m2 191 rfl) rfl
theorem q525 : (Jvm.Cond.soleField "SandKeepsSea$Rule" "moats") ∈ lw_all := lw_g (lw_at lw_m2 192 rfl) rfl
theorem q526 : (Jvm.Cond.laysFinal "SandKeepsSea$Rule" "SandKeepsSea$Rule" "this$0" "LSandKeepsSea;") ∈ lw_all := lw_g (lw_at lw_m2 193 rfl) rfl
theorem q527 : (Jvm.Cond.soleField "SandKeepsSea$Rule" "this$0") ∈ lw_all := lw_g (lw_at lw_m2 194 rfl) rfl
theorem q528 : (Jvm.Cond.laysFinal "SandKeepsSea$Rule" "SandKeepsSea$Words" "of" "[B") ∈ lw_all := lw_g (lw_at lw_m2 195 rfl) rfl
theorem q529 : (Jvm.Cond.laysFinal "SandKeepsSea$Rule" "SandKeepsSea$Words" "size" "I") ∈ lw_all := lw_g (lw_at lw_m2 196 rfl) rfl
theorem q530 : (Jvm.Cond.laysFinal "SandKeepsSea$Rule" "SandKeepsSea$Words" "end" "I") ∈ lw_all := lw_g (lw_at lw_m2 197 rfl) rfl
theorem q531 : (Jvm.Cond.lays "SandKeepsSea$Rule" "SandKeepsSea$Words" "at" "I") ∈ lw_all := lw_g (lw_at lw_m2 198 rfl) rfl
theorem q532 : (Jvm.Cond.superclass "SandKeepsSea$Rule" "SandKeepsSea$Words") ∈ lw_all := lw_g (lw_at lw_m2 199 rfl) rfl
theorem q534 : (Jvm.Cond.instanceMethod ({ cls := "SandKeepsSea$Rule", name := "read", desc := "()LSandKeepsSea$Rule;" } : Jvm.MethodName)) ∈ lw_all := lw_g (lw_at lw_m2 201 rfl) rfl
theorem q535 : (Jvm.Cond.selects "SandKeepsSea$Rule" ({ cls := "SandKeepsSea$Rule", name := "read", desc := "()LSandKeepsSea$Rule;" } : Jvm.MethodName) ({ cls := "SandKeepsSea$Rule", name := "read", desc := "()LSandKeepsSea$Rule;" } : Jvm.MethodName)) ∈ lw_all := lw_g (lw_at lw_m2 202 rfl) rfl
theorem q536 : (Jvm.Cond.code ({ cls := "SandKeepsSea$Rule", name := "read", desc := "()LSandKeepsSea$Rule;" } : Jvm.MethodName) prog_8_method_2_code (1 : Nat) (Option.some (Jvm.ClassFile.FieldType.object "SandKeepsSea$Rule"))) ∈ lw_all := lw_g (lw_at lw_m2 203 rfl) rfl
theorem q537 : (Jvm.Cond.methodLink "SandKeepsSea$Rule" (15 : Nat) ({ cls := "SandKeepsSea$Rule", name := "held", desc := "(I)I" } : Jvm.MethodName)) ∈ lw_all := lw_g (lw_at lw_m2 204 rfl) rfl
theorem q538 : (Jvm.Cond.privateMethod ({ cls := "SandKeepsSea$Rule", name := "held", desc := "(I)I" } : Jvm.MethodName)) ∈ lw_tbl := lw_at lw_m2 205 rfl
theorem q539 : (Jvm.Cond.instanceMethod ({ cls := "SandKeepsSea$Rule", name := "held", desc := "(I)I" } : Jvm.MethodName)) ∈ lw_all := lw_g (lw_at lw_m2 206 rfl) rfl
theorem q540 : (Jvm.Cond.code ({ cls := "SandKeepsSea$Rule", name := "held", desc := "(I)I" } : Jvm.MethodName) prog_8_method_4_code (3 : Nat) (Option.some Jvm.ClassFile.FieldType.int)) ∈ lw_all := lw_g (lw_at lw_m2 207 rfl) rfl
theorem q541 : (Jvm.Cond.methodLink "SandKeepsSea$Rule" (39 : Nat) ({ cls := "SandKeepsSea$Rule", name := "sum", desc := "(I)I" } : Jvm.MethodName)) ∈ lw_all := lw_g (lw_at lw_m2 208 rfl) rfl
theorem q542 : (Jvm.Cond.privateMethod ({ cls := "SandKeepsSea$Rule", name := "sum", desc := "(I)I" } : Jvm.MethodName)) ∈ lw_tbl := lw_at lw_m2 209 rfl
theorem q543 : (Jvm.Cond.instanceMethod ({ cls := "SandKeepsSea$Rule", name := "sum", desc := "(I)I" } : Jvm.MethodName)) ∈ lw_all := lw_g (lw_at lw_m2 210 rfl) rfl
theorem q544 : (Jvm.Cond.code ({ cls := "SandKeepsSea$Rule", name := "sum", desc := "(I)I" } : Jvm.MethodName) prog_8_method_5_code (5 : Nat) (Option.some Jvm.ClassFile.FieldType.int)) ∈ lw_all := lw_g (lw_at lw_m2 211 rfl) rfl
theorem q545 : (Jvm.Cond.methodLink "SandKeepsSea$Rule" (46 : Nat) ({ cls := "SandKeepsSea$Rule", name := "product", desc := "(I)I" } : Jvm.MethodName)) ∈ lw_all := lw_g (lw_at lw_m2 212 rfl) rfl
theorem q546 : (Jvm.Cond.privateMethod ({ cls := "SandKeepsSea$Rule", name := "product", desc := "(I)I" } : Jvm.MethodName)) ∈ lw_tbl := lw_at lw_m2 213 rfl
theorem q547 : (Jvm.Cond.instanceMethod ({ cls := "SandKeepsSea$Rule", name := "product", desc := "(I)I" } : Jvm.MethodName)) ∈ lw_all := lw_g (lw_at lw_m2 214 rfl) rfl
theorem q548 : (Jvm.Cond.code ({ cls := "SandKeepsSea$Rule", name := "product", desc := "(I)I" } : Jvm.MethodName) prog_8_method_6_code (5 : Nat) (Option.some Jvm.ClassFile.FieldType.int)) ∈ lw_all := lw_g (lw_at lw_m2 215 rfl) rfl
theorem q549 : (Jvm.Cond.methodLink "SandKeepsSea$Rule" (53 : Nat) ({ cls := "SandKeepsSea$Rule", name := "thing", desc := "(I)I" } : Jvm.MethodName)) ∈ lw_all := lw_g (lw_at lw_m2 216 rfl) rfl
theorem q550 : (Jvm.Cond.privateMethod ({ cls := "SandKeepsSea$Rule", name := "thing", desc := "(I)I" } : Jvm.MethodName)) ∈ lw_tbl := lw_at lw_m2 217 rfl
theorem q551 : (Jvm.Cond.instanceMethod ({ cls := "SandKeepsSea$Rule", name := "thing", desc := "(I)I" } : Jvm.MethodName)) ∈ lw_all := lw_g (lw_at lw_m2 218 rfl) rfl
theorem q552 : (Jvm.Cond.code ({ cls := "SandKeepsSea$Rule", name := "thing", desc := "(I)I" } : Jvm.MethodName) prog_8_method_7_code (3 : Nat) (Option.some Jvm.ClassFile.FieldType.int)) ∈ lw_all := lw_g (lw_at lw_m2 219 rfl) rfl
theorem q553 : (Jvm.Cond.methodLink "SandKeepsSea$Rule" (42 : Nat) ({ cls := "SandKeepsSea$Rule", name := "passes", desc := "(C)Z" } : Jvm.MethodName)) ∈ lw_all := lw_g (lw_at lw_m2 220 rfl) rfl
theorem q554 : (Jvm.Cond.sameMethod "SandKeepsSea$Rule" "SandKeepsSea$Words" "passes" "(C)Z") ∈ lw_all := lw_g (lw_at lw_m2 221 rfl) rfl
theorem q556 : (Jvm.Cond.selects "SandKeepsSea$Rule" ({ cls := "SandKeepsSea$Rule", name := "passes", desc := "(C)Z" } : Jvm.MethodName) ({ cls := "SandKeepsSea$Words", name := "passes", desc := "(C)Z" } : Jvm.MethodName)) ∈ lw_all := lw_g (lw_at lw_m2 223 rfl) rfl
theorem q557 : (Jvm.Cond.methodLink "SandKeepsSea$Rule" (49 : Nat) ({ cls := "SandKeepsSea$Rule", name := "here", desc := "()I" } : Jvm.MethodName)) ∈ lw_all := lw_g (lw_at lw_m2 224 rfl) rfl
theorem q558 : (Jvm.Cond.sameMethod "SandKeepsSea$Rule" "SandKeepsSea$Words" "here" "()I") ∈ lw_all := lw_g (lw_at lw_m2 225 rfl) rfl
theorem q560 : (Jvm.Cond.selects "SandKeepsSea$Rule" ({ cls := "SandKeepsSea$Rule", name := "here", desc := "()I" } : Jvm.MethodName) ({ cls := "SandKeepsSea$Words", name := "here", desc := "()I" } : Jvm.MethodName)) ∈ lw_all := lw_g (lw_at lw_m2 227 rfl) rfl
theorem q561 : (Jvm.Cond.methodLink "SandKeepsSea$Rule" (56 : Nat) ({ cls := "SandKeepsSea$Rule", name := "need", desc := "(Z)V" } : Jvm.MethodName)) ∈ lw_all := lw_g (lw_at lw_m2 228 rfl) rfl
theorem q562 : (Jvm.Cond.sameMethod "SandKeepsSea$Rule" "SandKeepsSea$Words" "need" "(Z)V") ∈ lw_all := lw_g (lw_at lw_m2 229 rfl) rfl
theorem q564 : (Jvm.Cond.selects "SandKeepsSea$Rule" ({ cls := "SandKeepsSea$Rule", name := "need", desc := "(Z)V" } : Jvm.MethodName) ({ cls := "SandKeepsSea$Words", name := "need", desc := "(Z)V" } : Jvm.MethodName)) ∈ lw_all := lw_g (lw_at lw_m2 231 rfl) rfl
theorem q565 : (Jvm.Cond.constantLong "SandKeepsSea$Rule" (60 : Nat) (48 : Int64)) ∈ lw_all := lw_g (lw_at lw_m2 232 rfl) rfl
theorem q566 : (Jvm.Cond.constantLong "SandKeepsSea$Rule" (62 : Nat) (57 : Int64)) ∈ lw_all := lw_g (lw_at lw_m2 233 rfl) rfl
theorem q567 : (Jvm.Cond.methodLinkNest "SandKeepsSea$Rule" (64 : Nat) ({ cls := "SandKeepsSea", name := "in", desc := "(JJJ)Z" } : Jvm.MethodName) "SandKeepsSea") ∈ lw_tbl := lw_at lw_m2 234 rfl
theorem q568 : (Jvm.Cond.methodLink "SandKeepsSea$Rule" (68 : Nat) ({ cls := "SandKeepsSea$Rule", name := "number", desc := "(I)I" } : Jvm.MethodName)) ∈ lw_all := lw_g (lw_at lw_m2 235 rfl) rfl
theorem q569 : (Jvm.Cond.sameMethod "SandKeepsSea$Rule" "SandKeepsSea$Words" "number" "(I)I") ∈ lw_all := lw_g (lw_at lw_m2 236 rfl) rfl
theorem q571 : (Jvm.Cond.selects "SandKeepsSea$Rule" ({ cls := "SandKeepsSea$Rule", name := "number", desc := "(I)I" } : Jvm.MethodName) ({ cls := "SandKeepsSea$Words", name := "number", desc := "(I)I" } : Jvm.MethodName)) ∈ lw_all := lw_g (lw_at lw_m2 238 rfl) rfl
theorem q572 : (Jvm.Cond.methodLink "SandKeepsSea$Rule" (71 : Nat) ({ cls := "SandKeepsSea$Rule", name := "value", desc := "(I)I" } : Jvm.MethodName)) ∈ lw_all := lw_g (lw_at lw_m2 239 rfl) rfl
theorem q573 : (Jvm.Cond.privateMethod ({ cls := "SandKeepsSea$Rule", name := "value", desc := "(I)I" } : Jvm.MethodName)) ∈ lw_tbl := lw_at lw_m3 0 rfl
theorem q574 : (Jvm.Cond.instanceMethod ({ cls := "SandKeepsSea$Rule", name := "value", desc := "(I)I" } : Jvm.MethodName)) ∈ lw_all := lw_g (lw_at lw_m3 1 rfl) rfl
theorem q575 : (Jvm.Cond.code ({ cls := "SandKeepsSea$Rule", name := "value", desc := "(I)I" } : Jvm.MethodName) prog_8_method_8_code (2 : Nat) (Option.some Jvm.ClassFile.FieldType.int)) ∈ lw_all := lw_g (lw_at lw_m3 2 rfl) rfl
theorem q576 : (Jvm.Cond.methodLink "SandKeepsSea$Rule" (19 : Nat) ({ cls := "SandKeepsSea$Rule", name := "needEnd", desc := "()V" } : Jvm.MethodName)) ∈ lw_all := lw_g (lw_at lw_m3 3 rfl) rfl
theorem q577 : (Jvm.Cond.sameMethod "SandKeepsSea$Rule" "SandKeepsSea$Words" "needEnd" "()V") ∈ lw_all := lw_g (lw_at lw_m3 4 rfl) rfl
theorem q579 : (Jvm.Cond.selects "SandKeepsSea$Rule" ({ cls := "SandKeepsSea$Rule", name := "needEnd", desc := "()V" } : Jvm.MethodName) ({ cls := "SandKeepsSea$Words", name := "needEnd", desc := "()V" } : Jvm.MethodName)) ∈ lw_all := lw_g (lw_at lw_m3 6 rfl) rfl
theorem q741 : (Jvm.Cond.instanceMethod ({ cls := "SandKeepsSea$Rule", name := "of", desc := "(II)I" } : Jvm.MethodName)) ∈ lw_all := lw_g (lw_at lw_m3 168 rfl) rfl
theorem q742 : (Jvm.Cond.selects "SandKeepsSea$Rule" ({ cls := "SandKeepsSea$Rule", name := "of", desc := "(II)I" } : Jvm.MethodName) ({ cls := "SandKeepsSea$Rule", name := "of", desc := "(II)I" } : Jvm.MethodName)) ∈ lw_all := lw_g (lw_at lw_m3 169 rfl) rfl
theorem q743 : (Jvm.Cond.codeWith ({ cls := "SandKeepsSea$Rule", name := "of", desc := "(II)I" } : Jvm.MethodName) prog_8_method_3_code (6 : Nat) (Option.some Jvm.ClassFile.FieldType.int) [((20 : Nat), (26 : Nat), (33 : Nat), (37 : Nat)), ((20 : Nat), (26 : Nat), (45 : Nat), (0 : Nat)), ((33 : Nat), (37 : Nat), (45 : Nat), (0 : Nat)), ((45 : Nat), (47 : Nat), (45 : Nat), (0 : Nat))]) ∈ lw_all := lw_g (lw_at lw_m3 170 rfl) rfl
theorem q744 : (Jvm.Cond.classLink "SandKeepsSea$Rule" (37 : Nat) "SandKeepsSea$Fault") ∈ lw_all := lw_g (lw_at lw_m3 171 rfl) rfl
theorem q1871 : (Jvm.Cond.castable "SandKeepsSea$Rule" "java/lang/Object") ∈ lw_tbl := lw_at lw_m8 98 rfl
theorem in_X7 : ∀ w ∈ wsX70, w ∈ lw_all := lw_in wsX70 [528, 529, 530, 531, 520, 522, 524, 526] (by decide +kernel) (by decide +kernel)

/-! SandKeepsSea$Order -/
set_option maxRecDepth 100000
def RX8 : String := "SandKeepsSea$Order"
def TX8 : u_T := fun k => match k with
  | 0 => ("SandKeepsSea$Words", "of", "[B", true)
  | 1 => ("SandKeepsSea$Words", "size", "I", true)
  | 2 => ("SandKeepsSea$Words", "end", "I", true)
  | 3 => ("SandKeepsSea$Words", "at", "I", false)
  | 4 => ("SandKeepsSea$Order", "acts", "[C", true)
  | 5 => ("SandKeepsSea$Order", "first", "[I", true)
  | 6 => ("SandKeepsSea$Order", "second", "[I", true)
  | _ => ("SandKeepsSea$Order", "many", "I", false)
def tyX8 : Nat → FieldType := fun k => match k with
  | 0 => .array .byte
  | 1 => .int
  | 2 => .int
  | 3 => .int
  | 4 => .array .char
  | 5 => .array .int
  | 6 => .array .int
  | _ => .int
abbrev wsX80 : List Cond := u_ws RX8 TX8 8
theorem nmX8 : ∀ a, a < 8 → ∀ b, b < 8 → a ≠ b → (TX8 a).2.1 ≠ (TX8 b).2.1 := by decide +kernel
theorem tyX8_ok : ∀ k, k < 8 → parseFieldDescriptor (TX8 k).2.2.1 = some (tyX8 k) := by decide +kernel
abbrev cX8_init : ByteArray := prog_5_method_1_code
def yX8_init : MethodName := ⟨RX8, "<init>", "([BI)V"⟩
def dkwX8_init_1 : List UInt8 := [42, 16, 60, 188, 10, 181, 0, 19, 177]
abbrev dktX8_init_1 : List UInt8 := dkwX8_init_1 ++ []
def dkwX8_init_0 : List UInt8 := [42, 43, 28, 16, 60, 183, 0, 3, 42, 16, 60, 188, 5, 181, 0, 9, 42, 16, 60, 188, 10, 181, 0, 15]
abbrev dktX8_init_0 : List UInt8 := dkwX8_init_0 ++ dktX8_init_1
theorem dksX8_init_0 : cX8_init.data.toList.drop 0 = dktX8_init_0 := by decide +kernel
theorem dksX8_init_1 : cX8_init.data.toList.drop 24 = dktX8_init_1 := dk_seg dksX8_init_0 24 rfl rfl
theorem dX8_init_0 : decode cX8_init 0 = .ok (.aload_n 0, 1) := dk_42 (dk_at dksX8_init_0 0 rfl rfl)
theorem dX8_init_1 : decode cX8_init 1 = .ok (.aload_n 1, 1) := dk_43 (dk_at dksX8_init_0 1 rfl rfl)
theorem dX8_init_2 : decode cX8_init 2 = .ok (.iload_n 2, 1) := dk_28 (dk_at dksX8_init_0 2 rfl rfl)
theorem dX8_init_3 : decode cX8_init 3 = .ok (.bipush 60, 2) := dk_16 60 (dk_at dksX8_init_0 3 rfl rfl)
theorem dX8_init_5 : decode cX8_init 5 = .ok (.invokespecial 3, 3) := dk_183 0 3 (dk_at dksX8_init_0 5 rfl rfl)
theorem dX8_init_8 : decode cX8_init 8 = .ok (.aload_n 0, 1) := dk_42 (dk_at dksX8_init_0 8 rfl rfl)
theorem dX8_init_9 : decode cX8_init 9 = .ok (.bipush 60, 2) := dk_16 60 (dk_at dksX8_init_0 9 rfl rfl)
theorem dX8_init_11 : decode cX8_init 11 = .ok (.newarray .char, 2) := dk_188_5 (dk_at dksX8_init_0 11 rfl rfl)
theorem dX8_init_13 : decode cX8_init 13 = .ok (.putfield 9, 3) := dk_181 0 9 (dk_at dksX8_init_0 13 rfl rfl)
theorem dX8_init_16 : decode cX8_init 16 = .ok (.aload_n 0, 1) := dk_42 (dk_at dksX8_init_0 16 rfl rfl)
theorem dX8_init_17 : decode cX8_init 17 = .ok (.bipush 60, 2) := dk_16 60 (dk_at dksX8_init_0 17 rfl rfl)
theorem dX8_init_19 : decode cX8_init 19 = .ok (.newarray .int, 2) := dk_188_10 (dk_at dksX8_init_0 19 rfl rfl)
theorem dX8_init_21 : decode cX8_init 21 = .ok (.putfield 15, 3) := dk_181 0 15 (dk_at dksX8_init_0 21 rfl rfl)
theorem dX8_init_24 : decode cX8_init 24 = .ok (.aload_n 0, 1) := dk_42 (dk_at dksX8_init_1 0 rfl rfl)
theorem dX8_init_25 : decode cX8_init 25 = .ok (.bipush 60, 2) := dk_16 60 (dk_at dksX8_init_1 1 rfl rfl)
theorem dX8_init_27 : decode cX8_init 27 = .ok (.newarray .int, 2) := dk_188_10 (dk_at dksX8_init_1 3 rfl rfl)
theorem dX8_init_29 : decode cX8_init 29 = .ok (.putfield 19, 3) := dk_181 0 19 (dk_at dksX8_init_1 5 rfl rfl)
theorem dX8_init_32 : decode cX8_init 32 = .ok (.return_, 1) := dk_177 (dk_at dksX8_init_1 8 rfl rfl)
abbrev cX8_read : ByteArray := prog_5_method_2_code
def yX8_read : MethodName := ⟨RX8, "read", "()V"⟩
def dkwX8_read_1 : List UInt8 := [181, 0, 33, 167, 255, 231, 42, 182, 0, 36, 177]
abbrev dktX8_read_1 : List UInt8 := dkwX8_read_1 ++ []
def dkwX8_read_0 : List UInt8 := [42, 180, 0, 22, 42, 180, 0, 26, 162, 0, 20, 42, 182, 0, 29, 42, 89, 180, 0, 33, 4, 96]
abbrev dktX8_read_0 : List UInt8 := dkwX8_read_0 ++ dktX8_read_1
theorem dksX8_read_0 : cX8_read.data.toList.drop 0 = dktX8_read_0 := by decide +kernel
theorem dksX8_read_1 : cX8_read.data.toList.drop 22 = dktX8_read_1 := dk_seg dksX8_read_0 22 rfl rfl
theorem dX8_read_0 : decode cX8_read 0 = .ok (.aload_n 0, 1) := dk_42 (dk_at dksX8_read_0 0 rfl rfl)
theorem dX8_read_1 : decode cX8_read 1 = .ok (.getfield 22, 3) := dk_180 0 22 (dk_at dksX8_read_0 1 rfl rfl)
theorem dX8_read_4 : decode cX8_read 4 = .ok (.aload_n 0, 1) := dk_42 (dk_at dksX8_read_0 4 rfl rfl)
theorem dX8_read_5 : decode cX8_read 5 = .ok (.getfield 26, 3) := dk_180 0 26 (dk_at dksX8_read_0 5 rfl rfl)
theorem dX8_read_8 : decode cX8_read 8 = .ok (.if_icmp .ge 20, 3) := dk_162 0 20 (dk_at dksX8_read_0 8 rfl rfl)
theorem dX8_read_11 : decode cX8_read 11 = .ok (.aload_n 0, 1) := dk_42 (dk_at dksX8_read_0 11 rfl rfl)
theorem dX8_read_12 : decode cX8_read 12 = .ok (.invokevirtual 29, 3) := dk_182 0 29 (dk_at dksX8_read_0 12 rfl rfl)
theorem dX8_read_15 : decode cX8_read 15 = .ok (.aload_n 0, 1) := dk_42 (dk_at dksX8_read_0 15 rfl rfl)
theorem dX8_read_16 : decode cX8_read 16 = .ok (.dup, 1) := dk_89 (dk_at dksX8_read_0 16 rfl rfl)
theorem dX8_read_17 : decode cX8_read 17 = .ok (.getfield 33, 3) := dk_180 0 33 (dk_at dksX8_read_0 17 rfl rfl)
theorem dX8_read_20 : decode cX8_read 20 = .ok (.iconst 1, 1) := dk_4 (dk_at dksX8_read_0 20 rfl rfl)
theorem dX8_read_21 : decode cX8_read 21 = .ok (.iadd, 1) := dk_96 (dk_at dksX8_read_0 21 rfl rfl)
theorem dX8_read_22 : decode cX8_read 22 = .ok (.putfield 33, 3) := dk_181 0 33 (dk_at dksX8_read_1 0 rfl rfl)
theorem dX8_read_25 : decode cX8_read 25 = .ok (.goto (-25), 3) := dk_167 255 231 (dk_at dksX8_read_1 3 rfl rfl)
theorem dX8_read_28 : decode cX8_read 28 = .ok (.aload_n 0, 1) := dk_42 (dk_at dksX8_read_1 6 rfl rfl)
theorem dX8_read_29 : decode cX8_read 29 = .ok (.invokevirtual 36, 3) := dk_182 0 36 (dk_at dksX8_read_1 7 rfl rfl)
theorem dX8_read_32 : decode cX8_read 32 = .ok (.return_, 1) := dk_177 (dk_at dksX8_read_1 10 rfl rfl)
abbrev cX8_act : ByteArray := prog_5_method_3_code
def yX8_act : MethodName := ⟨RX8, "act", "()V"⟩
def dkwX8_act_6 : List UInt8 := [16, 12, 182, 0, 55, 79, 177]
abbrev dktX8_act_6 : List UInt8 := dkwX8_act_6 ++ []
def dkwX8_act_5 : List UInt8 := [16, 8, 182, 0, 55, 79, 27, 16, 103, 160, 0, 20, 42, 180, 0, 19, 42, 180, 0, 33, 42, 16, 97]
abbrev dktX8_act_5 : List UInt8 := dkwX8_act_5 ++ dktX8_act_6
def dkwX8_act_4 : List UInt8 := [182, 0, 55, 79, 167, 0, 26, 27, 16, 119, 159, 0, 20, 42, 180, 0, 15, 42, 180, 0, 33, 42, 16, 97]
abbrev dktX8_act_4 : List UInt8 := dkwX8_act_4 ++ dktX8_act_5
def dkwX8_act_3 : List UInt8 := [167, 0, 52, 27, 16, 98, 160, 0, 23, 42, 180, 0, 15, 42, 180, 0, 33, 42, 16, 48, 16, 10]
abbrev dktX8_act_3 : List UInt8 := dkwX8_act_3 ++ dktX8_act_4
def dkwX8_act_2 : List UInt8 := [85, 27, 16, 109, 160, 0, 23, 42, 180, 0, 15, 42, 180, 0, 33, 42, 16, 97, 16, 12, 182, 0, 55, 79]
abbrev dktX8_act_2 : List UInt8 := dkwX8_act_2 ++ dktX8_act_3
def dkwX8_act_1 : List UInt8 := [3, 182, 0, 51, 42, 89, 180, 0, 22, 4, 96, 181, 0, 22, 42, 180, 0, 9, 42, 180, 0, 33, 27, 146]
abbrev dktX8_act_1 : List UInt8 := dkwX8_act_1 ++ dktX8_act_2
def dkwX8_act_0 : List UInt8 := [42, 182, 0, 39, 60, 42, 27, 2, 159, 0, 16, 18, 43, 27, 182, 0, 45, 155, 0, 7, 4, 167, 0, 4]
abbrev dktX8_act_0 : List UInt8 := dkwX8_act_0 ++ dktX8_act_1
theorem dksX8_act_0 : cX8_act.data.toList.drop 0 = dktX8_act_0 := by decide +kernel
theorem dksX8_act_1 : cX8_act.data.toList.drop 24 = dktX8_act_1 := dk_seg dksX8_act_0 24 rfl rfl
theorem dksX8_act_2 : cX8_act.data.toList.drop 48 = dktX8_act_2 := dk_seg dksX8_act_1 24 rfl rfl
theorem dksX8_act_3 : cX8_act.data.toList.drop 72 = dktX8_act_3 := dk_seg dksX8_act_2 24 rfl rfl
theorem dksX8_act_4 : cX8_act.data.toList.drop 94 = dktX8_act_4 := dk_seg dksX8_act_3 22 rfl rfl
theorem dksX8_act_5 : cX8_act.data.toList.drop 118 = dktX8_act_5 := dk_seg dksX8_act_4 24 rfl rfl
theorem dksX8_act_6 : cX8_act.data.toList.drop 141 = dktX8_act_6 := dk_seg dksX8_act_5 23 rfl rfl
theorem dX8_act_0 : decode cX8_act 0 = .ok (.aload_n 0, 1) := dk_42 (dk_at dksX8_act_0 0 rfl rfl)
theorem dX8_act_1 : decode cX8_act 1 = .ok (.invokevirtual 39, 3) := dk_182 0 39 (dk_at dksX8_act_0 1 rfl rfl)
theorem dX8_act_4 : decode cX8_act 4 = .ok (.istore_n 1, 1) := dk_60 (dk_at dksX8_act_0 4 rfl rfl)
theorem dX8_act_5 : decode cX8_act 5 = .ok (.aload_n 0, 1) := dk_42 (dk_at dksX8_act_0 5 rfl rfl)
theorem dX8_act_6 : decode cX8_act 6 = .ok (.iload_n 1, 1) := dk_27 (dk_at dksX8_act_0 6 rfl rfl)
theorem dX8_act_7 : decode cX8_act 7 = .ok (.iconst (-1), 1) := dk_2 (dk_at dksX8_act_0 7 rfl rfl)
theorem dX8_act_8 : decode cX8_act 8 = .ok (.if_icmp .eq 16, 3) := dk_159 0 16 (dk_at dksX8_act_0 8 rfl rfl)
theorem dX8_act_11 : decode cX8_act 11 = .ok (.ldc 43, 2) := dk_18 43 (dk_at dksX8_act_0 11 rfl rfl)
theorem dX8_act_13 : decode cX8_act 13 = .ok (.iload_n 1, 1) := dk_27 (dk_at dksX8_act_0 13 rfl rfl)
theorem dX8_act_14 : decode cX8_act 14 = .ok (.invokevirtual 45, 3) := dk_182 0 45 (dk_at dksX8_act_0 14 rfl rfl)
theorem dX8_act_17 : decode cX8_act 17 = .ok (.ifCond .lt 7, 3) := dk_155 0 7 (dk_at dksX8_act_0 17 rfl rfl)
theorem dX8_act_20 : decode cX8_act 20 = .ok (.iconst 1, 1) := dk_4 (dk_at dksX8_act_0 20 rfl rfl)
theorem dX8_act_21 : decode cX8_act 21 = .ok (.goto 4, 3) := dk_167 0 4 (dk_at dksX8_act_0 21 rfl rfl)
theorem dX8_act_24 : decode cX8_act 24 = .ok (.iconst 0, 1) := dk_3 (dk_at dksX8_act_1 0 rfl rfl)
theorem dX8_act_25 : decode cX8_act 25 = .ok (.invokevirtual 51, 3) := dk_182 0 51 (dk_at dksX8_act_1 1 rfl rfl)
theorem dX8_act_28 : decode cX8_act 28 = .ok (.aload_n 0, 1) := dk_42 (dk_at dksX8_act_1 4 rfl rfl)
theorem dX8_act_29 : decode cX8_act 29 = .ok (.dup, 1) := dk_89 (dk_at dksX8_act_1 5 rfl rfl)
theorem dX8_act_30 : decode cX8_act 30 = .ok (.getfield 22, 3) := dk_180 0 22 (dk_at dksX8_act_1 6 rfl rfl)
theorem dX8_act_33 : decode cX8_act 33 = .ok (.iconst 1, 1) := dk_4 (dk_at dksX8_act_1 9 rfl rfl)
theorem dX8_act_34 : decode cX8_act 34 = .ok (.iadd, 1) := dk_96 (dk_at dksX8_act_1 10 rfl rfl)
theorem dX8_act_35 : decode cX8_act 35 = .ok (.putfield 22, 3) := dk_181 0 22 (dk_at dksX8_act_1 11 rfl rfl)
theorem dX8_act_38 : decode cX8_act 38 = .ok (.aload_n 0, 1) := dk_42 (dk_at dksX8_act_1 14 rfl rfl)
theorem dX8_act_39 : decode cX8_act 39 = .ok (.getfield 9, 3) := dk_180 0 9 (dk_at dksX8_act_1 15 rfl rfl)
theorem dX8_act_42 : decode cX8_act 42 = .ok (.aload_n 0, 1) := dk_42 (dk_at dksX8_act_1 18 rfl rfl)
theorem dX8_act_43 : decode cX8_act 43 = .ok (.getfield 33, 3) := dk_180 0 33 (dk_at dksX8_act_1 19 rfl rfl)
theorem dX8_act_46 : decode cX8_act 46 = .ok (.iload_n 1, 1) := dk_27 (dk_at dksX8_act_1 22 rfl rfl)
theorem dX8_act_47 : decode cX8_act 47 = .ok (.i2c, 1) := dk_146 (dk_at dksX8_act_1 23 rfl rfl)
theorem dX8_act_48 : decode cX8_act 48 = .ok (.castore, 1) := dk_85 (dk_at dksX8_act_2 0 rfl rfl)
theorem dX8_act_49 : decode cX8_act 49 = .ok (.iload_n 1, 1) := dk_27 (dk_at dksX8_act_2 1 rfl rfl)
theorem dX8_act_50 : decode cX8_act 50 = .ok (.bipush 109, 2) := dk_16 109 (dk_at dksX8_act_2 2 rfl rfl)
theorem dX8_act_52 : decode cX8_act 52 = .ok (.if_icmp .ne 23, 3) := dk_160 0 23 (dk_at dksX8_act_2 4 rfl rfl)
theorem dX8_act_55 : decode cX8_act 55 = .ok (.aload_n 0, 1) := dk_42 (dk_at dksX8_act_2 7 rfl rfl)
theorem dX8_act_56 : decode cX8_act 56 = .ok (.getfield 15, 3) := dk_180 0 15 (dk_at dksX8_act_2 8 rfl rfl)
theorem dX8_act_59 : decode cX8_act 59 = .ok (.aload_n 0, 1) := dk_42 (dk_at dksX8_act_2 11 rfl rfl)
theorem dX8_act_60 : decode cX8_act 60 = .ok (.getfield 33, 3) := dk_180 0 33 (dk_at dksX8_act_2 12 rfl rfl)
theorem dX8_act_63 : decode cX8_act 63 = .ok (.aload_n 0, 1) := dk_42 (dk_at dksX8_act_2 15 rfl rfl)
theorem dX8_act_64 : decode cX8_act 64 = .ok (.bipush 97, 2) := dk_16 97 (dk_at dksX8_act_2 16 rfl rfl)
theorem dX8_act_66 : decode cX8_act 66 = .ok (.bipush 12, 2) := dk_16 12 (dk_at dksX8_act_2 18 rfl rfl)
theorem dX8_act_68 : decode cX8_act 68 = .ok (.invokevirtual 55, 3) := dk_182 0 55 (dk_at dksX8_act_2 20 rfl rfl)
theorem dX8_act_71 : decode cX8_act 71 = .ok (.iastore, 1) := dk_79 (dk_at dksX8_act_2 23 rfl rfl)
theorem dX8_act_72 : decode cX8_act 72 = .ok (.goto 52, 3) := dk_167 0 52 (dk_at dksX8_act_3 0 rfl rfl)
theorem dX8_act_75 : decode cX8_act 75 = .ok (.iload_n 1, 1) := dk_27 (dk_at dksX8_act_3 3 rfl rfl)
theorem dX8_act_76 : decode cX8_act 76 = .ok (.bipush 98, 2) := dk_16 98 (dk_at dksX8_act_3 4 rfl rfl)
theorem dX8_act_78 : decode cX8_act 78 = .ok (.if_icmp .ne 23, 3) := dk_160 0 23 (dk_at dksX8_act_3 6 rfl rfl)
theorem dX8_act_81 : decode cX8_act 81 = .ok (.aload_n 0, 1) := dk_42 (dk_at dksX8_act_3 9 rfl rfl)
theorem dX8_act_82 : decode cX8_act 82 = .ok (.getfield 15, 3) := dk_180 0 15 (dk_at dksX8_act_3 10 rfl rfl)
theorem dX8_act_85 : decode cX8_act 85 = .ok (.aload_n 0, 1) := dk_42 (dk_at dksX8_act_3 13 rfl rfl)
theorem dX8_act_86 : decode cX8_act 86 = .ok (.getfield 33, 3) := dk_180 0 33 (dk_at dksX8_act_3 14 rfl rfl)
theorem dX8_act_89 : decode cX8_act 89 = .ok (.aload_n 0, 1) := dk_42 (dk_at dksX8_act_3 17 rfl rfl)
theorem dX8_act_90 : decode cX8_act 90 = .ok (.bipush 48, 2) := dk_16 48 (dk_at dksX8_act_3 18 rfl rfl)
theorem dX8_act_92 : decode cX8_act 92 = .ok (.bipush 10, 2) := dk_16 10 (dk_at dksX8_act_3 20 rfl rfl)
theorem dX8_act_94 : decode cX8_act 94 = .ok (.invokevirtual 55, 3) := dk_182 0 55 (dk_at dksX8_act_4 0 rfl rfl)
theorem dX8_act_97 : decode cX8_act 97 = .ok (.iastore, 1) := dk_79 (dk_at dksX8_act_4 3 rfl rfl)
theorem dX8_act_98 : decode cX8_act 98 = .ok (.goto 26, 3) := dk_167 0 26 (dk_at dksX8_act_4 4 rfl rfl)
theorem dX8_act_101 : decode cX8_act 101 = .ok (.iload_n 1, 1) := dk_27 (dk_at dksX8_act_4 7 rfl rfl)
theorem dX8_act_102 : decode cX8_act 102 = .ok (.bipush 119, 2) := dk_16 119 (dk_at dksX8_act_4 8 rfl rfl)
theorem dX8_act_104 : decode cX8_act 104 = .ok (.if_icmp .eq 20, 3) := dk_159 0 20 (dk_at dksX8_act_4 10 rfl rfl)
theorem dX8_act_107 : decode cX8_act 107 = .ok (.aload_n 0, 1) := dk_42 (dk_at dksX8_act_4 13 rfl rfl)
theorem dX8_act_108 : decode cX8_act 108 = .ok (.getfield 15, 3) := dk_180 0 15 (dk_at dksX8_act_4 14 rfl rfl)
theorem dX8_act_111 : decode cX8_act 111 = .ok (.aload_n 0, 1) := dk_42 (dk_at dksX8_act_4 17 rfl rfl)
theorem dX8_act_112 : decode cX8_act 112 = .ok (.getfield 33, 3) := dk_180 0 33 (dk_at dksX8_act_4 18 rfl rfl)
theorem dX8_act_115 : decode cX8_act 115 = .ok (.aload_n 0, 1) := dk_42 (dk_at dksX8_act_4 21 rfl rfl)
theorem dX8_act_116 : decode cX8_act 116 = .ok (.bipush 97, 2) := dk_16 97 (dk_at dksX8_act_4 22 rfl rfl)
theorem dX8_act_118 : decode cX8_act 118 = .ok (.bipush 8, 2) := dk_16 8 (dk_at dksX8_act_5 0 rfl rfl)
theorem dX8_act_120 : decode cX8_act 120 = .ok (.invokevirtual 55, 3) := dk_182 0 55 (dk_at dksX8_act_5 2 rfl rfl)
theorem dX8_act_123 : decode cX8_act 123 = .ok (.iastore, 1) := dk_79 (dk_at dksX8_act_5 5 rfl rfl)
theorem dX8_act_124 : decode cX8_act 124 = .ok (.iload_n 1, 1) := dk_27 (dk_at dksX8_act_5 6 rfl rfl)
theorem dX8_act_125 : decode cX8_act 125 = .ok (.bipush 103, 2) := dk_16 103 (dk_at dksX8_act_5 7 rfl rfl)
theorem dX8_act_127 : decode cX8_act 127 = .ok (.if_icmp .ne 20, 3) := dk_160 0 20 (dk_at dksX8_act_5 9 rfl rfl)
theorem dX8_act_130 : decode cX8_act 130 = .ok (.aload_n 0, 1) := dk_42 (dk_at dksX8_act_5 12 rfl rfl)
theorem dX8_act_131 : decode cX8_act 131 = .ok (.getfield 19, 3) := dk_180 0 19 (dk_at dksX8_act_5 13 rfl rfl)
theorem dX8_act_134 : decode cX8_act 134 = .ok (.aload_n 0, 1) := dk_42 (dk_at dksX8_act_5 16 rfl rfl)
theorem dX8_act_135 : decode cX8_act 135 = .ok (.getfield 33, 3) := dk_180 0 33 (dk_at dksX8_act_5 17 rfl rfl)
theorem dX8_act_138 : decode cX8_act 138 = .ok (.aload_n 0, 1) := dk_42 (dk_at dksX8_act_5 20 rfl rfl)
theorem dX8_act_139 : decode cX8_act 139 = .ok (.bipush 97, 2) := dk_16 97 (dk_at dksX8_act_5 21 rfl rfl)
theorem dX8_act_141 : decode cX8_act 141 = .ok (.bipush 12, 2) := dk_16 12 (dk_at dksX8_act_6 0 rfl rfl)
theorem dX8_act_143 : decode cX8_act 143 = .ok (.invokevirtual 55, 3) := dk_182 0 55 (dk_at dksX8_act_6 2 rfl rfl)
theorem dX8_act_146 : decode cX8_act 146 = .ok (.iastore, 1) := dk_79 (dk_at dksX8_act_6 5 rfl rfl)
theorem dX8_act_147 : decode cX8_act 147 = .ok (.return_, 1) := dk_177 (dk_at dksX8_act_6 6 rfl rfl)
theorem q114 : (Jvm.Cond.initialized "SandKeepsSea$Order") ∈ lw_all := lw_g (lw_at lw_m1 21 rfl) rfl
theorem q342 : (Jvm.Cond.fieldLink "SandKeepsSea$Order" (26 : Nat) "SandKeepsSea$Order" "end" "I") ∈ lw_all := lw_g (lw_at lw_m2 9 rfl) rfl
theorem q343 : (Jvm.Cond.sameField "SandKeepsSea$Order" "SandKeepsSea$Words" "end" "I") ∈ lw_all := lw_g (lw_at lw_m2 10 rfl) rfl
theorem q345 : (Jvm.Cond.fieldLink "SandKeepsSea$Order" (22 : Nat) "SandKeepsSea$Order" "at" "I") ∈ lw_all := lw_g (lw_at lw_m2 12 rfl) rfl
theorem q346 : (Jvm.Cond.sameField "SandKeepsSea$Order" "SandKeepsSea$Words" "at" "I") ∈ lw_all := lw_g (lw_at lw_m2 13 rfl) rfl
theorem q366 : (Jvm.Cond.selects "SandKeepsSea$Order" ({ cls := "SandKeepsSea$Words", name := "need", desc := "(Z)V" } : Jvm.MethodName) ({ cls := "SandKeepsSea$Words", name := "need", desc := "(Z)V" } : Jvm.MethodName)) ∈ lw_all := lw_g (lw_at lw_m2 33 rfl) rfl
theorem q436 : (Jvm.Cond.selects "SandKeepsSea$Order" ({ cls := "SandKeepsSea$Words", name := "one", desc := "(CI)I" } : Jvm.MethodName) ({ cls := "SandKeepsSea$Words", name := "one", desc := "(CI)I" } : Jvm.MethodName)) ∈ lw_all := lw_g (lw_at lw_m2 103 rfl) rfl
theorem q443 : (Jvm.Cond.selects "SandKeepsSea$Order" ({ cls := "SandKeepsSea$Words", name := "here", desc := "()I" } : Jvm.MethodName) ({ cls := "SandKeepsSea$Words", name := "here", desc := "()I" } : Jvm.MethodName)) ∈ lw_all := lw_g (lw_at lw_m2 110 rfl) rfl
theorem q452 : (Jvm.Cond.selects "SandKeepsSea$Order" ({ cls := "SandKeepsSea$Words", name := "passes", desc := "(C)Z" } : Jvm.MethodName) ({ cls := "SandKeepsSea$Words", name := "passes", desc := "(C)Z" } : Jvm.MethodName)) ∈ lw_all := lw_g (lw_at lw_m2 119 rfl) rfl
theorem q463 : (Jvm.Cond.selects "SandKeepsSea$Order" ({ cls := "SandKeepsSea$Words", name := "needEnd", desc := "()V" } : Jvm.MethodName) ({ cls := "SandKeepsSea$Words", name := "needEnd", desc := "()V" } : Jvm.MethodName)) ∈ lw_all := lw_g (lw_at lw_m2 130 rfl) rfl
theorem q483 : (Jvm.Cond.selects "SandKeepsSea$Order" ({ cls := "SandKeepsSea$Words", name := "number", desc := "(III)I" } : Jvm.MethodName) ({ cls := "SandKeepsSea$Words", name := "number", desc := "(III)I" } : Jvm.MethodName)) ∈ lw_all := lw_g (lw_at lw_m2 150 rfl) rfl
theorem q490 : (Jvm.Cond.selects "SandKeepsSea$Order" ({ cls := "SandKeepsSea$Words", name := "number", desc := "(I)I" } : Jvm.MethodName) ({ cls := "SandKeepsSea$Words", name := "number", desc := "(I)I" } : Jvm.MethodName)) ∈ lw_all := lw_g (lw_at lw_m2 157 rfl) rfl
theorem q782 : (Jvm.Cond.instantiable "SandKeepsSea$Order" (8 : Nat)) ∈ lw_all := lw_g (lw_at lw_m3 209 rfl) rfl
theorem q784 : (Jvm.Cond.instanceMethod ({ cls := "SandKeepsSea$Order", name := "<init>", desc := "([BI)V" } : Jvm.MethodName)) ∈ lw_all := lw_g (lw_at lw_m3 211 rfl) rfl
theorem q785 : (Jvm.Cond.code ({ cls := "SandKeepsSea$Order", name := "<init>", desc := "([BI)V" } : Jvm.MethodName) prog_5_method_1_code (3 : Nat) (Option.none : Option Jvm.ClassFile.FieldType)) ∈ lw_all := lw_g (lw_at lw_m3 212 rfl) rfl
theorem q786 : (Jvm.Cond.methodLink "SandKeepsSea$Order" (3 : Nat) ({ cls := "SandKeepsSea$Words", name := "<init>", desc := "([BII)V" } : Jvm.MethodName)) ∈ lw_all := lw_g (lw_at lw_m3 213 rfl) rfl
theorem q787 : (Jvm.Cond.fieldLink "SandKeepsSea$Order" (9 : Nat) "SandKeepsSea$Order" "acts" "[C") ∈ lw_all := lw_g (lw_at lw_m3 214 rfl) rfl
theorem q789 : (Jvm.Cond.fieldLink "SandKeepsSea$Order" (15 : Nat) "SandKeepsSea$Order" "first" "[I") ∈ lw_all := lw_g (lw_at lw_m3 216 rfl) rfl
theorem q791 : (Jvm.Cond.fieldLink "SandKeepsSea$Order" (19 : Nat) "SandKeepsSea$Order" "second" "[I") ∈ lw_all := lw_g (lw_at lw_m3 218 rfl) rfl
theorem q793 : (Jvm.Cond.fieldLink "SandKeepsSea$Order" (33 : Nat) "SandKeepsSea$Order" "many" "I") ∈ lw_all := lw_g (lw_at lw_m3 220 rfl) rfl
theorem q795 : (Jvm.Cond.laysFinal "SandKeepsSea$Order" "SandKeepsSea$Order" "acts" "[C") ∈ lw_all := lw_g (lw_at lw_m3 222 rfl) rfl
theorem q796 : (Jvm.Cond.soleField "SandKeepsSea$Order" "acts") ∈ lw_all := lw_g (lw_at lw_m3 223 rfl) rfl
theorem q797 : (Jvm.Cond.laysFinal "SandKeepsSea$Order" "SandKeepsSea$Order" "first" "[I") ∈ lw_all := lw_g (lw_at lw_m3 224 rfl) rfl
theorem q798 : (Jvm.Cond.soleField "SandKeepsSea$Order" "first") ∈ lw_all := lw_g (lw_at lw_m3 225 rfl) rfl
theorem q799 : (Jvm.Cond.laysFinal "SandKeepsSea$Order" "SandKeepsSea$Order" "second" "[I") ∈ lw_all := lw_g (lw_at lw_m3 226 rfl) rfl
theorem q800 : (Jvm.Cond.soleField "SandKeepsSea$Order" "second") ∈ lw_all := lw_g (lw_at lw_m3 227 rfl) rfl
theorem q801 : (Jvm.Cond.lays "SandKeepsSea$Order" "SandKeepsSea$Order" "many" "I") ∈ lw_all := lw_g (lw_at lw_m3 228 rfl) rfl
theorem q802 : (Jvm.Cond.soleField "SandKeepsSea$Order" "many") ∈ lw_all := lw_g (lw_at lw_m3 229 rfl) rfl
theorem q803 : (Jvm.Cond.laysFinal "SandKeepsSea$Order" "SandKeepsSea$Words" "of" "[B") ∈ lw_all := lw_g (lw_at lw_m3 230 rfl) rfl
theorem q804 : (Jvm.Cond.laysFinal "SandKeepsSea$Order" "SandKeepsSea$Words" "size" "I") ∈ lw_all := lw_g (lw_at lw_m3 231 rfl) rfl
theorem q805 : (Jvm.Cond.laysFinal "SandKeepsSea$Order" "SandKeepsSea$Words" "end" "I") ∈ lw_all := lw_g (lw_at lw_m3 232 rfl) rfl
theorem q806 : (Jvm.Cond.lays "SandKeepsSea$Order" "SandKeepsSea$Words" "at" "I") ∈ lw_all := lw_g (lw_at lw_m3 233 rfl) rfl
theorem q807 : (Jvm.Cond.superclass "SandKeepsSea$Order" "SandKeepsSea$Words") ∈ lw_all := lw_g (lw_at lw_m3 234 rfl) rfl
theorem q810 : (Jvm.Cond.instanceMethod ({ cls := "SandKeepsSea$Order", name := "read", desc := "()V" } : Jvm.MethodName)) ∈ lw_all := lw_g (lw_at lw_m3 237 rfl) rfl
theorem q811 : (Jvm.Cond.selects "SandKeepsSea$Order" ({ cls := "SandKeepsSea$Order", name := "read", desc := "()V" } : Jvm.MethodName) ({ cls := "SandKeepsSea$Order", name := "read", desc := "()V" } : Jvm.MethodName)) ∈ lw_all := lw_g (lw_at lw_m3 238 rfl) rfl
theorem q812 : (Jvm.Cond.code ({ cls := "SandKeepsSea$Order", name := "read", desc := "()V" } : Jvm.MethodName) prog_5_method_2_code (1 : Nat) (Option.none : Option Jvm.ClassFile.FieldType)) ∈ lw_all := lw_g (lw_at lw_m3 239 rfl) rfl
theorem q813 : (Jvm.Cond.methodLink "SandKeepsSea$Order" (29 : Nat) ({ cls := "SandKeepsSea$Order", name := "act", desc := "()V" } : Jvm.MethodName)) ∈ lw_all := lw_g (lw_at lw_m4 0 rfl) rfl
theorem q814 : (Jvm.Cond.privateMethod ({ cls := "SandKeepsSea$Order", name := "act", desc := "()V" } : Jvm.MethodName)) ∈ lw_tbl := lw_at lw_m4 1 rfl
theorem q815 : (Jvm.Cond.instanceMethod ({ cls := "SandKeepsSea$Order", name := "act", desc := "()V" } : Jvm.MethodName)) ∈ lw_all := lw_g (lw_at lw_m4 2 rfl) rfl
theorem q816 : (Jvm.Cond.code ({ cls := "SandKeepsSea$Order", name := "act", desc := "()V" } : Jvm.MethodName) prog_5_method_3_code (2 : Nat) (Option.none : Option Jvm.ClassFile.FieldType)) ∈ lw_all := lw_g (lw_at lw_m4 3 rfl) rfl
theorem q817 : (Jvm.Cond.methodLink "SandKeepsSea$Order" (39 : Nat) ({ cls := "SandKeepsSea$Order", name := "here", desc := "()I" } : Jvm.MethodName)) ∈ lw_all := lw_g (lw_at lw_m4 4 rfl) rfl
theorem q818 : (Jvm.Cond.sameMethod "SandKeepsSea$Order" "SandKeepsSea$Words" "here" "()I") ∈ lw_all := lw_g (lw_at lw_m4 5 rfl) rfl
theorem q819 : (Jvm.Cond.selects "SandKeepsSea$Order" ({ cls := "SandKeepsSea$Order", name := "here", desc := "()I" } : Jvm.MethodName) ({ cls := "SandKeepsSea$Words", name := "here", desc := "()I" } : Jvm.MethodName)) ∈ lw_all := lw_g (lw_at lw_m4 6 rfl) rfl
theorem q820 : (Jvm.Cond.stringRef "SandKeepsSea$Order" (43 : Nat) "ghstmbw") ∈ lw_tbl := lw_at lw_m4 7 rfl
theorem q821 : (Jvm.Cond.methodLink "SandKeepsSea$Order" (45 : Nat) ({ cls := "java/lang/String", name := "indexOf", desc := "(I)I" } : Jvm.MethodName)) ∈ lw_all := lw_g (lw_at lw_m4 8 rfl) rfl
theorem q903 : (Jvm.Cond.methodLink "SandKeepsSea$Order" (51 : Nat) ({ cls := "SandKeepsSea$Order", name := "need", desc := "(Z)V" } : Jvm.MethodName)) ∈ lw_all := lw_g (lw_at lw_m4 90 rfl) rfl
theorem q904 : (Jvm.Cond.sameMethod "SandKeepsSea$Order" "SandKeepsSea$Words" "need" "(Z)V") ∈ lw_all := lw_g (lw_at lw_m4 91 rfl) rfl
theorem q905 : (Jvm.Cond.selects "SandKeepsSea$Order" ({ cls := "SandKeepsSea$Order", name := "need", desc := "(Z)V" } : Jvm.MethodName) ({ cls := "SandKeepsSea$Words", name := "need", desc := "(Z)V" } : Jvm.MethodName)) ∈ lw_all := lw_g (lw_at lw_m4 92 rfl) rfl
theorem q906 : (Jvm.Cond.methodLink "SandKeepsSea$Order" (55 : Nat) ({ cls := "SandKeepsSea$Order", name := "one", desc := "(CI)I" } : Jvm.MethodName)) ∈ lw_all := lw_g (lw_at lw_m4 93 rfl) rfl
theorem q907 : (Jvm.Cond.sameMethod "SandKeepsSea$Order" "SandKeepsSea$Words" "one" "(CI)I") ∈ lw_all := lw_g (lw_at lw_m4 94 rfl) rfl
theorem q909 : (Jvm.Cond.selects "SandKeepsSea$Order" ({ cls := "SandKeepsSea$Order", name := "one", desc := "(CI)I" } : Jvm.MethodName) ({ cls := "SandKeepsSea$Words", name := "one", desc := "(CI)I" } : Jvm.MethodName)) ∈ lw_all := lw_g (lw_at lw_m4 96 rfl) rfl
theorem q910 : (Jvm.Cond.methodLink "SandKeepsSea$Order" (36 : Nat) ({ cls := "SandKeepsSea$Order", name := "needEnd", desc := "()V" } : Jvm.MethodName)) ∈ lw_all := lw_g (lw_at lw_m4 97 rfl) rfl
theorem q911 : (Jvm.Cond.sameMethod "SandKeepsSea$Order" "SandKeepsSea$Words" "needEnd" "()V") ∈ lw_all := lw_g (lw_at lw_m4 98 rfl) rfl
theorem q912 : (Jvm.Cond.selects "SandKeepsSea$Order" ({ cls := "SandKeepsSea$Order", name := "needEnd", desc := "()V" } : Jvm.MethodName) ({ cls := "SandKeepsSea$Words", name := "needEnd", desc := "()V" } : Jvm.MethodName)) ∈ lw_all := lw_g (lw_at lw_m4 99 rfl) rfl
theorem q1874 : (Jvm.Cond.castable "SandKeepsSea$Order" "java/lang/Object") ∈ lw_tbl := lw_at lw_m8 101 rfl
theorem in_X8 : ∀ w ∈ wsX80, w ∈ lw_all := lw_in wsX80 [803, 804, 805, 806, 795, 797, 799, 801] (by decide +kernel) (by decide +kernel)

/-! SandKeepsSea$Sending -/
set_option maxRecDepth 100000
def RX9 : String := "SandKeepsSea$Sending"
abbrev cX9_init : ByteArray := prog_9_method_1_code
def yX9_init : MethodName := ⟨RX9, "<init>", "(LSandKeepsSea;I)V"⟩
def dkwX9_init_0 : List UInt8 := [42, 43, 181, 0, 3, 42, 183, 0, 9, 42, 28, 181, 0, 15, 177]
abbrev dktX9_init_0 : List UInt8 := dkwX9_init_0 ++ []
theorem dksX9_init_0 : cX9_init.data.toList.drop 0 = dktX9_init_0 := by decide +kernel
theorem dX9_init_0 : decode cX9_init 0 = .ok (.aload_n 0, 1) := dk_42 (dk_at dksX9_init_0 0 rfl rfl)
theorem dX9_init_1 : decode cX9_init 1 = .ok (.aload_n 1, 1) := dk_43 (dk_at dksX9_init_0 1 rfl rfl)
theorem dX9_init_2 : decode cX9_init 2 = .ok (.putfield 3, 3) := dk_181 0 3 (dk_at dksX9_init_0 2 rfl rfl)
theorem dX9_init_5 : decode cX9_init 5 = .ok (.aload_n 0, 1) := dk_42 (dk_at dksX9_init_0 5 rfl rfl)
theorem dX9_init_6 : decode cX9_init 6 = .ok (.invokespecial 9, 3) := dk_183 0 9 (dk_at dksX9_init_0 6 rfl rfl)
theorem dX9_init_9 : decode cX9_init 9 = .ok (.aload_n 0, 1) := dk_42 (dk_at dksX9_init_0 9 rfl rfl)
theorem dX9_init_10 : decode cX9_init 10 = .ok (.iload_n 2, 1) := dk_28 (dk_at dksX9_init_0 10 rfl rfl)
theorem dX9_init_11 : decode cX9_init 11 = .ok (.putfield 15, 3) := dk_181 0 15 (dk_at dksX9_init_0 11 rfl rfl)
theorem dX9_init_14 : decode cX9_init 14 = .ok (.return_, 1) := dk_177 (dk_at dksX9_init_0 14 rfl rfl)
abbrev cX9_margin : ByteArray := prog_9_method_3_code
def yX9_margin : MethodName := ⟨RX9, "margin", "(LSandKeepsSea$Beach;)I"⟩
def dkwX9_margin_4 : List UInt8 := [100, 184, 0, 46, 62, 132, 4, 1, 167, 255, 218, 29, 172]
abbrev dktX9_margin_4 : List UInt8 := dkwX9_margin_4 ++ []
def dkwX9_margin_3 : List UInt8 := [180, 0, 40, 162, 0, 32, 29, 42, 180, 0, 3, 42, 180, 0, 3, 180, 0, 19, 21, 4, 182, 0, 43, 28]
abbrev dktX9_margin_3 : List UInt8 := dkwX9_margin_3 ++ dktX9_margin_4
def dkwX9_margin_2 : List UInt8 := [180, 0, 19, 180, 0, 33, 182, 0, 36, 61, 18, 39, 62, 3, 54, 4, 21, 4, 42, 180, 0, 3]
abbrev dktX9_margin_2 : List UInt8 := dkwX9_margin_2 ++ dktX9_margin_3
def dkwX9_margin_1 : List UInt8 := [180, 0, 15, 182, 0, 29, 87, 42, 180, 0, 3, 42, 180, 0, 3, 180, 0, 19, 42, 180, 0, 3]
abbrev dktX9_margin_1 : List UInt8 := dkwX9_margin_1 ++ dktX9_margin_2
def dkwX9_margin_0 : List UInt8 := [42, 180, 0, 3, 180, 0, 19, 43, 182, 0, 23, 42, 180, 0, 3, 42, 180, 0, 3, 180, 0, 19, 42]
abbrev dktX9_margin_0 : List UInt8 := dkwX9_margin_0 ++ dktX9_margin_1
theorem dksX9_margin_0 : cX9_margin.data.toList.drop 0 = dktX9_margin_0 := by decide +kernel
theorem dksX9_margin_1 : cX9_margin.data.toList.drop 23 = dktX9_margin_1 := dk_seg dksX9_margin_0 23 rfl rfl
theorem dksX9_margin_2 : cX9_margin.data.toList.drop 45 = dktX9_margin_2 := dk_seg dksX9_margin_1 22 rfl rfl
theorem dksX9_margin_3 : cX9_margin.data.toList.drop 67 = dktX9_margin_3 := dk_seg dksX9_margin_2 22 rfl rfl
theorem dksX9_margin_4 : cX9_margin.data.toList.drop 91 = dktX9_margin_4 := dk_seg dksX9_margin_3 24 rfl rfl
theorem dX9_margin_0 : decode cX9_margin 0 = .ok (.aload_n 0, 1) := dk_42 (dk_at dksX9_margin_0 0 rfl rfl)
theorem dX9_margin_1 : decode cX9_margin 1 = .ok (.getfield 3, 3) := dk_180 0 3 (dk_at dksX9_margin_0 1 rfl rfl)
theorem dX9_margin_4 : decode cX9_margin 4 = .ok (.getfield 19, 3) := dk_180 0 19 (dk_at dksX9_margin_0 4 rfl rfl)
theorem dX9_margin_7 : decode cX9_margin 7 = .ok (.aload_n 1, 1) := dk_43 (dk_at dksX9_margin_0 7 rfl rfl)
theorem dX9_margin_8 : decode cX9_margin 8 = .ok (.invokevirtual 23, 3) := dk_182 0 23 (dk_at dksX9_margin_0 8 rfl rfl)
theorem dX9_margin_11 : decode cX9_margin 11 = .ok (.aload_n 0, 1) := dk_42 (dk_at dksX9_margin_0 11 rfl rfl)
theorem dX9_margin_12 : decode cX9_margin 12 = .ok (.getfield 3, 3) := dk_180 0 3 (dk_at dksX9_margin_0 12 rfl rfl)
theorem dX9_margin_15 : decode cX9_margin 15 = .ok (.aload_n 0, 1) := dk_42 (dk_at dksX9_margin_0 15 rfl rfl)
theorem dX9_margin_16 : decode cX9_margin 16 = .ok (.getfield 3, 3) := dk_180 0 3 (dk_at dksX9_margin_0 16 rfl rfl)
theorem dX9_margin_19 : decode cX9_margin 19 = .ok (.getfield 19, 3) := dk_180 0 19 (dk_at dksX9_margin_0 19 rfl rfl)
theorem dX9_margin_22 : decode cX9_margin 22 = .ok (.aload_n 0, 1) := dk_42 (dk_at dksX9_margin_0 22 rfl rfl)
theorem dX9_margin_23 : decode cX9_margin 23 = .ok (.getfield 15, 3) := dk_180 0 15 (dk_at dksX9_margin_1 0 rfl rfl)
theorem dX9_margin_26 : decode cX9_margin 26 = .ok (.invokevirtual 29, 3) := dk_182 0 29 (dk_at dksX9_margin_1 3 rfl rfl)
theorem dX9_margin_29 : decode cX9_margin 29 = .ok (.pop, 1) := dk_87 (dk_at dksX9_margin_1 6 rfl rfl)
theorem dX9_margin_30 : decode cX9_margin 30 = .ok (.aload_n 0, 1) := dk_42 (dk_at dksX9_margin_1 7 rfl rfl)
theorem dX9_margin_31 : decode cX9_margin 31 = .ok (.getfield 3, 3) := dk_180 0 3 (dk_at dksX9_margin_1 8 rfl rfl)
theorem dX9_margin_34 : decode cX9_margin 34 = .ok (.aload_n 0, 1) := dk_42 (dk_at dksX9_margin_1 11 rfl rfl)
theorem dX9_margin_35 : decode cX9_margin 35 = .ok (.getfield 3, 3) := dk_180 0 3 (dk_at dksX9_margin_1 12 rfl rfl)
theorem dX9_margin_38 : decode cX9_margin 38 = .ok (.getfield 19, 3) := dk_180 0 19 (dk_at dksX9_margin_1 15 rfl rfl)
theorem dX9_margin_41 : decode cX9_margin 41 = .ok (.aload_n 0, 1) := dk_42 (dk_at dksX9_margin_1 18 rfl rfl)
theorem dX9_margin_42 : decode cX9_margin 42 = .ok (.getfield 3, 3) := dk_180 0 3 (dk_at dksX9_margin_1 19 rfl rfl)
theorem dX9_margin_45 : decode cX9_margin 45 = .ok (.getfield 19, 3) := dk_180 0 19 (dk_at dksX9_margin_2 0 rfl rfl)
theorem dX9_margin_48 : decode cX9_margin 48 = .ok (.getfield 33, 3) := dk_180 0 33 (dk_at dksX9_margin_2 3 rfl rfl)
theorem dX9_margin_51 : decode cX9_margin 51 = .ok (.invokevirtual 36, 3) := dk_182 0 36 (dk_at dksX9_margin_2 6 rfl rfl)
theorem dX9_margin_54 : decode cX9_margin 54 = .ok (.istore_n 2, 1) := dk_61 (dk_at dksX9_margin_2 9 rfl rfl)
theorem dX9_margin_55 : decode cX9_margin 55 = .ok (.ldc 39, 2) := dk_18 39 (dk_at dksX9_margin_2 10 rfl rfl)
theorem dX9_margin_57 : decode cX9_margin 57 = .ok (.istore_n 3, 1) := dk_62 (dk_at dksX9_margin_2 12 rfl rfl)
theorem dX9_margin_58 : decode cX9_margin 58 = .ok (.iconst 0, 1) := dk_3 (dk_at dksX9_margin_2 13 rfl rfl)
theorem dX9_margin_59 : decode cX9_margin 59 = .ok (.istore 4, 2) := dk_54 4 (dk_at dksX9_margin_2 14 rfl rfl)
theorem dX9_margin_61 : decode cX9_margin 61 = .ok (.iload 4, 2) := dk_21 4 (dk_at dksX9_margin_2 16 rfl rfl)
theorem dX9_margin_63 : decode cX9_margin 63 = .ok (.aload_n 0, 1) := dk_42 (dk_at dksX9_margin_2 18 rfl rfl)
theorem dX9_margin_64 : decode cX9_margin 64 = .ok (.getfield 3, 3) := dk_180 0 3 (dk_at dksX9_margin_2 19 rfl rfl)
theorem dX9_margin_67 : decode cX9_margin 67 = .ok (.getfield 40, 3) := dk_180 0 40 (dk_at dksX9_margin_3 0 rfl rfl)
theorem dX9_margin_70 : decode cX9_margin 70 = .ok (.if_icmp .ge 32, 3) := dk_162 0 32 (dk_at dksX9_margin_3 3 rfl rfl)
theorem dX9_margin_73 : decode cX9_margin 73 = .ok (.iload_n 3, 1) := dk_29 (dk_at dksX9_margin_3 6 rfl rfl)
theorem dX9_margin_74 : decode cX9_margin 74 = .ok (.aload_n 0, 1) := dk_42 (dk_at dksX9_margin_3 7 rfl rfl)
theorem dX9_margin_75 : decode cX9_margin 75 = .ok (.getfield 3, 3) := dk_180 0 3 (dk_at dksX9_margin_3 8 rfl rfl)
theorem dX9_margin_78 : decode cX9_margin 78 = .ok (.aload_n 0, 1) := dk_42 (dk_at dksX9_margin_3 11 rfl rfl)
theorem dX9_margin_79 : decode cX9_margin 79 = .ok (.getfield 3, 3) := dk_180 0 3 (dk_at dksX9_margin_3 12 rfl rfl)
theorem dX9_margin_82 : decode cX9_margin 82 = .ok (.getfield 19, 3) := dk_180 0 19 (dk_at dksX9_margin_3 15 rfl rfl)
theorem dX9_margin_85 : decode cX9_margin 85 = .ok (.iload 4, 2) := dk_21 4 (dk_at dksX9_margin_3 18 rfl rfl)
theorem dX9_margin_87 : decode cX9_margin 87 = .ok (.invokevirtual 43, 3) := dk_182 0 43 (dk_at dksX9_margin_3 20 rfl rfl)
theorem dX9_margin_90 : decode cX9_margin 90 = .ok (.iload_n 2, 1) := dk_28 (dk_at dksX9_margin_3 23 rfl rfl)
theorem dX9_margin_91 : decode cX9_margin 91 = .ok (.isub, 1) := dk_100 (dk_at dksX9_margin_4 0 rfl rfl)
theorem dX9_margin_92 : decode cX9_margin 92 = .ok (.invokestatic 46, 3) := dk_184 0 46 (dk_at dksX9_margin_4 1 rfl rfl)
theorem dX9_margin_95 : decode cX9_margin 95 = .ok (.istore_n 3, 1) := dk_62 (dk_at dksX9_margin_4 4 rfl rfl)
theorem dX9_margin_96 : decode cX9_margin 96 = .ok (.iinc 4 1, 3) := dk_132 4 1 (dk_at dksX9_margin_4 5 rfl rfl)
theorem dX9_margin_99 : decode cX9_margin 99 = .ok (.goto (-38), 3) := dk_167 255 218 (dk_at dksX9_margin_4 8 rfl rfl)
theorem dX9_margin_102 : decode cX9_margin 102 = .ok (.iload_n 3, 1) := dk_29 (dk_at dksX9_margin_4 11 rfl rfl)
theorem dX9_margin_103 : decode cX9_margin 103 = .ok (.ireturn, 1) := dk_172 (dk_at dksX9_margin_4 12 rfl rfl)
theorem q116 : (Jvm.Cond.initialized "SandKeepsSea$Sending") ∈ lw_all := lw_g (lw_at lw_m1 23 rfl) rfl
theorem q150 : (Jvm.Cond.fieldLink "SandKeepsSea$Sending" (33 : Nat) "SandKeepsSea$Beach" "tide" "I") ∈ lw_all := lw_g (lw_at lw_m1 57 rfl) rfl
theorem q185 : (Jvm.Cond.fieldLinkNest "SandKeepsSea$Sending" (19 : Nat) "SandKeepsSea" "tried" "LSandKeepsSea$Beach;" "SandKeepsSea") ∈ lw_tbl := lw_at lw_m1 92 rfl
theorem q194 : (Jvm.Cond.fieldLinkNest "SandKeepsSea$Sending" (40 : Nat) "SandKeepsSea" "cells" "I" "SandKeepsSea") ∈ lw_tbl := lw_at lw_m1 101 rfl
theorem q973 : (Jvm.Cond.instanceMethod ({ cls := "SandKeepsSea$Sending", name := "<init>", desc := "(LSandKeepsSea;I)V" } : Jvm.MethodName)) ∈ lw_all := lw_g (lw_at lw_m4 160 rfl) rfl
theorem q974 : (Jvm.Cond.code ({ cls := "SandKeepsSea$Sending", name := "<init>", desc := "(LSandKeepsSea;I)V" } : Jvm.MethodName) prog_9_method_1_code (3 : Nat) (Option.none : Option Jvm.ClassFile.FieldType)) ∈ lw_all := lw_g (lw_at lw_m4 161 rfl) rfl
theorem q975 : (Jvm.Cond.methodLink "SandKeepsSea$Sending" (9 : Nat) ({ cls := "java/lang/Object", name := "<init>", desc := "()V" } : Jvm.MethodName)) ∈ lw_all := lw_g (lw_at lw_m4 162 rfl) rfl
theorem q982 : (Jvm.Cond.fieldLink "SandKeepsSea$Sending" (15 : Nat) "SandKeepsSea$Sending" "n" "I") ∈ lw_all := lw_g (lw_at lw_m4 169 rfl) rfl
theorem q983 : (Jvm.Cond.fieldLink "SandKeepsSea$Sending" (3 : Nat) "SandKeepsSea$Sending" "this$0" "LSandKeepsSea;") ∈ lw_all := lw_g (lw_at lw_m4 170 rfl) rfl
theorem q993 : (Jvm.Cond.soleField "SandKeepsSea$Sending" "n") ∈ lw_all := lw_g (lw_at lw_m4 180 rfl) rfl
theorem q995 : (Jvm.Cond.soleField "SandKeepsSea$Sending" "this$0") ∈ lw_all := lw_g (lw_at lw_m4 182 rfl) rfl
theorem q1011 : (Jvm.Cond.instanceMethod ({ cls := "SandKeepsSea$Sending", name := "margin", desc := "(LSandKeepsSea$Beach;)I" } : Jvm.MethodName)) ∈ lw_all := lw_g (lw_at lw_m4 198 rfl) rfl
theorem q1012 : (Jvm.Cond.code ({ cls := "SandKeepsSea$Sending", name := "margin", desc := "(LSandKeepsSea$Beach;)I" } : Jvm.MethodName) prog_9_method_3_code (5 : Nat) (Option.some Jvm.ClassFile.FieldType.int)) ∈ lw_all := lw_g (lw_at lw_m4 199 rfl) rfl
theorem q1013 : (Jvm.Cond.methodLink "SandKeepsSea$Sending" (23 : Nat) ({ cls := "SandKeepsSea$Beach", name := "be", desc := "(LSandKeepsSea$Beach;)V" } : Jvm.MethodName)) ∈ lw_all := lw_g (lw_at lw_m4 200 rfl) rfl
theorem q1014 : (Jvm.Cond.methodLinkNest "SandKeepsSea$Sending" (29 : Nat) ({ cls := "SandKeepsSea", name := "goSpells", desc := "(LSandKeepsSea$Beach;I)I" } : Jvm.MethodName) "SandKeepsSea") ∈ lw_tbl := lw_at lw_m4 201 rfl
theorem q1015 : (Jvm.Cond.methodLinkNest "SandKeepsSea$Sending" (36 : Nat) ({ cls := "SandKeepsSea", name := "levelOf", desc := "(LSandKeepsSea$Beach;I)I" } : Jvm.MethodName) "SandKeepsSea") ∈ lw_tbl := lw_at lw_m4 202 rfl
theorem q1016 : (Jvm.Cond.constant "SandKeepsSea$Sending" (39 : Nat) (100000 : Int32)) ∈ lw_all := lw_g (lw_at lw_m4 203 rfl) rfl
theorem q1017 : (Jvm.Cond.methodLinkNest "SandKeepsSea$Sending" (43 : Nat) ({ cls := "SandKeepsSea", name := "topOf", desc := "(LSandKeepsSea$Beach;I)I" } : Jvm.MethodName) "SandKeepsSea") ∈ lw_tbl := lw_at lw_m4 204 rfl
theorem q1018 : (Jvm.Cond.methodLink "SandKeepsSea$Sending" (46 : Nat) ({ cls := "java/lang/Math", name := "min", desc := "(II)I" } : Jvm.MethodName)) ∈ lw_all := lw_g (lw_at lw_m4 205 rfl) rfl
theorem q1053 : (Jvm.Cond.declares ({ cls := "SandKeepsSea$Sending", name := "margin", desc := "(LSandKeepsSea$Beach;)I" } : Jvm.MethodName)) ∈ lw_tbl := lw_at lw_m5 0 rfl
theorem q1863 : (Jvm.Cond.sameMethod "SandKeepsSea$Sending" "SandKeepsSea$Sending" "margin" "(LSandKeepsSea$Beach;)I") ∈ lw_all := lw_g (lw_at lw_m8 90 rfl) rfl

/-! SandKeepsSea$Crew -/
set_option maxRecDepth 100000
def RX10 : String := "SandKeepsSea$Crew"
def TX10 : u_T := fun k => match k with
  | 0 => ("SandKeepsSea$Sending", "n", "I", true)
  | 1 => ("SandKeepsSea$Sending", "this$0", "LSandKeepsSea;", true)
  | 2 => ("SandKeepsSea$Crew", "those", "I", true)
  | 3 => ("SandKeepsSea$Crew", "where", "[I", true)
  | 4 => ("SandKeepsSea$Crew", "fewest", "I", false)
  | _ => ("SandKeepsSea$Crew", "this$0", "LSandKeepsSea;", true)
def tyX10 : Nat → FieldType := fun k => match k with
  | 0 => .int
  | 1 => .object "SandKeepsSea"
  | 2 => .int
  | 3 => .array .int
  | 4 => .int
  | _ => .object "SandKeepsSea"
abbrev wsX100 : List Cond := u_ws RX10 TX10 6
-- two fields of one name: no nmX10
theorem tyX10_ok : ∀ k, k < 6 → parseFieldDescriptor (TX10 k).2.2.1 = some (tyX10 k) := by decide +kernel
abbrev cX10_init : ByteArray := prog_3_method_1_code
def yX10_init : MethodName := ⟨RX10, "<init>", "(LSandKeepsSea;II)V"⟩
def dkwX10_init_1 : List UInt8 := [181, 0, 20, 42, 28, 181, 0, 24, 177]
abbrev dktX10_init_1 : List UInt8 := dkwX10_init_1 ++ []
def dkwX10_init_0 : List UInt8 := [42, 43, 181, 0, 3, 42, 43, 29, 183, 0, 9, 42, 16, 8, 188, 10, 181, 0, 15, 42, 18, 19]
abbrev dktX10_init_0 : List UInt8 := dkwX10_init_0 ++ dktX10_init_1
theorem dksX10_init_0 : cX10_init.data.toList.drop 0 = dktX10_init_0 := by decide +kernel
theorem dksX10_init_1 : cX10_init.data.toList.drop 22 = dktX10_init_1 := dk_seg dksX10_init_0 22 rfl rfl
theorem dX10_init_0 : decode cX10_init 0 = .ok (.aload_n 0, 1) := dk_42 (dk_at dksX10_init_0 0 rfl rfl)
theorem dX10_init_1 : decode cX10_init 1 = .ok (.aload_n 1, 1) := dk_43 (dk_at dksX10_init_0 1 rfl rfl)
theorem dX10_init_2 : decode cX10_init 2 = .ok (.putfield 3, 3) := dk_181 0 3 (dk_at dksX10_init_0 2 rfl rfl)
theorem dX10_init_5 : decode cX10_init 5 = .ok (.aload_n 0, 1) := dk_42 (dk_at dksX10_init_0 5 rfl rfl)
theorem dX10_init_6 : decode cX10_init 6 = .ok (.aload_n 1, 1) := dk_43 (dk_at dksX10_init_0 6 rfl rfl)
theorem dX10_init_7 : decode cX10_init 7 = .ok (.iload_n 3, 1) := dk_29 (dk_at dksX10_init_0 7 rfl rfl)
theorem dX10_init_8 : decode cX10_init 8 = .ok (.invokespecial 9, 3) := dk_183 0 9 (dk_at dksX10_init_0 8 rfl rfl)
theorem dX10_init_11 : decode cX10_init 11 = .ok (.aload_n 0, 1) := dk_42 (dk_at dksX10_init_0 11 rfl rfl)
theorem dX10_init_12 : decode cX10_init 12 = .ok (.bipush 8, 2) := dk_16 8 (dk_at dksX10_init_0 12 rfl rfl)
theorem dX10_init_14 : decode cX10_init 14 = .ok (.newarray .int, 2) := dk_188_10 (dk_at dksX10_init_0 14 rfl rfl)
theorem dX10_init_16 : decode cX10_init 16 = .ok (.putfield 15, 3) := dk_181 0 15 (dk_at dksX10_init_0 16 rfl rfl)
theorem dX10_init_19 : decode cX10_init 19 = .ok (.aload_n 0, 1) := dk_42 (dk_at dksX10_init_0 19 rfl rfl)
theorem dX10_init_20 : decode cX10_init 20 = .ok (.ldc 19, 2) := dk_18 19 (dk_at dksX10_init_0 20 rfl rfl)
theorem dX10_init_22 : decode cX10_init 22 = .ok (.putfield 20, 3) := dk_181 0 20 (dk_at dksX10_init_1 0 rfl rfl)
theorem dX10_init_25 : decode cX10_init 25 = .ok (.aload_n 0, 1) := dk_42 (dk_at dksX10_init_1 3 rfl rfl)
theorem dX10_init_26 : decode cX10_init 26 = .ok (.iload_n 2, 1) := dk_28 (dk_at dksX10_init_1 4 rfl rfl)
theorem dX10_init_27 : decode cX10_init 27 = .ok (.putfield 24, 3) := dk_181 0 24 (dk_at dksX10_init_1 5 rfl rfl)
theorem dX10_init_30 : decode cX10_init 30 = .ok (.return_, 1) := dk_177 (dk_at dksX10_init_1 8 rfl rfl)
abbrev cX10_best : ByteArray := prog_3_method_4_code
def yX10_best : MethodName := ⟨RX10, "best", "()I"⟩
def dkwX10_best_1 : List UInt8 := [180, 0, 20, 18, 19, 160, 0, 8, 16, 254, 167, 0, 7, 42, 180, 0, 20, 172]
abbrev dktX10_best_1 : List UInt8 := dkwX10_best_1 ++ []
def dkwX10_best_0 : List UInt8 := [42, 180, 0, 3, 180, 0, 40, 42, 180, 0, 3, 180, 0, 70, 182, 0, 73, 42, 3, 3, 182, 0, 56, 42]
abbrev dktX10_best_0 : List UInt8 := dkwX10_best_0 ++ dktX10_best_1
theorem dksX10_best_0 : cX10_best.data.toList.drop 0 = dktX10_best_0 := by decide +kernel
theorem dksX10_best_1 : cX10_best.data.toList.drop 24 = dktX10_best_1 := dk_seg dksX10_best_0 24 rfl rfl
theorem dX10_best_0 : decode cX10_best 0 = .ok (.aload_n 0, 1) := dk_42 (dk_at dksX10_best_0 0 rfl rfl)
theorem dX10_best_1 : decode cX10_best 1 = .ok (.getfield 3, 3) := dk_180 0 3 (dk_at dksX10_best_0 1 rfl rfl)
theorem dX10_best_4 : decode cX10_best 4 = .ok (.getfield 40, 3) := dk_180 0 40 (dk_at dksX10_best_0 4 rfl rfl)
theorem dX10_best_7 : decode cX10_best 7 = .ok (.aload_n 0, 1) := dk_42 (dk_at dksX10_best_0 7 rfl rfl)
theorem dX10_best_8 : decode cX10_best 8 = .ok (.getfield 3, 3) := dk_180 0 3 (dk_at dksX10_best_0 8 rfl rfl)
theorem dX10_best_11 : decode cX10_best 11 = .ok (.getfield 70, 3) := dk_180 0 70 (dk_at dksX10_best_0 11 rfl rfl)
theorem dX10_best_14 : decode cX10_best 14 = .ok (.invokevirtual 73, 3) := dk_182 0 73 (dk_at dksX10_best_0 14 rfl rfl)
theorem dX10_best_17 : decode cX10_best 17 = .ok (.aload_n 0, 1) := dk_42 (dk_at dksX10_best_0 17 rfl rfl)
theorem dX10_best_18 : decode cX10_best 18 = .ok (.iconst 0, 1) := dk_3 (dk_at dksX10_best_0 18 rfl rfl)
theorem dX10_best_19 : decode cX10_best 19 = .ok (.iconst 0, 1) := dk_3 (dk_at dksX10_best_0 19 rfl rfl)
theorem dX10_best_20 : decode cX10_best 20 = .ok (.invokevirtual 56, 3) := dk_182 0 56 (dk_at dksX10_best_0 20 rfl rfl)
theorem dX10_best_23 : decode cX10_best 23 = .ok (.aload_n 0, 1) := dk_42 (dk_at dksX10_best_0 23 rfl rfl)
theorem dX10_best_24 : decode cX10_best 24 = .ok (.getfield 20, 3) := dk_180 0 20 (dk_at dksX10_best_1 0 rfl rfl)
theorem dX10_best_27 : decode cX10_best 27 = .ok (.ldc 19, 2) := dk_18 19 (dk_at dksX10_best_1 3 rfl rfl)
theorem dX10_best_29 : decode cX10_best 29 = .ok (.if_icmp .ne 8, 3) := dk_160 0 8 (dk_at dksX10_best_1 5 rfl rfl)
theorem dX10_best_32 : decode cX10_best 32 = .ok (.bipush (-2), 2) := dk_16 254 (dk_at dksX10_best_1 8 rfl rfl)
theorem dX10_best_34 : decode cX10_best 34 = .ok (.goto 7, 3) := dk_167 0 7 (dk_at dksX10_best_1 10 rfl rfl)
theorem dX10_best_37 : decode cX10_best 37 = .ok (.aload_n 0, 1) := dk_42 (dk_at dksX10_best_1 13 rfl rfl)
theorem dX10_best_38 : decode cX10_best 38 = .ok (.getfield 20, 3) := dk_180 0 20 (dk_at dksX10_best_1 14 rfl rfl)
theorem dX10_best_41 : decode cX10_best 41 = .ok (.ireturn, 1) := dk_172 (dk_at dksX10_best_1 17 rfl rfl)
abbrev cX10_send : ByteArray := prog_3_method_3_code
def yX10_send : MethodName := ⟨RX10, "send", "(II)V"⟩
def dkwX10_send_7 : List UInt8 := [180, 0, 45, 27, 2, 79, 177]
abbrev dktX10_send_7 : List UInt8 := dkwX10_send_7 ++ []
def dkwX10_send_6 : List UInt8 := [42, 27, 4, 96, 28, 4, 96, 182, 0, 56, 132, 3, 1, 167, 255, 193, 42, 180, 0, 3, 180, 0, 40]
abbrev dktX10_send_6 : List UInt8 := dkwX10_send_6 ++ dktX10_send_7
def dkwX10_send_5 : List UInt8 := [180, 0, 40, 180, 0, 67, 27, 46, 158, 0, 32, 42, 180, 0, 3, 180, 0, 40, 180, 0, 45, 27, 29, 79]
abbrev dktX10_send_5 : List UInt8 := dkwX10_send_5 ++ dktX10_send_6
def dkwX10_send_4 : List UInt8 := [180, 0, 3, 180, 0, 60, 162, 0, 58, 42, 180, 0, 24, 27, 184, 0, 63, 153, 0, 47, 42, 180, 0, 3]
abbrev dktX10_send_4 : List UInt8 := dkwX10_send_4 ++ dktX10_send_5
def dkwX10_send_3 : List UInt8 := [180, 0, 3, 180, 0, 40, 180, 0, 45, 27, 2, 79, 42, 27, 4, 96, 28, 182, 0, 56, 3, 62, 29, 42]
abbrev dktX10_send_3 : List UInt8 := dkwX10_send_3 ++ dktX10_send_4
def dkwX10_send_2 : List UInt8 := [180, 0, 40, 180, 0, 45, 3, 42, 180, 0, 15, 3, 42, 180, 0, 3, 180, 0, 37, 184, 0, 50, 177, 42]
abbrev dktX10_send_2 : List UInt8 := dkwX10_send_2 ++ dktX10_send_3
def dkwX10_send_1 : List UInt8 := [180, 0, 3, 180, 0, 40, 182, 0, 44, 156, 0, 4, 177, 42, 28, 181, 0, 20, 42, 180, 0, 3]
abbrev dktX10_send_1 : List UInt8 := dkwX10_send_1 ++ dktX10_send_2
def dkwX10_send_0 : List UInt8 := [28, 42, 180, 0, 20, 161, 0, 4, 177, 27, 42, 180, 0, 3, 180, 0, 37, 160, 0, 50, 42, 42]
abbrev dktX10_send_0 : List UInt8 := dkwX10_send_0 ++ dktX10_send_1
theorem dksX10_send_0 : cX10_send.data.toList.drop 0 = dktX10_send_0 := by decide +kernel
theorem dksX10_send_1 : cX10_send.data.toList.drop 22 = dktX10_send_1 := dk_seg dksX10_send_0 22 rfl rfl
theorem dksX10_send_2 : cX10_send.data.toList.drop 44 = dktX10_send_2 := dk_seg dksX10_send_1 22 rfl rfl
theorem dksX10_send_3 : cX10_send.data.toList.drop 68 = dktX10_send_3 := dk_seg dksX10_send_2 24 rfl rfl
theorem dksX10_send_4 : cX10_send.data.toList.drop 92 = dktX10_send_4 := dk_seg dksX10_send_3 24 rfl rfl
theorem dksX10_send_5 : cX10_send.data.toList.drop 116 = dktX10_send_5 := dk_seg dksX10_send_4 24 rfl rfl
theorem dksX10_send_6 : cX10_send.data.toList.drop 140 = dktX10_send_6 := dk_seg dksX10_send_5 24 rfl rfl
theorem dksX10_send_7 : cX10_send.data.toList.drop 163 = dktX10_send_7 := dk_seg dksX10_send_6 23 rfl rfl
theorem dX10_send_0 : decode cX10_send 0 = .ok (.iload_n 2, 1) := dk_28 (dk_at dksX10_send_0 0 rfl rfl)
theorem dX10_send_1 : decode cX10_send 1 = .ok (.aload_n 0, 1) := dk_42 (dk_at dksX10_send_0 1 rfl rfl)
theorem dX10_send_2 : decode cX10_send 2 = .ok (.getfield 20, 3) := dk_180 0 20 (dk_at dksX10_send_0 2 rfl rfl)
theorem dX10_send_5 : decode cX10_send 5 = .ok (.if_icmp .lt 4, 3) := dk_161 0 4 (dk_at dksX10_send_0 5 rfl rfl)
theorem dX10_send_8 : decode cX10_send 8 = .ok (.return_, 1) := dk_177 (dk_at dksX10_send_0 8 rfl rfl)
theorem dX10_send_9 : decode cX10_send 9 = .ok (.iload_n 1, 1) := dk_27 (dk_at dksX10_send_0 9 rfl rfl)
theorem dX10_send_10 : decode cX10_send 10 = .ok (.aload_n 0, 1) := dk_42 (dk_at dksX10_send_0 10 rfl rfl)
theorem dX10_send_11 : decode cX10_send 11 = .ok (.getfield 3, 3) := dk_180 0 3 (dk_at dksX10_send_0 11 rfl rfl)
theorem dX10_send_14 : decode cX10_send 14 = .ok (.getfield 37, 3) := dk_180 0 37 (dk_at dksX10_send_0 14 rfl rfl)
theorem dX10_send_17 : decode cX10_send 17 = .ok (.if_icmp .ne 50, 3) := dk_160 0 50 (dk_at dksX10_send_0 17 rfl rfl)
theorem dX10_send_20 : decode cX10_send 20 = .ok (.aload_n 0, 1) := dk_42 (dk_at dksX10_send_0 20 rfl rfl)
theorem dX10_send_21 : decode cX10_send 21 = .ok (.aload_n 0, 1) := dk_42 (dk_at dksX10_send_0 21 rfl rfl)
theorem dX10_send_22 : decode cX10_send 22 = .ok (.getfield 3, 3) := dk_180 0 3 (dk_at dksX10_send_1 0 rfl rfl)
theorem dX10_send_25 : decode cX10_send 25 = .ok (.getfield 40, 3) := dk_180 0 40 (dk_at dksX10_send_1 3 rfl rfl)
theorem dX10_send_28 : decode cX10_send 28 = .ok (.invokevirtual 44, 3) := dk_182 0 44 (dk_at dksX10_send_1 6 rfl rfl)
theorem dX10_send_31 : decode cX10_send 31 = .ok (.ifCond .ge 4, 3) := dk_156 0 4 (dk_at dksX10_send_1 9 rfl rfl)
theorem dX10_send_34 : decode cX10_send 34 = .ok (.return_, 1) := dk_177 (dk_at dksX10_send_1 12 rfl rfl)
theorem dX10_send_35 : decode cX10_send 35 = .ok (.aload_n 0, 1) := dk_42 (dk_at dksX10_send_1 13 rfl rfl)
theorem dX10_send_36 : decode cX10_send 36 = .ok (.iload_n 2, 1) := dk_28 (dk_at dksX10_send_1 14 rfl rfl)
theorem dX10_send_37 : decode cX10_send 37 = .ok (.putfield 20, 3) := dk_181 0 20 (dk_at dksX10_send_1 15 rfl rfl)
theorem dX10_send_40 : decode cX10_send 40 = .ok (.aload_n 0, 1) := dk_42 (dk_at dksX10_send_1 18 rfl rfl)
theorem dX10_send_41 : decode cX10_send 41 = .ok (.getfield 3, 3) := dk_180 0 3 (dk_at dksX10_send_1 19 rfl rfl)
theorem dX10_send_44 : decode cX10_send 44 = .ok (.getfield 40, 3) := dk_180 0 40 (dk_at dksX10_send_2 0 rfl rfl)
theorem dX10_send_47 : decode cX10_send 47 = .ok (.getfield 45, 3) := dk_180 0 45 (dk_at dksX10_send_2 3 rfl rfl)
theorem dX10_send_50 : decode cX10_send 50 = .ok (.iconst 0, 1) := dk_3 (dk_at dksX10_send_2 6 rfl rfl)
theorem dX10_send_51 : decode cX10_send 51 = .ok (.aload_n 0, 1) := dk_42 (dk_at dksX10_send_2 7 rfl rfl)
theorem dX10_send_52 : decode cX10_send 52 = .ok (.getfield 15, 3) := dk_180 0 15 (dk_at dksX10_send_2 8 rfl rfl)
theorem dX10_send_55 : decode cX10_send 55 = .ok (.iconst 0, 1) := dk_3 (dk_at dksX10_send_2 11 rfl rfl)
theorem dX10_send_56 : decode cX10_send 56 = .ok (.aload_n 0, 1) := dk_42 (dk_at dksX10_send_2 12 rfl rfl)
theorem dX10_send_57 : decode cX10_send 57 = .ok (.getfield 3, 3) := dk_180 0 3 (dk_at dksX10_send_2 13 rfl rfl)
theorem dX10_send_60 : decode cX10_send 60 = .ok (.getfield 37, 3) := dk_180 0 37 (dk_at dksX10_send_2 16 rfl rfl)
theorem dX10_send_63 : decode cX10_send 63 = .ok (.invokestatic 50, 3) := dk_184 0 50 (dk_at dksX10_send_2 19 rfl rfl)
theorem dX10_send_66 : decode cX10_send 66 = .ok (.return_, 1) := dk_177 (dk_at dksX10_send_2 22 rfl rfl)
theorem dX10_send_67 : decode cX10_send 67 = .ok (.aload_n 0, 1) := dk_42 (dk_at dksX10_send_2 23 rfl rfl)
theorem dX10_send_68 : decode cX10_send 68 = .ok (.getfield 3, 3) := dk_180 0 3 (dk_at dksX10_send_3 0 rfl rfl)
theorem dX10_send_71 : decode cX10_send 71 = .ok (.getfield 40, 3) := dk_180 0 40 (dk_at dksX10_send_3 3 rfl rfl)
theorem dX10_send_74 : decode cX10_send 74 = .ok (.getfield 45, 3) := dk_180 0 45 (dk_at dksX10_send_3 6 rfl rfl)
theorem dX10_send_77 : decode cX10_send 77 = .ok (.iload_n 1, 1) := dk_27 (dk_at dksX10_send_3 9 rfl rfl)
theorem dX10_send_78 : decode cX10_send 78 = .ok (.iconst (-1), 1) := dk_2 (dk_at dksX10_send_3 10 rfl rfl)
theorem dX10_send_79 : decode cX10_send 79 = .ok (.iastore, 1) := dk_79 (dk_at dksX10_send_3 11 rfl rfl)
theorem dX10_send_80 : decode cX10_send 80 = .ok (.aload_n 0, 1) := dk_42 (dk_at dksX10_send_3 12 rfl rfl)
theorem dX10_send_81 : decode cX10_send 81 = .ok (.iload_n 1, 1) := dk_27 (dk_at dksX10_send_3 13 rfl rfl)
theorem dX10_send_82 : decode cX10_send 82 = .ok (.iconst 1, 1) := dk_4 (dk_at dksX10_send_3 14 rfl rfl)
theorem dX10_send_83 : decode cX10_send 83 = .ok (.iadd, 1) := dk_96 (dk_at dksX10_send_3 15 rfl rfl)
theorem dX10_send_84 : decode cX10_send 84 = .ok (.iload_n 2, 1) := dk_28 (dk_at dksX10_send_3 16 rfl rfl)
theorem dX10_send_85 : decode cX10_send 85 = .ok (.invokevirtual 56, 3) := dk_182 0 56 (dk_at dksX10_send_3 17 rfl rfl)
theorem dX10_send_88 : decode cX10_send 88 = .ok (.iconst 0, 1) := dk_3 (dk_at dksX10_send_3 20 rfl rfl)
theorem dX10_send_89 : decode cX10_send 89 = .ok (.istore_n 3, 1) := dk_62 (dk_at dksX10_send_3 21 rfl rfl)
theorem dX10_send_90 : decode cX10_send 90 = .ok (.iload_n 3, 1) := dk_29 (dk_at dksX10_send_3 22 rfl rfl)
theorem dX10_send_91 : decode cX10_send 91 = .ok (.aload_n 0, 1) := dk_42 (dk_at dksX10_send_3 23 rfl rfl)
theorem dX10_send_92 : decode cX10_send 92 = .ok (.getfield 3, 3) := dk_180 0 3 (dk_at dksX10_send_4 0 rfl rfl)
theorem dX10_send_95 : decode cX10_send 95 = .ok (.getfield 60, 3) := dk_180 0 60 (dk_at dksX10_send_4 3 rfl rfl)
theorem dX10_send_98 : decode cX10_send 98 = .ok (.if_icmp .ge 58, 3) := dk_162 0 58 (dk_at dksX10_send_4 6 rfl rfl)
theorem dX10_send_101 : decode cX10_send 101 = .ok (.aload_n 0, 1) := dk_42 (dk_at dksX10_send_4 9 rfl rfl)
theorem dX10_send_102 : decode cX10_send 102 = .ok (.getfield 24, 3) := dk_180 0 24 (dk_at dksX10_send_4 10 rfl rfl)
theorem dX10_send_105 : decode cX10_send 105 = .ok (.iload_n 1, 1) := dk_27 (dk_at dksX10_send_4 13 rfl rfl)
theorem dX10_send_106 : decode cX10_send 106 = .ok (.invokestatic 63, 3) := dk_184 0 63 (dk_at dksX10_send_4 14 rfl rfl)
theorem dX10_send_109 : decode cX10_send 109 = .ok (.ifCond .eq 47, 3) := dk_153 0 47 (dk_at dksX10_send_4 17 rfl rfl)
theorem dX10_send_112 : decode cX10_send 112 = .ok (.aload_n 0, 1) := dk_42 (dk_at dksX10_send_4 20 rfl rfl)
theorem dX10_send_113 : decode cX10_send 113 = .ok (.getfield 3, 3) := dk_180 0 3 (dk_at dksX10_send_4 21 rfl rfl)
theorem dX10_send_116 : decode cX10_send 116 = .ok (.getfield 40, 3) := dk_180 0 40 (dk_at dksX10_send_5 0 rfl rfl)
theorem dX10_send_119 : decode cX10_send 119 = .ok (.getfield 67, 3) := dk_180 0 67 (dk_at dksX10_send_5 3 rfl rfl)
theorem dX10_send_122 : decode cX10_send 122 = .ok (.iload_n 1, 1) := dk_27 (dk_at dksX10_send_5 6 rfl rfl)
theorem dX10_send_123 : decode cX10_send 123 = .ok (.iaload, 1) := dk_46 (dk_at dksX10_send_5 7 rfl rfl)
theorem dX10_send_124 : decode cX10_send 124 = .ok (.ifCond .le 32, 3) := dk_158 0 32 (dk_at dksX10_send_5 8 rfl rfl)
theorem dX10_send_127 : decode cX10_send 127 = .ok (.aload_n 0, 1) := dk_42 (dk_at dksX10_send_5 11 rfl rfl)
theorem dX10_send_128 : decode cX10_send 128 = .ok (.getfield 3, 3) := dk_180 0 3 (dk_at dksX10_send_5 12 rfl rfl)
theorem dX10_send_131 : decode cX10_send 131 = .ok (.getfield 40, 3) := dk_180 0 40 (dk_at dksX10_send_5 15 rfl rfl)
theorem dX10_send_134 : decode cX10_send 134 = .ok (.getfield 45, 3) := dk_180 0 45 (dk_at dksX10_send_5 18 rfl rfl)
theorem dX10_send_137 : decode cX10_send 137 = .ok (.iload_n 1, 1) := dk_27 (dk_at dksX10_send_5 21 rfl rfl)
theorem dX10_send_138 : decode cX10_send 138 = .ok (.iload_n 3, 1) := dk_29 (dk_at dksX10_send_5 22 rfl rfl)
theorem dX10_send_139 : decode cX10_send 139 = .ok (.iastore, 1) := dk_79 (dk_at dksX10_send_5 23 rfl rfl)
theorem dX10_send_140 : decode cX10_send 140 = .ok (.aload_n 0, 1) := dk_42 (dk_at dksX10_send_6 0 rfl rfl)
theorem dX10_send_141 : decode cX10_send 141 = .ok (.iload_n 1, 1) := dk_27 (dk_at dksX10_send_6 1 rfl rfl)
theorem dX10_send_142 : decode cX10_send 142 = .ok (.iconst 1, 1) := dk_4 (dk_at dksX10_send_6 2 rfl rfl)
theorem dX10_send_143 : decode cX10_send 143 = .ok (.iadd, 1) := dk_96 (dk_at dksX10_send_6 3 rfl rfl)
theorem dX10_send_144 : decode cX10_send 144 = .ok (.iload_n 2, 1) := dk_28 (dk_at dksX10_send_6 4 rfl rfl)
theorem dX10_send_145 : decode cX10_send 145 = .ok (.iconst 1, 1) := dk_4 (dk_at dksX10_send_6 5 rfl rfl)
theorem dX10_send_146 : decode cX10_send 146 = .ok (.iadd, 1) := dk_96 (dk_at dksX10_send_6 6 rfl rfl)
theorem dX10_send_147 : decode cX10_send 147 = .ok (.invokevirtual 56, 3) := dk_182 0 56 (dk_at dksX10_send_6 7 rfl rfl)
theorem dX10_send_150 : decode cX10_send 150 = .ok (.iinc 3 1, 3) := dk_132 3 1 (dk_at dksX10_send_6 10 rfl rfl)
theorem dX10_send_153 : decode cX10_send 153 = .ok (.goto (-63), 3) := dk_167 255 193 (dk_at dksX10_send_6 13 rfl rfl)
theorem dX10_send_156 : decode cX10_send 156 = .ok (.aload_n 0, 1) := dk_42 (dk_at dksX10_send_6 16 rfl rfl)
theorem dX10_send_157 : decode cX10_send 157 = .ok (.getfield 3, 3) := dk_180 0 3 (dk_at dksX10_send_6 17 rfl rfl)
theorem dX10_send_160 : decode cX10_send 160 = .ok (.getfield 40, 3) := dk_180 0 40 (dk_at dksX10_send_6 20 rfl rfl)
theorem dX10_send_163 : decode cX10_send 163 = .ok (.getfield 45, 3) := dk_180 0 45 (dk_at dksX10_send_7 0 rfl rfl)
theorem dX10_send_166 : decode cX10_send 166 = .ok (.iload_n 1, 1) := dk_27 (dk_at dksX10_send_7 3 rfl rfl)
theorem dX10_send_167 : decode cX10_send 167 = .ok (.iconst (-1), 1) := dk_2 (dk_at dksX10_send_7 4 rfl rfl)
theorem dX10_send_168 : decode cX10_send 168 = .ok (.iastore, 1) := dk_79 (dk_at dksX10_send_7 5 rfl rfl)
theorem dX10_send_169 : decode cX10_send 169 = .ok (.return_, 1) := dk_177 (dk_at dksX10_send_7 6 rfl rfl)
abbrev cX10_margin : ByteArray := prog_3_method_2_code
def yX10_margin : MethodName := ⟨RX10, "margin", "(LSandKeepsSea$Beach;)I"⟩
def dkwX10_margin_0 : List UInt8 := [3, 42, 43, 183, 0, 27, 184, 0, 31, 172]
abbrev dktX10_margin_0 : List UInt8 := dkwX10_margin_0 ++ []
theorem dksX10_margin_0 : cX10_margin.data.toList.drop 0 = dktX10_margin_0 := by decide +kernel
theorem dX10_margin_0 : decode cX10_margin 0 = .ok (.iconst 0, 1) := dk_3 (dk_at dksX10_margin_0 0 rfl rfl)
theorem dX10_margin_1 : decode cX10_margin 1 = .ok (.aload_n 0, 1) := dk_42 (dk_at dksX10_margin_0 1 rfl rfl)
theorem dX10_margin_2 : decode cX10_margin 2 = .ok (.aload_n 1, 1) := dk_43 (dk_at dksX10_margin_0 2 rfl rfl)
theorem dX10_margin_3 : decode cX10_margin 3 = .ok (.invokespecial 27, 3) := dk_183 0 27 (dk_at dksX10_margin_0 3 rfl rfl)
theorem dX10_margin_6 : decode cX10_margin 6 = .ok (.invokestatic 31, 3) := dk_184 0 31 (dk_at dksX10_margin_0 6 rfl rfl)
theorem dX10_margin_9 : decode cX10_margin 9 = .ok (.ireturn, 1) := dk_172 (dk_at dksX10_margin_0 9 rfl rfl)
theorem q117 : (Jvm.Cond.initialized "SandKeepsSea$Crew") ∈ lw_all := lw_g (lw_at lw_m1 24 rfl) rfl
theorem q140 : (Jvm.Cond.fieldLink "SandKeepsSea$Crew" (45 : Nat) "SandKeepsSea$Beach" "at" "[I") ∈ lw_all := lw_g (lw_at lw_m1 47 rfl) rfl
theorem q143 : (Jvm.Cond.fieldLink "SandKeepsSea$Crew" (67 : Nat) "SandKeepsSea$Beach" "mood" "[I") ∈ lw_all := lw_g (lw_at lw_m1 50 rfl) rfl
theorem q181 : (Jvm.Cond.fieldLinkNest "SandKeepsSea$Crew" (70 : Nat) "SandKeepsSea" "now" "LSandKeepsSea$Beach;" "SandKeepsSea") ∈ lw_tbl := lw_at lw_m1 88 rfl
theorem q184 : (Jvm.Cond.fieldLinkNest "SandKeepsSea$Crew" (40 : Nat) "SandKeepsSea" "aside" "LSandKeepsSea$Beach;" "SandKeepsSea") ∈ lw_tbl := lw_at lw_m1 91 rfl
theorem q196 : (Jvm.Cond.fieldLinkNest "SandKeepsSea$Crew" (60 : Nat) "SandKeepsSea" "cells" "I" "SandKeepsSea") ∈ lw_tbl := lw_at lw_m1 103 rfl
theorem q198 : (Jvm.Cond.fieldLinkNest "SandKeepsSea$Crew" (37 : Nat) "SandKeepsSea" "kids" "I" "SandKeepsSea") ∈ lw_tbl := lw_at lw_m1 105 rfl
theorem q968 : (Jvm.Cond.instantiable "SandKeepsSea$Crew" (6 : Nat)) ∈ lw_all := lw_g (lw_at lw_m4 155 rfl) rfl
theorem q970 : (Jvm.Cond.instanceMethod ({ cls := "SandKeepsSea$Crew", name := "<init>", desc := "(LSandKeepsSea;II)V" } : Jvm.MethodName)) ∈ lw_all := lw_g (lw_at lw_m4 157 rfl) rfl
theorem q971 : (Jvm.Cond.code ({ cls := "SandKeepsSea$Crew", name := "<init>", desc := "(LSandKeepsSea;II)V" } : Jvm.MethodName) prog_3_method_1_code (4 : Nat) (Option.none : Option Jvm.ClassFile.FieldType)) ∈ lw_all := lw_g (lw_at lw_m4 158 rfl) rfl
theorem q972 : (Jvm.Cond.methodLink "SandKeepsSea$Crew" (9 : Nat) ({ cls := "SandKeepsSea$Sending", name := "<init>", desc := "(LSandKeepsSea;I)V" } : Jvm.MethodName)) ∈ lw_all := lw_g (lw_at lw_m4 159 rfl) rfl
theorem q976 : (Jvm.Cond.constant "SandKeepsSea$Crew" (19 : Nat) (100000 : Int32)) ∈ lw_all := lw_g (lw_at lw_m4 163 rfl) rfl
theorem q977 : (Jvm.Cond.fieldLink "SandKeepsSea$Crew" (24 : Nat) "SandKeepsSea$Crew" "those" "I") ∈ lw_all := lw_g (lw_at lw_m4 164 rfl) rfl
theorem q978 : (Jvm.Cond.fieldLink "SandKeepsSea$Crew" (15 : Nat) "SandKeepsSea$Crew" "where" "[I") ∈ lw_all := lw_g (lw_at lw_m4 165 rfl) rfl
theorem q980 : (Jvm.Cond.fieldLink "SandKeepsSea$Crew" (20 : Nat) "SandKeepsSea$Crew" "fewest" "I") ∈ lw_all := lw_g (lw_at lw_m4 167 rfl) rfl
theorem q981 : (Jvm.Cond.fieldLink "SandKeepsSea$Crew" (3 : Nat) "SandKeepsSea$Crew" "this$0" "LSandKeepsSea;") ∈ lw_all := lw_g (lw_at lw_m4 168 rfl) rfl
theorem q984 : (Jvm.Cond.laysFinal "SandKeepsSea$Crew" "SandKeepsSea$Crew" "those" "I") ∈ lw_all := lw_g (lw_at lw_m4 171 rfl) rfl
theorem q985 : (Jvm.Cond.soleField "SandKeepsSea$Crew" "those") ∈ lw_all := lw_g (lw_at lw_m4 172 rfl) rfl
theorem q986 : (Jvm.Cond.laysFinal "SandKeepsSea$Crew" "SandKeepsSea$Crew" "where" "[I") ∈ lw_all := lw_g (lw_at lw_m4 173 rfl) rfl
theorem q987 : (Jvm.Cond.soleField "SandKeepsSea$Crew" "where") ∈ lw_all := lw_g (lw_at lw_m4 174 rfl) rfl
theorem q988 : (Jvm.Cond.lays "SandKeepsSea$Crew" "SandKeepsSea$Crew" "fewest" "I") ∈ lw_all := lw_g (lw_at lw_m4 175 rfl) rfl
theorem q989 : (Jvm.Cond.soleField "SandKeepsSea$Crew" "fewest") ∈ lw_all := lw_g (lw_at lw_m4 176 rfl) rfl
theorem q990 : (Jvm.Cond.laysFinal "SandKeepsSea$Crew" "SandKeepsSea$Crew" "this$0" "LSandKeepsSea;") ∈ lw_all := lw_g (lw_at lw_m4 177 rfl) rfl
theorem q991 : (Jvm.Cond.soleField "SandKeepsSea$Crew" "this$0") ∈ lw_all := lw_g (lw_at lw_m4 178 rfl) rfl
theorem q992 : (Jvm.Cond.laysFinal "SandKeepsSea$Crew" "SandKeepsSea$Sending" "n" "I") ∈ lw_all := lw_g (lw_at lw_m4 179 rfl) rfl
theorem q994 : (Jvm.Cond.laysFinal "SandKeepsSea$Crew" "SandKeepsSea$Sending" "this$0" "LSandKeepsSea;") ∈ lw_all := lw_g (lw_at lw_m4 181 rfl) rfl
theorem q996 : (Jvm.Cond.superclass "SandKeepsSea$Crew" "SandKeepsSea$Sending") ∈ lw_all := lw_g (lw_at lw_m4 183 rfl) rfl
theorem q998 : (Jvm.Cond.instanceMethod ({ cls := "SandKeepsSea$Crew", name := "best", desc := "()I" } : Jvm.MethodName)) ∈ lw_all := lw_g (lw_at lw_m4 185 rfl) rfl
theorem q999 : (Jvm.Cond.selects "SandKeepsSea$Crew" ({ cls := "SandKeepsSea$Crew", name := "best", desc := "()I" } : Jvm.MethodName) ({ cls := "SandKeepsSea$Crew", name := "best", desc := "()I" } : Jvm.MethodName)) ∈ lw_all := lw_g (lw_at lw_m4 186 rfl) rfl
theorem q1000 : (Jvm.Cond.code ({ cls := "SandKeepsSea$Crew", name := "best", desc := "()I" } : Jvm.MethodName) prog_3_method_4_code (1 : Nat) (Option.some Jvm.ClassFile.FieldType.int)) ∈ lw_all := lw_g (lw_at lw_m4 187 rfl) rfl
theorem q1001 : (Jvm.Cond.methodLink "SandKeepsSea$Crew" (73 : Nat) ({ cls := "SandKeepsSea$Beach", name := "be", desc := "(LSandKeepsSea$Beach;)V" } : Jvm.MethodName)) ∈ lw_all := lw_g (lw_at lw_m4 188 rfl) rfl
theorem q1002 : (Jvm.Cond.methodLink "SandKeepsSea$Crew" (56 : Nat) ({ cls := "SandKeepsSea$Crew", name := "send", desc := "(II)V" } : Jvm.MethodName)) ∈ lw_all := lw_g (lw_at lw_m4 189 rfl) rfl
theorem q1003 : (Jvm.Cond.privateMethod ({ cls := "SandKeepsSea$Crew", name := "send", desc := "(II)V" } : Jvm.MethodName)) ∈ lw_tbl := lw_at lw_m4 190 rfl
theorem q1004 : (Jvm.Cond.instanceMethod ({ cls := "SandKeepsSea$Crew", name := "send", desc := "(II)V" } : Jvm.MethodName)) ∈ lw_all := lw_g (lw_at lw_m4 191 rfl) rfl
theorem q1005 : (Jvm.Cond.code ({ cls := "SandKeepsSea$Crew", name := "send", desc := "(II)V" } : Jvm.MethodName) prog_3_method_3_code (4 : Nat) (Option.none : Option Jvm.ClassFile.FieldType)) ∈ lw_all := lw_g (lw_at lw_m4 192 rfl) rfl
theorem q1006 : (Jvm.Cond.methodLink "SandKeepsSea$Crew" (44 : Nat) ({ cls := "SandKeepsSea$Crew", name := "margin", desc := "(LSandKeepsSea$Beach;)I" } : Jvm.MethodName)) ∈ lw_all := lw_g (lw_at lw_m4 193 rfl) rfl
theorem q1007 : (Jvm.Cond.instanceMethod ({ cls := "SandKeepsSea$Crew", name := "margin", desc := "(LSandKeepsSea$Beach;)I" } : Jvm.MethodName)) ∈ lw_all := lw_g (lw_at lw_m4 194 rfl) rfl
theorem q1008 : (Jvm.Cond.selects "SandKeepsSea$Crew" ({ cls := "SandKeepsSea$Crew", name := "margin", desc := "(LSandKeepsSea$Beach;)I" } : Jvm.MethodName) ({ cls := "SandKeepsSea$Crew", name := "margin", desc := "(LSandKeepsSea$Beach;)I" } : Jvm.MethodName)) ∈ lw_all := lw_g (lw_at lw_m4 195 rfl) rfl
theorem q1009 : (Jvm.Cond.code ({ cls := "SandKeepsSea$Crew", name := "margin", desc := "(LSandKeepsSea$Beach;)I" } : Jvm.MethodName) prog_3_method_2_code (2 : Nat) (Option.some Jvm.ClassFile.FieldType.int)) ∈ lw_all := lw_g (lw_at lw_m4 196 rfl) rfl
theorem q1010 : (Jvm.Cond.methodLink "SandKeepsSea$Crew" (27 : Nat) ({ cls := "SandKeepsSea$Sending", name := "margin", desc := "(LSandKeepsSea$Beach;)I" } : Jvm.MethodName)) ∈ lw_all := lw_g (lw_at lw_m4 197 rfl) rfl
theorem q1019 : (Jvm.Cond.methodLink "SandKeepsSea$Crew" (31 : Nat) ({ cls := "java/lang/Math", name := "min", desc := "(II)I" } : Jvm.MethodName)) ∈ lw_all := lw_g (lw_at lw_m4 206 rfl) rfl
theorem q1020 : (Jvm.Cond.methodLink "SandKeepsSea$Crew" (50 : Nat) ({ cls := "java/lang/System", name := "arraycopy", desc := "(Ljava/lang/Object;ILjava/lang/Object;II)V" } : Jvm.MethodName)) ∈ lw_all := lw_g (lw_at lw_m4 207 rfl) rfl
theorem q1021 : (Jvm.Cond.methodLinkNest "SandKeepsSea$Crew" (63 : Nat) ({ cls := "SandKeepsSea", name := "has", desc := "(II)Z" } : Jvm.MethodName) "SandKeepsSea") ∈ lw_tbl := lw_at lw_m4 208 rfl
theorem q1875 : (Jvm.Cond.castable "SandKeepsSea$Crew" "java/lang/Object") ∈ lw_tbl := lw_at lw_m8 102 rfl
theorem in_X10 : ∀ w ∈ wsX100, w ∈ lw_all := lw_in wsX100 [992, 994, 984, 986, 988, 990] (by decide +kernel) (by decide +kernel)

/-! SandKeepsSea$Post -/
set_option maxRecDepth 100000
def RX11 : String := "SandKeepsSea$Post"
def TX11 : u_T := fun k => match k with
  | 0 => ("SandKeepsSea$Sending", "n", "I", true)
  | 1 => ("SandKeepsSea$Sending", "this$0", "LSandKeepsSea;", true)
  | 2 => ("SandKeepsSea$Post", "kid", "I", true)
  | 3 => ("SandKeepsSea$Post", "most", "I", false)
  | _ => ("SandKeepsSea$Post", "this$0", "LSandKeepsSea;", true)
def tyX11 : Nat → FieldType := fun k => match k with
  | 0 => .int
  | 1 => .object "SandKeepsSea"
  | 2 => .int
  | 3 => .int
  | _ => .object "SandKeepsSea"
abbrev wsX110 : List Cond := u_ws RX11 TX11 5
-- two fields of one name: no nmX11
theorem tyX11_ok : ∀ k, k < 5 → parseFieldDescriptor (TX11 k).2.2.1 = some (tyX11 k) := by decide +kernel
abbrev cX11_init : ByteArray := prog_7_method_1_code
def yX11_init : MethodName := ⟨RX11, "<init>", "(LSandKeepsSea;II)V"⟩
def dkwX11_init_0 : List UInt8 := [42, 43, 181, 0, 3, 42, 43, 29, 183, 0, 9, 42, 18, 15, 181, 0, 16, 42, 28, 181, 0, 20, 177]
abbrev dktX11_init_0 : List UInt8 := dkwX11_init_0 ++ []
theorem dksX11_init_0 : cX11_init.data.toList.drop 0 = dktX11_init_0 := by decide +kernel
theorem dX11_init_0 : decode cX11_init 0 = .ok (.aload_n 0, 1) := dk_42 (dk_at dksX11_init_0 0 rfl rfl)
theorem dX11_init_1 : decode cX11_init 1 = .ok (.aload_n 1, 1) := dk_43 (dk_at dksX11_init_0 1 rfl rfl)
theorem dX11_init_2 : decode cX11_init 2 = .ok (.putfield 3, 3) := dk_181 0 3 (dk_at dksX11_init_0 2 rfl rfl)
theorem dX11_init_5 : decode cX11_init 5 = .ok (.aload_n 0, 1) := dk_42 (dk_at dksX11_init_0 5 rfl rfl)
theorem dX11_init_6 : decode cX11_init 6 = .ok (.aload_n 1, 1) := dk_43 (dk_at dksX11_init_0 6 rfl rfl)
theorem dX11_init_7 : decode cX11_init 7 = .ok (.iload_n 3, 1) := dk_29 (dk_at dksX11_init_0 7 rfl rfl)
theorem dX11_init_8 : decode cX11_init 8 = .ok (.invokespecial 9, 3) := dk_183 0 9 (dk_at dksX11_init_0 8 rfl rfl)
theorem dX11_init_11 : decode cX11_init 11 = .ok (.aload_n 0, 1) := dk_42 (dk_at dksX11_init_0 11 rfl rfl)
theorem dX11_init_12 : decode cX11_init 12 = .ok (.ldc 15, 2) := dk_18 15 (dk_at dksX11_init_0 12 rfl rfl)
theorem dX11_init_14 : decode cX11_init 14 = .ok (.putfield 16, 3) := dk_181 0 16 (dk_at dksX11_init_0 14 rfl rfl)
theorem dX11_init_17 : decode cX11_init 17 = .ok (.aload_n 0, 1) := dk_42 (dk_at dksX11_init_0 17 rfl rfl)
theorem dX11_init_18 : decode cX11_init 18 = .ok (.iload_n 2, 1) := dk_28 (dk_at dksX11_init_0 18 rfl rfl)
theorem dX11_init_19 : decode cX11_init 19 = .ok (.putfield 20, 3) := dk_181 0 20 (dk_at dksX11_init_0 19 rfl rfl)
theorem dX11_init_22 : decode cX11_init 22 = .ok (.return_, 1) := dk_177 (dk_at dksX11_init_0 22 rfl rfl)
abbrev cX11_best : ByteArray := prog_7_method_2_code
def yX11_best : MethodName := ⟨RX11, "best", "()I"⟩
def dkwX11_best_3 : List UInt8 := [28, 60, 42, 29, 181, 0, 16, 132, 2, 1, 167, 255, 196, 27, 172]
abbrev dktX11_best_3 : List UInt8 := dkwX11_best_3 ++ []
def dkwX11_best_2 : List UInt8 := [79, 42, 42, 180, 0, 3, 180, 0, 23, 182, 0, 43, 62, 29, 42, 180, 0, 16, 163, 0, 6, 167, 0, 10]
abbrev dktX11_best_2 : List UInt8 := dkwX11_best_2 ++ dktX11_best_3
def dkwX11_best_1 : List UInt8 := [180, 0, 3, 180, 0, 36, 162, 0, 55, 42, 180, 0, 3, 180, 0, 23, 180, 0, 39, 42, 180, 0, 20, 28]
abbrev dktX11_best_1 : List UInt8 := dkwX11_best_1 ++ dktX11_best_2
def dkwX11_best_0 : List UInt8 := [2, 60, 42, 180, 0, 3, 180, 0, 23, 42, 180, 0, 3, 180, 0, 27, 182, 0, 30, 3, 61, 28, 42]
abbrev dktX11_best_0 : List UInt8 := dkwX11_best_0 ++ dktX11_best_1
theorem dksX11_best_0 : cX11_best.data.toList.drop 0 = dktX11_best_0 := by decide +kernel
theorem dksX11_best_1 : cX11_best.data.toList.drop 23 = dktX11_best_1 := dk_seg dksX11_best_0 23 rfl rfl
theorem dksX11_best_2 : cX11_best.data.toList.drop 47 = dktX11_best_2 := dk_seg dksX11_best_1 24 rfl rfl
theorem dksX11_best_3 : cX11_best.data.toList.drop 71 = dktX11_best_3 := dk_seg dksX11_best_2 24 rfl rfl
theorem dX11_best_0 : decode cX11_best 0 = .ok (.iconst (-1), 1) := dk_2 (dk_at dksX11_best_0 0 rfl rfl)
theorem dX11_best_1 : decode cX11_best 1 = .ok (.istore_n 1, 1) := dk_60 (dk_at dksX11_best_0 1 rfl rfl)
theorem dX11_best_2 : decode cX11_best 2 = .ok (.aload_n 0, 1) := dk_42 (dk_at dksX11_best_0 2 rfl rfl)
theorem dX11_best_3 : decode cX11_best 3 = .ok (.getfield 3, 3) := dk_180 0 3 (dk_at dksX11_best_0 3 rfl rfl)
theorem dX11_best_6 : decode cX11_best 6 = .ok (.getfield 23, 3) := dk_180 0 23 (dk_at dksX11_best_0 6 rfl rfl)
theorem dX11_best_9 : decode cX11_best 9 = .ok (.aload_n 0, 1) := dk_42 (dk_at dksX11_best_0 9 rfl rfl)
theorem dX11_best_10 : decode cX11_best 10 = .ok (.getfield 3, 3) := dk_180 0 3 (dk_at dksX11_best_0 10 rfl rfl)
theorem dX11_best_13 : decode cX11_best 13 = .ok (.getfield 27, 3) := dk_180 0 27 (dk_at dksX11_best_0 13 rfl rfl)
theorem dX11_best_16 : decode cX11_best 16 = .ok (.invokevirtual 30, 3) := dk_182 0 30 (dk_at dksX11_best_0 16 rfl rfl)
theorem dX11_best_19 : decode cX11_best 19 = .ok (.iconst 0, 1) := dk_3 (dk_at dksX11_best_0 19 rfl rfl)
theorem dX11_best_20 : decode cX11_best 20 = .ok (.istore_n 2, 1) := dk_61 (dk_at dksX11_best_0 20 rfl rfl)
theorem dX11_best_21 : decode cX11_best 21 = .ok (.iload_n 2, 1) := dk_28 (dk_at dksX11_best_0 21 rfl rfl)
theorem dX11_best_22 : decode cX11_best 22 = .ok (.aload_n 0, 1) := dk_42 (dk_at dksX11_best_0 22 rfl rfl)
theorem dX11_best_23 : decode cX11_best 23 = .ok (.getfield 3, 3) := dk_180 0 3 (dk_at dksX11_best_1 0 rfl rfl)
theorem dX11_best_26 : decode cX11_best 26 = .ok (.getfield 36, 3) := dk_180 0 36 (dk_at dksX11_best_1 3 rfl rfl)
theorem dX11_best_29 : decode cX11_best 29 = .ok (.if_icmp .ge 55, 3) := dk_162 0 55 (dk_at dksX11_best_1 6 rfl rfl)
theorem dX11_best_32 : decode cX11_best 32 = .ok (.aload_n 0, 1) := dk_42 (dk_at dksX11_best_1 9 rfl rfl)
theorem dX11_best_33 : decode cX11_best 33 = .ok (.getfield 3, 3) := dk_180 0 3 (dk_at dksX11_best_1 10 rfl rfl)
theorem dX11_best_36 : decode cX11_best 36 = .ok (.getfield 23, 3) := dk_180 0 23 (dk_at dksX11_best_1 13 rfl rfl)
theorem dX11_best_39 : decode cX11_best 39 = .ok (.getfield 39, 3) := dk_180 0 39 (dk_at dksX11_best_1 16 rfl rfl)
theorem dX11_best_42 : decode cX11_best 42 = .ok (.aload_n 0, 1) := dk_42 (dk_at dksX11_best_1 19 rfl rfl)
theorem dX11_best_43 : decode cX11_best 43 = .ok (.getfield 20, 3) := dk_180 0 20 (dk_at dksX11_best_1 20 rfl rfl)
theorem dX11_best_46 : decode cX11_best 46 = .ok (.iload_n 2, 1) := dk_28 (dk_at dksX11_best_1 23 rfl rfl)
theorem dX11_best_47 : decode cX11_best 47 = .ok (.iastore, 1) := dk_79 (dk_at dksX11_best_2 0 rfl rfl)
theorem dX11_best_48 : decode cX11_best 48 = .ok (.aload_n 0, 1) := dk_42 (dk_at dksX11_best_2 1 rfl rfl)
theorem dX11_best_49 : decode cX11_best 49 = .ok (.aload_n 0, 1) := dk_42 (dk_at dksX11_best_2 2 rfl rfl)
theorem dX11_best_50 : decode cX11_best 50 = .ok (.getfield 3, 3) := dk_180 0 3 (dk_at dksX11_best_2 3 rfl rfl)
theorem dX11_best_53 : decode cX11_best 53 = .ok (.getfield 23, 3) := dk_180 0 23 (dk_at dksX11_best_2 6 rfl rfl)
theorem dX11_best_56 : decode cX11_best 56 = .ok (.invokevirtual 43, 3) := dk_182 0 43 (dk_at dksX11_best_2 9 rfl rfl)
theorem dX11_best_59 : decode cX11_best 59 = .ok (.istore_n 3, 1) := dk_62 (dk_at dksX11_best_2 12 rfl rfl)
theorem dX11_best_60 : decode cX11_best 60 = .ok (.iload_n 3, 1) := dk_29 (dk_at dksX11_best_2 13 rfl rfl)
theorem dX11_best_61 : decode cX11_best 61 = .ok (.aload_n 0, 1) := dk_42 (dk_at dksX11_best_2 14 rfl rfl)
theorem dX11_best_62 : decode cX11_best 62 = .ok (.getfield 16, 3) := dk_180 0 16 (dk_at dksX11_best_2 15 rfl rfl)
theorem dX11_best_65 : decode cX11_best 65 = .ok (.if_icmp .gt 6, 3) := dk_163 0 6 (dk_at dksX11_best_2 18 rfl rfl)
theorem dX11_best_68 : decode cX11_best 68 = .ok (.goto 10, 3) := dk_167 0 10 (dk_at dksX11_best_2 21 rfl rfl)
theorem dX11_best_71 : decode cX11_best 71 = .ok (.iload_n 2, 1) := dk_28 (dk_at dksX11_best_3 0 rfl rfl)
theorem dX11_best_72 : decode cX11_best 72 = .ok (.istore_n 1, 1) := dk_60 (dk_at dksX11_best_3 1 rfl rfl)
theorem dX11_best_73 : decode cX11_best 73 = .ok (.aload_n 0, 1) := dk_42 (dk_at dksX11_best_3 2 rfl rfl)
theorem dX11_best_74 : decode cX11_best 74 = .ok (.iload_n 3, 1) := dk_29 (dk_at dksX11_best_3 3 rfl rfl)
theorem dX11_best_75 : decode cX11_best 75 = .ok (.putfield 16, 3) := dk_181 0 16 (dk_at dksX11_best_3 4 rfl rfl)
theorem dX11_best_78 : decode cX11_best 78 = .ok (.iinc 2 1, 3) := dk_132 2 1 (dk_at dksX11_best_3 7 rfl rfl)
theorem dX11_best_81 : decode cX11_best 81 = .ok (.goto (-60), 3) := dk_167 255 196 (dk_at dksX11_best_3 10 rfl rfl)
theorem dX11_best_84 : decode cX11_best 84 = .ok (.iload_n 1, 1) := dk_27 (dk_at dksX11_best_3 13 rfl rfl)
theorem dX11_best_85 : decode cX11_best 85 = .ok (.ireturn, 1) := dk_172 (dk_at dksX11_best_3 14 rfl rfl)
theorem q118 : (Jvm.Cond.initialized "SandKeepsSea$Post") ∈ lw_all := lw_g (lw_at lw_m1 25 rfl) rfl
theorem q139 : (Jvm.Cond.fieldLink "SandKeepsSea$Post" (39 : Nat) "SandKeepsSea$Beach" "at" "[I") ∈ lw_all := lw_g (lw_at lw_m1 46 rfl) rfl
theorem q179 : (Jvm.Cond.fieldLinkNest "SandKeepsSea$Post" (27 : Nat) "SandKeepsSea" "now" "LSandKeepsSea$Beach;" "SandKeepsSea") ∈ lw_tbl := lw_at lw_m1 86 rfl
theorem q182 : (Jvm.Cond.fieldLinkNest "SandKeepsSea$Post" (23 : Nat) "SandKeepsSea" "aside" "LSandKeepsSea$Beach;" "SandKeepsSea") ∈ lw_tbl := lw_at lw_m1 89 rfl
theorem q193 : (Jvm.Cond.fieldLinkNest "SandKeepsSea$Post" (36 : Nat) "SandKeepsSea" "cells" "I" "SandKeepsSea") ∈ lw_tbl := lw_at lw_m1 100 rfl
theorem q1027 : (Jvm.Cond.instantiable "SandKeepsSea$Post" (5 : Nat)) ∈ lw_all := lw_g (lw_at lw_m4 214 rfl) rfl
theorem q1029 : (Jvm.Cond.instanceMethod ({ cls := "SandKeepsSea$Post", name := "<init>", desc := "(LSandKeepsSea;II)V" } : Jvm.MethodName)) ∈ lw_all := lw_g (lw_at lw_m4 216 rfl) rfl
theorem q1030 : (Jvm.Cond.code ({ cls := "SandKeepsSea$Post", name := "<init>", desc := "(LSandKeepsSea;II)V" } : Jvm.MethodName) prog_7_method_1_code (4 : Nat) (Option.none : Option Jvm.ClassFile.FieldType)) ∈ lw_all := lw_g (lw_at lw_m4 217 rfl) rfl
theorem q1031 : (Jvm.Cond.methodLink "SandKeepsSea$Post" (9 : Nat) ({ cls := "SandKeepsSea$Sending", name := "<init>", desc := "(LSandKeepsSea;I)V" } : Jvm.MethodName)) ∈ lw_all := lw_g (lw_at lw_m4 218 rfl) rfl
theorem q1032 : (Jvm.Cond.constant "SandKeepsSea$Post" (15 : Nat) (-100000 : Int32)) ∈ lw_all := lw_g (lw_at lw_m4 219 rfl) rfl
theorem q1033 : (Jvm.Cond.fieldLink "SandKeepsSea$Post" (20 : Nat) "SandKeepsSea$Post" "kid" "I") ∈ lw_all := lw_g (lw_at lw_m4 220 rfl) rfl
theorem q1034 : (Jvm.Cond.fieldLink "SandKeepsSea$Post" (16 : Nat) "SandKeepsSea$Post" "most" "I") ∈ lw_all := lw_g (lw_at lw_m4 221 rfl) rfl
theorem q1036 : (Jvm.Cond.fieldLink "SandKeepsSea$Post" (3 : Nat) "SandKeepsSea$Post" "this$0" "LSandKeepsSea;") ∈ lw_all := lw_g (lw_at lw_m4 223 rfl) rfl
theorem q1037 : (Jvm.Cond.laysFinal "SandKeepsSea$Post" "SandKeepsSea$Post" "kid" "I") ∈ lw_all := lw_g (lw_at lw_m4 224 rfl) rfl
theorem q1038 : (Jvm.Cond.soleField "SandKeepsSea$Post" "kid") ∈ lw_all := lw_g (lw_at lw_m4 225 rfl) rfl
theorem q1039 : (Jvm.Cond.lays "SandKeepsSea$Post" "SandKeepsSea$Post" "most" "I") ∈ lw_all := lw_g (lw_at lw_m4 226 rfl) rfl
theorem q1040 : (Jvm.Cond.soleField "SandKeepsSea$Post" "most") ∈ lw_all := lw_g (lw_at lw_m4 227 rfl) rfl
theorem q1041 : (Jvm.Cond.laysFinal "SandKeepsSea$Post" "SandKeepsSea$Post" "this$0" "LSandKeepsSea;") ∈ lw_all := lw_g (lw_at lw_m4 228 rfl) rfl
theorem q1042 : (Jvm.Cond.soleField "SandKeepsSea$Post" "this$0") ∈ lw_all := lw_g (lw_at lw_m4 229 rfl) rfl
theorem q1043 : (Jvm.Cond.laysFinal "SandKeepsSea$Post" "SandKeepsSea$Sending" "n" "I") ∈ lw_all := lw_g (lw_at lw_m4 230 rfl) rfl
theorem q1044 : (Jvm.Cond.laysFinal "SandKeepsSea$Post" "SandKeepsSea$Sending" "this$0" "LSandKeepsSea;") ∈ lw_all := lw_g (lw_at lw_m4 231 rfl) rfl
theorem q1045 : (Jvm.Cond.superclass "SandKeepsSea$Post" "SandKeepsSea$Sending") ∈ lw_all := lw_g (lw_at lw_m4 232 rfl) rfl
theorem q1047 : (Jvm.Cond.instanceMethod ({ cls := "SandKeepsSea$Post", name := "best", desc := "()I" } : Jvm.MethodName)) ∈ lw_all := lw_g (lw_at lw_m4 234 rfl) rfl
theorem q1048 : (Jvm.Cond.selects "SandKeepsSea$Post" ({ cls := "SandKeepsSea$Post", name := "best", desc := "()I" } : Jvm.MethodName) ({ cls := "SandKeepsSea$Post", name := "best", desc := "()I" } : Jvm.MethodName)) ∈ lw_all := lw_g (lw_at lw_m4 235 rfl) rfl
theorem q1049 : (Jvm.Cond.code ({ cls := "SandKeepsSea$Post", name := "best", desc := "()I" } : Jvm.MethodName) prog_7_method_2_code (4 : Nat) (Option.some Jvm.ClassFile.FieldType.int)) ∈ lw_all := lw_g (lw_at lw_m4 236 rfl) rfl
theorem q1050 : (Jvm.Cond.methodLink "SandKeepsSea$Post" (30 : Nat) ({ cls := "SandKeepsSea$Beach", name := "be", desc := "(LSandKeepsSea$Beach;)V" } : Jvm.MethodName)) ∈ lw_all := lw_g (lw_at lw_m4 237 rfl) rfl
theorem q1051 : (Jvm.Cond.methodLink "SandKeepsSea$Post" (43 : Nat) ({ cls := "SandKeepsSea$Post", name := "margin", desc := "(LSandKeepsSea$Beach;)I" } : Jvm.MethodName)) ∈ lw_all := lw_g (lw_at lw_m4 238 rfl) rfl
theorem q1052 : (Jvm.Cond.sameMethod "SandKeepsSea$Post" "SandKeepsSea$Sending" "margin" "(LSandKeepsSea$Beach;)I") ∈ lw_all := lw_g (lw_at lw_m4 239 rfl) rfl
theorem q1054 : (Jvm.Cond.selects "SandKeepsSea$Post" ({ cls := "SandKeepsSea$Post", name := "margin", desc := "(LSandKeepsSea$Beach;)I" } : Jvm.MethodName) ({ cls := "SandKeepsSea$Sending", name := "margin", desc := "(LSandKeepsSea$Beach;)I" } : Jvm.MethodName)) ∈ lw_all := lw_g (lw_at lw_m5 1 rfl) rfl
theorem q1876 : (Jvm.Cond.castable "SandKeepsSea$Post" "java/lang/Object") ∈ lw_tbl := lw_at lw_m8 103 rfl
theorem in_X11 : ∀ w ∈ wsX110, w ∈ lw_all := lw_in wsX110 [1043, 1044, 1037, 1039, 1041] (by decide +kernel) (by decide +kernel)

/-! SandKeepsSea$Page -/
set_option maxRecDepth 100000
def RX12 : String := "SandKeepsSea$Page"
def TX12 : u_T := fun k => match k with
  | 0 => ("SandKeepsSea$Page", "was", "LSandKeepsSea$Beach;", true)
  | 1 => ("SandKeepsSea$Page", "since", "I", true)
  | _ => ("SandKeepsSea$Page", "this$0", "LSandKeepsSea;", true)
def tyX12 : Nat → FieldType := fun k => match k with
  | 0 => .object "SandKeepsSea$Beach"
  | 1 => .int
  | _ => .object "SandKeepsSea"
abbrev wsX120 : List Cond := u_ws RX12 TX12 3
theorem nmX12 : ∀ a, a < 3 → ∀ b, b < 3 → a ≠ b → (TX12 a).2.1 ≠ (TX12 b).2.1 := by decide +kernel
theorem tyX12_ok : ∀ k, k < 3 → parseFieldDescriptor (TX12 k).2.2.1 = some (tyX12 k) := by decide +kernel
abbrev cX12_init : ByteArray := prog_6_method_1_code
def yX12_init : MethodName := ⟨RX12, "<init>", "(LSandKeepsSea;)V"⟩
def dkwX12_init_1 : List UInt8 := [180, 0, 1, 180, 0, 20, 181, 0, 26, 42, 180, 0, 16, 43, 180, 0, 29, 182, 0, 32, 177]
abbrev dktX12_init_1 : List UInt8 := dkwX12_init_1 ++ []
def dkwX12_init_0 : List UInt8 := [42, 43, 181, 0, 1, 42, 183, 0, 7, 42, 187, 0, 13, 89, 183, 0, 15, 181, 0, 16, 42, 42]
abbrev dktX12_init_0 : List UInt8 := dkwX12_init_0 ++ dktX12_init_1
theorem dksX12_init_0 : cX12_init.data.toList.drop 0 = dktX12_init_0 := by decide +kernel
theorem dksX12_init_1 : cX12_init.data.toList.drop 22 = dktX12_init_1 := dk_seg dksX12_init_0 22 rfl rfl
theorem dX12_init_0 : decode cX12_init 0 = .ok (.aload_n 0, 1) := dk_42 (dk_at dksX12_init_0 0 rfl rfl)
theorem dX12_init_1 : decode cX12_init 1 = .ok (.aload_n 1, 1) := dk_43 (dk_at dksX12_init_0 1 rfl rfl)
theorem dX12_init_2 : decode cX12_init 2 = .ok (.putfield 1, 3) := dk_181 0 1 (dk_at dksX12_init_0 2 rfl rfl)
theorem dX12_init_5 : decode cX12_init 5 = .ok (.aload_n 0, 1) := dk_42 (dk_at dksX12_init_0 5 rfl rfl)
theorem dX12_init_6 : decode cX12_init 6 = .ok (.invokespecial 7, 3) := dk_183 0 7 (dk_at dksX12_init_0 6 rfl rfl)
theorem dX12_init_9 : decode cX12_init 9 = .ok (.aload_n 0, 1) := dk_42 (dk_at dksX12_init_0 9 rfl rfl)
theorem dX12_init_10 : decode cX12_init 10 = .ok (.new 13, 3) := dk_187 0 13 (dk_at dksX12_init_0 10 rfl rfl)
theorem dX12_init_13 : decode cX12_init 13 = .ok (.dup, 1) := dk_89 (dk_at dksX12_init_0 13 rfl rfl)
theorem dX12_init_14 : decode cX12_init 14 = .ok (.invokespecial 15, 3) := dk_183 0 15 (dk_at dksX12_init_0 14 rfl rfl)
theorem dX12_init_17 : decode cX12_init 17 = .ok (.putfield 16, 3) := dk_181 0 16 (dk_at dksX12_init_0 17 rfl rfl)
theorem dX12_init_20 : decode cX12_init 20 = .ok (.aload_n 0, 1) := dk_42 (dk_at dksX12_init_0 20 rfl rfl)
theorem dX12_init_21 : decode cX12_init 21 = .ok (.aload_n 0, 1) := dk_42 (dk_at dksX12_init_0 21 rfl rfl)
theorem dX12_init_22 : decode cX12_init 22 = .ok (.getfield 1, 3) := dk_180 0 1 (dk_at dksX12_init_1 0 rfl rfl)
theorem dX12_init_25 : decode cX12_init 25 = .ok (.getfield 20, 3) := dk_180 0 20 (dk_at dksX12_init_1 3 rfl rfl)
theorem dX12_init_28 : decode cX12_init 28 = .ok (.putfield 26, 3) := dk_181 0 26 (dk_at dksX12_init_1 6 rfl rfl)
theorem dX12_init_31 : decode cX12_init 31 = .ok (.aload_n 0, 1) := dk_42 (dk_at dksX12_init_1 9 rfl rfl)
theorem dX12_init_32 : decode cX12_init 32 = .ok (.getfield 16, 3) := dk_180 0 16 (dk_at dksX12_init_1 10 rfl rfl)
theorem dX12_init_35 : decode cX12_init 35 = .ok (.aload_n 1, 1) := dk_43 (dk_at dksX12_init_1 13 rfl rfl)
theorem dX12_init_36 : decode cX12_init 36 = .ok (.getfield 29, 3) := dk_180 0 29 (dk_at dksX12_init_1 14 rfl rfl)
theorem dX12_init_39 : decode cX12_init 39 = .ok (.invokevirtual 32, 3) := dk_182 0 32 (dk_at dksX12_init_1 17 rfl rfl)
theorem dX12_init_42 : decode cX12_init 42 = .ok (.return_, 1) := dk_177 (dk_at dksX12_init_1 20 rfl rfl)
theorem q119 : (Jvm.Cond.initialized "SandKeepsSea$Page") ∈ lw_all := lw_g (lw_at lw_m1 26 rfl) rfl
theorem q178 : (Jvm.Cond.fieldLinkNest "SandKeepsSea$Page" (29 : Nat) "SandKeepsSea" "now" "LSandKeepsSea$Beach;" "SandKeepsSea") ∈ lw_tbl := lw_at lw_m1 85 rfl
theorem q203 : (Jvm.Cond.fieldLinkNest "SandKeepsSea$Page" (20 : Nat) "SandKeepsSea" "came" "I" "SandKeepsSea") ∈ lw_tbl := lw_at lw_m1 110 rfl
theorem q1140 : (Jvm.Cond.instantiable "SandKeepsSea$Page" (3 : Nat)) ∈ lw_all := lw_g (lw_at lw_m5 87 rfl) rfl
theorem q1142 : (Jvm.Cond.instanceMethod ({ cls := "SandKeepsSea$Page", name := "<init>", desc := "(LSandKeepsSea;)V" } : Jvm.MethodName)) ∈ lw_all := lw_g (lw_at lw_m5 89 rfl) rfl
theorem q1143 : (Jvm.Cond.code ({ cls := "SandKeepsSea$Page", name := "<init>", desc := "(LSandKeepsSea;)V" } : Jvm.MethodName) prog_6_method_1_code (2 : Nat) (Option.none : Option Jvm.ClassFile.FieldType)) ∈ lw_all := lw_g (lw_at lw_m5 90 rfl) rfl
theorem q1144 : (Jvm.Cond.methodLink "SandKeepsSea$Page" (7 : Nat) ({ cls := "java/lang/Object", name := "<init>", desc := "()V" } : Jvm.MethodName)) ∈ lw_all := lw_g (lw_at lw_m5 91 rfl) rfl
theorem q1145 : (Jvm.Cond.classLink "SandKeepsSea$Page" (13 : Nat) "SandKeepsSea$Beach") ∈ lw_all := lw_g (lw_at lw_m5 92 rfl) rfl
theorem q1146 : (Jvm.Cond.methodLinkNest "SandKeepsSea$Page" (15 : Nat) ({ cls := "SandKeepsSea$Beach", name := "<init>", desc := "()V" } : Jvm.MethodName) "SandKeepsSea") ∈ lw_tbl := lw_at lw_m5 93 rfl
theorem q1147 : (Jvm.Cond.methodLink "SandKeepsSea$Page" (32 : Nat) ({ cls := "SandKeepsSea$Beach", name := "be", desc := "(LSandKeepsSea$Beach;)V" } : Jvm.MethodName)) ∈ lw_all := lw_g (lw_at lw_m5 94 rfl) rfl
theorem q1148 : (Jvm.Cond.fieldLink "SandKeepsSea$Page" (16 : Nat) "SandKeepsSea$Page" "was" "LSandKeepsSea$Beach;") ∈ lw_all := lw_g (lw_at lw_m5 95 rfl) rfl
theorem q1150 : (Jvm.Cond.fieldLink "SandKeepsSea$Page" (26 : Nat) "SandKeepsSea$Page" "since" "I") ∈ lw_all := lw_g (lw_at lw_m5 97 rfl) rfl
theorem q1152 : (Jvm.Cond.fieldLink "SandKeepsSea$Page" (1 : Nat) "SandKeepsSea$Page" "this$0" "LSandKeepsSea;") ∈ lw_all := lw_g (lw_at lw_m5 99 rfl) rfl
theorem q1153 : (Jvm.Cond.laysFinal "SandKeepsSea$Page" "SandKeepsSea$Page" "was" "LSandKeepsSea$Beach;") ∈ lw_all := lw_g (lw_at lw_m5 100 rfl) rfl
theorem q1154 : (Jvm.Cond.soleField "SandKeepsSea$Page" "was") ∈ lw_all := lw_g (lw_at lw_m5 101 rfl) rfl
theorem q1155 : (Jvm.Cond.laysFinal "SandKeepsSea$Page" "SandKeepsSea$Page" "since" "I") ∈ lw_all := lw_g (lw_at lw_m5 102 rfl) rfl
theorem q1156 : (Jvm.Cond.soleField "SandKeepsSea$Page" "since") ∈ lw_all := lw_g (lw_at lw_m5 103 rfl) rfl
theorem q1157 : (Jvm.Cond.laysFinal "SandKeepsSea$Page" "SandKeepsSea$Page" "this$0" "LSandKeepsSea;") ∈ lw_all := lw_g (lw_at lw_m5 104 rfl) rfl
theorem q1158 : (Jvm.Cond.soleField "SandKeepsSea$Page" "this$0") ∈ lw_all := lw_g (lw_at lw_m5 105 rfl) rfl
theorem q1159 : (Jvm.Cond.superclass "SandKeepsSea$Page" "java/lang/Object") ∈ lw_all := lw_g (lw_at lw_m5 106 rfl) rfl
theorem q1877 : (Jvm.Cond.castable "SandKeepsSea$Page" "java/lang/Object") ∈ lw_tbl := lw_at lw_m8 104 rfl
theorem in_X12 : ∀ w ∈ wsX120, w ∈ lw_all := lw_in wsX120 [1153, 1155, 1157] (by decide +kernel) (by decide +kernel)
