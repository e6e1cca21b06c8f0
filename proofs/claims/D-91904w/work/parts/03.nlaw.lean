/-! SixWhoTurnLaw -/
set_option maxRecDepth 100000
def RX0 : String := "SixWhoTurnLaw"
abbrev cX0_row : ByteArray := method_3_code
def yX0_row : MethodName := ⟨RX0, "row", "(LSixWhoTurn;I[J)I"⟩
def dkwX0_row_0 : List UInt8 := [44, 3, 42, 27, 182, 0, 7, 133, 80, 167, 0, 6, 78, 4, 172, 3, 172]
abbrev dktX0_row_0 : List UInt8 := dkwX0_row_0 ++ []
theorem dksX0_row_0 : cX0_row.data.toList.drop 0 = dktX0_row_0 := by decide +kernel
theorem dX0_row_0 : decode cX0_row 0 = .ok (.aload_n 2, 1) := dk_44 (dk_at dksX0_row_0 0 rfl rfl)
theorem dX0_row_1 : decode cX0_row 1 = .ok (.iconst 0, 1) := dk_3 (dk_at dksX0_row_0 1 rfl rfl)
theorem dX0_row_2 : decode cX0_row 2 = .ok (.aload_n 0, 1) := dk_42 (dk_at dksX0_row_0 2 rfl rfl)
theorem dX0_row_3 : decode cX0_row 3 = .ok (.iload_n 1, 1) := dk_27 (dk_at dksX0_row_0 3 rfl rfl)
theorem dX0_row_4 : decode cX0_row 4 = .ok (.invokevirtual 7, 3) := dk_182 0 7 (dk_at dksX0_row_0 4 rfl rfl)
theorem dX0_row_7 : decode cX0_row 7 = .ok (.i2l, 1) := dk_133 (dk_at dksX0_row_0 7 rfl rfl)
theorem dX0_row_8 : decode cX0_row 8 = .ok (.lastore, 1) := dk_80 (dk_at dksX0_row_0 8 rfl rfl)
theorem dX0_row_9 : decode cX0_row 9 = .ok (.goto 6, 3) := dk_167 0 6 (dk_at dksX0_row_0 9 rfl rfl)
theorem dX0_row_12 : decode cX0_row 12 = .ok (.astore_n 3, 1) := dk_78 (dk_at dksX0_row_0 12 rfl rfl)
theorem dX0_row_13 : decode cX0_row 13 = .ok (.iconst 1, 1) := dk_4 (dk_at dksX0_row_0 13 rfl rfl)
theorem dX0_row_14 : decode cX0_row 14 = .ok (.ireturn, 1) := dk_172 (dk_at dksX0_row_0 14 rfl rfl)
theorem dX0_row_15 : decode cX0_row 15 = .ok (.iconst 0, 1) := dk_3 (dk_at dksX0_row_0 15 rfl rfl)
theorem dX0_row_16 : decode cX0_row 16 = .ok (.ireturn, 1) := dk_172 (dk_at dksX0_row_0 16 rfl rfl)
theorem q46 : (Jvm.Cond.initialized "SixWhoTurnLaw") ∈ lw_all := lw_g (lw_at lw_m1 0 rfl) rfl
theorem q67 : (Jvm.Cond.classLink "SixWhoTurnLaw" (8 : Nat) "SixWhoTurn") ∈ lw_all := lw_g (lw_at lw_m1 21 rfl) rfl
theorem q69 : (Jvm.Cond.methodLink "SixWhoTurnLaw" (15 : Nat) ({ cls := "SixWhoTurn", name := "<init>", desc := "()V" } : Jvm.MethodName)) ∈ lw_all := lw_g (lw_at lw_m1 23 rfl) rfl
theorem q233 : (Jvm.Cond.methodLink "SixWhoTurnLaw" (19 : Nat) ({ cls := "SixWhoTurn", name := "skill", desc := "(IIII)I" } : Jvm.MethodName)) ∈ lw_all := lw_g (lw_at lw_m1 187 rfl) rfl
theorem q249 : (Jvm.Cond.methodLink "SixWhoTurnLaw" (24 : Nat) ({ cls := "SixWhoTurn", name := "libre", desc := "(II)I" } : Jvm.MethodName)) ∈ lw_all := lw_g (lw_at lw_m1 203 rfl) rfl
theorem q254 : (Jvm.Cond.methodLink "SixWhoTurnLaw" (29 : Nat) ({ cls := "SixWhoTurn", name := "set", desc := "(II)I" } : Jvm.MethodName)) ∈ lw_all := lw_g (lw_at lw_m1 208 rfl) rfl
theorem q263 : (Jvm.Cond.methodLink "SixWhoTurnLaw" (33 : Nat) ({ cls := "SixWhoTurn", name := "lineUp", desc := "(IIIIIII)Z" } : Jvm.MethodName)) ∈ lw_all := lw_g (lw_at lw_m1 217 rfl) rfl
theorem q270 : (Jvm.Cond.methodLink "SixWhoTurnLaw" (38 : Nat) ({ cls := "SixWhoTurn", name := "begin", desc := "(I)I" } : Jvm.MethodName)) ∈ lw_all := lw_g (lw_at lw_m1 224 rfl) rfl
theorem q290 : (Jvm.Cond.methodLink "SixWhoTurnLaw" (42 : Nat) ({ cls := "SixWhoTurn", name := "rally", desc := "(I)I" } : Jvm.MethodName)) ∈ lw_all := lw_g (lw_at lw_m2 4 rfl) rfl
theorem q315 : (Jvm.Cond.methodLink "SixWhoTurnLaw" (46 : Nat) ({ cls := "SixWhoTurn", name := "may", desc := "(III)I" } : Jvm.MethodName)) ∈ lw_all := lw_g (lw_at lw_m2 29 rfl) rfl
theorem q327 : (Jvm.Cond.methodLink "SixWhoTurnLaw" (51 : Nat) ({ cls := "SixWhoTurn", name := "change", desc := "(III)I" } : Jvm.MethodName)) ∈ lw_all := lw_g (lw_at lw_m2 41 rfl) rfl
theorem q337 : (Jvm.Cond.methodLink "SixWhoTurnLaw" (55 : Nat) ({ cls := "SixWhoTurn", name := "free", desc := "(II)I" } : Jvm.MethodName)) ∈ lw_all := lw_g (lw_at lw_m2 51 rfl) rfl
theorem q341 : (Jvm.Cond.methodLink "SixWhoTurnLaw" (59 : Nat) ({ cls := "SixWhoTurn", name := "pause", desc := "(I)I" } : Jvm.MethodName)) ∈ lw_all := lw_g (lw_at lw_m2 55 rfl) rfl
theorem q345 : (Jvm.Cond.methodLink "SixWhoTurnLaw" (63 : Nat) ({ cls := "SixWhoTurn", name := "wrong", desc := "(I)I" } : Jvm.MethodName)) ∈ lw_all := lw_g (lw_at lw_m2 59 rfl) rfl
theorem q349 : (Jvm.Cond.methodLink "SixWhoTurnLaw" (67 : Nat) ({ cls := "SixWhoTurn", name := "at", desc := "(II)I" } : Jvm.MethodName)) ∈ lw_all := lw_g (lw_at lw_m2 63 rfl) rfl
theorem q356 : (Jvm.Cond.methodLink "SixWhoTurnLaw" (71 : Nat) ({ cls := "SixWhoTurn", name := "of", desc := "(II)I" } : Jvm.MethodName)) ∈ lw_all := lw_g (lw_at lw_m2 70 rfl) rfl
theorem q360 : (Jvm.Cond.methodLink "SixWhoTurnLaw" (75 : Nat) ({ cls := "SixWhoTurn", name := "count", desc := "(I)I" } : Jvm.MethodName)) ∈ lw_all := lw_g (lw_at lw_m2 74 rfl) rfl
theorem q364 : (Jvm.Cond.methodLink "SixWhoTurnLaw" (79 : Nat) ({ cls := "SixWhoTurn", name := "served", desc := "(II)I" } : Jvm.MethodName)) ∈ lw_all := lw_g (lw_at lw_m2 78 rfl) rfl
theorem q368 : (Jvm.Cond.methodLink "SixWhoTurnLaw" (83 : Nat) ({ cls := "SixWhoTurn", name := "feet", desc := "(IIII)Z" } : Jvm.MethodName)) ∈ lw_all := lw_g (lw_at lw_m2 82 rfl) rfl
theorem q373 : (Jvm.Cond.methodLink "SixWhoTurnLaw" (88 : Nat) ({ cls := "SixWhoTurn", name := "overlap", desc := "(I)I" } : Jvm.MethodName)) ∈ lw_all := lw_g (lw_at lw_m2 87 rfl) rfl
theorem q385 : (Jvm.Cond.methodLink "SixWhoTurnLaw" (92 : Nat) ({ cls := "SixWhoTurn", name := "sign", desc := "(I)I" } : Jvm.MethodName)) ∈ lw_all := lw_g (lw_at lw_m2 99 rfl) rfl
theorem q389 : (Jvm.Cond.methodLink "SixWhoTurnLaw" (96 : Nat) ({ cls := "SixWhoTurn", name := "end", desc := "(I)Z" } : Jvm.MethodName)) ∈ lw_all := lw_g (lw_at lw_m2 103 rfl) rfl
theorem q393 : (Jvm.Cond.methodLink "SixWhoTurnLaw" (101 : Nat) ({ cls := "SixWhoTurn", name := "sheet", desc := "()I" } : Jvm.MethodName)) ∈ lw_all := lw_g (lw_at lw_m2 107 rfl) rfl
theorem q619 : (Jvm.Cond.methodLink "SixWhoTurnLaw" (106 : Nat) ({ cls := "SixWhoTurn", name := "odds", desc := "(III)I" } : Jvm.MethodName)) ∈ lw_all := lw_g (lw_at lw_m3 93 rfl) rfl
theorem q636 : (Jvm.Cond.methodLink "SixWhoTurnLaw" (110 : Nat) ({ cls := "SixWhoTurn", name := "chance", desc := "()I" } : Jvm.MethodName)) ∈ lw_all := lw_g (lw_at lw_m3 110 rfl) rfl
theorem q668 : (Jvm.Cond.methodLink "SixWhoTurnLaw" (114 : Nat) ({ cls := "SixWhoTurn", name := "weight", desc := "()I" } : Jvm.MethodName)) ∈ lw_all := lw_g (lw_at lw_m3 142 rfl) rfl
theorem q672 : (Jvm.Cond.methodLink "SixWhoTurnLaw" (118 : Nat) ({ cls := "SixWhoTurn", name := "turn", desc := "(II)I" } : Jvm.MethodName)) ∈ lw_all := lw_g (lw_at lw_m3 146 rfl) rfl
theorem q676 : (Jvm.Cond.methodLink "SixWhoTurnLaw" (122 : Nat) ({ cls := "SixWhoTurn", name := "advice", desc := "(I)I" } : Jvm.MethodName)) ∈ lw_all := lw_g (lw_at lw_m3 150 rfl) rfl
theorem q680 : (Jvm.Cond.methodLink "SixWhoTurnLaw" (126 : Nat) ({ cls := "SixWhoTurnLaw", name := "row", desc := "(LSixWhoTurn;I[J)I" } : Jvm.MethodName)) ∈ lw_all := lw_g (lw_at lw_m3 154 rfl) rfl
theorem q681 : (Jvm.Cond.static ({ cls := "SixWhoTurnLaw", name := "row", desc := "(LSixWhoTurn;I[J)I" } : Jvm.MethodName)) ∈ lw_all := lw_g (lw_at lw_m3 155 rfl) rfl
theorem q682 : (Jvm.Cond.codeWith ({ cls := "SixWhoTurnLaw", name := "row", desc := "(LSixWhoTurn;I[J)I" } : Jvm.MethodName) method_3_code (4 : Nat) (Option.some Jvm.ClassFile.FieldType.int) [((0 : Nat), (9 : Nat), (12 : Nat), (13 : Nat))]) ∈ lw_all := lw_g (lw_at lw_m3 156 rfl) rfl
theorem q683 : (Jvm.Cond.classLink "SixWhoTurnLaw" (13 : Nat) "java/util/NoSuchElementException") ∈ lw_all := lw_g (lw_at lw_m3 157 rfl) rfl
theorem q684 : (Jvm.Cond.methodLink "SixWhoTurnLaw" (7 : Nat) ({ cls := "SixWhoTurn", name := "row", desc := "(I)I" } : Jvm.MethodName)) ∈ lw_all := lw_g (lw_at lw_m3 158 rfl) rfl
theorem q749 : (Jvm.Cond.classLink "SixWhoTurnLaw" (16 : Nat) "SixWhoTurnModel") ∈ lw_all := lw_g (lw_at lw_m3 223 rfl) rfl
theorem q751 : (Jvm.Cond.methodLink "SixWhoTurnLaw" (18 : Nat) ({ cls := "SixWhoTurnModel", name := "<init>", desc := "()V" } : Jvm.MethodName)) ∈ lw_all := lw_g (lw_at lw_m3 225 rfl) rfl
theorem q820 : (Jvm.Cond.methodLink "SixWhoTurnLaw" (132 : Nat) ({ cls := "SixWhoTurnModel", name := "thrown", desc := "()I" } : Jvm.MethodName)) ∈ lw_all := lw_g (lw_at lw_m4 54 rfl) rfl
theorem q824 : (Jvm.Cond.methodLink "SixWhoTurnLaw" (23 : Nat) ({ cls := "SixWhoTurnModel", name := "skill", desc := "(IIII)I" } : Jvm.MethodName)) ∈ lw_all := lw_g (lw_at lw_m4 58 rfl) rfl
theorem q841 : (Jvm.Cond.methodLink "SixWhoTurnLaw" (28 : Nat) ({ cls := "SixWhoTurnModel", name := "libre", desc := "(II)I" } : Jvm.MethodName)) ∈ lw_all := lw_g (lw_at lw_m4 75 rfl) rfl
theorem q849 : (Jvm.Cond.methodLink "SixWhoTurnLaw" (32 : Nat) ({ cls := "SixWhoTurnModel", name := "set", desc := "(II)I" } : Jvm.MethodName)) ∈ lw_all := lw_g (lw_at lw_m4 83 rfl) rfl
theorem q857 : (Jvm.Cond.methodLink "SixWhoTurnLaw" (37 : Nat) ({ cls := "SixWhoTurnModel", name := "lineUp", desc := "(IIIIIII)Z" } : Jvm.MethodName)) ∈ lw_all := lw_g (lw_at lw_m4 91 rfl) rfl
theorem q861 : (Jvm.Cond.methodLink "SixWhoTurnLaw" (41 : Nat) ({ cls := "SixWhoTurnModel", name := "begin", desc := "(I)I" } : Jvm.MethodName)) ∈ lw_all := lw_g (lw_at lw_m4 95 rfl) rfl
theorem q873 : (Jvm.Cond.methodLink "SixWhoTurnLaw" (45 : Nat) ({ cls := "SixWhoTurnModel", name := "rally", desc := "(I)I" } : Jvm.MethodName)) ∈ lw_all := lw_g (lw_at lw_m4 107 rfl) rfl
theorem q897 : (Jvm.Cond.methodLink "SixWhoTurnLaw" (50 : Nat) ({ cls := "SixWhoTurnModel", name := "may", desc := "(III)I" } : Jvm.MethodName)) ∈ lw_all := lw_g (lw_at lw_m4 131 rfl) rfl
theorem q909 : (Jvm.Cond.methodLink "SixWhoTurnLaw" (54 : Nat) ({ cls := "SixWhoTurnModel", name := "change", desc := "(III)I" } : Jvm.MethodName)) ∈ lw_all := lw_g (lw_at lw_m4 143 rfl) rfl
theorem q917 : (Jvm.Cond.methodLink "SixWhoTurnLaw" (58 : Nat) ({ cls := "SixWhoTurnModel", name := "free", desc := "(II)I" } : Jvm.MethodName)) ∈ lw_all := lw_g (lw_at lw_m4 151 rfl) rfl
theorem q925 : (Jvm.Cond.methodLink "SixWhoTurnLaw" (62 : Nat) ({ cls := "SixWhoTurnModel", name := "pause", desc := "(I)I" } : Jvm.MethodName)) ∈ lw_all := lw_g (lw_at lw_m4 159 rfl) rfl
theorem q933 : (Jvm.Cond.methodLink "SixWhoTurnLaw" (66 : Nat) ({ cls := "SixWhoTurnModel", name := "wrong", desc := "(I)I" } : Jvm.MethodName)) ∈ lw_all := lw_g (lw_at lw_m4 167 rfl) rfl
theorem q937 : (Jvm.Cond.methodLink "SixWhoTurnLaw" (70 : Nat) ({ cls := "SixWhoTurnModel", name := "at", desc := "(II)I" } : Jvm.MethodName)) ∈ lw_all := lw_g (lw_at lw_m4 171 rfl) rfl
theorem q941 : (Jvm.Cond.methodLink "SixWhoTurnLaw" (74 : Nat) ({ cls := "SixWhoTurnModel", name := "of", desc := "(II)I" } : Jvm.MethodName)) ∈ lw_all := lw_g (lw_at lw_m4 175 rfl) rfl
theorem q945 : (Jvm.Cond.methodLink "SixWhoTurnLaw" (78 : Nat) ({ cls := "SixWhoTurnModel", name := "count", desc := "(I)I" } : Jvm.MethodName)) ∈ lw_all := lw_g (lw_at lw_m4 179 rfl) rfl
theorem q949 : (Jvm.Cond.methodLink "SixWhoTurnLaw" (82 : Nat) ({ cls := "SixWhoTurnModel", name := "served", desc := "(II)I" } : Jvm.MethodName)) ∈ lw_all := lw_g (lw_at lw_m4 183 rfl) rfl
theorem q953 : (Jvm.Cond.methodLink "SixWhoTurnLaw" (87 : Nat) ({ cls := "SixWhoTurnModel", name := "feet", desc := "(IIII)Z" } : Jvm.MethodName)) ∈ lw_all := lw_g (lw_at lw_m4 187 rfl) rfl
theorem q957 : (Jvm.Cond.methodLink "SixWhoTurnLaw" (91 : Nat) ({ cls := "SixWhoTurnModel", name := "overlap", desc := "(I)I" } : Jvm.MethodName)) ∈ lw_all := lw_g (lw_at lw_m4 191 rfl) rfl
theorem q965 : (Jvm.Cond.methodLink "SixWhoTurnLaw" (95 : Nat) ({ cls := "SixWhoTurnModel", name := "sign", desc := "(I)I" } : Jvm.MethodName)) ∈ lw_all := lw_g (lw_at lw_m4 199 rfl) rfl
theorem q969 : (Jvm.Cond.methodLink "SixWhoTurnLaw" (100 : Nat) ({ cls := "SixWhoTurnModel", name := "end", desc := "(I)Z" } : Jvm.MethodName)) ∈ lw_all := lw_g (lw_at lw_m4 203 rfl) rfl
theorem q973 : (Jvm.Cond.methodLink "SixWhoTurnLaw" (105 : Nat) ({ cls := "SixWhoTurnModel", name := "sheet", desc := "()I" } : Jvm.MethodName)) ∈ lw_all := lw_g (lw_at lw_m4 207 rfl) rfl
theorem q997 : (Jvm.Cond.methodLink "SixWhoTurnLaw" (109 : Nat) ({ cls := "SixWhoTurnModel", name := "odds", desc := "(III)I" } : Jvm.MethodName)) ∈ lw_all := lw_g (lw_at lw_m4 231 rfl) rfl
theorem q1018 : (Jvm.Cond.methodLink "SixWhoTurnLaw" (113 : Nat) ({ cls := "SixWhoTurnModel", name := "chance", desc := "()I" } : Jvm.MethodName)) ∈ lw_all := lw_g (lw_at lw_m5 12 rfl) rfl
theorem q1039 : (Jvm.Cond.methodLink "SixWhoTurnLaw" (117 : Nat) ({ cls := "SixWhoTurnModel", name := "weight", desc := "()I" } : Jvm.MethodName)) ∈ lw_all := lw_g (lw_at lw_m5 33 rfl) rfl
theorem q1043 : (Jvm.Cond.methodLink "SixWhoTurnLaw" (121 : Nat) ({ cls := "SixWhoTurnModel", name := "turn", desc := "(II)I" } : Jvm.MethodName)) ∈ lw_all := lw_g (lw_at lw_m5 37 rfl) rfl
theorem q1047 : (Jvm.Cond.methodLink "SixWhoTurnLaw" (125 : Nat) ({ cls := "SixWhoTurnModel", name := "advice", desc := "(I)I" } : Jvm.MethodName)) ∈ lw_all := lw_g (lw_at lw_m5 41 rfl) rfl
theorem q1051 : (Jvm.Cond.methodLink "SixWhoTurnLaw" (131 : Nat) ({ cls := "SixWhoTurnModel", name := "row", desc := "(I)I" } : Jvm.MethodName)) ∈ lw_all := lw_g (lw_at lw_m5 45 rfl) rfl
theorem q51 : (Jvm.Cond.initialized "java/lang/System") ∈ lw_all := lw_g (lw_at lw_m1 5 rfl) rfl
set_option maxRecDepth 100000
theorem q268 : (Jvm.Cond.static ({ cls := "java/lang/System", name := "arraycopy", desc := "(Ljava/lang/Object;ILjava/lang/Object;II)V" } : Jvm.MethodName)) ∈ lw_all := lw_g (lw_at lw_m1 222 rfl) rfl
theorem q269 : (Jvm.Cond.native ({ cls := "java/lang/System", name := "arraycopy", desc := "(Ljava/lang/Object;ILjava/lang/Object;II)V" } : Jvm.MethodName)) ∈ lw_all := lw_g (lw_at lw_m1 223 rfl) rfl
theorem q76 : (Jvm.Cond.arrayOver (Jvm.ClassFile.FieldType.object "SixWhoTurn$Side")) ∈ lw_tbl := lw_at lw_m1 30 rfl
set_option maxRecDepth 100000
theorem q148 : (Jvm.Cond.arrayClass Jvm.ClassFile.FieldType.int) ∈ lw_all := lw_g (lw_at lw_m1 102 rfl) rfl
theorem q149 : (Jvm.Cond.arrayClass Jvm.ClassFile.FieldType.boolean) ∈ lw_all := lw_g (lw_at lw_m1 103 rfl) rfl
theorem q151 : (Jvm.Cond.arrayOver (Jvm.ClassFile.FieldType.array (Jvm.ClassFile.FieldType.array Jvm.ClassFile.FieldType.int))) ∈ lw_tbl := lw_at lw_m1 105 rfl
theorem q152 : (Jvm.Cond.arrayOver (Jvm.ClassFile.FieldType.array Jvm.ClassFile.FieldType.int)) ∈ lw_tbl := lw_at lw_m1 106 rfl
theorem q587 : (Jvm.Cond.arrayClass Jvm.ClassFile.FieldType.byte) ∈ lw_all := lw_g (lw_at lw_m3 61 rfl) rfl
theorem q819 : (Jvm.Cond.arrayClass Jvm.ClassFile.FieldType.long) ∈ lw_all := lw_g (lw_at lw_m4 53 rfl) rfl
