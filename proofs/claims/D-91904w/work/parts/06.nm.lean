/-! SixWhoTurnModel -/
set_option maxRecDepth 100000
def RX3 : String := "SixWhoTurnModel"
def TX3 : u_T := fun k => match k with
  | 0 => ("SixWhoTurnModel", "skills", "[I", true)
  | 1 => ("SixWhoTurnModel", "libre", "[I", true)
  | 2 => ("SixWhoTurnModel", "numbers", "[I", true)
  | 3 => ("SixWhoTurnModel", "next", "[I", true)
  | 4 => ("SixWhoTurnModel", "isTold", "[Z", true)
  | 5 => ("SixWhoTurnModel", "w", "[I", true)
  | 6 => ("SixWhoTurnModel", "aside", "[I", true)
  | 7 => ("SixWhoTurnModel", "feetX", "[I", true)
  | 8 => ("SixWhoTurnModel", "feetY", "[I", true)
  | 9 => ("SixWhoTurnModel", "text", "[B", true)
  | 10 => ("SixWhoTurnModel", "typed", "I", false)
  | 11 => ("SixWhoTurnModel", "rowFirst", "I", false)
  | 12 => ("SixWhoTurnModel", "rowMany", "I", false)
  | 13 => ("SixWhoTurnModel", "thrown", "I", false)
  | 14 => ("SixWhoTurnModel", "six", "[I", true)
  | 15 => ("SixWhoTurnModel", "counts", "[I", true)
  | 16 => ("SixWhoTurnModel", "odds", "[I", true)
  | _ => ("SixWhoTurnModel", "table", "[J", true)
def tyX3 : Nat → FieldType := fun k => match k with
  | 0 => .array .int
  | 1 => .array .int
  | 2 => .array .int
  | 3 => .array .int
  | 4 => .array .boolean
  | 5 => .array .int
  | 6 => .array .int
  | 7 => .array .int
  | 8 => .array .int
  | 9 => .array .byte
  | 10 => .int
  | 11 => .int
  | 12 => .int
  | 13 => .int
  | 14 => .array .int
  | 15 => .array .int
  | 16 => .array .int
  | _ => .array .long
abbrev wsX30 : List Cond := u_ws RX3 TX3 18
set_option maxRecDepth 100000 in
theorem nmX3 : ∀ a, a < 18 → ∀ b, b < 18 → a ≠ b → (TX3 a).2.1 ≠ (TX3 b).2.1 := by decide +kernel
set_option maxRecDepth 100000 in
theorem tyX3_ok : ∀ k, k < 18 → parseFieldDescriptor (TX3 k).2.2.1 = some (tyX3 k) := by decide +kernel
abbrev cX3_init : ByteArray := prog_9_method_1_code
def yX3_init : MethodName := ⟨RX3, "<init>", "()V"⟩
def dkwX3_init_10 : List UInt8 := [167, 255, 237, 132, 1, 1, 167, 255, 217, 42, 182, 0, 60, 177]
abbrev dktX3_init_10 : List UInt8 := dkwX3_init_10 ++ []
def dkwX3_init_9 : List UInt8 := [182, 0, 56, 3, 61, 28, 16, 6, 162, 0, 19, 42, 27, 16, 8, 28, 96, 2, 182, 0, 56, 132, 2, 1]
abbrev dktX3_init_9 : List UInt8 := dkwX3_init_9 ++ dktX3_init_10
def dkwX3_init_8 : List UInt8 := [180, 0, 26, 7, 2, 79, 42, 180, 0, 26, 8, 2, 79, 3, 60, 27, 5, 162, 0, 40, 42, 27, 7, 2]
abbrev dktX3_init_8 : List UInt8 := dkwX3_init_8 ++ dktX3_init_9
def dkwX3_init_7 : List UInt8 := [16, 50, 79, 132, 1, 1, 167, 255, 236, 42, 180, 0, 26, 3, 2, 79, 42, 180, 0, 26, 5, 2, 79, 42]
abbrev dktX3_init_7 : List UInt8 := dkwX3_init_7 ++ dktX3_init_8
def dkwX3_init_6 : List UInt8 := [18, 51, 188, 11, 181, 0, 52, 3, 60, 27, 42, 180, 0, 9, 190, 162, 0, 17, 42, 180, 0, 9, 27]
abbrev dktX3_init_6 : List UInt8 := dkwX3_init_6 ++ dktX3_init_7
def dkwX3_init_5 : List UInt8 := [16, 6, 188, 10, 181, 0, 42, 42, 16, 12, 188, 10, 181, 0, 45, 42, 16, 72, 188, 10, 181, 0, 48, 42]
abbrev dktX3_init_5 : List UInt8 := dkwX3_init_5 ++ dktX3_init_6
def dkwX3_init_4 : List UInt8 := [16, 12, 188, 10, 181, 0, 32, 42, 16, 12, 188, 10, 181, 0, 35, 42, 16, 100, 188, 8, 181, 0, 38, 42]
abbrev dktX3_init_4 : List UInt8 := dkwX3_init_4 ++ dktX3_init_5
def dkwX3_init_3 : List UInt8 := [5, 188, 4, 181, 0, 22, 42, 16, 106, 188, 10, 181, 0, 26, 42, 16, 106, 188, 10, 181, 0, 29, 42]
abbrev dktX3_init_3 : List UInt8 := dkwX3_init_3 ++ dktX3_init_4
def dkwX3_init_2 : List UInt8 := [6, 5, 79, 89, 7, 16, 6, 79, 89, 8, 5, 79, 181, 0, 16, 42, 16, 12, 188, 10, 181, 0, 19, 42]
abbrev dktX3_init_2 : List UInt8 := dkwX3_init_2 ++ dktX3_init_3
def dkwX3_init_1 : List UInt8 := [181, 0, 13, 42, 16, 6, 188, 10, 89, 3, 16, 25, 79, 89, 4, 16, 30, 79, 89, 5, 16, 15, 79, 89]
abbrev dktX3_init_1 : List UInt8 := dkwX3_init_1 ++ dktX3_init_2
def dkwX3_init_0 : List UInt8 := [42, 183, 0, 3, 42, 16, 96, 188, 10, 181, 0, 9, 42, 5, 188, 10, 89, 3, 2, 79, 89, 4, 2, 79]
abbrev dktX3_init_0 : List UInt8 := dkwX3_init_0 ++ dktX3_init_1
theorem dksX3_init_0 : cX3_init.data.toList.drop 0 = dktX3_init_0 := by decide +kernel
theorem dksX3_init_1 : cX3_init.data.toList.drop 24 = dktX3_init_1 := dk_seg dksX3_init_0 24 rfl rfl
theorem dksX3_init_2 : cX3_init.data.toList.drop 48 = dktX3_init_2 := dk_seg dksX3_init_1 24 rfl rfl
theorem dksX3_init_3 : cX3_init.data.toList.drop 72 = dktX3_init_3 := dk_seg dksX3_init_2 24 rfl rfl
theorem dksX3_init_4 : cX3_init.data.toList.drop 95 = dktX3_init_4 := dk_seg dksX3_init_3 23 rfl rfl
theorem dksX3_init_5 : cX3_init.data.toList.drop 119 = dktX3_init_5 := dk_seg dksX3_init_4 24 rfl rfl
theorem dksX3_init_6 : cX3_init.data.toList.drop 143 = dktX3_init_6 := dk_seg dksX3_init_5 24 rfl rfl
theorem dksX3_init_7 : cX3_init.data.toList.drop 166 = dktX3_init_7 := dk_seg dksX3_init_6 23 rfl rfl
theorem dksX3_init_8 : cX3_init.data.toList.drop 190 = dktX3_init_8 := dk_seg dksX3_init_7 24 rfl rfl
theorem dksX3_init_9 : cX3_init.data.toList.drop 214 = dktX3_init_9 := dk_seg dksX3_init_8 24 rfl rfl
theorem dksX3_init_10 : cX3_init.data.toList.drop 238 = dktX3_init_10 := dk_seg dksX3_init_9 24 rfl rfl
theorem dX3_init_0 : decode cX3_init 0 = .ok (.aload_n 0, 1) := dk_42 (dk_at dksX3_init_0 0 rfl rfl)
theorem dX3_init_1 : decode cX3_init 1 = .ok (.invokespecial 3, 3) := dk_183 0 3 (dk_at dksX3_init_0 1 rfl rfl)
theorem dX3_init_4 : decode cX3_init 4 = .ok (.aload_n 0, 1) := dk_42 (dk_at dksX3_init_0 4 rfl rfl)
theorem dX3_init_5 : decode cX3_init 5 = .ok (.bipush 96, 2) := dk_16 96 (dk_at dksX3_init_0 5 rfl rfl)
theorem dX3_init_7 : decode cX3_init 7 = .ok (.newarray .int, 2) := dk_188_10 (dk_at dksX3_init_0 7 rfl rfl)
theorem dX3_init_9 : decode cX3_init 9 = .ok (.putfield 9, 3) := dk_181 0 9 (dk_at dksX3_init_0 9 rfl rfl)
theorem dX3_init_12 : decode cX3_init 12 = .ok (.aload_n 0, 1) := dk_42 (dk_at dksX3_init_0 12 rfl rfl)
theorem dX3_init_13 : decode cX3_init 13 = .ok (.iconst 2, 1) := dk_5 (dk_at dksX3_init_0 13 rfl rfl)
theorem dX3_init_14 : decode cX3_init 14 = .ok (.newarray .int, 2) := dk_188_10 (dk_at dksX3_init_0 14 rfl rfl)
theorem dX3_init_16 : decode cX3_init 16 = .ok (.dup, 1) := dk_89 (dk_at dksX3_init_0 16 rfl rfl)
theorem dX3_init_17 : decode cX3_init 17 = .ok (.iconst 0, 1) := dk_3 (dk_at dksX3_init_0 17 rfl rfl)
theorem dX3_init_18 : decode cX3_init 18 = .ok (.iconst (-1), 1) := dk_2 (dk_at dksX3_init_0 18 rfl rfl)
theorem dX3_init_19 : decode cX3_init 19 = .ok (.iastore, 1) := dk_79 (dk_at dksX3_init_0 19 rfl rfl)
theorem dX3_init_20 : decode cX3_init 20 = .ok (.dup, 1) := dk_89 (dk_at dksX3_init_0 20 rfl rfl)
theorem dX3_init_21 : decode cX3_init 21 = .ok (.iconst 1, 1) := dk_4 (dk_at dksX3_init_0 21 rfl rfl)
theorem dX3_init_22 : decode cX3_init 22 = .ok (.iconst (-1), 1) := dk_2 (dk_at dksX3_init_0 22 rfl rfl)
theorem dX3_init_23 : decode cX3_init 23 = .ok (.iastore, 1) := dk_79 (dk_at dksX3_init_0 23 rfl rfl)
theorem dX3_init_24 : decode cX3_init 24 = .ok (.putfield 13, 3) := dk_181 0 13 (dk_at dksX3_init_1 0 rfl rfl)
theorem dX3_init_27 : decode cX3_init 27 = .ok (.aload_n 0, 1) := dk_42 (dk_at dksX3_init_1 3 rfl rfl)
theorem dX3_init_28 : decode cX3_init 28 = .ok (.bipush 6, 2) := dk_16 6 (dk_at dksX3_init_1 4 rfl rfl)
theorem dX3_init_30 : decode cX3_init 30 = .ok (.newarray .int, 2) := dk_188_10 (dk_at dksX3_init_1 6 rfl rfl)
theorem dX3_init_32 : decode cX3_init 32 = .ok (.dup, 1) := dk_89 (dk_at dksX3_init_1 8 rfl rfl)
theorem dX3_init_33 : decode cX3_init 33 = .ok (.iconst 0, 1) := dk_3 (dk_at dksX3_init_1 9 rfl rfl)
theorem dX3_init_34 : decode cX3_init 34 = .ok (.bipush 25, 2) := dk_16 25 (dk_at dksX3_init_1 10 rfl rfl)
theorem dX3_init_36 : decode cX3_init 36 = .ok (.iastore, 1) := dk_79 (dk_at dksX3_init_1 12 rfl rfl)
theorem dX3_init_37 : decode cX3_init 37 = .ok (.dup, 1) := dk_89 (dk_at dksX3_init_1 13 rfl rfl)
theorem dX3_init_38 : decode cX3_init 38 = .ok (.iconst 1, 1) := dk_4 (dk_at dksX3_init_1 14 rfl rfl)
theorem dX3_init_39 : decode cX3_init 39 = .ok (.bipush 30, 2) := dk_16 30 (dk_at dksX3_init_1 15 rfl rfl)
theorem dX3_init_41 : decode cX3_init 41 = .ok (.iastore, 1) := dk_79 (dk_at dksX3_init_1 17 rfl rfl)
theorem dX3_init_42 : decode cX3_init 42 = .ok (.dup, 1) := dk_89 (dk_at dksX3_init_1 18 rfl rfl)
theorem dX3_init_43 : decode cX3_init 43 = .ok (.iconst 2, 1) := dk_5 (dk_at dksX3_init_1 19 rfl rfl)
theorem dX3_init_44 : decode cX3_init 44 = .ok (.bipush 15, 2) := dk_16 15 (dk_at dksX3_init_1 20 rfl rfl)
theorem dX3_init_46 : decode cX3_init 46 = .ok (.iastore, 1) := dk_79 (dk_at dksX3_init_1 22 rfl rfl)
theorem dX3_init_47 : decode cX3_init 47 = .ok (.dup, 1) := dk_89 (dk_at dksX3_init_1 23 rfl rfl)
theorem dX3_init_48 : decode cX3_init 48 = .ok (.iconst 3, 1) := dk_6 (dk_at dksX3_init_2 0 rfl rfl)
theorem dX3_init_49 : decode cX3_init 49 = .ok (.iconst 2, 1) := dk_5 (dk_at dksX3_init_2 1 rfl rfl)
theorem dX3_init_50 : decode cX3_init 50 = .ok (.iastore, 1) := dk_79 (dk_at dksX3_init_2 2 rfl rfl)
theorem dX3_init_51 : decode cX3_init 51 = .ok (.dup, 1) := dk_89 (dk_at dksX3_init_2 3 rfl rfl)
theorem dX3_init_52 : decode cX3_init 52 = .ok (.iconst 4, 1) := dk_7 (dk_at dksX3_init_2 4 rfl rfl)
theorem dX3_init_53 : decode cX3_init 53 = .ok (.bipush 6, 2) := dk_16 6 (dk_at dksX3_init_2 5 rfl rfl)
theorem dX3_init_55 : decode cX3_init 55 = .ok (.iastore, 1) := dk_79 (dk_at dksX3_init_2 7 rfl rfl)
theorem dX3_init_56 : decode cX3_init 56 = .ok (.dup, 1) := dk_89 (dk_at dksX3_init_2 8 rfl rfl)
theorem dX3_init_57 : decode cX3_init 57 = .ok (.iconst 5, 1) := dk_8 (dk_at dksX3_init_2 9 rfl rfl)
theorem dX3_init_58 : decode cX3_init 58 = .ok (.iconst 2, 1) := dk_5 (dk_at dksX3_init_2 10 rfl rfl)
theorem dX3_init_59 : decode cX3_init 59 = .ok (.iastore, 1) := dk_79 (dk_at dksX3_init_2 11 rfl rfl)
theorem dX3_init_60 : decode cX3_init 60 = .ok (.putfield 16, 3) := dk_181 0 16 (dk_at dksX3_init_2 12 rfl rfl)
theorem dX3_init_63 : decode cX3_init 63 = .ok (.aload_n 0, 1) := dk_42 (dk_at dksX3_init_2 15 rfl rfl)
theorem dX3_init_64 : decode cX3_init 64 = .ok (.bipush 12, 2) := dk_16 12 (dk_at dksX3_init_2 16 rfl rfl)
theorem dX3_init_66 : decode cX3_init 66 = .ok (.newarray .int, 2) := dk_188_10 (dk_at dksX3_init_2 18 rfl rfl)
theorem dX3_init_68 : decode cX3_init 68 = .ok (.putfield 19, 3) := dk_181 0 19 (dk_at dksX3_init_2 20 rfl rfl)
theorem dX3_init_71 : decode cX3_init 71 = .ok (.aload_n 0, 1) := dk_42 (dk_at dksX3_init_2 23 rfl rfl)
theorem dX3_init_72 : decode cX3_init 72 = .ok (.iconst 2, 1) := dk_5 (dk_at dksX3_init_3 0 rfl rfl)
theorem dX3_init_73 : decode cX3_init 73 = .ok (.newarray .boolean, 2) := dk_188_4 (dk_at dksX3_init_3 1 rfl rfl)
theorem dX3_init_75 : decode cX3_init 75 = .ok (.putfield 22, 3) := dk_181 0 22 (dk_at dksX3_init_3 3 rfl rfl)
theorem dX3_init_78 : decode cX3_init 78 = .ok (.aload_n 0, 1) := dk_42 (dk_at dksX3_init_3 6 rfl rfl)
theorem dX3_init_79 : decode cX3_init 79 = .ok (.bipush 106, 2) := dk_16 106 (dk_at dksX3_init_3 7 rfl rfl)
theorem dX3_init_81 : decode cX3_init 81 = .ok (.newarray .int, 2) := dk_188_10 (dk_at dksX3_init_3 9 rfl rfl)
theorem dX3_init_83 : decode cX3_init 83 = .ok (.putfield 26, 3) := dk_181 0 26 (dk_at dksX3_init_3 11 rfl rfl)
theorem dX3_init_86 : decode cX3_init 86 = .ok (.aload_n 0, 1) := dk_42 (dk_at dksX3_init_3 14 rfl rfl)
theorem dX3_init_87 : decode cX3_init 87 = .ok (.bipush 106, 2) := dk_16 106 (dk_at dksX3_init_3 15 rfl rfl)
theorem dX3_init_89 : decode cX3_init 89 = .ok (.newarray .int, 2) := dk_188_10 (dk_at dksX3_init_3 17 rfl rfl)
theorem dX3_init_91 : decode cX3_init 91 = .ok (.putfield 29, 3) := dk_181 0 29 (dk_at dksX3_init_3 19 rfl rfl)
theorem dX3_init_94 : decode cX3_init 94 = .ok (.aload_n 0, 1) := dk_42 (dk_at dksX3_init_3 22 rfl rfl)
theorem dX3_init_95 : decode cX3_init 95 = .ok (.bipush 12, 2) := dk_16 12 (dk_at dksX3_init_4 0 rfl rfl)
theorem dX3_init_97 : decode cX3_init 97 = .ok (.newarray .int, 2) := dk_188_10 (dk_at dksX3_init_4 2 rfl rfl)
theorem dX3_init_99 : decode cX3_init 99 = .ok (.putfield 32, 3) := dk_181 0 32 (dk_at dksX3_init_4 4 rfl rfl)
theorem dX3_init_102 : decode cX3_init 102 = .ok (.aload_n 0, 1) := dk_42 (dk_at dksX3_init_4 7 rfl rfl)
theorem dX3_init_103 : decode cX3_init 103 = .ok (.bipush 12, 2) := dk_16 12 (dk_at dksX3_init_4 8 rfl rfl)
theorem dX3_init_105 : decode cX3_init 105 = .ok (.newarray .int, 2) := dk_188_10 (dk_at dksX3_init_4 10 rfl rfl)
theorem dX3_init_107 : decode cX3_init 107 = .ok (.putfield 35, 3) := dk_181 0 35 (dk_at dksX3_init_4 12 rfl rfl)
theorem dX3_init_110 : decode cX3_init 110 = .ok (.aload_n 0, 1) := dk_42 (dk_at dksX3_init_4 15 rfl rfl)
theorem dX3_init_111 : decode cX3_init 111 = .ok (.bipush 100, 2) := dk_16 100 (dk_at dksX3_init_4 16 rfl rfl)
theorem dX3_init_113 : decode cX3_init 113 = .ok (.newarray .byte, 2) := dk_188_8 (dk_at dksX3_init_4 18 rfl rfl)
theorem dX3_init_115 : decode cX3_init 115 = .ok (.putfield 38, 3) := dk_181 0 38 (dk_at dksX3_init_4 20 rfl rfl)
theorem dX3_init_118 : decode cX3_init 118 = .ok (.aload_n 0, 1) := dk_42 (dk_at dksX3_init_4 23 rfl rfl)
theorem dX3_init_119 : decode cX3_init 119 = .ok (.bipush 6, 2) := dk_16 6 (dk_at dksX3_init_5 0 rfl rfl)
theorem dX3_init_121 : decode cX3_init 121 = .ok (.newarray .int, 2) := dk_188_10 (dk_at dksX3_init_5 2 rfl rfl)
theorem dX3_init_123 : decode cX3_init 123 = .ok (.putfield 42, 3) := dk_181 0 42 (dk_at dksX3_init_5 4 rfl rfl)
theorem dX3_init_126 : decode cX3_init 126 = .ok (.aload_n 0, 1) := dk_42 (dk_at dksX3_init_5 7 rfl rfl)
theorem dX3_init_127 : decode cX3_init 127 = .ok (.bipush 12, 2) := dk_16 12 (dk_at dksX3_init_5 8 rfl rfl)
theorem dX3_init_129 : decode cX3_init 129 = .ok (.newarray .int, 2) := dk_188_10 (dk_at dksX3_init_5 10 rfl rfl)
theorem dX3_init_131 : decode cX3_init 131 = .ok (.putfield 45, 3) := dk_181 0 45 (dk_at dksX3_init_5 12 rfl rfl)
theorem dX3_init_134 : decode cX3_init 134 = .ok (.aload_n 0, 1) := dk_42 (dk_at dksX3_init_5 15 rfl rfl)
theorem dX3_init_135 : decode cX3_init 135 = .ok (.bipush 72, 2) := dk_16 72 (dk_at dksX3_init_5 16 rfl rfl)
theorem dX3_init_137 : decode cX3_init 137 = .ok (.newarray .int, 2) := dk_188_10 (dk_at dksX3_init_5 18 rfl rfl)
theorem dX3_init_139 : decode cX3_init 139 = .ok (.putfield 48, 3) := dk_181 0 48 (dk_at dksX3_init_5 20 rfl rfl)
theorem dX3_init_142 : decode cX3_init 142 = .ok (.aload_n 0, 1) := dk_42 (dk_at dksX3_init_5 23 rfl rfl)
theorem dX3_init_143 : decode cX3_init 143 = .ok (.ldc 51, 2) := dk_18 51 (dk_at dksX3_init_6 0 rfl rfl)
theorem dX3_init_145 : decode cX3_init 145 = .ok (.newarray .long, 2) := dk_188_11 (dk_at dksX3_init_6 2 rfl rfl)
theorem dX3_init_147 : decode cX3_init 147 = .ok (.putfield 52, 3) := dk_181 0 52 (dk_at dksX3_init_6 4 rfl rfl)
theorem dX3_init_150 : decode cX3_init 150 = .ok (.iconst 0, 1) := dk_3 (dk_at dksX3_init_6 7 rfl rfl)
theorem dX3_init_151 : decode cX3_init 151 = .ok (.istore_n 1, 1) := dk_60 (dk_at dksX3_init_6 8 rfl rfl)
theorem dX3_init_152 : decode cX3_init 152 = .ok (.iload_n 1, 1) := dk_27 (dk_at dksX3_init_6 9 rfl rfl)
theorem dX3_init_153 : decode cX3_init 153 = .ok (.aload_n 0, 1) := dk_42 (dk_at dksX3_init_6 10 rfl rfl)
theorem dX3_init_154 : decode cX3_init 154 = .ok (.getfield 9, 3) := dk_180 0 9 (dk_at dksX3_init_6 11 rfl rfl)
theorem dX3_init_157 : decode cX3_init 157 = .ok (.arraylength, 1) := dk_190 (dk_at dksX3_init_6 14 rfl rfl)
theorem dX3_init_158 : decode cX3_init 158 = .ok (.if_icmp .ge 17, 3) := dk_162 0 17 (dk_at dksX3_init_6 15 rfl rfl)
theorem dX3_init_161 : decode cX3_init 161 = .ok (.aload_n 0, 1) := dk_42 (dk_at dksX3_init_6 18 rfl rfl)
theorem dX3_init_162 : decode cX3_init 162 = .ok (.getfield 9, 3) := dk_180 0 9 (dk_at dksX3_init_6 19 rfl rfl)
theorem dX3_init_165 : decode cX3_init 165 = .ok (.iload_n 1, 1) := dk_27 (dk_at dksX3_init_6 22 rfl rfl)
theorem dX3_init_166 : decode cX3_init 166 = .ok (.bipush 50, 2) := dk_16 50 (dk_at dksX3_init_7 0 rfl rfl)
theorem dX3_init_168 : decode cX3_init 168 = .ok (.iastore, 1) := dk_79 (dk_at dksX3_init_7 2 rfl rfl)
theorem dX3_init_169 : decode cX3_init 169 = .ok (.iinc 1 1, 3) := dk_132 1 1 (dk_at dksX3_init_7 3 rfl rfl)
theorem dX3_init_172 : decode cX3_init 172 = .ok (.goto (-20), 3) := dk_167 255 236 (dk_at dksX3_init_7 6 rfl rfl)
theorem dX3_init_175 : decode cX3_init 175 = .ok (.aload_n 0, 1) := dk_42 (dk_at dksX3_init_7 9 rfl rfl)
theorem dX3_init_176 : decode cX3_init 176 = .ok (.getfield 26, 3) := dk_180 0 26 (dk_at dksX3_init_7 10 rfl rfl)
theorem dX3_init_179 : decode cX3_init 179 = .ok (.iconst 0, 1) := dk_3 (dk_at dksX3_init_7 13 rfl rfl)
theorem dX3_init_180 : decode cX3_init 180 = .ok (.iconst (-1), 1) := dk_2 (dk_at dksX3_init_7 14 rfl rfl)
theorem dX3_init_181 : decode cX3_init 181 = .ok (.iastore, 1) := dk_79 (dk_at dksX3_init_7 15 rfl rfl)
theorem dX3_init_182 : decode cX3_init 182 = .ok (.aload_n 0, 1) := dk_42 (dk_at dksX3_init_7 16 rfl rfl)
theorem dX3_init_183 : decode cX3_init 183 = .ok (.getfield 26, 3) := dk_180 0 26 (dk_at dksX3_init_7 17 rfl rfl)
theorem dX3_init_186 : decode cX3_init 186 = .ok (.iconst 2, 1) := dk_5 (dk_at dksX3_init_7 20 rfl rfl)
theorem dX3_init_187 : decode cX3_init 187 = .ok (.iconst (-1), 1) := dk_2 (dk_at dksX3_init_7 21 rfl rfl)
theorem dX3_init_188 : decode cX3_init 188 = .ok (.iastore, 1) := dk_79 (dk_at dksX3_init_7 22 rfl rfl)
theorem dX3_init_189 : decode cX3_init 189 = .ok (.aload_n 0, 1) := dk_42 (dk_at dksX3_init_7 23 rfl rfl)
theorem dX3_init_190 : decode cX3_init 190 = .ok (.getfield 26, 3) := dk_180 0 26 (dk_at dksX3_init_8 0 rfl rfl)
theorem dX3_init_193 : decode cX3_init 193 = .ok (.iconst 4, 1) := dk_7 (dk_at dksX3_init_8 3 rfl rfl)
theorem dX3_init_194 : decode cX3_init 194 = .ok (.iconst (-1), 1) := dk_2 (dk_at dksX3_init_8 4 rfl rfl)
theorem dX3_init_195 : decode cX3_init 195 = .ok (.iastore, 1) := dk_79 (dk_at dksX3_init_8 5 rfl rfl)
theorem dX3_init_196 : decode cX3_init 196 = .ok (.aload_n 0, 1) := dk_42 (dk_at dksX3_init_8 6 rfl rfl)
theorem dX3_init_197 : decode cX3_init 197 = .ok (.getfield 26, 3) := dk_180 0 26 (dk_at dksX3_init_8 7 rfl rfl)
theorem dX3_init_200 : decode cX3_init 200 = .ok (.iconst 5, 1) := dk_8 (dk_at dksX3_init_8 10 rfl rfl)
theorem dX3_init_201 : decode cX3_init 201 = .ok (.iconst (-1), 1) := dk_2 (dk_at dksX3_init_8 11 rfl rfl)
theorem dX3_init_202 : decode cX3_init 202 = .ok (.iastore, 1) := dk_79 (dk_at dksX3_init_8 12 rfl rfl)
theorem dX3_init_203 : decode cX3_init 203 = .ok (.iconst 0, 1) := dk_3 (dk_at dksX3_init_8 13 rfl rfl)
theorem dX3_init_204 : decode cX3_init 204 = .ok (.istore_n 1, 1) := dk_60 (dk_at dksX3_init_8 14 rfl rfl)
theorem dX3_init_205 : decode cX3_init 205 = .ok (.iload_n 1, 1) := dk_27 (dk_at dksX3_init_8 15 rfl rfl)
theorem dX3_init_206 : decode cX3_init 206 = .ok (.iconst 2, 1) := dk_5 (dk_at dksX3_init_8 16 rfl rfl)
theorem dX3_init_207 : decode cX3_init 207 = .ok (.if_icmp .ge 40, 3) := dk_162 0 40 (dk_at dksX3_init_8 17 rfl rfl)
theorem dX3_init_210 : decode cX3_init 210 = .ok (.aload_n 0, 1) := dk_42 (dk_at dksX3_init_8 20 rfl rfl)
theorem dX3_init_211 : decode cX3_init 211 = .ok (.iload_n 1, 1) := dk_27 (dk_at dksX3_init_8 21 rfl rfl)
theorem dX3_init_212 : decode cX3_init 212 = .ok (.iconst 4, 1) := dk_7 (dk_at dksX3_init_8 22 rfl rfl)
theorem dX3_init_213 : decode cX3_init 213 = .ok (.iconst (-1), 1) := dk_2 (dk_at dksX3_init_8 23 rfl rfl)
theorem dX3_init_214 : decode cX3_init 214 = .ok (.invokevirtual 56, 3) := dk_182 0 56 (dk_at dksX3_init_9 0 rfl rfl)
theorem dX3_init_217 : decode cX3_init 217 = .ok (.iconst 0, 1) := dk_3 (dk_at dksX3_init_9 3 rfl rfl)
theorem dX3_init_218 : decode cX3_init 218 = .ok (.istore_n 2, 1) := dk_61 (dk_at dksX3_init_9 4 rfl rfl)
theorem dX3_init_219 : decode cX3_init 219 = .ok (.iload_n 2, 1) := dk_28 (dk_at dksX3_init_9 5 rfl rfl)
theorem dX3_init_220 : decode cX3_init 220 = .ok (.bipush 6, 2) := dk_16 6 (dk_at dksX3_init_9 6 rfl rfl)
theorem dX3_init_222 : decode cX3_init 222 = .ok (.if_icmp .ge 19, 3) := dk_162 0 19 (dk_at dksX3_init_9 8 rfl rfl)
theorem dX3_init_225 : decode cX3_init 225 = .ok (.aload_n 0, 1) := dk_42 (dk_at dksX3_init_9 11 rfl rfl)
theorem dX3_init_226 : decode cX3_init 226 = .ok (.iload_n 1, 1) := dk_27 (dk_at dksX3_init_9 12 rfl rfl)
theorem dX3_init_227 : decode cX3_init 227 = .ok (.bipush 8, 2) := dk_16 8 (dk_at dksX3_init_9 13 rfl rfl)
theorem dX3_init_229 : decode cX3_init 229 = .ok (.iload_n 2, 1) := dk_28 (dk_at dksX3_init_9 15 rfl rfl)
theorem dX3_init_230 : decode cX3_init 230 = .ok (.iadd, 1) := dk_96 (dk_at dksX3_init_9 16 rfl rfl)
theorem dX3_init_231 : decode cX3_init 231 = .ok (.iconst (-1), 1) := dk_2 (dk_at dksX3_init_9 17 rfl rfl)
theorem dX3_init_232 : decode cX3_init 232 = .ok (.invokevirtual 56, 3) := dk_182 0 56 (dk_at dksX3_init_9 18 rfl rfl)
theorem dX3_init_235 : decode cX3_init 235 = .ok (.iinc 2 1, 3) := dk_132 2 1 (dk_at dksX3_init_9 21 rfl rfl)
theorem dX3_init_238 : decode cX3_init 238 = .ok (.goto (-19), 3) := dk_167 255 237 (dk_at dksX3_init_10 0 rfl rfl)
theorem dX3_init_241 : decode cX3_init 241 = .ok (.iinc 1 1, 3) := dk_132 1 1 (dk_at dksX3_init_10 3 rfl rfl)
theorem dX3_init_244 : decode cX3_init 244 = .ok (.goto (-39), 3) := dk_167 255 217 (dk_at dksX3_init_10 6 rfl rfl)
theorem dX3_init_247 : decode cX3_init 247 = .ok (.aload_n 0, 1) := dk_42 (dk_at dksX3_init_10 9 rfl rfl)
theorem dX3_init_248 : decode cX3_init 248 = .ok (.invokevirtual 60, 3) := dk_182 0 60 (dk_at dksX3_init_10 10 rfl rfl)
theorem dX3_init_251 : decode cX3_init 251 = .ok (.return_, 1) := dk_177 (dk_at dksX3_init_10 13 rfl rfl)
abbrev cX3_put : ByteArray := prog_9_method_7_code
def yX3_put : MethodName := ⟨RX3, "put", "(III)V"⟩
def dkwX3_put_0 : List UInt8 := [42, 180, 0, 26, 16, 6, 16, 50, 27, 104, 96, 28, 96, 29, 79, 177]
abbrev dktX3_put_0 : List UInt8 := dkwX3_put_0 ++ []
theorem dksX3_put_0 : cX3_put.data.toList.drop 0 = dktX3_put_0 := by decide +kernel
theorem dX3_put_0 : decode cX3_put 0 = .ok (.aload_n 0, 1) := dk_42 (dk_at dksX3_put_0 0 rfl rfl)
theorem dX3_put_1 : decode cX3_put 1 = .ok (.getfield 26, 3) := dk_180 0 26 (dk_at dksX3_put_0 1 rfl rfl)
theorem dX3_put_4 : decode cX3_put 4 = .ok (.bipush 6, 2) := dk_16 6 (dk_at dksX3_put_0 4 rfl rfl)
theorem dX3_put_6 : decode cX3_put 6 = .ok (.bipush 50, 2) := dk_16 50 (dk_at dksX3_put_0 6 rfl rfl)
theorem dX3_put_8 : decode cX3_put 8 = .ok (.iload_n 1, 1) := dk_27 (dk_at dksX3_put_0 8 rfl rfl)
theorem dX3_put_9 : decode cX3_put 9 = .ok (.imul, 1) := dk_104 (dk_at dksX3_put_0 9 rfl rfl)
theorem dX3_put_10 : decode cX3_put 10 = .ok (.iadd, 1) := dk_96 (dk_at dksX3_put_0 10 rfl rfl)
theorem dX3_put_11 : decode cX3_put 11 = .ok (.iload_n 2, 1) := dk_28 (dk_at dksX3_put_0 11 rfl rfl)
theorem dX3_put_12 : decode cX3_put 12 = .ok (.iadd, 1) := dk_96 (dk_at dksX3_put_0 12 rfl rfl)
theorem dX3_put_13 : decode cX3_put 13 = .ok (.iload_n 3, 1) := dk_29 (dk_at dksX3_put_0 13 rfl rfl)
theorem dX3_put_14 : decode cX3_put 14 = .ok (.iastore, 1) := dk_79 (dk_at dksX3_put_0 14 rfl rfl)
theorem dX3_put_15 : decode cX3_put 15 = .ok (.return_, 1) := dk_177 (dk_at dksX3_put_0 15 rfl rfl)
abbrev cX3_stand : ByteArray := prog_9_method_9_code
def yX3_stand : MethodName := ⟨RX3, "stand", "()V"⟩
def dkwX3_stand_4 : List UInt8 := [167, 255, 164, 177]
abbrev dktX3_stand_4 : List UInt8 := dkwX3_stand_4 ++ []
def dkwX3_stand_3 : List UInt8 := [28, 6, 164, 0, 9, 17, 3, 32, 167, 0, 6, 17, 0, 200, 79, 132, 2, 1, 167, 255, 177, 132, 1, 1]
abbrev dktX3_stand_3 : List UInt8 := dkwX3_stand_3 ++ dktX3_stand_4
def dkwX3_stand_2 : List UInt8 := [17, 1, 244, 167, 0, 6, 17, 0, 200, 79, 42, 180, 0, 35, 16, 6, 27, 104, 28, 96, 28, 153, 0, 8]
abbrev dktX3_stand_2 : List UInt8 := dkwX3_stand_2 ++ dktX3_stand_3
def dkwX3_stand_1 : List UInt8 := [96, 28, 5, 162, 0, 9, 17, 3, 32, 167, 0, 22, 28, 5, 159, 0, 8, 28, 8, 160, 0, 9]
abbrev dktX3_stand_1 : List UInt8 := dkwX3_stand_1 ++ dktX3_stand_2
def dkwX3_stand_0 : List UInt8 := [3, 60, 27, 5, 162, 0, 93, 3, 61, 28, 16, 6, 162, 0, 79, 42, 180, 0, 32, 16, 6, 27, 104, 28]
abbrev dktX3_stand_0 : List UInt8 := dkwX3_stand_0 ++ dktX3_stand_1
theorem dksX3_stand_0 : cX3_stand.data.toList.drop 0 = dktX3_stand_0 := by decide +kernel
theorem dksX3_stand_1 : cX3_stand.data.toList.drop 24 = dktX3_stand_1 := dk_seg dksX3_stand_0 24 rfl rfl
theorem dksX3_stand_2 : cX3_stand.data.toList.drop 46 = dktX3_stand_2 := dk_seg dksX3_stand_1 22 rfl rfl
theorem dksX3_stand_3 : cX3_stand.data.toList.drop 70 = dktX3_stand_3 := dk_seg dksX3_stand_2 24 rfl rfl
theorem dksX3_stand_4 : cX3_stand.data.toList.drop 94 = dktX3_stand_4 := dk_seg dksX3_stand_3 24 rfl rfl
theorem dX3_stand_0 : decode cX3_stand 0 = .ok (.iconst 0, 1) := dk_3 (dk_at dksX3_stand_0 0 rfl rfl)
theorem dX3_stand_1 : decode cX3_stand 1 = .ok (.istore_n 1, 1) := dk_60 (dk_at dksX3_stand_0 1 rfl rfl)
theorem dX3_stand_2 : decode cX3_stand 2 = .ok (.iload_n 1, 1) := dk_27 (dk_at dksX3_stand_0 2 rfl rfl)
theorem dX3_stand_3 : decode cX3_stand 3 = .ok (.iconst 2, 1) := dk_5 (dk_at dksX3_stand_0 3 rfl rfl)
theorem dX3_stand_4 : decode cX3_stand 4 = .ok (.if_icmp .ge 93, 3) := dk_162 0 93 (dk_at dksX3_stand_0 4 rfl rfl)
theorem dX3_stand_7 : decode cX3_stand 7 = .ok (.iconst 0, 1) := dk_3 (dk_at dksX3_stand_0 7 rfl rfl)
theorem dX3_stand_8 : decode cX3_stand 8 = .ok (.istore_n 2, 1) := dk_61 (dk_at dksX3_stand_0 8 rfl rfl)
theorem dX3_stand_9 : decode cX3_stand 9 = .ok (.iload_n 2, 1) := dk_28 (dk_at dksX3_stand_0 9 rfl rfl)
theorem dX3_stand_10 : decode cX3_stand 10 = .ok (.bipush 6, 2) := dk_16 6 (dk_at dksX3_stand_0 10 rfl rfl)
theorem dX3_stand_12 : decode cX3_stand 12 = .ok (.if_icmp .ge 79, 3) := dk_162 0 79 (dk_at dksX3_stand_0 12 rfl rfl)
theorem dX3_stand_15 : decode cX3_stand 15 = .ok (.aload_n 0, 1) := dk_42 (dk_at dksX3_stand_0 15 rfl rfl)
theorem dX3_stand_16 : decode cX3_stand 16 = .ok (.getfield 32, 3) := dk_180 0 32 (dk_at dksX3_stand_0 16 rfl rfl)
theorem dX3_stand_19 : decode cX3_stand 19 = .ok (.bipush 6, 2) := dk_16 6 (dk_at dksX3_stand_0 19 rfl rfl)
theorem dX3_stand_21 : decode cX3_stand 21 = .ok (.iload_n 1, 1) := dk_27 (dk_at dksX3_stand_0 21 rfl rfl)
theorem dX3_stand_22 : decode cX3_stand 22 = .ok (.imul, 1) := dk_104 (dk_at dksX3_stand_0 22 rfl rfl)
theorem dX3_stand_23 : decode cX3_stand 23 = .ok (.iload_n 2, 1) := dk_28 (dk_at dksX3_stand_0 23 rfl rfl)
theorem dX3_stand_24 : decode cX3_stand 24 = .ok (.iadd, 1) := dk_96 (dk_at dksX3_stand_1 0 rfl rfl)
theorem dX3_stand_25 : decode cX3_stand 25 = .ok (.iload_n 2, 1) := dk_28 (dk_at dksX3_stand_1 1 rfl rfl)
theorem dX3_stand_26 : decode cX3_stand 26 = .ok (.iconst 2, 1) := dk_5 (dk_at dksX3_stand_1 2 rfl rfl)
theorem dX3_stand_27 : decode cX3_stand 27 = .ok (.if_icmp .ge 9, 3) := dk_162 0 9 (dk_at dksX3_stand_1 3 rfl rfl)
theorem dX3_stand_30 : decode cX3_stand 30 = .ok (.sipush 800, 3) := dk_17 3 32 (dk_at dksX3_stand_1 6 rfl rfl)
theorem dX3_stand_33 : decode cX3_stand 33 = .ok (.goto 22, 3) := dk_167 0 22 (dk_at dksX3_stand_1 9 rfl rfl)
theorem dX3_stand_36 : decode cX3_stand 36 = .ok (.iload_n 2, 1) := dk_28 (dk_at dksX3_stand_1 12 rfl rfl)
theorem dX3_stand_37 : decode cX3_stand 37 = .ok (.iconst 2, 1) := dk_5 (dk_at dksX3_stand_1 13 rfl rfl)
theorem dX3_stand_38 : decode cX3_stand 38 = .ok (.if_icmp .eq 8, 3) := dk_159 0 8 (dk_at dksX3_stand_1 14 rfl rfl)
theorem dX3_stand_41 : decode cX3_stand 41 = .ok (.iload_n 2, 1) := dk_28 (dk_at dksX3_stand_1 17 rfl rfl)
theorem dX3_stand_42 : decode cX3_stand 42 = .ok (.iconst 5, 1) := dk_8 (dk_at dksX3_stand_1 18 rfl rfl)
theorem dX3_stand_43 : decode cX3_stand 43 = .ok (.if_icmp .ne 9, 3) := dk_160 0 9 (dk_at dksX3_stand_1 19 rfl rfl)
theorem dX3_stand_46 : decode cX3_stand 46 = .ok (.sipush 500, 3) := dk_17 1 244 (dk_at dksX3_stand_2 0 rfl rfl)
theorem dX3_stand_49 : decode cX3_stand 49 = .ok (.goto 6, 3) := dk_167 0 6 (dk_at dksX3_stand_2 3 rfl rfl)
theorem dX3_stand_52 : decode cX3_stand 52 = .ok (.sipush 200, 3) := dk_17 0 200 (dk_at dksX3_stand_2 6 rfl rfl)
theorem dX3_stand_55 : decode cX3_stand 55 = .ok (.iastore, 1) := dk_79 (dk_at dksX3_stand_2 9 rfl rfl)
theorem dX3_stand_56 : decode cX3_stand 56 = .ok (.aload_n 0, 1) := dk_42 (dk_at dksX3_stand_2 10 rfl rfl)
theorem dX3_stand_57 : decode cX3_stand 57 = .ok (.getfield 35, 3) := dk_180 0 35 (dk_at dksX3_stand_2 11 rfl rfl)
theorem dX3_stand_60 : decode cX3_stand 60 = .ok (.bipush 6, 2) := dk_16 6 (dk_at dksX3_stand_2 14 rfl rfl)
theorem dX3_stand_62 : decode cX3_stand 62 = .ok (.iload_n 1, 1) := dk_27 (dk_at dksX3_stand_2 16 rfl rfl)
theorem dX3_stand_63 : decode cX3_stand 63 = .ok (.imul, 1) := dk_104 (dk_at dksX3_stand_2 17 rfl rfl)
theorem dX3_stand_64 : decode cX3_stand 64 = .ok (.iload_n 2, 1) := dk_28 (dk_at dksX3_stand_2 18 rfl rfl)
theorem dX3_stand_65 : decode cX3_stand 65 = .ok (.iadd, 1) := dk_96 (dk_at dksX3_stand_2 19 rfl rfl)
theorem dX3_stand_66 : decode cX3_stand 66 = .ok (.iload_n 2, 1) := dk_28 (dk_at dksX3_stand_2 20 rfl rfl)
theorem dX3_stand_67 : decode cX3_stand 67 = .ok (.ifCond .eq 8, 3) := dk_153 0 8 (dk_at dksX3_stand_2 21 rfl rfl)
theorem dX3_stand_70 : decode cX3_stand 70 = .ok (.iload_n 2, 1) := dk_28 (dk_at dksX3_stand_3 0 rfl rfl)
theorem dX3_stand_71 : decode cX3_stand 71 = .ok (.iconst 3, 1) := dk_6 (dk_at dksX3_stand_3 1 rfl rfl)
theorem dX3_stand_72 : decode cX3_stand 72 = .ok (.if_icmp .le 9, 3) := dk_164 0 9 (dk_at dksX3_stand_3 2 rfl rfl)
theorem dX3_stand_75 : decode cX3_stand 75 = .ok (.sipush 800, 3) := dk_17 3 32 (dk_at dksX3_stand_3 5 rfl rfl)
theorem dX3_stand_78 : decode cX3_stand 78 = .ok (.goto 6, 3) := dk_167 0 6 (dk_at dksX3_stand_3 8 rfl rfl)
theorem dX3_stand_81 : decode cX3_stand 81 = .ok (.sipush 200, 3) := dk_17 0 200 (dk_at dksX3_stand_3 11 rfl rfl)
theorem dX3_stand_84 : decode cX3_stand 84 = .ok (.iastore, 1) := dk_79 (dk_at dksX3_stand_3 14 rfl rfl)
theorem dX3_stand_85 : decode cX3_stand 85 = .ok (.iinc 2 1, 3) := dk_132 2 1 (dk_at dksX3_stand_3 15 rfl rfl)
theorem dX3_stand_88 : decode cX3_stand 88 = .ok (.goto (-79), 3) := dk_167 255 177 (dk_at dksX3_stand_3 18 rfl rfl)
theorem dX3_stand_91 : decode cX3_stand 91 = .ok (.iinc 1 1, 3) := dk_132 1 1 (dk_at dksX3_stand_3 21 rfl rfl)
theorem dX3_stand_94 : decode cX3_stand 94 = .ok (.goto (-92), 3) := dk_167 255 164 (dk_at dksX3_stand_4 0 rfl rfl)
theorem dX3_stand_97 : decode cX3_stand 97 = .ok (.return_, 1) := dk_177 (dk_at dksX3_stand_4 3 rfl rfl)
abbrev cX3_thrown : ByteArray := prog_9_method_2_code
def yX3_thrown : MethodName := ⟨RX3, "thrown", "()I"⟩
theorem dX3_thrown_0 : decode cX3_thrown 0 = .ok (.aload_n 0, 1) := by decide +kernel
theorem dX3_thrown_1 : decode cX3_thrown 1 = .ok (.getfield 63, 3) := by decide +kernel
theorem dX3_thrown_4 : decode cX3_thrown 4 = .ok (.ireturn, 1) := by decide +kernel
abbrev cX3_skill : ByteArray := prog_9_method_11_code
def yX3_skill : MethodName := ⟨RX3, "skill", "(IIII)I"⟩
def dkwX3_skill_3 : List UInt8 := [172]
abbrev dktX3_skill_3 : List UInt8 := dkwX3_skill_3 ++ []
def dkwX3_skill_2 : List UInt8 := [182, 0, 78, 54, 5, 42, 180, 0, 9, 16, 12, 27, 104, 28, 96, 7, 104, 29, 96, 21, 4, 79, 21, 5]
abbrev dktX3_skill_2 : List UInt8 := dkwX3_skill_2 ++ dktX3_skill_3
def dkwX3_skill_1 : List UInt8 := [184, 0, 67, 153, 0, 14, 21, 4, 3, 16, 100, 184, 0, 67, 154, 0, 5, 2, 172, 42, 27, 28, 29]
abbrev dktX3_skill_1 : List UInt8 := dkwX3_skill_1 ++ dktX3_skill_2
def dkwX3_skill_0 : List UInt8 := [42, 3, 181, 0, 63, 27, 184, 0, 71, 153, 0, 30, 28, 184, 0, 75, 153, 0, 23, 29, 3, 6]
abbrev dktX3_skill_0 : List UInt8 := dkwX3_skill_0 ++ dktX3_skill_1
theorem dksX3_skill_0 : cX3_skill.data.toList.drop 0 = dktX3_skill_0 := by decide +kernel
theorem dksX3_skill_1 : cX3_skill.data.toList.drop 22 = dktX3_skill_1 := dk_seg dksX3_skill_0 22 rfl rfl
theorem dksX3_skill_2 : cX3_skill.data.toList.drop 45 = dktX3_skill_2 := dk_seg dksX3_skill_1 23 rfl rfl
theorem dksX3_skill_3 : cX3_skill.data.toList.drop 69 = dktX3_skill_3 := dk_seg dksX3_skill_2 24 rfl rfl
theorem dX3_skill_0 : decode cX3_skill 0 = .ok (.aload_n 0, 1) := dk_42 (dk_at dksX3_skill_0 0 rfl rfl)
theorem dX3_skill_1 : decode cX3_skill 1 = .ok (.iconst 0, 1) := dk_3 (dk_at dksX3_skill_0 1 rfl rfl)
theorem dX3_skill_2 : decode cX3_skill 2 = .ok (.putfield 63, 3) := dk_181 0 63 (dk_at dksX3_skill_0 2 rfl rfl)
theorem dX3_skill_5 : decode cX3_skill 5 = .ok (.iload_n 1, 1) := dk_27 (dk_at dksX3_skill_0 5 rfl rfl)
theorem dX3_skill_6 : decode cX3_skill 6 = .ok (.invokestatic 71, 3) := dk_184 0 71 (dk_at dksX3_skill_0 6 rfl rfl)
theorem dX3_skill_9 : decode cX3_skill 9 = .ok (.ifCond .eq 30, 3) := dk_153 0 30 (dk_at dksX3_skill_0 9 rfl rfl)
theorem dX3_skill_12 : decode cX3_skill 12 = .ok (.iload_n 2, 1) := dk_28 (dk_at dksX3_skill_0 12 rfl rfl)
theorem dX3_skill_13 : decode cX3_skill 13 = .ok (.invokestatic 75, 3) := dk_184 0 75 (dk_at dksX3_skill_0 13 rfl rfl)
theorem dX3_skill_16 : decode cX3_skill 16 = .ok (.ifCond .eq 23, 3) := dk_153 0 23 (dk_at dksX3_skill_0 16 rfl rfl)
theorem dX3_skill_19 : decode cX3_skill 19 = .ok (.iload_n 3, 1) := dk_29 (dk_at dksX3_skill_0 19 rfl rfl)
theorem dX3_skill_20 : decode cX3_skill 20 = .ok (.iconst 0, 1) := dk_3 (dk_at dksX3_skill_0 20 rfl rfl)
theorem dX3_skill_21 : decode cX3_skill 21 = .ok (.iconst 3, 1) := dk_6 (dk_at dksX3_skill_0 21 rfl rfl)
theorem dX3_skill_22 : decode cX3_skill 22 = .ok (.invokestatic 67, 3) := dk_184 0 67 (dk_at dksX3_skill_1 0 rfl rfl)
theorem dX3_skill_25 : decode cX3_skill 25 = .ok (.ifCond .eq 14, 3) := dk_153 0 14 (dk_at dksX3_skill_1 3 rfl rfl)
theorem dX3_skill_28 : decode cX3_skill 28 = .ok (.iload 4, 2) := dk_21 4 (dk_at dksX3_skill_1 6 rfl rfl)
theorem dX3_skill_30 : decode cX3_skill 30 = .ok (.iconst 0, 1) := dk_3 (dk_at dksX3_skill_1 8 rfl rfl)
theorem dX3_skill_31 : decode cX3_skill 31 = .ok (.bipush 100, 2) := dk_16 100 (dk_at dksX3_skill_1 9 rfl rfl)
theorem dX3_skill_33 : decode cX3_skill 33 = .ok (.invokestatic 67, 3) := dk_184 0 67 (dk_at dksX3_skill_1 11 rfl rfl)
theorem dX3_skill_36 : decode cX3_skill 36 = .ok (.ifCond .ne 5, 3) := dk_154 0 5 (dk_at dksX3_skill_1 14 rfl rfl)
theorem dX3_skill_39 : decode cX3_skill 39 = .ok (.iconst (-1), 1) := dk_2 (dk_at dksX3_skill_1 17 rfl rfl)
theorem dX3_skill_40 : decode cX3_skill 40 = .ok (.ireturn, 1) := dk_172 (dk_at dksX3_skill_1 18 rfl rfl)
theorem dX3_skill_41 : decode cX3_skill 41 = .ok (.aload_n 0, 1) := dk_42 (dk_at dksX3_skill_1 19 rfl rfl)
theorem dX3_skill_42 : decode cX3_skill 42 = .ok (.iload_n 1, 1) := dk_27 (dk_at dksX3_skill_1 20 rfl rfl)
theorem dX3_skill_43 : decode cX3_skill 43 = .ok (.iload_n 2, 1) := dk_28 (dk_at dksX3_skill_1 21 rfl rfl)
theorem dX3_skill_44 : decode cX3_skill 44 = .ok (.iload_n 3, 1) := dk_29 (dk_at dksX3_skill_1 22 rfl rfl)
theorem dX3_skill_45 : decode cX3_skill 45 = .ok (.invokevirtual 78, 3) := dk_182 0 78 (dk_at dksX3_skill_2 0 rfl rfl)
theorem dX3_skill_48 : decode cX3_skill 48 = .ok (.istore 5, 2) := dk_54 5 (dk_at dksX3_skill_2 3 rfl rfl)
theorem dX3_skill_50 : decode cX3_skill 50 = .ok (.aload_n 0, 1) := dk_42 (dk_at dksX3_skill_2 5 rfl rfl)
theorem dX3_skill_51 : decode cX3_skill 51 = .ok (.getfield 9, 3) := dk_180 0 9 (dk_at dksX3_skill_2 6 rfl rfl)
theorem dX3_skill_54 : decode cX3_skill 54 = .ok (.bipush 12, 2) := dk_16 12 (dk_at dksX3_skill_2 9 rfl rfl)
theorem dX3_skill_56 : decode cX3_skill 56 = .ok (.iload_n 1, 1) := dk_27 (dk_at dksX3_skill_2 11 rfl rfl)
theorem dX3_skill_57 : decode cX3_skill 57 = .ok (.imul, 1) := dk_104 (dk_at dksX3_skill_2 12 rfl rfl)
theorem dX3_skill_58 : decode cX3_skill 58 = .ok (.iload_n 2, 1) := dk_28 (dk_at dksX3_skill_2 13 rfl rfl)
theorem dX3_skill_59 : decode cX3_skill 59 = .ok (.iadd, 1) := dk_96 (dk_at dksX3_skill_2 14 rfl rfl)
theorem dX3_skill_60 : decode cX3_skill 60 = .ok (.iconst 4, 1) := dk_7 (dk_at dksX3_skill_2 15 rfl rfl)
theorem dX3_skill_61 : decode cX3_skill 61 = .ok (.imul, 1) := dk_104 (dk_at dksX3_skill_2 16 rfl rfl)
theorem dX3_skill_62 : decode cX3_skill 62 = .ok (.iload_n 3, 1) := dk_29 (dk_at dksX3_skill_2 17 rfl rfl)
theorem dX3_skill_63 : decode cX3_skill 63 = .ok (.iadd, 1) := dk_96 (dk_at dksX3_skill_2 18 rfl rfl)
theorem dX3_skill_64 : decode cX3_skill 64 = .ok (.iload 4, 2) := dk_21 4 (dk_at dksX3_skill_2 19 rfl rfl)
theorem dX3_skill_66 : decode cX3_skill 66 = .ok (.iastore, 1) := dk_79 (dk_at dksX3_skill_2 21 rfl rfl)
theorem dX3_skill_67 : decode cX3_skill 67 = .ok (.iload 5, 2) := dk_21 5 (dk_at dksX3_skill_2 22 rfl rfl)
theorem dX3_skill_69 : decode cX3_skill 69 = .ok (.ireturn, 1) := dk_172 (dk_at dksX3_skill_3 0 rfl rfl)
abbrev cX3_isTeam : ByteArray := prog_9_method_4_code
def yX3_isTeam : MethodName := ⟨RX3, "isTeam", "(I)Z"⟩
def dkwX3_isTeam_0 : List UInt8 := [26, 153, 0, 8, 26, 4, 160, 0, 7, 4, 167, 0, 4, 3, 172]
abbrev dktX3_isTeam_0 : List UInt8 := dkwX3_isTeam_0 ++ []
theorem dksX3_isTeam_0 : cX3_isTeam.data.toList.drop 0 = dktX3_isTeam_0 := by decide +kernel
theorem dX3_isTeam_0 : decode cX3_isTeam 0 = .ok (.iload_n 0, 1) := dk_26 (dk_at dksX3_isTeam_0 0 rfl rfl)
theorem dX3_isTeam_1 : decode cX3_isTeam 1 = .ok (.ifCond .eq 8, 3) := dk_153 0 8 (dk_at dksX3_isTeam_0 1 rfl rfl)
theorem dX3_isTeam_4 : decode cX3_isTeam 4 = .ok (.iload_n 0, 1) := dk_26 (dk_at dksX3_isTeam_0 4 rfl rfl)
theorem dX3_isTeam_5 : decode cX3_isTeam 5 = .ok (.iconst 1, 1) := dk_4 (dk_at dksX3_isTeam_0 5 rfl rfl)
theorem dX3_isTeam_6 : decode cX3_isTeam 6 = .ok (.if_icmp .ne 7, 3) := dk_160 0 7 (dk_at dksX3_isTeam_0 6 rfl rfl)
theorem dX3_isTeam_9 : decode cX3_isTeam 9 = .ok (.iconst 1, 1) := dk_4 (dk_at dksX3_isTeam_0 9 rfl rfl)
theorem dX3_isTeam_10 : decode cX3_isTeam 10 = .ok (.goto 4, 3) := dk_167 0 4 (dk_at dksX3_isTeam_0 10 rfl rfl)
theorem dX3_isTeam_13 : decode cX3_isTeam 13 = .ok (.iconst 0, 1) := dk_3 (dk_at dksX3_isTeam_0 13 rfl rfl)
theorem dX3_isTeam_14 : decode cX3_isTeam 14 = .ok (.ireturn, 1) := dk_172 (dk_at dksX3_isTeam_0 14 rfl rfl)
abbrev cX3_isPlayer : ByteArray := prog_9_method_5_code
def yX3_isPlayer : MethodName := ⟨RX3, "isPlayer", "(I)Z"⟩
def dkwX3_isPlayer_0 : List UInt8 := [26, 3, 16, 11, 184, 0, 67, 172]
abbrev dktX3_isPlayer_0 : List UInt8 := dkwX3_isPlayer_0 ++ []
theorem dksX3_isPlayer_0 : cX3_isPlayer.data.toList.drop 0 = dktX3_isPlayer_0 := by decide +kernel
theorem dX3_isPlayer_0 : decode cX3_isPlayer 0 = .ok (.iload_n 0, 1) := dk_26 (dk_at dksX3_isPlayer_0 0 rfl rfl)
theorem dX3_isPlayer_1 : decode cX3_isPlayer 1 = .ok (.iconst 0, 1) := dk_3 (dk_at dksX3_isPlayer_0 1 rfl rfl)
theorem dX3_isPlayer_2 : decode cX3_isPlayer 2 = .ok (.bipush 11, 2) := dk_16 11 (dk_at dksX3_isPlayer_0 2 rfl rfl)
theorem dX3_isPlayer_4 : decode cX3_isPlayer 4 = .ok (.invokestatic 67, 3) := dk_184 0 67 (dk_at dksX3_isPlayer_0 4 rfl rfl)
theorem dX3_isPlayer_7 : decode cX3_isPlayer 7 = .ok (.ireturn, 1) := dk_172 (dk_at dksX3_isPlayer_0 7 rfl rfl)
abbrev cX3_in : ByteArray := prog_9_method_3_code
def yX3_in : MethodName := ⟨RX3, "in", "(III)Z"⟩
def dkwX3_in_0 : List UInt8 := [26, 27, 161, 0, 12, 26, 28, 163, 0, 7, 4, 167, 0, 4, 3, 172]
abbrev dktX3_in_0 : List UInt8 := dkwX3_in_0 ++ []
theorem dksX3_in_0 : cX3_in.data.toList.drop 0 = dktX3_in_0 := by decide +kernel
theorem dX3_in_0 : decode cX3_in 0 = .ok (.iload_n 0, 1) := dk_26 (dk_at dksX3_in_0 0 rfl rfl)
theorem dX3_in_1 : decode cX3_in 1 = .ok (.iload_n 1, 1) := dk_27 (dk_at dksX3_in_0 1 rfl rfl)
theorem dX3_in_2 : decode cX3_in 2 = .ok (.if_icmp .lt 12, 3) := dk_161 0 12 (dk_at dksX3_in_0 2 rfl rfl)
theorem dX3_in_5 : decode cX3_in 5 = .ok (.iload_n 0, 1) := dk_26 (dk_at dksX3_in_0 5 rfl rfl)
theorem dX3_in_6 : decode cX3_in 6 = .ok (.iload_n 2, 1) := dk_28 (dk_at dksX3_in_0 6 rfl rfl)
theorem dX3_in_7 : decode cX3_in 7 = .ok (.if_icmp .gt 7, 3) := dk_163 0 7 (dk_at dksX3_in_0 7 rfl rfl)
theorem dX3_in_10 : decode cX3_in 10 = .ok (.iconst 1, 1) := dk_4 (dk_at dksX3_in_0 10 rfl rfl)
theorem dX3_in_11 : decode cX3_in 11 = .ok (.goto 4, 3) := dk_167 0 4 (dk_at dksX3_in_0 11 rfl rfl)
theorem dX3_in_14 : decode cX3_in 14 = .ok (.iconst 0, 1) := dk_3 (dk_at dksX3_in_0 14 rfl rfl)
theorem dX3_in_15 : decode cX3_in 15 = .ok (.ireturn, 1) := dk_172 (dk_at dksX3_in_0 15 rfl rfl)
abbrev cX3_skillOf : ByteArray := prog_9_method_10_code
def yX3_skillOf : MethodName := ⟨RX3, "skillOf", "(III)I"⟩
def dkwX3_skillOf_0 : List UInt8 := [42, 180, 0, 9, 16, 12, 27, 104, 28, 96, 7, 104, 29, 96, 46, 172]
abbrev dktX3_skillOf_0 : List UInt8 := dkwX3_skillOf_0 ++ []
theorem dksX3_skillOf_0 : cX3_skillOf.data.toList.drop 0 = dktX3_skillOf_0 := by decide +kernel
theorem dX3_skillOf_0 : decode cX3_skillOf 0 = .ok (.aload_n 0, 1) := dk_42 (dk_at dksX3_skillOf_0 0 rfl rfl)
theorem dX3_skillOf_1 : decode cX3_skillOf 1 = .ok (.getfield 9, 3) := dk_180 0 9 (dk_at dksX3_skillOf_0 1 rfl rfl)
theorem dX3_skillOf_4 : decode cX3_skillOf 4 = .ok (.bipush 12, 2) := dk_16 12 (dk_at dksX3_skillOf_0 4 rfl rfl)
theorem dX3_skillOf_6 : decode cX3_skillOf 6 = .ok (.iload_n 1, 1) := dk_27 (dk_at dksX3_skillOf_0 6 rfl rfl)
theorem dX3_skillOf_7 : decode cX3_skillOf 7 = .ok (.imul, 1) := dk_104 (dk_at dksX3_skillOf_0 7 rfl rfl)
theorem dX3_skillOf_8 : decode cX3_skillOf 8 = .ok (.iload_n 2, 1) := dk_28 (dk_at dksX3_skillOf_0 8 rfl rfl)
theorem dX3_skillOf_9 : decode cX3_skillOf 9 = .ok (.iadd, 1) := dk_96 (dk_at dksX3_skillOf_0 9 rfl rfl)
theorem dX3_skillOf_10 : decode cX3_skillOf 10 = .ok (.iconst 4, 1) := dk_7 (dk_at dksX3_skillOf_0 10 rfl rfl)
theorem dX3_skillOf_11 : decode cX3_skillOf 11 = .ok (.imul, 1) := dk_104 (dk_at dksX3_skillOf_0 11 rfl rfl)
theorem dX3_skillOf_12 : decode cX3_skillOf 12 = .ok (.iload_n 3, 1) := dk_29 (dk_at dksX3_skillOf_0 12 rfl rfl)
theorem dX3_skillOf_13 : decode cX3_skillOf 13 = .ok (.iadd, 1) := dk_96 (dk_at dksX3_skillOf_0 13 rfl rfl)
theorem dX3_skillOf_14 : decode cX3_skillOf 14 = .ok (.iaload, 1) := dk_46 (dk_at dksX3_skillOf_0 14 rfl rfl)
theorem dX3_skillOf_15 : decode cX3_skillOf 15 = .ok (.ireturn, 1) := dk_172 (dk_at dksX3_skillOf_0 15 rfl rfl)
abbrev cX3_libre : ByteArray := prog_9_method_12_code
def yX3_libre : MethodName := ⟨RX3, "libre", "(II)I"⟩
def dkwX3_libre_2 : List UInt8 := [29, 172]
abbrev dktX3_libre_2 : List UInt8 := dkwX3_libre_2 ++ []
def dkwX3_libre_1 : List UInt8 := [42, 182, 0, 82, 153, 0, 6, 16, 254, 172, 42, 180, 0, 13, 27, 46, 62, 42, 180, 0, 13, 27, 28, 79]
abbrev dktX3_libre_1 : List UInt8 := dkwX3_libre_1 ++ dktX3_libre_2
def dkwX3_libre_0 : List UInt8 := [42, 3, 181, 0, 63, 27, 184, 0, 71, 153, 0, 22, 28, 2, 159, 0, 10, 28, 184, 0, 75, 153, 0, 10]
abbrev dktX3_libre_0 : List UInt8 := dkwX3_libre_0 ++ dktX3_libre_1
theorem dksX3_libre_0 : cX3_libre.data.toList.drop 0 = dktX3_libre_0 := by decide +kernel
theorem dksX3_libre_1 : cX3_libre.data.toList.drop 24 = dktX3_libre_1 := dk_seg dksX3_libre_0 24 rfl rfl
theorem dksX3_libre_2 : cX3_libre.data.toList.drop 48 = dktX3_libre_2 := dk_seg dksX3_libre_1 24 rfl rfl
theorem dX3_libre_0 : decode cX3_libre 0 = .ok (.aload_n 0, 1) := dk_42 (dk_at dksX3_libre_0 0 rfl rfl)
theorem dX3_libre_1 : decode cX3_libre 1 = .ok (.iconst 0, 1) := dk_3 (dk_at dksX3_libre_0 1 rfl rfl)
theorem dX3_libre_2 : decode cX3_libre 2 = .ok (.putfield 63, 3) := dk_181 0 63 (dk_at dksX3_libre_0 2 rfl rfl)
theorem dX3_libre_5 : decode cX3_libre 5 = .ok (.iload_n 1, 1) := dk_27 (dk_at dksX3_libre_0 5 rfl rfl)
theorem dX3_libre_6 : decode cX3_libre 6 = .ok (.invokestatic 71, 3) := dk_184 0 71 (dk_at dksX3_libre_0 6 rfl rfl)
theorem dX3_libre_9 : decode cX3_libre 9 = .ok (.ifCond .eq 22, 3) := dk_153 0 22 (dk_at dksX3_libre_0 9 rfl rfl)
theorem dX3_libre_12 : decode cX3_libre 12 = .ok (.iload_n 2, 1) := dk_28 (dk_at dksX3_libre_0 12 rfl rfl)
theorem dX3_libre_13 : decode cX3_libre 13 = .ok (.iconst (-1), 1) := dk_2 (dk_at dksX3_libre_0 13 rfl rfl)
theorem dX3_libre_14 : decode cX3_libre 14 = .ok (.if_icmp .eq 10, 3) := dk_159 0 10 (dk_at dksX3_libre_0 14 rfl rfl)
theorem dX3_libre_17 : decode cX3_libre 17 = .ok (.iload_n 2, 1) := dk_28 (dk_at dksX3_libre_0 17 rfl rfl)
theorem dX3_libre_18 : decode cX3_libre 18 = .ok (.invokestatic 75, 3) := dk_184 0 75 (dk_at dksX3_libre_0 18 rfl rfl)
theorem dX3_libre_21 : decode cX3_libre 21 = .ok (.ifCond .eq 10, 3) := dk_153 0 10 (dk_at dksX3_libre_0 21 rfl rfl)
theorem dX3_libre_24 : decode cX3_libre 24 = .ok (.aload_n 0, 1) := dk_42 (dk_at dksX3_libre_1 0 rfl rfl)
theorem dX3_libre_25 : decode cX3_libre 25 = .ok (.invokevirtual 82, 3) := dk_182 0 82 (dk_at dksX3_libre_1 1 rfl rfl)
theorem dX3_libre_28 : decode cX3_libre 28 = .ok (.ifCond .eq 6, 3) := dk_153 0 6 (dk_at dksX3_libre_1 4 rfl rfl)
theorem dX3_libre_31 : decode cX3_libre 31 = .ok (.bipush (-2), 2) := dk_16 254 (dk_at dksX3_libre_1 7 rfl rfl)
theorem dX3_libre_33 : decode cX3_libre 33 = .ok (.ireturn, 1) := dk_172 (dk_at dksX3_libre_1 9 rfl rfl)
theorem dX3_libre_34 : decode cX3_libre 34 = .ok (.aload_n 0, 1) := dk_42 (dk_at dksX3_libre_1 10 rfl rfl)
theorem dX3_libre_35 : decode cX3_libre 35 = .ok (.getfield 13, 3) := dk_180 0 13 (dk_at dksX3_libre_1 11 rfl rfl)
theorem dX3_libre_38 : decode cX3_libre 38 = .ok (.iload_n 1, 1) := dk_27 (dk_at dksX3_libre_1 14 rfl rfl)
theorem dX3_libre_39 : decode cX3_libre 39 = .ok (.iaload, 1) := dk_46 (dk_at dksX3_libre_1 15 rfl rfl)
theorem dX3_libre_40 : decode cX3_libre 40 = .ok (.istore_n 3, 1) := dk_62 (dk_at dksX3_libre_1 16 rfl rfl)
theorem dX3_libre_41 : decode cX3_libre 41 = .ok (.aload_n 0, 1) := dk_42 (dk_at dksX3_libre_1 17 rfl rfl)
theorem dX3_libre_42 : decode cX3_libre 42 = .ok (.getfield 13, 3) := dk_180 0 13 (dk_at dksX3_libre_1 18 rfl rfl)
theorem dX3_libre_45 : decode cX3_libre 45 = .ok (.iload_n 1, 1) := dk_27 (dk_at dksX3_libre_1 21 rfl rfl)
theorem dX3_libre_46 : decode cX3_libre 46 = .ok (.iload_n 2, 1) := dk_28 (dk_at dksX3_libre_1 22 rfl rfl)
theorem dX3_libre_47 : decode cX3_libre 47 = .ok (.iastore, 1) := dk_79 (dk_at dksX3_libre_1 23 rfl rfl)
theorem dX3_libre_48 : decode cX3_libre 48 = .ok (.iload_n 3, 1) := dk_29 (dk_at dksX3_libre_2 0 rfl rfl)
theorem dX3_libre_49 : decode cX3_libre 49 = .ok (.ireturn, 1) := dk_172 (dk_at dksX3_libre_2 1 rfl rfl)
abbrev cX3_isOn : ByteArray := prog_9_method_8_code
def yX3_isOn : MethodName := ⟨RX3, "isOn", "()Z"⟩
def dkwX3_isOn_0 : List UInt8 := [42, 180, 0, 26, 4, 46, 4, 160, 0, 7, 4, 167, 0, 4, 3, 172]
abbrev dktX3_isOn_0 : List UInt8 := dkwX3_isOn_0 ++ []
theorem dksX3_isOn_0 : cX3_isOn.data.toList.drop 0 = dktX3_isOn_0 := by decide +kernel
theorem dX3_isOn_0 : decode cX3_isOn 0 = .ok (.aload_n 0, 1) := dk_42 (dk_at dksX3_isOn_0 0 rfl rfl)
theorem dX3_isOn_1 : decode cX3_isOn 1 = .ok (.getfield 26, 3) := dk_180 0 26 (dk_at dksX3_isOn_0 1 rfl rfl)
theorem dX3_isOn_4 : decode cX3_isOn 4 = .ok (.iconst 1, 1) := dk_4 (dk_at dksX3_isOn_0 4 rfl rfl)
theorem dX3_isOn_5 : decode cX3_isOn 5 = .ok (.iaload, 1) := dk_46 (dk_at dksX3_isOn_0 5 rfl rfl)
theorem dX3_isOn_6 : decode cX3_isOn 6 = .ok (.iconst 1, 1) := dk_4 (dk_at dksX3_isOn_0 6 rfl rfl)
theorem dX3_isOn_7 : decode cX3_isOn 7 = .ok (.if_icmp .ne 7, 3) := dk_160 0 7 (dk_at dksX3_isOn_0 7 rfl rfl)
theorem dX3_isOn_10 : decode cX3_isOn 10 = .ok (.iconst 1, 1) := dk_4 (dk_at dksX3_isOn_0 10 rfl rfl)
theorem dX3_isOn_11 : decode cX3_isOn 11 = .ok (.goto 4, 3) := dk_167 0 4 (dk_at dksX3_isOn_0 11 rfl rfl)
theorem dX3_isOn_14 : decode cX3_isOn 14 = .ok (.iconst 0, 1) := dk_3 (dk_at dksX3_isOn_0 14 rfl rfl)
theorem dX3_isOn_15 : decode cX3_isOn 15 = .ok (.ireturn, 1) := dk_172 (dk_at dksX3_isOn_0 15 rfl rfl)
abbrev cX3_set : ByteArray := prog_9_method_13_code
def yX3_set : MethodName := ⟨RX3, "set", "(II)I"⟩
def dkwX3_set_3 : List UInt8 := [172, 42, 180, 0, 16, 27, 46, 62, 42, 180, 0, 16, 27, 28, 79, 29, 172]
abbrev dktX3_set_3 : List UInt8 := dkwX3_set_3 ++ []
def dkwX3_set_2 : List UInt8 := [180, 0, 16, 4, 46, 163, 0, 18, 27, 4, 160, 0, 15, 28, 42, 180, 0, 16, 3, 46, 162, 0, 5, 2]
abbrev dktX3_set_2 : List UInt8 := dkwX3_set_2 ++ dktX3_set_3
def dkwX3_set_1 : List UInt8 := [46, 184, 0, 67, 153, 0, 42, 42, 180, 0, 26, 3, 46, 2, 160, 0, 32, 27, 154, 0, 13, 28, 42]
abbrev dktX3_set_1 : List UInt8 := dkwX3_set_1 ++ dktX3_set_2
def dkwX3_set_0 : List UInt8 := [42, 3, 181, 0, 63, 27, 3, 8, 184, 0, 67, 153, 0, 59, 28, 178, 0, 86, 27, 46, 178, 0, 89, 27]
abbrev dktX3_set_0 : List UInt8 := dkwX3_set_0 ++ dktX3_set_1
theorem dksX3_set_0 : cX3_set.data.toList.drop 0 = dktX3_set_0 := by decide +kernel
theorem dksX3_set_1 : cX3_set.data.toList.drop 24 = dktX3_set_1 := dk_seg dksX3_set_0 24 rfl rfl
theorem dksX3_set_2 : cX3_set.data.toList.drop 47 = dktX3_set_2 := dk_seg dksX3_set_1 23 rfl rfl
theorem dksX3_set_3 : cX3_set.data.toList.drop 71 = dktX3_set_3 := dk_seg dksX3_set_2 24 rfl rfl
theorem dX3_set_0 : decode cX3_set 0 = .ok (.aload_n 0, 1) := dk_42 (dk_at dksX3_set_0 0 rfl rfl)
theorem dX3_set_1 : decode cX3_set 1 = .ok (.iconst 0, 1) := dk_3 (dk_at dksX3_set_0 1 rfl rfl)
theorem dX3_set_2 : decode cX3_set 2 = .ok (.putfield 63, 3) := dk_181 0 63 (dk_at dksX3_set_0 2 rfl rfl)
theorem dX3_set_5 : decode cX3_set 5 = .ok (.iload_n 1, 1) := dk_27 (dk_at dksX3_set_0 5 rfl rfl)
theorem dX3_set_6 : decode cX3_set 6 = .ok (.iconst 0, 1) := dk_3 (dk_at dksX3_set_0 6 rfl rfl)
theorem dX3_set_7 : decode cX3_set 7 = .ok (.iconst 5, 1) := dk_8 (dk_at dksX3_set_0 7 rfl rfl)
theorem dX3_set_8 : decode cX3_set 8 = .ok (.invokestatic 67, 3) := dk_184 0 67 (dk_at dksX3_set_0 8 rfl rfl)
theorem dX3_set_11 : decode cX3_set 11 = .ok (.ifCond .eq 59, 3) := dk_153 0 59 (dk_at dksX3_set_0 11 rfl rfl)
theorem dX3_set_14 : decode cX3_set 14 = .ok (.iload_n 2, 1) := dk_28 (dk_at dksX3_set_0 14 rfl rfl)
theorem dX3_set_15 : decode cX3_set 15 = .ok (.getstatic 86, 3) := dk_178 0 86 (dk_at dksX3_set_0 15 rfl rfl)
theorem dX3_set_18 : decode cX3_set 18 = .ok (.iload_n 1, 1) := dk_27 (dk_at dksX3_set_0 18 rfl rfl)
theorem dX3_set_19 : decode cX3_set 19 = .ok (.iaload, 1) := dk_46 (dk_at dksX3_set_0 19 rfl rfl)
theorem dX3_set_20 : decode cX3_set 20 = .ok (.getstatic 89, 3) := dk_178 0 89 (dk_at dksX3_set_0 20 rfl rfl)
theorem dX3_set_23 : decode cX3_set 23 = .ok (.iload_n 1, 1) := dk_27 (dk_at dksX3_set_0 23 rfl rfl)
theorem dX3_set_24 : decode cX3_set 24 = .ok (.iaload, 1) := dk_46 (dk_at dksX3_set_1 0 rfl rfl)
theorem dX3_set_25 : decode cX3_set 25 = .ok (.invokestatic 67, 3) := dk_184 0 67 (dk_at dksX3_set_1 1 rfl rfl)
theorem dX3_set_28 : decode cX3_set 28 = .ok (.ifCond .eq 42, 3) := dk_153 0 42 (dk_at dksX3_set_1 4 rfl rfl)
theorem dX3_set_31 : decode cX3_set 31 = .ok (.aload_n 0, 1) := dk_42 (dk_at dksX3_set_1 7 rfl rfl)
theorem dX3_set_32 : decode cX3_set 32 = .ok (.getfield 26, 3) := dk_180 0 26 (dk_at dksX3_set_1 8 rfl rfl)
theorem dX3_set_35 : decode cX3_set 35 = .ok (.iconst 0, 1) := dk_3 (dk_at dksX3_set_1 11 rfl rfl)
theorem dX3_set_36 : decode cX3_set 36 = .ok (.iaload, 1) := dk_46 (dk_at dksX3_set_1 12 rfl rfl)
theorem dX3_set_37 : decode cX3_set 37 = .ok (.iconst (-1), 1) := dk_2 (dk_at dksX3_set_1 13 rfl rfl)
theorem dX3_set_38 : decode cX3_set 38 = .ok (.if_icmp .ne 32, 3) := dk_160 0 32 (dk_at dksX3_set_1 14 rfl rfl)
theorem dX3_set_41 : decode cX3_set 41 = .ok (.iload_n 1, 1) := dk_27 (dk_at dksX3_set_1 17 rfl rfl)
theorem dX3_set_42 : decode cX3_set 42 = .ok (.ifCond .ne 13, 3) := dk_154 0 13 (dk_at dksX3_set_1 18 rfl rfl)
theorem dX3_set_45 : decode cX3_set 45 = .ok (.iload_n 2, 1) := dk_28 (dk_at dksX3_set_1 21 rfl rfl)
theorem dX3_set_46 : decode cX3_set 46 = .ok (.aload_n 0, 1) := dk_42 (dk_at dksX3_set_1 22 rfl rfl)
theorem dX3_set_47 : decode cX3_set 47 = .ok (.getfield 16, 3) := dk_180 0 16 (dk_at dksX3_set_2 0 rfl rfl)
theorem dX3_set_50 : decode cX3_set 50 = .ok (.iconst 1, 1) := dk_4 (dk_at dksX3_set_2 3 rfl rfl)
theorem dX3_set_51 : decode cX3_set 51 = .ok (.iaload, 1) := dk_46 (dk_at dksX3_set_2 4 rfl rfl)
theorem dX3_set_52 : decode cX3_set 52 = .ok (.if_icmp .gt 18, 3) := dk_163 0 18 (dk_at dksX3_set_2 5 rfl rfl)
theorem dX3_set_55 : decode cX3_set 55 = .ok (.iload_n 1, 1) := dk_27 (dk_at dksX3_set_2 8 rfl rfl)
theorem dX3_set_56 : decode cX3_set 56 = .ok (.iconst 1, 1) := dk_4 (dk_at dksX3_set_2 9 rfl rfl)
theorem dX3_set_57 : decode cX3_set 57 = .ok (.if_icmp .ne 15, 3) := dk_160 0 15 (dk_at dksX3_set_2 10 rfl rfl)
theorem dX3_set_60 : decode cX3_set 60 = .ok (.iload_n 2, 1) := dk_28 (dk_at dksX3_set_2 13 rfl rfl)
theorem dX3_set_61 : decode cX3_set 61 = .ok (.aload_n 0, 1) := dk_42 (dk_at dksX3_set_2 14 rfl rfl)
theorem dX3_set_62 : decode cX3_set 62 = .ok (.getfield 16, 3) := dk_180 0 16 (dk_at dksX3_set_2 15 rfl rfl)
theorem dX3_set_65 : decode cX3_set 65 = .ok (.iconst 0, 1) := dk_3 (dk_at dksX3_set_2 18 rfl rfl)
theorem dX3_set_66 : decode cX3_set 66 = .ok (.iaload, 1) := dk_46 (dk_at dksX3_set_2 19 rfl rfl)
theorem dX3_set_67 : decode cX3_set 67 = .ok (.if_icmp .ge 5, 3) := dk_162 0 5 (dk_at dksX3_set_2 20 rfl rfl)
theorem dX3_set_70 : decode cX3_set 70 = .ok (.iconst (-1), 1) := dk_2 (dk_at dksX3_set_2 23 rfl rfl)
theorem dX3_set_71 : decode cX3_set 71 = .ok (.ireturn, 1) := dk_172 (dk_at dksX3_set_3 0 rfl rfl)
theorem dX3_set_72 : decode cX3_set 72 = .ok (.aload_n 0, 1) := dk_42 (dk_at dksX3_set_3 1 rfl rfl)
theorem dX3_set_73 : decode cX3_set 73 = .ok (.getfield 16, 3) := dk_180 0 16 (dk_at dksX3_set_3 2 rfl rfl)
theorem dX3_set_76 : decode cX3_set 76 = .ok (.iload_n 1, 1) := dk_27 (dk_at dksX3_set_3 5 rfl rfl)
theorem dX3_set_77 : decode cX3_set 77 = .ok (.iaload, 1) := dk_46 (dk_at dksX3_set_3 6 rfl rfl)
theorem dX3_set_78 : decode cX3_set 78 = .ok (.istore_n 3, 1) := dk_62 (dk_at dksX3_set_3 7 rfl rfl)
theorem dX3_set_79 : decode cX3_set 79 = .ok (.aload_n 0, 1) := dk_42 (dk_at dksX3_set_3 8 rfl rfl)
theorem dX3_set_80 : decode cX3_set 80 = .ok (.getfield 16, 3) := dk_180 0 16 (dk_at dksX3_set_3 9 rfl rfl)
theorem dX3_set_83 : decode cX3_set 83 = .ok (.iload_n 1, 1) := dk_27 (dk_at dksX3_set_3 12 rfl rfl)
theorem dX3_set_84 : decode cX3_set 84 = .ok (.iload_n 2, 1) := dk_28 (dk_at dksX3_set_3 13 rfl rfl)
theorem dX3_set_85 : decode cX3_set 85 = .ok (.iastore, 1) := dk_79 (dk_at dksX3_set_3 14 rfl rfl)
theorem dX3_set_86 : decode cX3_set 86 = .ok (.iload_n 3, 1) := dk_29 (dk_at dksX3_set_3 15 rfl rfl)
theorem dX3_set_87 : decode cX3_set 87 = .ok (.ireturn, 1) := dk_172 (dk_at dksX3_set_3 16 rfl rfl)
abbrev cX3_lineUp : ByteArray := prog_9_method_14_code
def yX3_lineUp : MethodName := ⟨RX3, "lineUp", "(IIIIIII)Z"⟩
def dkwX3_lineUp_8 : List UInt8 := [132, 8, 1, 167, 255, 227, 42, 180, 0, 22, 27, 4, 84, 4, 172]
abbrev dktX3_lineUp_8 : List UInt8 := dkwX3_lineUp_8 ++ []
def dkwX3_lineUp_7 : List UInt8 := [162, 0, 28, 42, 180, 0, 19, 16, 6, 27, 104, 21, 8, 96, 42, 180, 0, 42, 21, 8, 46, 79]
abbrev dktX3_lineUp_7 : List UInt8 := dkwX3_lineUp_7 ++ dktX3_lineUp_8
def dkwX3_lineUp_6 : List UInt8 := [160, 0, 5, 3, 172, 132, 9, 1, 167, 255, 227, 132, 8, 1, 167, 255, 180, 3, 54, 8, 21, 8, 16, 6]
abbrev dktX3_lineUp_6 : List UInt8 := dkwX3_lineUp_6 ++ dktX3_lineUp_7
def dkwX3_lineUp_5 : List UInt8 := [3, 54, 9, 21, 9, 21, 8, 162, 0, 28, 42, 180, 0, 42, 21, 9, 46, 42, 180, 0, 42, 21, 8, 46]
abbrev dktX3_lineUp_5 : List UInt8 := dkwX3_lineUp_5 ++ dktX3_lineUp_6
def dkwX3_lineUp_4 : List UInt8 := [184, 0, 75, 153, 0, 19, 42, 180, 0, 42, 21, 8, 46, 42, 180, 0, 13, 27, 46, 160, 0, 5, 3, 172]
abbrev dktX3_lineUp_4 : List UInt8 := dkwX3_lineUp_4 ++ dktX3_lineUp_5
def dkwX3_lineUp_3 : List UInt8 := [159, 0, 5, 3, 172, 3, 54, 8, 21, 8, 16, 6, 162, 0, 75, 42, 180, 0, 42, 21, 8, 46]
abbrev dktX3_lineUp_3 : List UInt8 := dkwX3_lineUp_3 ++ dktX3_lineUp_4
def dkwX3_lineUp_2 : List UInt8 := [21, 7, 79, 27, 184, 0, 71, 153, 0, 20, 42, 182, 0, 82, 154, 0, 13, 42, 180, 0, 26, 7, 46, 2]
abbrev dktX3_lineUp_2 : List UInt8 := dkwX3_lineUp_2 ++ dktX3_lineUp_3
def dkwX3_lineUp_1 : List UInt8 := [21, 4, 79, 42, 180, 0, 42, 6, 21, 5, 79, 42, 180, 0, 42, 7, 21, 6, 79, 42, 180, 0, 42, 8]
abbrev dktX3_lineUp_1 : List UInt8 := dkwX3_lineUp_1 ++ dktX3_lineUp_2
def dkwX3_lineUp_0 : List UInt8 := [42, 3, 181, 0, 63, 42, 180, 0, 42, 3, 28, 79, 42, 180, 0, 42, 4, 29, 79, 42, 180, 0, 42, 5]
abbrev dktX3_lineUp_0 : List UInt8 := dkwX3_lineUp_0 ++ dktX3_lineUp_1
theorem dksX3_lineUp_0 : cX3_lineUp.data.toList.drop 0 = dktX3_lineUp_0 := by decide +kernel
theorem dksX3_lineUp_1 : cX3_lineUp.data.toList.drop 24 = dktX3_lineUp_1 := dk_seg dksX3_lineUp_0 24 rfl rfl
theorem dksX3_lineUp_2 : cX3_lineUp.data.toList.drop 48 = dktX3_lineUp_2 := dk_seg dksX3_lineUp_1 24 rfl rfl
theorem dksX3_lineUp_3 : cX3_lineUp.data.toList.drop 72 = dktX3_lineUp_3 := dk_seg dksX3_lineUp_2 24 rfl rfl
theorem dksX3_lineUp_4 : cX3_lineUp.data.toList.drop 94 = dktX3_lineUp_4 := dk_seg dksX3_lineUp_3 22 rfl rfl
theorem dksX3_lineUp_5 : cX3_lineUp.data.toList.drop 118 = dktX3_lineUp_5 := dk_seg dksX3_lineUp_4 24 rfl rfl
theorem dksX3_lineUp_6 : cX3_lineUp.data.toList.drop 142 = dktX3_lineUp_6 := dk_seg dksX3_lineUp_5 24 rfl rfl
theorem dksX3_lineUp_7 : cX3_lineUp.data.toList.drop 166 = dktX3_lineUp_7 := dk_seg dksX3_lineUp_6 24 rfl rfl
theorem dksX3_lineUp_8 : cX3_lineUp.data.toList.drop 188 = dktX3_lineUp_8 := dk_seg dksX3_lineUp_7 22 rfl rfl
theorem dX3_lineUp_0 : decode cX3_lineUp 0 = .ok (.aload_n 0, 1) := dk_42 (dk_at dksX3_lineUp_0 0 rfl rfl)
theorem dX3_lineUp_1 : decode cX3_lineUp 1 = .ok (.iconst 0, 1) := dk_3 (dk_at dksX3_lineUp_0 1 rfl rfl)
theorem dX3_lineUp_2 : decode cX3_lineUp 2 = .ok (.putfield 63, 3) := dk_181 0 63 (dk_at dksX3_lineUp_0 2 rfl rfl)
theorem dX3_lineUp_5 : decode cX3_lineUp 5 = .ok (.aload_n 0, 1) := dk_42 (dk_at dksX3_lineUp_0 5 rfl rfl)
theorem dX3_lineUp_6 : decode cX3_lineUp 6 = .ok (.getfield 42, 3) := dk_180 0 42 (dk_at dksX3_lineUp_0 6 rfl rfl)
theorem dX3_lineUp_9 : decode cX3_lineUp 9 = .ok (.iconst 0, 1) := dk_3 (dk_at dksX3_lineUp_0 9 rfl rfl)
theorem dX3_lineUp_10 : decode cX3_lineUp 10 = .ok (.iload_n 2, 1) := dk_28 (dk_at dksX3_lineUp_0 10 rfl rfl)
theorem dX3_lineUp_11 : decode cX3_lineUp 11 = .ok (.iastore, 1) := dk_79 (dk_at dksX3_lineUp_0 11 rfl rfl)
theorem dX3_lineUp_12 : decode cX3_lineUp 12 = .ok (.aload_n 0, 1) := dk_42 (dk_at dksX3_lineUp_0 12 rfl rfl)
theorem dX3_lineUp_13 : decode cX3_lineUp 13 = .ok (.getfield 42, 3) := dk_180 0 42 (dk_at dksX3_lineUp_0 13 rfl rfl)
theorem dX3_lineUp_16 : decode cX3_lineUp 16 = .ok (.iconst 1, 1) := dk_4 (dk_at dksX3_lineUp_0 16 rfl rfl)
theorem dX3_lineUp_17 : decode cX3_lineUp 17 = .ok (.iload_n 3, 1) := dk_29 (dk_at dksX3_lineUp_0 17 rfl rfl)
theorem dX3_lineUp_18 : decode cX3_lineUp 18 = .ok (.iastore, 1) := dk_79 (dk_at dksX3_lineUp_0 18 rfl rfl)
theorem dX3_lineUp_19 : decode cX3_lineUp 19 = .ok (.aload_n 0, 1) := dk_42 (dk_at dksX3_lineUp_0 19 rfl rfl)
theorem dX3_lineUp_20 : decode cX3_lineUp 20 = .ok (.getfield 42, 3) := dk_180 0 42 (dk_at dksX3_lineUp_0 20 rfl rfl)
theorem dX3_lineUp_23 : decode cX3_lineUp 23 = .ok (.iconst 2, 1) := dk_5 (dk_at dksX3_lineUp_0 23 rfl rfl)
theorem dX3_lineUp_24 : decode cX3_lineUp 24 = .ok (.iload 4, 2) := dk_21 4 (dk_at dksX3_lineUp_1 0 rfl rfl)
theorem dX3_lineUp_26 : decode cX3_lineUp 26 = .ok (.iastore, 1) := dk_79 (dk_at dksX3_lineUp_1 2 rfl rfl)
theorem dX3_lineUp_27 : decode cX3_lineUp 27 = .ok (.aload_n 0, 1) := dk_42 (dk_at dksX3_lineUp_1 3 rfl rfl)
theorem dX3_lineUp_28 : decode cX3_lineUp 28 = .ok (.getfield 42, 3) := dk_180 0 42 (dk_at dksX3_lineUp_1 4 rfl rfl)
theorem dX3_lineUp_31 : decode cX3_lineUp 31 = .ok (.iconst 3, 1) := dk_6 (dk_at dksX3_lineUp_1 7 rfl rfl)
theorem dX3_lineUp_32 : decode cX3_lineUp 32 = .ok (.iload 5, 2) := dk_21 5 (dk_at dksX3_lineUp_1 8 rfl rfl)
theorem dX3_lineUp_34 : decode cX3_lineUp 34 = .ok (.iastore, 1) := dk_79 (dk_at dksX3_lineUp_1 10 rfl rfl)
theorem dX3_lineUp_35 : decode cX3_lineUp 35 = .ok (.aload_n 0, 1) := dk_42 (dk_at dksX3_lineUp_1 11 rfl rfl)
theorem dX3_lineUp_36 : decode cX3_lineUp 36 = .ok (.getfield 42, 3) := dk_180 0 42 (dk_at dksX3_lineUp_1 12 rfl rfl)
theorem dX3_lineUp_39 : decode cX3_lineUp 39 = .ok (.iconst 4, 1) := dk_7 (dk_at dksX3_lineUp_1 15 rfl rfl)
theorem dX3_lineUp_40 : decode cX3_lineUp 40 = .ok (.iload 6, 2) := dk_21 6 (dk_at dksX3_lineUp_1 16 rfl rfl)
theorem dX3_lineUp_42 : decode cX3_lineUp 42 = .ok (.iastore, 1) := dk_79 (dk_at dksX3_lineUp_1 18 rfl rfl)
theorem dX3_lineUp_43 : decode cX3_lineUp 43 = .ok (.aload_n 0, 1) := dk_42 (dk_at dksX3_lineUp_1 19 rfl rfl)
theorem dX3_lineUp_44 : decode cX3_lineUp 44 = .ok (.getfield 42, 3) := dk_180 0 42 (dk_at dksX3_lineUp_1 20 rfl rfl)
theorem dX3_lineUp_47 : decode cX3_lineUp 47 = .ok (.iconst 5, 1) := dk_8 (dk_at dksX3_lineUp_1 23 rfl rfl)
theorem dX3_lineUp_48 : decode cX3_lineUp 48 = .ok (.iload 7, 2) := dk_21 7 (dk_at dksX3_lineUp_2 0 rfl rfl)
theorem dX3_lineUp_50 : decode cX3_lineUp 50 = .ok (.iastore, 1) := dk_79 (dk_at dksX3_lineUp_2 2 rfl rfl)
theorem dX3_lineUp_51 : decode cX3_lineUp 51 = .ok (.iload_n 1, 1) := dk_27 (dk_at dksX3_lineUp_2 3 rfl rfl)
theorem dX3_lineUp_52 : decode cX3_lineUp 52 = .ok (.invokestatic 71, 3) := dk_184 0 71 (dk_at dksX3_lineUp_2 4 rfl rfl)
theorem dX3_lineUp_55 : decode cX3_lineUp 55 = .ok (.ifCond .eq 20, 3) := dk_153 0 20 (dk_at dksX3_lineUp_2 7 rfl rfl)
theorem dX3_lineUp_58 : decode cX3_lineUp 58 = .ok (.aload_n 0, 1) := dk_42 (dk_at dksX3_lineUp_2 10 rfl rfl)
theorem dX3_lineUp_59 : decode cX3_lineUp 59 = .ok (.invokevirtual 82, 3) := dk_182 0 82 (dk_at dksX3_lineUp_2 11 rfl rfl)
theorem dX3_lineUp_62 : decode cX3_lineUp 62 = .ok (.ifCond .ne 13, 3) := dk_154 0 13 (dk_at dksX3_lineUp_2 14 rfl rfl)
theorem dX3_lineUp_65 : decode cX3_lineUp 65 = .ok (.aload_n 0, 1) := dk_42 (dk_at dksX3_lineUp_2 17 rfl rfl)
theorem dX3_lineUp_66 : decode cX3_lineUp 66 = .ok (.getfield 26, 3) := dk_180 0 26 (dk_at dksX3_lineUp_2 18 rfl rfl)
theorem dX3_lineUp_69 : decode cX3_lineUp 69 = .ok (.iconst 4, 1) := dk_7 (dk_at dksX3_lineUp_2 21 rfl rfl)
theorem dX3_lineUp_70 : decode cX3_lineUp 70 = .ok (.iaload, 1) := dk_46 (dk_at dksX3_lineUp_2 22 rfl rfl)
theorem dX3_lineUp_71 : decode cX3_lineUp 71 = .ok (.iconst (-1), 1) := dk_2 (dk_at dksX3_lineUp_2 23 rfl rfl)
theorem dX3_lineUp_72 : decode cX3_lineUp 72 = .ok (.if_icmp .eq 5, 3) := dk_159 0 5 (dk_at dksX3_lineUp_3 0 rfl rfl)
theorem dX3_lineUp_75 : decode cX3_lineUp 75 = .ok (.iconst 0, 1) := dk_3 (dk_at dksX3_lineUp_3 3 rfl rfl)
theorem dX3_lineUp_76 : decode cX3_lineUp 76 = .ok (.ireturn, 1) := dk_172 (dk_at dksX3_lineUp_3 4 rfl rfl)
theorem dX3_lineUp_77 : decode cX3_lineUp 77 = .ok (.iconst 0, 1) := dk_3 (dk_at dksX3_lineUp_3 5 rfl rfl)
theorem dX3_lineUp_78 : decode cX3_lineUp 78 = .ok (.istore 8, 2) := dk_54 8 (dk_at dksX3_lineUp_3 6 rfl rfl)
theorem dX3_lineUp_80 : decode cX3_lineUp 80 = .ok (.iload 8, 2) := dk_21 8 (dk_at dksX3_lineUp_3 8 rfl rfl)
theorem dX3_lineUp_82 : decode cX3_lineUp 82 = .ok (.bipush 6, 2) := dk_16 6 (dk_at dksX3_lineUp_3 10 rfl rfl)
theorem dX3_lineUp_84 : decode cX3_lineUp 84 = .ok (.if_icmp .ge 75, 3) := dk_162 0 75 (dk_at dksX3_lineUp_3 12 rfl rfl)
theorem dX3_lineUp_87 : decode cX3_lineUp 87 = .ok (.aload_n 0, 1) := dk_42 (dk_at dksX3_lineUp_3 15 rfl rfl)
theorem dX3_lineUp_88 : decode cX3_lineUp 88 = .ok (.getfield 42, 3) := dk_180 0 42 (dk_at dksX3_lineUp_3 16 rfl rfl)
theorem dX3_lineUp_91 : decode cX3_lineUp 91 = .ok (.iload 8, 2) := dk_21 8 (dk_at dksX3_lineUp_3 19 rfl rfl)
theorem dX3_lineUp_93 : decode cX3_lineUp 93 = .ok (.iaload, 1) := dk_46 (dk_at dksX3_lineUp_3 21 rfl rfl)
theorem dX3_lineUp_94 : decode cX3_lineUp 94 = .ok (.invokestatic 75, 3) := dk_184 0 75 (dk_at dksX3_lineUp_4 0 rfl rfl)
theorem dX3_lineUp_97 : decode cX3_lineUp 97 = .ok (.ifCond .eq 19, 3) := dk_153 0 19 (dk_at dksX3_lineUp_4 3 rfl rfl)
theorem dX3_lineUp_100 : decode cX3_lineUp 100 = .ok (.aload_n 0, 1) := dk_42 (dk_at dksX3_lineUp_4 6 rfl rfl)
theorem dX3_lineUp_101 : decode cX3_lineUp 101 = .ok (.getfield 42, 3) := dk_180 0 42 (dk_at dksX3_lineUp_4 7 rfl rfl)
theorem dX3_lineUp_104 : decode cX3_lineUp 104 = .ok (.iload 8, 2) := dk_21 8 (dk_at dksX3_lineUp_4 10 rfl rfl)
theorem dX3_lineUp_106 : decode cX3_lineUp 106 = .ok (.iaload, 1) := dk_46 (dk_at dksX3_lineUp_4 12 rfl rfl)
theorem dX3_lineUp_107 : decode cX3_lineUp 107 = .ok (.aload_n 0, 1) := dk_42 (dk_at dksX3_lineUp_4 13 rfl rfl)
theorem dX3_lineUp_108 : decode cX3_lineUp 108 = .ok (.getfield 13, 3) := dk_180 0 13 (dk_at dksX3_lineUp_4 14 rfl rfl)
theorem dX3_lineUp_111 : decode cX3_lineUp 111 = .ok (.iload_n 1, 1) := dk_27 (dk_at dksX3_lineUp_4 17 rfl rfl)
theorem dX3_lineUp_112 : decode cX3_lineUp 112 = .ok (.iaload, 1) := dk_46 (dk_at dksX3_lineUp_4 18 rfl rfl)
theorem dX3_lineUp_113 : decode cX3_lineUp 113 = .ok (.if_icmp .ne 5, 3) := dk_160 0 5 (dk_at dksX3_lineUp_4 19 rfl rfl)
theorem dX3_lineUp_116 : decode cX3_lineUp 116 = .ok (.iconst 0, 1) := dk_3 (dk_at dksX3_lineUp_4 22 rfl rfl)
theorem dX3_lineUp_117 : decode cX3_lineUp 117 = .ok (.ireturn, 1) := dk_172 (dk_at dksX3_lineUp_4 23 rfl rfl)
theorem dX3_lineUp_118 : decode cX3_lineUp 118 = .ok (.iconst 0, 1) := dk_3 (dk_at dksX3_lineUp_5 0 rfl rfl)
theorem dX3_lineUp_119 : decode cX3_lineUp 119 = .ok (.istore 9, 2) := dk_54 9 (dk_at dksX3_lineUp_5 1 rfl rfl)
theorem dX3_lineUp_121 : decode cX3_lineUp 121 = .ok (.iload 9, 2) := dk_21 9 (dk_at dksX3_lineUp_5 3 rfl rfl)
theorem dX3_lineUp_123 : decode cX3_lineUp 123 = .ok (.iload 8, 2) := dk_21 8 (dk_at dksX3_lineUp_5 5 rfl rfl)
theorem dX3_lineUp_125 : decode cX3_lineUp 125 = .ok (.if_icmp .ge 28, 3) := dk_162 0 28 (dk_at dksX3_lineUp_5 7 rfl rfl)
theorem dX3_lineUp_128 : decode cX3_lineUp 128 = .ok (.aload_n 0, 1) := dk_42 (dk_at dksX3_lineUp_5 10 rfl rfl)
theorem dX3_lineUp_129 : decode cX3_lineUp 129 = .ok (.getfield 42, 3) := dk_180 0 42 (dk_at dksX3_lineUp_5 11 rfl rfl)
theorem dX3_lineUp_132 : decode cX3_lineUp 132 = .ok (.iload 9, 2) := dk_21 9 (dk_at dksX3_lineUp_5 14 rfl rfl)
theorem dX3_lineUp_134 : decode cX3_lineUp 134 = .ok (.iaload, 1) := dk_46 (dk_at dksX3_lineUp_5 16 rfl rfl)
theorem dX3_lineUp_135 : decode cX3_lineUp 135 = .ok (.aload_n 0, 1) := dk_42 (dk_at dksX3_lineUp_5 17 rfl rfl)
theorem dX3_lineUp_136 : decode cX3_lineUp 136 = .ok (.getfield 42, 3) := dk_180 0 42 (dk_at dksX3_lineUp_5 18 rfl rfl)
theorem dX3_lineUp_139 : decode cX3_lineUp 139 = .ok (.iload 8, 2) := dk_21 8 (dk_at dksX3_lineUp_5 21 rfl rfl)
theorem dX3_lineUp_141 : decode cX3_lineUp 141 = .ok (.iaload, 1) := dk_46 (dk_at dksX3_lineUp_5 23 rfl rfl)
theorem dX3_lineUp_142 : decode cX3_lineUp 142 = .ok (.if_icmp .ne 5, 3) := dk_160 0 5 (dk_at dksX3_lineUp_6 0 rfl rfl)
theorem dX3_lineUp_145 : decode cX3_lineUp 145 = .ok (.iconst 0, 1) := dk_3 (dk_at dksX3_lineUp_6 3 rfl rfl)
theorem dX3_lineUp_146 : decode cX3_lineUp 146 = .ok (.ireturn, 1) := dk_172 (dk_at dksX3_lineUp_6 4 rfl rfl)
theorem dX3_lineUp_147 : decode cX3_lineUp 147 = .ok (.iinc 9 1, 3) := dk_132 9 1 (dk_at dksX3_lineUp_6 5 rfl rfl)
theorem dX3_lineUp_150 : decode cX3_lineUp 150 = .ok (.goto (-29), 3) := dk_167 255 227 (dk_at dksX3_lineUp_6 8 rfl rfl)
theorem dX3_lineUp_153 : decode cX3_lineUp 153 = .ok (.iinc 8 1, 3) := dk_132 8 1 (dk_at dksX3_lineUp_6 11 rfl rfl)
theorem dX3_lineUp_156 : decode cX3_lineUp 156 = .ok (.goto (-76), 3) := dk_167 255 180 (dk_at dksX3_lineUp_6 14 rfl rfl)
theorem dX3_lineUp_159 : decode cX3_lineUp 159 = .ok (.iconst 0, 1) := dk_3 (dk_at dksX3_lineUp_6 17 rfl rfl)
theorem dX3_lineUp_160 : decode cX3_lineUp 160 = .ok (.istore 8, 2) := dk_54 8 (dk_at dksX3_lineUp_6 18 rfl rfl)
theorem dX3_lineUp_162 : decode cX3_lineUp 162 = .ok (.iload 8, 2) := dk_21 8 (dk_at dksX3_lineUp_6 20 rfl rfl)
theorem dX3_lineUp_164 : decode cX3_lineUp 164 = .ok (.bipush 6, 2) := dk_16 6 (dk_at dksX3_lineUp_6 22 rfl rfl)
theorem dX3_lineUp_166 : decode cX3_lineUp 166 = .ok (.if_icmp .ge 28, 3) := dk_162 0 28 (dk_at dksX3_lineUp_7 0 rfl rfl)
theorem dX3_lineUp_169 : decode cX3_lineUp 169 = .ok (.aload_n 0, 1) := dk_42 (dk_at dksX3_lineUp_7 3 rfl rfl)
theorem dX3_lineUp_170 : decode cX3_lineUp 170 = .ok (.getfield 19, 3) := dk_180 0 19 (dk_at dksX3_lineUp_7 4 rfl rfl)
theorem dX3_lineUp_173 : decode cX3_lineUp 173 = .ok (.bipush 6, 2) := dk_16 6 (dk_at dksX3_lineUp_7 7 rfl rfl)
theorem dX3_lineUp_175 : decode cX3_lineUp 175 = .ok (.iload_n 1, 1) := dk_27 (dk_at dksX3_lineUp_7 9 rfl rfl)
theorem dX3_lineUp_176 : decode cX3_lineUp 176 = .ok (.imul, 1) := dk_104 (dk_at dksX3_lineUp_7 10 rfl rfl)
theorem dX3_lineUp_177 : decode cX3_lineUp 177 = .ok (.iload 8, 2) := dk_21 8 (dk_at dksX3_lineUp_7 11 rfl rfl)
theorem dX3_lineUp_179 : decode cX3_lineUp 179 = .ok (.iadd, 1) := dk_96 (dk_at dksX3_lineUp_7 13 rfl rfl)
theorem dX3_lineUp_180 : decode cX3_lineUp 180 = .ok (.aload_n 0, 1) := dk_42 (dk_at dksX3_lineUp_7 14 rfl rfl)
theorem dX3_lineUp_181 : decode cX3_lineUp 181 = .ok (.getfield 42, 3) := dk_180 0 42 (dk_at dksX3_lineUp_7 15 rfl rfl)
theorem dX3_lineUp_184 : decode cX3_lineUp 184 = .ok (.iload 8, 2) := dk_21 8 (dk_at dksX3_lineUp_7 18 rfl rfl)
theorem dX3_lineUp_186 : decode cX3_lineUp 186 = .ok (.iaload, 1) := dk_46 (dk_at dksX3_lineUp_7 20 rfl rfl)
theorem dX3_lineUp_187 : decode cX3_lineUp 187 = .ok (.iastore, 1) := dk_79 (dk_at dksX3_lineUp_7 21 rfl rfl)
theorem dX3_lineUp_188 : decode cX3_lineUp 188 = .ok (.iinc 8 1, 3) := dk_132 8 1 (dk_at dksX3_lineUp_8 0 rfl rfl)
theorem dX3_lineUp_191 : decode cX3_lineUp 191 = .ok (.goto (-29), 3) := dk_167 255 227 (dk_at dksX3_lineUp_8 3 rfl rfl)
theorem dX3_lineUp_194 : decode cX3_lineUp 194 = .ok (.aload_n 0, 1) := dk_42 (dk_at dksX3_lineUp_8 6 rfl rfl)
theorem dX3_lineUp_195 : decode cX3_lineUp 195 = .ok (.getfield 22, 3) := dk_180 0 22 (dk_at dksX3_lineUp_8 7 rfl rfl)
theorem dX3_lineUp_198 : decode cX3_lineUp 198 = .ok (.iload_n 1, 1) := dk_27 (dk_at dksX3_lineUp_8 10 rfl rfl)
theorem dX3_lineUp_199 : decode cX3_lineUp 199 = .ok (.iconst 1, 1) := dk_4 (dk_at dksX3_lineUp_8 11 rfl rfl)
theorem dX3_lineUp_200 : decode cX3_lineUp 200 = .ok (.bastore, 1) := dk_84 (dk_at dksX3_lineUp_8 12 rfl rfl)
theorem dX3_lineUp_201 : decode cX3_lineUp 201 = .ok (.iconst 1, 1) := dk_4 (dk_at dksX3_lineUp_8 13 rfl rfl)
theorem dX3_lineUp_202 : decode cX3_lineUp 202 = .ok (.ireturn, 1) := dk_172 (dk_at dksX3_lineUp_8 14 rfl rfl)
abbrev cX3_begin : ByteArray := prog_9_method_16_code
def yX3_begin : MethodName := ⟨RX3, "begin", "(I)I"⟩
def dkwX3_begin_11 : List UInt8 := [132, 2, 1, 167, 255, 99, 42, 182, 0, 60, 42, 180, 0, 26, 3, 46, 172]
abbrev dktX3_begin_11 : List UInt8 := dkwX3_begin_11 ++ []
def dkwX3_begin_10 : List UInt8 := [21, 4, 96, 46, 96, 4, 182, 0, 56, 132, 4, 1, 167, 255, 203, 42, 180, 0, 22, 28, 3, 84]
abbrev dktX3_begin_10 : List UInt8 := dkwX3_begin_10 ++ dktX3_begin_11
def dkwX3_begin_9 : List UInt8 := [16, 6, 28, 104, 21, 4, 96, 46, 182, 0, 56, 42, 28, 16, 14, 42, 180, 0, 19, 16, 6, 28, 104]
abbrev dktX3_begin_9 : List UInt8 := dkwX3_begin_9 ++ dktX3_begin_10
def dkwX3_begin_8 : List UInt8 := [167, 255, 224, 3, 54, 4, 21, 4, 16, 6, 162, 0, 52, 42, 28, 16, 8, 21, 4, 96, 42, 180, 0, 19]
abbrev dktX3_begin_8 : List UInt8 := dkwX3_begin_8 ++ dktX3_begin_9
def dkwX3_begin_7 : List UInt8 := [16, 14, 21, 4, 96, 3, 182, 0, 56, 42, 28, 16, 26, 21, 4, 96, 2, 182, 0, 56, 132, 4, 1]
abbrev dktX3_begin_7 : List UInt8 := dkwX3_begin_7 ++ dktX3_begin_8
def dkwX3_begin_6 : List UInt8 := [29, 182, 0, 56, 42, 28, 7, 2, 182, 0, 56, 3, 54, 4, 21, 4, 16, 12, 162, 0, 31, 42, 28]
abbrev dktX3_begin_6 : List UInt8 := dkwX3_begin_6 ++ dktX3_begin_7
def dkwX3_begin_5 : List UInt8 := [21, 4, 16, 14, 162, 0, 17, 42, 28, 21, 4, 3, 182, 0, 56, 132, 4, 1, 167, 255, 238, 42, 28, 4]
abbrev dktX3_begin_5 : List UInt8 := dkwX3_begin_5 ++ dktX3_begin_6
def dkwX3_begin_4 : List UInt8 := [42, 180, 0, 26, 8, 2, 79, 3, 61, 28, 5, 162, 0, 158, 42, 28, 4, 182, 0, 95, 62, 3, 54, 4]
abbrev dktX3_begin_4 : List UInt8 := dkwX3_begin_4 ++ dktX3_begin_5
def dkwX3_begin_3 : List UInt8 := [4, 96, 79, 42, 180, 0, 26, 4, 4, 79, 42, 180, 0, 26, 5, 27, 79, 42, 180, 0, 26, 6, 3, 79]
abbrev dktX3_begin_3 : List UInt8 := dkwX3_begin_3 ++ dktX3_begin_4
def dkwX3_begin_2 : List UInt8 := [3, 182, 0, 92, 154, 0, 11, 42, 4, 182, 0, 92, 153, 0, 5, 2, 172, 42, 180, 0, 26, 3, 92, 46]
abbrev dktX3_begin_2 : List UInt8 := dkwX3_begin_2 ++ dktX3_begin_3
def dkwX3_begin_1 : List UInt8 := [46, 2, 160, 0, 37, 42, 180, 0, 22, 3, 51, 153, 0, 28, 42, 180, 0, 22, 4, 51, 153, 0, 19, 42]
abbrev dktX3_begin_1 : List UInt8 := dkwX3_begin_1 ++ dktX3_begin_2
def dkwX3_begin_0 : List UInt8 := [42, 3, 181, 0, 63, 27, 184, 0, 71, 153, 0, 54, 42, 182, 0, 82, 154, 0, 47, 42, 180, 0, 26, 7]
abbrev dktX3_begin_0 : List UInt8 := dkwX3_begin_0 ++ dktX3_begin_1
theorem dksX3_begin_0 : cX3_begin.data.toList.drop 0 = dktX3_begin_0 := by decide +kernel
theorem dksX3_begin_1 : cX3_begin.data.toList.drop 24 = dktX3_begin_1 := dk_seg dksX3_begin_0 24 rfl rfl
theorem dksX3_begin_2 : cX3_begin.data.toList.drop 48 = dktX3_begin_2 := dk_seg dksX3_begin_1 24 rfl rfl
theorem dksX3_begin_3 : cX3_begin.data.toList.drop 72 = dktX3_begin_3 := dk_seg dksX3_begin_2 24 rfl rfl
theorem dksX3_begin_4 : cX3_begin.data.toList.drop 96 = dktX3_begin_4 := dk_seg dksX3_begin_3 24 rfl rfl
theorem dksX3_begin_5 : cX3_begin.data.toList.drop 120 = dktX3_begin_5 := dk_seg dksX3_begin_4 24 rfl rfl
theorem dksX3_begin_6 : cX3_begin.data.toList.drop 144 = dktX3_begin_6 := dk_seg dksX3_begin_5 24 rfl rfl
theorem dksX3_begin_7 : cX3_begin.data.toList.drop 167 = dktX3_begin_7 := dk_seg dksX3_begin_6 23 rfl rfl
theorem dksX3_begin_8 : cX3_begin.data.toList.drop 190 = dktX3_begin_8 := dk_seg dksX3_begin_7 23 rfl rfl
theorem dksX3_begin_9 : cX3_begin.data.toList.drop 214 = dktX3_begin_9 := dk_seg dksX3_begin_8 24 rfl rfl
theorem dksX3_begin_10 : cX3_begin.data.toList.drop 237 = dktX3_begin_10 := dk_seg dksX3_begin_9 23 rfl rfl
theorem dksX3_begin_11 : cX3_begin.data.toList.drop 259 = dktX3_begin_11 := dk_seg dksX3_begin_10 22 rfl rfl
theorem dX3_begin_0 : decode cX3_begin 0 = .ok (.aload_n 0, 1) := dk_42 (dk_at dksX3_begin_0 0 rfl rfl)
theorem dX3_begin_1 : decode cX3_begin 1 = .ok (.iconst 0, 1) := dk_3 (dk_at dksX3_begin_0 1 rfl rfl)
theorem dX3_begin_2 : decode cX3_begin 2 = .ok (.putfield 63, 3) := dk_181 0 63 (dk_at dksX3_begin_0 2 rfl rfl)
theorem dX3_begin_5 : decode cX3_begin 5 = .ok (.iload_n 1, 1) := dk_27 (dk_at dksX3_begin_0 5 rfl rfl)
theorem dX3_begin_6 : decode cX3_begin 6 = .ok (.invokestatic 71, 3) := dk_184 0 71 (dk_at dksX3_begin_0 6 rfl rfl)
theorem dX3_begin_9 : decode cX3_begin 9 = .ok (.ifCond .eq 54, 3) := dk_153 0 54 (dk_at dksX3_begin_0 9 rfl rfl)
theorem dX3_begin_12 : decode cX3_begin 12 = .ok (.aload_n 0, 1) := dk_42 (dk_at dksX3_begin_0 12 rfl rfl)
theorem dX3_begin_13 : decode cX3_begin 13 = .ok (.invokevirtual 82, 3) := dk_182 0 82 (dk_at dksX3_begin_0 13 rfl rfl)
theorem dX3_begin_16 : decode cX3_begin 16 = .ok (.ifCond .ne 47, 3) := dk_154 0 47 (dk_at dksX3_begin_0 16 rfl rfl)
theorem dX3_begin_19 : decode cX3_begin 19 = .ok (.aload_n 0, 1) := dk_42 (dk_at dksX3_begin_0 19 rfl rfl)
theorem dX3_begin_20 : decode cX3_begin 20 = .ok (.getfield 26, 3) := dk_180 0 26 (dk_at dksX3_begin_0 20 rfl rfl)
theorem dX3_begin_23 : decode cX3_begin 23 = .ok (.iconst 4, 1) := dk_7 (dk_at dksX3_begin_0 23 rfl rfl)
theorem dX3_begin_24 : decode cX3_begin 24 = .ok (.iaload, 1) := dk_46 (dk_at dksX3_begin_1 0 rfl rfl)
theorem dX3_begin_25 : decode cX3_begin 25 = .ok (.iconst (-1), 1) := dk_2 (dk_at dksX3_begin_1 1 rfl rfl)
theorem dX3_begin_26 : decode cX3_begin 26 = .ok (.if_icmp .ne 37, 3) := dk_160 0 37 (dk_at dksX3_begin_1 2 rfl rfl)
theorem dX3_begin_29 : decode cX3_begin 29 = .ok (.aload_n 0, 1) := dk_42 (dk_at dksX3_begin_1 5 rfl rfl)
theorem dX3_begin_30 : decode cX3_begin 30 = .ok (.getfield 22, 3) := dk_180 0 22 (dk_at dksX3_begin_1 6 rfl rfl)
theorem dX3_begin_33 : decode cX3_begin 33 = .ok (.iconst 0, 1) := dk_3 (dk_at dksX3_begin_1 9 rfl rfl)
theorem dX3_begin_34 : decode cX3_begin 34 = .ok (.baload, 1) := dk_51 (dk_at dksX3_begin_1 10 rfl rfl)
theorem dX3_begin_35 : decode cX3_begin 35 = .ok (.ifCond .eq 28, 3) := dk_153 0 28 (dk_at dksX3_begin_1 11 rfl rfl)
theorem dX3_begin_38 : decode cX3_begin 38 = .ok (.aload_n 0, 1) := dk_42 (dk_at dksX3_begin_1 14 rfl rfl)
theorem dX3_begin_39 : decode cX3_begin 39 = .ok (.getfield 22, 3) := dk_180 0 22 (dk_at dksX3_begin_1 15 rfl rfl)
theorem dX3_begin_42 : decode cX3_begin 42 = .ok (.iconst 1, 1) := dk_4 (dk_at dksX3_begin_1 18 rfl rfl)
theorem dX3_begin_43 : decode cX3_begin 43 = .ok (.baload, 1) := dk_51 (dk_at dksX3_begin_1 19 rfl rfl)
theorem dX3_begin_44 : decode cX3_begin 44 = .ok (.ifCond .eq 19, 3) := dk_153 0 19 (dk_at dksX3_begin_1 20 rfl rfl)
theorem dX3_begin_47 : decode cX3_begin 47 = .ok (.aload_n 0, 1) := dk_42 (dk_at dksX3_begin_1 23 rfl rfl)
theorem dX3_begin_48 : decode cX3_begin 48 = .ok (.iconst 0, 1) := dk_3 (dk_at dksX3_begin_2 0 rfl rfl)
theorem dX3_begin_49 : decode cX3_begin 49 = .ok (.invokevirtual 92, 3) := dk_182 0 92 (dk_at dksX3_begin_2 1 rfl rfl)
theorem dX3_begin_52 : decode cX3_begin 52 = .ok (.ifCond .ne 11, 3) := dk_154 0 11 (dk_at dksX3_begin_2 4 rfl rfl)
theorem dX3_begin_55 : decode cX3_begin 55 = .ok (.aload_n 0, 1) := dk_42 (dk_at dksX3_begin_2 7 rfl rfl)
theorem dX3_begin_56 : decode cX3_begin 56 = .ok (.iconst 1, 1) := dk_4 (dk_at dksX3_begin_2 8 rfl rfl)
theorem dX3_begin_57 : decode cX3_begin 57 = .ok (.invokevirtual 92, 3) := dk_182 0 92 (dk_at dksX3_begin_2 9 rfl rfl)
theorem dX3_begin_60 : decode cX3_begin 60 = .ok (.ifCond .eq 5, 3) := dk_153 0 5 (dk_at dksX3_begin_2 12 rfl rfl)
theorem dX3_begin_63 : decode cX3_begin 63 = .ok (.iconst (-1), 1) := dk_2 (dk_at dksX3_begin_2 15 rfl rfl)
theorem dX3_begin_64 : decode cX3_begin 64 = .ok (.ireturn, 1) := dk_172 (dk_at dksX3_begin_2 16 rfl rfl)
theorem dX3_begin_65 : decode cX3_begin 65 = .ok (.aload_n 0, 1) := dk_42 (dk_at dksX3_begin_2 17 rfl rfl)
theorem dX3_begin_66 : decode cX3_begin 66 = .ok (.getfield 26, 3) := dk_180 0 26 (dk_at dksX3_begin_2 18 rfl rfl)
theorem dX3_begin_69 : decode cX3_begin 69 = .ok (.iconst 0, 1) := dk_3 (dk_at dksX3_begin_2 21 rfl rfl)
theorem dX3_begin_70 : decode cX3_begin 70 = .ok (.dup2, 1) := dk_92 (dk_at dksX3_begin_2 22 rfl rfl)
theorem dX3_begin_71 : decode cX3_begin 71 = .ok (.iaload, 1) := dk_46 (dk_at dksX3_begin_2 23 rfl rfl)
theorem dX3_begin_72 : decode cX3_begin 72 = .ok (.iconst 1, 1) := dk_4 (dk_at dksX3_begin_3 0 rfl rfl)
theorem dX3_begin_73 : decode cX3_begin 73 = .ok (.iadd, 1) := dk_96 (dk_at dksX3_begin_3 1 rfl rfl)
theorem dX3_begin_74 : decode cX3_begin 74 = .ok (.iastore, 1) := dk_79 (dk_at dksX3_begin_3 2 rfl rfl)
theorem dX3_begin_75 : decode cX3_begin 75 = .ok (.aload_n 0, 1) := dk_42 (dk_at dksX3_begin_3 3 rfl rfl)
theorem dX3_begin_76 : decode cX3_begin 76 = .ok (.getfield 26, 3) := dk_180 0 26 (dk_at dksX3_begin_3 4 rfl rfl)
theorem dX3_begin_79 : decode cX3_begin 79 = .ok (.iconst 1, 1) := dk_4 (dk_at dksX3_begin_3 7 rfl rfl)
theorem dX3_begin_80 : decode cX3_begin 80 = .ok (.iconst 1, 1) := dk_4 (dk_at dksX3_begin_3 8 rfl rfl)
theorem dX3_begin_81 : decode cX3_begin 81 = .ok (.iastore, 1) := dk_79 (dk_at dksX3_begin_3 9 rfl rfl)
theorem dX3_begin_82 : decode cX3_begin 82 = .ok (.aload_n 0, 1) := dk_42 (dk_at dksX3_begin_3 10 rfl rfl)
theorem dX3_begin_83 : decode cX3_begin 83 = .ok (.getfield 26, 3) := dk_180 0 26 (dk_at dksX3_begin_3 11 rfl rfl)
theorem dX3_begin_86 : decode cX3_begin 86 = .ok (.iconst 2, 1) := dk_5 (dk_at dksX3_begin_3 14 rfl rfl)
theorem dX3_begin_87 : decode cX3_begin 87 = .ok (.iload_n 1, 1) := dk_27 (dk_at dksX3_begin_3 15 rfl rfl)
theorem dX3_begin_88 : decode cX3_begin 88 = .ok (.iastore, 1) := dk_79 (dk_at dksX3_begin_3 16 rfl rfl)
theorem dX3_begin_89 : decode cX3_begin 89 = .ok (.aload_n 0, 1) := dk_42 (dk_at dksX3_begin_3 17 rfl rfl)
theorem dX3_begin_90 : decode cX3_begin 90 = .ok (.getfield 26, 3) := dk_180 0 26 (dk_at dksX3_begin_3 18 rfl rfl)
theorem dX3_begin_93 : decode cX3_begin 93 = .ok (.iconst 3, 1) := dk_6 (dk_at dksX3_begin_3 21 rfl rfl)
theorem dX3_begin_94 : decode cX3_begin 94 = .ok (.iconst 0, 1) := dk_3 (dk_at dksX3_begin_3 22 rfl rfl)
theorem dX3_begin_95 : decode cX3_begin 95 = .ok (.iastore, 1) := dk_79 (dk_at dksX3_begin_3 23 rfl rfl)
theorem dX3_begin_96 : decode cX3_begin 96 = .ok (.aload_n 0, 1) := dk_42 (dk_at dksX3_begin_4 0 rfl rfl)
theorem dX3_begin_97 : decode cX3_begin 97 = .ok (.getfield 26, 3) := dk_180 0 26 (dk_at dksX3_begin_4 1 rfl rfl)
theorem dX3_begin_100 : decode cX3_begin 100 = .ok (.iconst 5, 1) := dk_8 (dk_at dksX3_begin_4 4 rfl rfl)
theorem dX3_begin_101 : decode cX3_begin 101 = .ok (.iconst (-1), 1) := dk_2 (dk_at dksX3_begin_4 5 rfl rfl)
theorem dX3_begin_102 : decode cX3_begin 102 = .ok (.iastore, 1) := dk_79 (dk_at dksX3_begin_4 6 rfl rfl)
theorem dX3_begin_103 : decode cX3_begin 103 = .ok (.iconst 0, 1) := dk_3 (dk_at dksX3_begin_4 7 rfl rfl)
theorem dX3_begin_104 : decode cX3_begin 104 = .ok (.istore_n 2, 1) := dk_61 (dk_at dksX3_begin_4 8 rfl rfl)
theorem dX3_begin_105 : decode cX3_begin 105 = .ok (.iload_n 2, 1) := dk_28 (dk_at dksX3_begin_4 9 rfl rfl)
theorem dX3_begin_106 : decode cX3_begin 106 = .ok (.iconst 2, 1) := dk_5 (dk_at dksX3_begin_4 10 rfl rfl)
theorem dX3_begin_107 : decode cX3_begin 107 = .ok (.if_icmp .ge 158, 3) := dk_162 0 158 (dk_at dksX3_begin_4 11 rfl rfl)
theorem dX3_begin_110 : decode cX3_begin 110 = .ok (.aload_n 0, 1) := dk_42 (dk_at dksX3_begin_4 14 rfl rfl)
theorem dX3_begin_111 : decode cX3_begin 111 = .ok (.iload_n 2, 1) := dk_28 (dk_at dksX3_begin_4 15 rfl rfl)
theorem dX3_begin_112 : decode cX3_begin 112 = .ok (.iconst 1, 1) := dk_4 (dk_at dksX3_begin_4 16 rfl rfl)
theorem dX3_begin_113 : decode cX3_begin 113 = .ok (.invokevirtual 95, 3) := dk_182 0 95 (dk_at dksX3_begin_4 17 rfl rfl)
theorem dX3_begin_116 : decode cX3_begin 116 = .ok (.istore_n 3, 1) := dk_62 (dk_at dksX3_begin_4 20 rfl rfl)
theorem dX3_begin_117 : decode cX3_begin 117 = .ok (.iconst 0, 1) := dk_3 (dk_at dksX3_begin_4 21 rfl rfl)
theorem dX3_begin_118 : decode cX3_begin 118 = .ok (.istore 4, 2) := dk_54 4 (dk_at dksX3_begin_4 22 rfl rfl)
theorem dX3_begin_120 : decode cX3_begin 120 = .ok (.iload 4, 2) := dk_21 4 (dk_at dksX3_begin_5 0 rfl rfl)
theorem dX3_begin_122 : decode cX3_begin 122 = .ok (.bipush 14, 2) := dk_16 14 (dk_at dksX3_begin_5 2 rfl rfl)
theorem dX3_begin_124 : decode cX3_begin 124 = .ok (.if_icmp .ge 17, 3) := dk_162 0 17 (dk_at dksX3_begin_5 4 rfl rfl)
theorem dX3_begin_127 : decode cX3_begin 127 = .ok (.aload_n 0, 1) := dk_42 (dk_at dksX3_begin_5 7 rfl rfl)
theorem dX3_begin_128 : decode cX3_begin 128 = .ok (.iload_n 2, 1) := dk_28 (dk_at dksX3_begin_5 8 rfl rfl)
theorem dX3_begin_129 : decode cX3_begin 129 = .ok (.iload 4, 2) := dk_21 4 (dk_at dksX3_begin_5 9 rfl rfl)
theorem dX3_begin_131 : decode cX3_begin 131 = .ok (.iconst 0, 1) := dk_3 (dk_at dksX3_begin_5 11 rfl rfl)
theorem dX3_begin_132 : decode cX3_begin 132 = .ok (.invokevirtual 56, 3) := dk_182 0 56 (dk_at dksX3_begin_5 12 rfl rfl)
theorem dX3_begin_135 : decode cX3_begin 135 = .ok (.iinc 4 1, 3) := dk_132 4 1 (dk_at dksX3_begin_5 15 rfl rfl)
theorem dX3_begin_138 : decode cX3_begin 138 = .ok (.goto (-18), 3) := dk_167 255 238 (dk_at dksX3_begin_5 18 rfl rfl)
theorem dX3_begin_141 : decode cX3_begin 141 = .ok (.aload_n 0, 1) := dk_42 (dk_at dksX3_begin_5 21 rfl rfl)
theorem dX3_begin_142 : decode cX3_begin 142 = .ok (.iload_n 2, 1) := dk_28 (dk_at dksX3_begin_5 22 rfl rfl)
theorem dX3_begin_143 : decode cX3_begin 143 = .ok (.iconst 1, 1) := dk_4 (dk_at dksX3_begin_5 23 rfl rfl)
theorem dX3_begin_144 : decode cX3_begin 144 = .ok (.iload_n 3, 1) := dk_29 (dk_at dksX3_begin_6 0 rfl rfl)
theorem dX3_begin_145 : decode cX3_begin 145 = .ok (.invokevirtual 56, 3) := dk_182 0 56 (dk_at dksX3_begin_6 1 rfl rfl)
theorem dX3_begin_148 : decode cX3_begin 148 = .ok (.aload_n 0, 1) := dk_42 (dk_at dksX3_begin_6 4 rfl rfl)
theorem dX3_begin_149 : decode cX3_begin 149 = .ok (.iload_n 2, 1) := dk_28 (dk_at dksX3_begin_6 5 rfl rfl)
theorem dX3_begin_150 : decode cX3_begin 150 = .ok (.iconst 4, 1) := dk_7 (dk_at dksX3_begin_6 6 rfl rfl)
theorem dX3_begin_151 : decode cX3_begin 151 = .ok (.iconst (-1), 1) := dk_2 (dk_at dksX3_begin_6 7 rfl rfl)
theorem dX3_begin_152 : decode cX3_begin 152 = .ok (.invokevirtual 56, 3) := dk_182 0 56 (dk_at dksX3_begin_6 8 rfl rfl)
theorem dX3_begin_155 : decode cX3_begin 155 = .ok (.iconst 0, 1) := dk_3 (dk_at dksX3_begin_6 11 rfl rfl)
theorem dX3_begin_156 : decode cX3_begin 156 = .ok (.istore 4, 2) := dk_54 4 (dk_at dksX3_begin_6 12 rfl rfl)
theorem dX3_begin_158 : decode cX3_begin 158 = .ok (.iload 4, 2) := dk_21 4 (dk_at dksX3_begin_6 14 rfl rfl)
theorem dX3_begin_160 : decode cX3_begin 160 = .ok (.bipush 12, 2) := dk_16 12 (dk_at dksX3_begin_6 16 rfl rfl)
theorem dX3_begin_162 : decode cX3_begin 162 = .ok (.if_icmp .ge 31, 3) := dk_162 0 31 (dk_at dksX3_begin_6 18 rfl rfl)
theorem dX3_begin_165 : decode cX3_begin 165 = .ok (.aload_n 0, 1) := dk_42 (dk_at dksX3_begin_6 21 rfl rfl)
theorem dX3_begin_166 : decode cX3_begin 166 = .ok (.iload_n 2, 1) := dk_28 (dk_at dksX3_begin_6 22 rfl rfl)
theorem dX3_begin_167 : decode cX3_begin 167 = .ok (.bipush 14, 2) := dk_16 14 (dk_at dksX3_begin_7 0 rfl rfl)
theorem dX3_begin_169 : decode cX3_begin 169 = .ok (.iload 4, 2) := dk_21 4 (dk_at dksX3_begin_7 2 rfl rfl)
theorem dX3_begin_171 : decode cX3_begin 171 = .ok (.iadd, 1) := dk_96 (dk_at dksX3_begin_7 4 rfl rfl)
theorem dX3_begin_172 : decode cX3_begin 172 = .ok (.iconst 0, 1) := dk_3 (dk_at dksX3_begin_7 5 rfl rfl)
theorem dX3_begin_173 : decode cX3_begin 173 = .ok (.invokevirtual 56, 3) := dk_182 0 56 (dk_at dksX3_begin_7 6 rfl rfl)
theorem dX3_begin_176 : decode cX3_begin 176 = .ok (.aload_n 0, 1) := dk_42 (dk_at dksX3_begin_7 9 rfl rfl)
theorem dX3_begin_177 : decode cX3_begin 177 = .ok (.iload_n 2, 1) := dk_28 (dk_at dksX3_begin_7 10 rfl rfl)
theorem dX3_begin_178 : decode cX3_begin 178 = .ok (.bipush 26, 2) := dk_16 26 (dk_at dksX3_begin_7 11 rfl rfl)
theorem dX3_begin_180 : decode cX3_begin 180 = .ok (.iload 4, 2) := dk_21 4 (dk_at dksX3_begin_7 13 rfl rfl)
theorem dX3_begin_182 : decode cX3_begin 182 = .ok (.iadd, 1) := dk_96 (dk_at dksX3_begin_7 15 rfl rfl)
theorem dX3_begin_183 : decode cX3_begin 183 = .ok (.iconst (-1), 1) := dk_2 (dk_at dksX3_begin_7 16 rfl rfl)
theorem dX3_begin_184 : decode cX3_begin 184 = .ok (.invokevirtual 56, 3) := dk_182 0 56 (dk_at dksX3_begin_7 17 rfl rfl)
theorem dX3_begin_187 : decode cX3_begin 187 = .ok (.iinc 4 1, 3) := dk_132 4 1 (dk_at dksX3_begin_7 20 rfl rfl)
theorem dX3_begin_190 : decode cX3_begin 190 = .ok (.goto (-32), 3) := dk_167 255 224 (dk_at dksX3_begin_8 0 rfl rfl)
theorem dX3_begin_193 : decode cX3_begin 193 = .ok (.iconst 0, 1) := dk_3 (dk_at dksX3_begin_8 3 rfl rfl)
theorem dX3_begin_194 : decode cX3_begin 194 = .ok (.istore 4, 2) := dk_54 4 (dk_at dksX3_begin_8 4 rfl rfl)
theorem dX3_begin_196 : decode cX3_begin 196 = .ok (.iload 4, 2) := dk_21 4 (dk_at dksX3_begin_8 6 rfl rfl)
theorem dX3_begin_198 : decode cX3_begin 198 = .ok (.bipush 6, 2) := dk_16 6 (dk_at dksX3_begin_8 8 rfl rfl)
theorem dX3_begin_200 : decode cX3_begin 200 = .ok (.if_icmp .ge 52, 3) := dk_162 0 52 (dk_at dksX3_begin_8 10 rfl rfl)
theorem dX3_begin_203 : decode cX3_begin 203 = .ok (.aload_n 0, 1) := dk_42 (dk_at dksX3_begin_8 13 rfl rfl)
theorem dX3_begin_204 : decode cX3_begin 204 = .ok (.iload_n 2, 1) := dk_28 (dk_at dksX3_begin_8 14 rfl rfl)
theorem dX3_begin_205 : decode cX3_begin 205 = .ok (.bipush 8, 2) := dk_16 8 (dk_at dksX3_begin_8 15 rfl rfl)
theorem dX3_begin_207 : decode cX3_begin 207 = .ok (.iload 4, 2) := dk_21 4 (dk_at dksX3_begin_8 17 rfl rfl)
theorem dX3_begin_209 : decode cX3_begin 209 = .ok (.iadd, 1) := dk_96 (dk_at dksX3_begin_8 19 rfl rfl)
theorem dX3_begin_210 : decode cX3_begin 210 = .ok (.aload_n 0, 1) := dk_42 (dk_at dksX3_begin_8 20 rfl rfl)
theorem dX3_begin_211 : decode cX3_begin 211 = .ok (.getfield 19, 3) := dk_180 0 19 (dk_at dksX3_begin_8 21 rfl rfl)
theorem dX3_begin_214 : decode cX3_begin 214 = .ok (.bipush 6, 2) := dk_16 6 (dk_at dksX3_begin_9 0 rfl rfl)
theorem dX3_begin_216 : decode cX3_begin 216 = .ok (.iload_n 2, 1) := dk_28 (dk_at dksX3_begin_9 2 rfl rfl)
theorem dX3_begin_217 : decode cX3_begin 217 = .ok (.imul, 1) := dk_104 (dk_at dksX3_begin_9 3 rfl rfl)
theorem dX3_begin_218 : decode cX3_begin 218 = .ok (.iload 4, 2) := dk_21 4 (dk_at dksX3_begin_9 4 rfl rfl)
theorem dX3_begin_220 : decode cX3_begin 220 = .ok (.iadd, 1) := dk_96 (dk_at dksX3_begin_9 6 rfl rfl)
theorem dX3_begin_221 : decode cX3_begin 221 = .ok (.iaload, 1) := dk_46 (dk_at dksX3_begin_9 7 rfl rfl)
theorem dX3_begin_222 : decode cX3_begin 222 = .ok (.invokevirtual 56, 3) := dk_182 0 56 (dk_at dksX3_begin_9 8 rfl rfl)
theorem dX3_begin_225 : decode cX3_begin 225 = .ok (.aload_n 0, 1) := dk_42 (dk_at dksX3_begin_9 11 rfl rfl)
theorem dX3_begin_226 : decode cX3_begin 226 = .ok (.iload_n 2, 1) := dk_28 (dk_at dksX3_begin_9 12 rfl rfl)
theorem dX3_begin_227 : decode cX3_begin 227 = .ok (.bipush 14, 2) := dk_16 14 (dk_at dksX3_begin_9 13 rfl rfl)
theorem dX3_begin_229 : decode cX3_begin 229 = .ok (.aload_n 0, 1) := dk_42 (dk_at dksX3_begin_9 15 rfl rfl)
theorem dX3_begin_230 : decode cX3_begin 230 = .ok (.getfield 19, 3) := dk_180 0 19 (dk_at dksX3_begin_9 16 rfl rfl)
theorem dX3_begin_233 : decode cX3_begin 233 = .ok (.bipush 6, 2) := dk_16 6 (dk_at dksX3_begin_9 19 rfl rfl)
theorem dX3_begin_235 : decode cX3_begin 235 = .ok (.iload_n 2, 1) := dk_28 (dk_at dksX3_begin_9 21 rfl rfl)
theorem dX3_begin_236 : decode cX3_begin 236 = .ok (.imul, 1) := dk_104 (dk_at dksX3_begin_9 22 rfl rfl)
theorem dX3_begin_237 : decode cX3_begin 237 = .ok (.iload 4, 2) := dk_21 4 (dk_at dksX3_begin_10 0 rfl rfl)
theorem dX3_begin_239 : decode cX3_begin 239 = .ok (.iadd, 1) := dk_96 (dk_at dksX3_begin_10 2 rfl rfl)
theorem dX3_begin_240 : decode cX3_begin 240 = .ok (.iaload, 1) := dk_46 (dk_at dksX3_begin_10 3 rfl rfl)
theorem dX3_begin_241 : decode cX3_begin 241 = .ok (.iadd, 1) := dk_96 (dk_at dksX3_begin_10 4 rfl rfl)
theorem dX3_begin_242 : decode cX3_begin 242 = .ok (.iconst 1, 1) := dk_4 (dk_at dksX3_begin_10 5 rfl rfl)
theorem dX3_begin_243 : decode cX3_begin 243 = .ok (.invokevirtual 56, 3) := dk_182 0 56 (dk_at dksX3_begin_10 6 rfl rfl)
theorem dX3_begin_246 : decode cX3_begin 246 = .ok (.iinc 4 1, 3) := dk_132 4 1 (dk_at dksX3_begin_10 9 rfl rfl)
theorem dX3_begin_249 : decode cX3_begin 249 = .ok (.goto (-53), 3) := dk_167 255 203 (dk_at dksX3_begin_10 12 rfl rfl)
theorem dX3_begin_252 : decode cX3_begin 252 = .ok (.aload_n 0, 1) := dk_42 (dk_at dksX3_begin_10 15 rfl rfl)
theorem dX3_begin_253 : decode cX3_begin 253 = .ok (.getfield 22, 3) := dk_180 0 22 (dk_at dksX3_begin_10 16 rfl rfl)
theorem dX3_begin_256 : decode cX3_begin 256 = .ok (.iload_n 2, 1) := dk_28 (dk_at dksX3_begin_10 19 rfl rfl)
theorem dX3_begin_257 : decode cX3_begin 257 = .ok (.iconst 0, 1) := dk_3 (dk_at dksX3_begin_10 20 rfl rfl)
theorem dX3_begin_258 : decode cX3_begin 258 = .ok (.bastore, 1) := dk_84 (dk_at dksX3_begin_10 21 rfl rfl)
theorem dX3_begin_259 : decode cX3_begin 259 = .ok (.iinc 2 1, 3) := dk_132 2 1 (dk_at dksX3_begin_11 0 rfl rfl)
theorem dX3_begin_262 : decode cX3_begin 262 = .ok (.goto (-157), 3) := dk_167 255 99 (dk_at dksX3_begin_11 3 rfl rfl)
theorem dX3_begin_265 : decode cX3_begin 265 = .ok (.aload_n 0, 1) := dk_42 (dk_at dksX3_begin_11 6 rfl rfl)
theorem dX3_begin_266 : decode cX3_begin 266 = .ok (.invokevirtual 60, 3) := dk_182 0 60 (dk_at dksX3_begin_11 7 rfl rfl)
theorem dX3_begin_269 : decode cX3_begin 269 = .ok (.aload_n 0, 1) := dk_42 (dk_at dksX3_begin_11 10 rfl rfl)
theorem dX3_begin_270 : decode cX3_begin 270 = .ok (.getfield 26, 3) := dk_180 0 26 (dk_at dksX3_begin_11 11 rfl rfl)
theorem dX3_begin_273 : decode cX3_begin 273 = .ok (.iconst 0, 1) := dk_3 (dk_at dksX3_begin_11 14 rfl rfl)
theorem dX3_begin_274 : decode cX3_begin 274 = .ok (.iaload, 1) := dk_46 (dk_at dksX3_begin_11 15 rfl rfl)
theorem dX3_begin_275 : decode cX3_begin 275 = .ok (.ireturn, 1) := dk_172 (dk_at dksX3_begin_11 16 rfl rfl)
abbrev cX3_hasFree : ByteArray := prog_9_method_15_code
def yX3_hasFree : MethodName := ⟨RX3, "hasFree", "(I)Z"⟩
def dkwX3_hasFree_1 : List UInt8 := [46, 160, 0, 5, 4, 172, 132, 2, 1, 167, 255, 225, 3, 172]
abbrev dktX3_hasFree_1 : List UInt8 := dkwX3_hasFree_1 ++ []
def dkwX3_hasFree_0 : List UInt8 := [3, 61, 28, 16, 6, 162, 0, 31, 42, 180, 0, 19, 16, 6, 27, 104, 28, 96, 46, 42, 180, 0, 13, 27]
abbrev dktX3_hasFree_0 : List UInt8 := dkwX3_hasFree_0 ++ dktX3_hasFree_1
theorem dksX3_hasFree_0 : cX3_hasFree.data.toList.drop 0 = dktX3_hasFree_0 := by decide +kernel
theorem dksX3_hasFree_1 : cX3_hasFree.data.toList.drop 24 = dktX3_hasFree_1 := dk_seg dksX3_hasFree_0 24 rfl rfl
theorem dX3_hasFree_0 : decode cX3_hasFree 0 = .ok (.iconst 0, 1) := dk_3 (dk_at dksX3_hasFree_0 0 rfl rfl)
theorem dX3_hasFree_1 : decode cX3_hasFree 1 = .ok (.istore_n 2, 1) := dk_61 (dk_at dksX3_hasFree_0 1 rfl rfl)
theorem dX3_hasFree_2 : decode cX3_hasFree 2 = .ok (.iload_n 2, 1) := dk_28 (dk_at dksX3_hasFree_0 2 rfl rfl)
theorem dX3_hasFree_3 : decode cX3_hasFree 3 = .ok (.bipush 6, 2) := dk_16 6 (dk_at dksX3_hasFree_0 3 rfl rfl)
theorem dX3_hasFree_5 : decode cX3_hasFree 5 = .ok (.if_icmp .ge 31, 3) := dk_162 0 31 (dk_at dksX3_hasFree_0 5 rfl rfl)
theorem dX3_hasFree_8 : decode cX3_hasFree 8 = .ok (.aload_n 0, 1) := dk_42 (dk_at dksX3_hasFree_0 8 rfl rfl)
theorem dX3_hasFree_9 : decode cX3_hasFree 9 = .ok (.getfield 19, 3) := dk_180 0 19 (dk_at dksX3_hasFree_0 9 rfl rfl)
theorem dX3_hasFree_12 : decode cX3_hasFree 12 = .ok (.bipush 6, 2) := dk_16 6 (dk_at dksX3_hasFree_0 12 rfl rfl)
theorem dX3_hasFree_14 : decode cX3_hasFree 14 = .ok (.iload_n 1, 1) := dk_27 (dk_at dksX3_hasFree_0 14 rfl rfl)
theorem dX3_hasFree_15 : decode cX3_hasFree 15 = .ok (.imul, 1) := dk_104 (dk_at dksX3_hasFree_0 15 rfl rfl)
theorem dX3_hasFree_16 : decode cX3_hasFree 16 = .ok (.iload_n 2, 1) := dk_28 (dk_at dksX3_hasFree_0 16 rfl rfl)
theorem dX3_hasFree_17 : decode cX3_hasFree 17 = .ok (.iadd, 1) := dk_96 (dk_at dksX3_hasFree_0 17 rfl rfl)
theorem dX3_hasFree_18 : decode cX3_hasFree 18 = .ok (.iaload, 1) := dk_46 (dk_at dksX3_hasFree_0 18 rfl rfl)
theorem dX3_hasFree_19 : decode cX3_hasFree 19 = .ok (.aload_n 0, 1) := dk_42 (dk_at dksX3_hasFree_0 19 rfl rfl)
theorem dX3_hasFree_20 : decode cX3_hasFree 20 = .ok (.getfield 13, 3) := dk_180 0 13 (dk_at dksX3_hasFree_0 20 rfl rfl)
theorem dX3_hasFree_23 : decode cX3_hasFree 23 = .ok (.iload_n 1, 1) := dk_27 (dk_at dksX3_hasFree_0 23 rfl rfl)
theorem dX3_hasFree_24 : decode cX3_hasFree 24 = .ok (.iaload, 1) := dk_46 (dk_at dksX3_hasFree_1 0 rfl rfl)
theorem dX3_hasFree_25 : decode cX3_hasFree 25 = .ok (.if_icmp .ne 5, 3) := dk_160 0 5 (dk_at dksX3_hasFree_1 1 rfl rfl)
theorem dX3_hasFree_28 : decode cX3_hasFree 28 = .ok (.iconst 1, 1) := dk_4 (dk_at dksX3_hasFree_1 4 rfl rfl)
theorem dX3_hasFree_29 : decode cX3_hasFree 29 = .ok (.ireturn, 1) := dk_172 (dk_at dksX3_hasFree_1 5 rfl rfl)
theorem dX3_hasFree_30 : decode cX3_hasFree 30 = .ok (.iinc 2 1, 3) := dk_132 2 1 (dk_at dksX3_hasFree_1 6 rfl rfl)
theorem dX3_hasFree_33 : decode cX3_hasFree 33 = .ok (.goto (-31), 3) := dk_167 255 225 (dk_at dksX3_hasFree_1 9 rfl rfl)
theorem dX3_hasFree_36 : decode cX3_hasFree 36 = .ok (.iconst 0, 1) := dk_3 (dk_at dksX3_hasFree_1 12 rfl rfl)
theorem dX3_hasFree_37 : decode cX3_hasFree 37 = .ok (.ireturn, 1) := dk_172 (dk_at dksX3_hasFree_1 13 rfl rfl)
abbrev cX3_get : ByteArray := prog_9_method_6_code
def yX3_get : MethodName := ⟨RX3, "get", "(II)I"⟩
def dkwX3_get_0 : List UInt8 := [42, 180, 0, 26, 16, 6, 16, 50, 27, 104, 96, 28, 96, 46, 172]
abbrev dktX3_get_0 : List UInt8 := dkwX3_get_0 ++ []
theorem dksX3_get_0 : cX3_get.data.toList.drop 0 = dktX3_get_0 := by decide +kernel
theorem dX3_get_0 : decode cX3_get 0 = .ok (.aload_n 0, 1) := dk_42 (dk_at dksX3_get_0 0 rfl rfl)
theorem dX3_get_1 : decode cX3_get 1 = .ok (.getfield 26, 3) := dk_180 0 26 (dk_at dksX3_get_0 1 rfl rfl)
theorem dX3_get_4 : decode cX3_get 4 = .ok (.bipush 6, 2) := dk_16 6 (dk_at dksX3_get_0 4 rfl rfl)
theorem dX3_get_6 : decode cX3_get 6 = .ok (.bipush 50, 2) := dk_16 50 (dk_at dksX3_get_0 6 rfl rfl)
theorem dX3_get_8 : decode cX3_get 8 = .ok (.iload_n 1, 1) := dk_27 (dk_at dksX3_get_0 8 rfl rfl)
theorem dX3_get_9 : decode cX3_get 9 = .ok (.imul, 1) := dk_104 (dk_at dksX3_get_0 9 rfl rfl)
theorem dX3_get_10 : decode cX3_get 10 = .ok (.iadd, 1) := dk_96 (dk_at dksX3_get_0 10 rfl rfl)
theorem dX3_get_11 : decode cX3_get 11 = .ok (.iload_n 2, 1) := dk_28 (dk_at dksX3_get_0 11 rfl rfl)
theorem dX3_get_12 : decode cX3_get 12 = .ok (.iadd, 1) := dk_96 (dk_at dksX3_get_0 12 rfl rfl)
theorem dX3_get_13 : decode cX3_get 13 = .ok (.iaload, 1) := dk_46 (dk_at dksX3_get_0 13 rfl rfl)
theorem dX3_get_14 : decode cX3_get 14 = .ok (.ireturn, 1) := dk_172 (dk_at dksX3_get_0 14 rfl rfl)
abbrev cX3_rally : ByteArray := prog_9_method_22_code
def yX3_rally : MethodName := ⟨RX3, "rally", "(I)I"⟩
def dkwX3_rally_1 : List UInt8 := [167, 0, 4, 2, 172]
abbrev dktX3_rally_1 : List UInt8 := dkwX3_rally_1 ++ []
def dkwX3_rally_0 : List UInt8 := [42, 3, 181, 0, 63, 27, 184, 0, 71, 153, 0, 18, 42, 182, 0, 82, 153, 0, 11, 42, 27, 182, 0, 113]
abbrev dktX3_rally_0 : List UInt8 := dkwX3_rally_0 ++ dktX3_rally_1
theorem dksX3_rally_0 : cX3_rally.data.toList.drop 0 = dktX3_rally_0 := by decide +kernel
theorem dksX3_rally_1 : cX3_rally.data.toList.drop 24 = dktX3_rally_1 := dk_seg dksX3_rally_0 24 rfl rfl
theorem dX3_rally_0 : decode cX3_rally 0 = .ok (.aload_n 0, 1) := dk_42 (dk_at dksX3_rally_0 0 rfl rfl)
theorem dX3_rally_1 : decode cX3_rally 1 = .ok (.iconst 0, 1) := dk_3 (dk_at dksX3_rally_0 1 rfl rfl)
theorem dX3_rally_2 : decode cX3_rally 2 = .ok (.putfield 63, 3) := dk_181 0 63 (dk_at dksX3_rally_0 2 rfl rfl)
theorem dX3_rally_5 : decode cX3_rally 5 = .ok (.iload_n 1, 1) := dk_27 (dk_at dksX3_rally_0 5 rfl rfl)
theorem dX3_rally_6 : decode cX3_rally 6 = .ok (.invokestatic 71, 3) := dk_184 0 71 (dk_at dksX3_rally_0 6 rfl rfl)
theorem dX3_rally_9 : decode cX3_rally 9 = .ok (.ifCond .eq 18, 3) := dk_153 0 18 (dk_at dksX3_rally_0 9 rfl rfl)
theorem dX3_rally_12 : decode cX3_rally 12 = .ok (.aload_n 0, 1) := dk_42 (dk_at dksX3_rally_0 12 rfl rfl)
theorem dX3_rally_13 : decode cX3_rally 13 = .ok (.invokevirtual 82, 3) := dk_182 0 82 (dk_at dksX3_rally_0 13 rfl rfl)
theorem dX3_rally_16 : decode cX3_rally 16 = .ok (.ifCond .eq 11, 3) := dk_153 0 11 (dk_at dksX3_rally_0 16 rfl rfl)
theorem dX3_rally_19 : decode cX3_rally 19 = .ok (.aload_n 0, 1) := dk_42 (dk_at dksX3_rally_0 19 rfl rfl)
theorem dX3_rally_20 : decode cX3_rally 20 = .ok (.iload_n 1, 1) := dk_27 (dk_at dksX3_rally_0 20 rfl rfl)
theorem dX3_rally_21 : decode cX3_rally 21 = .ok (.invokevirtual 113, 3) := dk_182 0 113 (dk_at dksX3_rally_0 21 rfl rfl)
theorem dX3_rally_24 : decode cX3_rally 24 = .ok (.goto 4, 3) := dk_167 0 4 (dk_at dksX3_rally_1 0 rfl rfl)
theorem dX3_rally_27 : decode cX3_rally 27 = .ok (.iconst (-1), 1) := dk_2 (dk_at dksX3_rally_1 3 rfl rfl)
theorem dX3_rally_28 : decode cX3_rally 28 = .ok (.ireturn, 1) := dk_172 (dk_at dksX3_rally_1 4 rfl rfl)
abbrev cX3_point : ByteArray := prog_9_method_21_code
def yX3_point : MethodName := ⟨RX3, "point", "(I)I"⟩
def dkwX3_point_9 : List UInt8 := [172]
abbrev dktX3_point_9 : List UInt8 := dkwX3_point_9 ++ []
def dkwX3_point_8 : List UInt8 := [27, 4, 182, 0, 95, 42, 180, 0, 16, 6, 46, 162, 0, 5, 4, 172, 42, 180, 0, 26, 7, 27, 79, 5]
abbrev dktX3_point_8 : List UInt8 := dkwX3_point_8 ++ dktX3_point_9
def dkwX3_point_7 : List UInt8 := [2, 79, 42, 180, 0, 26, 8, 27, 79, 42, 27, 4, 42, 27, 4, 182, 0, 95, 4, 96, 182, 0, 56, 42]
abbrev dktX3_point_7 : List UInt8 := dkwX3_point_7 ++ dktX3_point_8
def dkwX3_point_6 : List UInt8 := [182, 0, 95, 28, 182, 0, 110, 154, 0, 5, 3, 172, 42, 180, 0, 26, 4, 3, 79, 42, 180, 0, 26, 5]
abbrev dktX3_point_6 : List UInt8 := dkwX3_point_6 ++ dktX3_point_7
def dkwX3_point_5 : List UInt8 := [180, 0, 26, 5, 27, 79, 42, 27, 182, 0, 106, 42, 42, 27, 3, 182, 0, 95, 42, 4, 27, 100, 3]
abbrev dktX3_point_5 : List UInt8 := dkwX3_point_5 ++ dktX3_point_6
def dkwX3_point_4 : List UInt8 := [182, 0, 56, 167, 0, 31, 42, 4, 27, 100, 8, 3, 182, 0, 56, 42, 27, 8, 3, 182, 0, 56, 42]
abbrev dktX3_point_4 : List UInt8 := dkwX3_point_4 ++ dktX3_point_5
def dkwX3_point_3 : List UInt8 := [27, 16, 8, 182, 0, 95, 62, 42, 27, 16, 38, 29, 96, 42, 27, 16, 38, 29, 96, 182, 0, 95, 4, 96]
abbrev dktX3_point_3 : List UInt8 := dkwX3_point_3 ++ dktX3_point_4
def dkwX3_point_2 : List UInt8 := [180, 0, 26, 5, 46, 27, 160, 0, 48, 42, 27, 8, 42, 27, 8, 182, 0, 95, 4, 96, 182, 0, 56, 42]
abbrev dktX3_point_2 : List UInt8 := dkwX3_point_2 ++ dktX3_point_3
def dkwX3_point_1 : List UInt8 := [4, 16, 7, 3, 182, 0, 56, 42, 27, 3, 42, 27, 3, 182, 0, 95, 4, 96, 182, 0, 56, 42]
abbrev dktX3_point_1 : List UInt8 := dkwX3_point_1 ++ dktX3_point_2
def dkwX3_point_0 : List UInt8 := [42, 182, 0, 102, 61, 42, 180, 0, 26, 6, 92, 46, 4, 96, 79, 42, 3, 16, 7, 3, 182, 0, 56, 42]
abbrev dktX3_point_0 : List UInt8 := dkwX3_point_0 ++ dktX3_point_1
theorem dksX3_point_0 : cX3_point.data.toList.drop 0 = dktX3_point_0 := by decide +kernel
theorem dksX3_point_1 : cX3_point.data.toList.drop 24 = dktX3_point_1 := dk_seg dksX3_point_0 24 rfl rfl
theorem dksX3_point_2 : cX3_point.data.toList.drop 46 = dktX3_point_2 := dk_seg dksX3_point_1 22 rfl rfl
theorem dksX3_point_3 : cX3_point.data.toList.drop 70 = dktX3_point_3 := dk_seg dksX3_point_2 24 rfl rfl
theorem dksX3_point_4 : cX3_point.data.toList.drop 94 = dktX3_point_4 := dk_seg dksX3_point_3 24 rfl rfl
theorem dksX3_point_5 : cX3_point.data.toList.drop 117 = dktX3_point_5 := dk_seg dksX3_point_4 23 rfl rfl
theorem dksX3_point_6 : cX3_point.data.toList.drop 140 = dktX3_point_6 := dk_seg dksX3_point_5 23 rfl rfl
theorem dksX3_point_7 : cX3_point.data.toList.drop 164 = dktX3_point_7 := dk_seg dksX3_point_6 24 rfl rfl
theorem dksX3_point_8 : cX3_point.data.toList.drop 188 = dktX3_point_8 := dk_seg dksX3_point_7 24 rfl rfl
theorem dksX3_point_9 : cX3_point.data.toList.drop 212 = dktX3_point_9 := dk_seg dksX3_point_8 24 rfl rfl
theorem dX3_point_0 : decode cX3_point 0 = .ok (.aload_n 0, 1) := dk_42 (dk_at dksX3_point_0 0 rfl rfl)
theorem dX3_point_1 : decode cX3_point 1 = .ok (.invokevirtual 102, 3) := dk_182 0 102 (dk_at dksX3_point_0 1 rfl rfl)
theorem dX3_point_4 : decode cX3_point 4 = .ok (.istore_n 2, 1) := dk_61 (dk_at dksX3_point_0 4 rfl rfl)
theorem dX3_point_5 : decode cX3_point 5 = .ok (.aload_n 0, 1) := dk_42 (dk_at dksX3_point_0 5 rfl rfl)
theorem dX3_point_6 : decode cX3_point 6 = .ok (.getfield 26, 3) := dk_180 0 26 (dk_at dksX3_point_0 6 rfl rfl)
theorem dX3_point_9 : decode cX3_point 9 = .ok (.iconst 3, 1) := dk_6 (dk_at dksX3_point_0 9 rfl rfl)
theorem dX3_point_10 : decode cX3_point 10 = .ok (.dup2, 1) := dk_92 (dk_at dksX3_point_0 10 rfl rfl)
theorem dX3_point_11 : decode cX3_point 11 = .ok (.iaload, 1) := dk_46 (dk_at dksX3_point_0 11 rfl rfl)
theorem dX3_point_12 : decode cX3_point 12 = .ok (.iconst 1, 1) := dk_4 (dk_at dksX3_point_0 12 rfl rfl)
theorem dX3_point_13 : decode cX3_point 13 = .ok (.iadd, 1) := dk_96 (dk_at dksX3_point_0 13 rfl rfl)
theorem dX3_point_14 : decode cX3_point 14 = .ok (.iastore, 1) := dk_79 (dk_at dksX3_point_0 14 rfl rfl)
theorem dX3_point_15 : decode cX3_point 15 = .ok (.aload_n 0, 1) := dk_42 (dk_at dksX3_point_0 15 rfl rfl)
theorem dX3_point_16 : decode cX3_point 16 = .ok (.iconst 0, 1) := dk_3 (dk_at dksX3_point_0 16 rfl rfl)
theorem dX3_point_17 : decode cX3_point 17 = .ok (.bipush 7, 2) := dk_16 7 (dk_at dksX3_point_0 17 rfl rfl)
theorem dX3_point_19 : decode cX3_point 19 = .ok (.iconst 0, 1) := dk_3 (dk_at dksX3_point_0 19 rfl rfl)
theorem dX3_point_20 : decode cX3_point 20 = .ok (.invokevirtual 56, 3) := dk_182 0 56 (dk_at dksX3_point_0 20 rfl rfl)
theorem dX3_point_23 : decode cX3_point 23 = .ok (.aload_n 0, 1) := dk_42 (dk_at dksX3_point_0 23 rfl rfl)
theorem dX3_point_24 : decode cX3_point 24 = .ok (.iconst 1, 1) := dk_4 (dk_at dksX3_point_1 0 rfl rfl)
theorem dX3_point_25 : decode cX3_point 25 = .ok (.bipush 7, 2) := dk_16 7 (dk_at dksX3_point_1 1 rfl rfl)
theorem dX3_point_27 : decode cX3_point 27 = .ok (.iconst 0, 1) := dk_3 (dk_at dksX3_point_1 3 rfl rfl)
theorem dX3_point_28 : decode cX3_point 28 = .ok (.invokevirtual 56, 3) := dk_182 0 56 (dk_at dksX3_point_1 4 rfl rfl)
theorem dX3_point_31 : decode cX3_point 31 = .ok (.aload_n 0, 1) := dk_42 (dk_at dksX3_point_1 7 rfl rfl)
theorem dX3_point_32 : decode cX3_point 32 = .ok (.iload_n 1, 1) := dk_27 (dk_at dksX3_point_1 8 rfl rfl)
theorem dX3_point_33 : decode cX3_point 33 = .ok (.iconst 0, 1) := dk_3 (dk_at dksX3_point_1 9 rfl rfl)
theorem dX3_point_34 : decode cX3_point 34 = .ok (.aload_n 0, 1) := dk_42 (dk_at dksX3_point_1 10 rfl rfl)
theorem dX3_point_35 : decode cX3_point 35 = .ok (.iload_n 1, 1) := dk_27 (dk_at dksX3_point_1 11 rfl rfl)
theorem dX3_point_36 : decode cX3_point 36 = .ok (.iconst 0, 1) := dk_3 (dk_at dksX3_point_1 12 rfl rfl)
theorem dX3_point_37 : decode cX3_point 37 = .ok (.invokevirtual 95, 3) := dk_182 0 95 (dk_at dksX3_point_1 13 rfl rfl)
theorem dX3_point_40 : decode cX3_point 40 = .ok (.iconst 1, 1) := dk_4 (dk_at dksX3_point_1 16 rfl rfl)
theorem dX3_point_41 : decode cX3_point 41 = .ok (.iadd, 1) := dk_96 (dk_at dksX3_point_1 17 rfl rfl)
theorem dX3_point_42 : decode cX3_point 42 = .ok (.invokevirtual 56, 3) := dk_182 0 56 (dk_at dksX3_point_1 18 rfl rfl)
theorem dX3_point_45 : decode cX3_point 45 = .ok (.aload_n 0, 1) := dk_42 (dk_at dksX3_point_1 21 rfl rfl)
theorem dX3_point_46 : decode cX3_point 46 = .ok (.getfield 26, 3) := dk_180 0 26 (dk_at dksX3_point_2 0 rfl rfl)
theorem dX3_point_49 : decode cX3_point 49 = .ok (.iconst 2, 1) := dk_5 (dk_at dksX3_point_2 3 rfl rfl)
theorem dX3_point_50 : decode cX3_point 50 = .ok (.iaload, 1) := dk_46 (dk_at dksX3_point_2 4 rfl rfl)
theorem dX3_point_51 : decode cX3_point 51 = .ok (.iload_n 1, 1) := dk_27 (dk_at dksX3_point_2 5 rfl rfl)
theorem dX3_point_52 : decode cX3_point 52 = .ok (.if_icmp .ne 48, 3) := dk_160 0 48 (dk_at dksX3_point_2 6 rfl rfl)
theorem dX3_point_55 : decode cX3_point 55 = .ok (.aload_n 0, 1) := dk_42 (dk_at dksX3_point_2 9 rfl rfl)
theorem dX3_point_56 : decode cX3_point 56 = .ok (.iload_n 1, 1) := dk_27 (dk_at dksX3_point_2 10 rfl rfl)
theorem dX3_point_57 : decode cX3_point 57 = .ok (.iconst 5, 1) := dk_8 (dk_at dksX3_point_2 11 rfl rfl)
theorem dX3_point_58 : decode cX3_point 58 = .ok (.aload_n 0, 1) := dk_42 (dk_at dksX3_point_2 12 rfl rfl)
theorem dX3_point_59 : decode cX3_point 59 = .ok (.iload_n 1, 1) := dk_27 (dk_at dksX3_point_2 13 rfl rfl)
theorem dX3_point_60 : decode cX3_point 60 = .ok (.iconst 5, 1) := dk_8 (dk_at dksX3_point_2 14 rfl rfl)
theorem dX3_point_61 : decode cX3_point 61 = .ok (.invokevirtual 95, 3) := dk_182 0 95 (dk_at dksX3_point_2 15 rfl rfl)
theorem dX3_point_64 : decode cX3_point 64 = .ok (.iconst 1, 1) := dk_4 (dk_at dksX3_point_2 18 rfl rfl)
theorem dX3_point_65 : decode cX3_point 65 = .ok (.iadd, 1) := dk_96 (dk_at dksX3_point_2 19 rfl rfl)
theorem dX3_point_66 : decode cX3_point 66 = .ok (.invokevirtual 56, 3) := dk_182 0 56 (dk_at dksX3_point_2 20 rfl rfl)
theorem dX3_point_69 : decode cX3_point 69 = .ok (.aload_n 0, 1) := dk_42 (dk_at dksX3_point_2 23 rfl rfl)
theorem dX3_point_70 : decode cX3_point 70 = .ok (.iload_n 1, 1) := dk_27 (dk_at dksX3_point_3 0 rfl rfl)
theorem dX3_point_71 : decode cX3_point 71 = .ok (.bipush 8, 2) := dk_16 8 (dk_at dksX3_point_3 1 rfl rfl)
theorem dX3_point_73 : decode cX3_point 73 = .ok (.invokevirtual 95, 3) := dk_182 0 95 (dk_at dksX3_point_3 3 rfl rfl)
theorem dX3_point_76 : decode cX3_point 76 = .ok (.istore_n 3, 1) := dk_62 (dk_at dksX3_point_3 6 rfl rfl)
theorem dX3_point_77 : decode cX3_point 77 = .ok (.aload_n 0, 1) := dk_42 (dk_at dksX3_point_3 7 rfl rfl)
theorem dX3_point_78 : decode cX3_point 78 = .ok (.iload_n 1, 1) := dk_27 (dk_at dksX3_point_3 8 rfl rfl)
theorem dX3_point_79 : decode cX3_point 79 = .ok (.bipush 38, 2) := dk_16 38 (dk_at dksX3_point_3 9 rfl rfl)
theorem dX3_point_81 : decode cX3_point 81 = .ok (.iload_n 3, 1) := dk_29 (dk_at dksX3_point_3 11 rfl rfl)
theorem dX3_point_82 : decode cX3_point 82 = .ok (.iadd, 1) := dk_96 (dk_at dksX3_point_3 12 rfl rfl)
theorem dX3_point_83 : decode cX3_point 83 = .ok (.aload_n 0, 1) := dk_42 (dk_at dksX3_point_3 13 rfl rfl)
theorem dX3_point_84 : decode cX3_point 84 = .ok (.iload_n 1, 1) := dk_27 (dk_at dksX3_point_3 14 rfl rfl)
theorem dX3_point_85 : decode cX3_point 85 = .ok (.bipush 38, 2) := dk_16 38 (dk_at dksX3_point_3 15 rfl rfl)
theorem dX3_point_87 : decode cX3_point 87 = .ok (.iload_n 3, 1) := dk_29 (dk_at dksX3_point_3 17 rfl rfl)
theorem dX3_point_88 : decode cX3_point 88 = .ok (.iadd, 1) := dk_96 (dk_at dksX3_point_3 18 rfl rfl)
theorem dX3_point_89 : decode cX3_point 89 = .ok (.invokevirtual 95, 3) := dk_182 0 95 (dk_at dksX3_point_3 19 rfl rfl)
theorem dX3_point_92 : decode cX3_point 92 = .ok (.iconst 1, 1) := dk_4 (dk_at dksX3_point_3 22 rfl rfl)
theorem dX3_point_93 : decode cX3_point 93 = .ok (.iadd, 1) := dk_96 (dk_at dksX3_point_3 23 rfl rfl)
theorem dX3_point_94 : decode cX3_point 94 = .ok (.invokevirtual 56, 3) := dk_182 0 56 (dk_at dksX3_point_4 0 rfl rfl)
theorem dX3_point_97 : decode cX3_point 97 = .ok (.goto 31, 3) := dk_167 0 31 (dk_at dksX3_point_4 3 rfl rfl)
theorem dX3_point_100 : decode cX3_point 100 = .ok (.aload_n 0, 1) := dk_42 (dk_at dksX3_point_4 6 rfl rfl)
theorem dX3_point_101 : decode cX3_point 101 = .ok (.iconst 1, 1) := dk_4 (dk_at dksX3_point_4 7 rfl rfl)
theorem dX3_point_102 : decode cX3_point 102 = .ok (.iload_n 1, 1) := dk_27 (dk_at dksX3_point_4 8 rfl rfl)
theorem dX3_point_103 : decode cX3_point 103 = .ok (.isub, 1) := dk_100 (dk_at dksX3_point_4 9 rfl rfl)
theorem dX3_point_104 : decode cX3_point 104 = .ok (.iconst 5, 1) := dk_8 (dk_at dksX3_point_4 10 rfl rfl)
theorem dX3_point_105 : decode cX3_point 105 = .ok (.iconst 0, 1) := dk_3 (dk_at dksX3_point_4 11 rfl rfl)
theorem dX3_point_106 : decode cX3_point 106 = .ok (.invokevirtual 56, 3) := dk_182 0 56 (dk_at dksX3_point_4 12 rfl rfl)
theorem dX3_point_109 : decode cX3_point 109 = .ok (.aload_n 0, 1) := dk_42 (dk_at dksX3_point_4 15 rfl rfl)
theorem dX3_point_110 : decode cX3_point 110 = .ok (.iload_n 1, 1) := dk_27 (dk_at dksX3_point_4 16 rfl rfl)
theorem dX3_point_111 : decode cX3_point 111 = .ok (.iconst 5, 1) := dk_8 (dk_at dksX3_point_4 17 rfl rfl)
theorem dX3_point_112 : decode cX3_point 112 = .ok (.iconst 0, 1) := dk_3 (dk_at dksX3_point_4 18 rfl rfl)
theorem dX3_point_113 : decode cX3_point 113 = .ok (.invokevirtual 56, 3) := dk_182 0 56 (dk_at dksX3_point_4 19 rfl rfl)
theorem dX3_point_116 : decode cX3_point 116 = .ok (.aload_n 0, 1) := dk_42 (dk_at dksX3_point_4 22 rfl rfl)
theorem dX3_point_117 : decode cX3_point 117 = .ok (.getfield 26, 3) := dk_180 0 26 (dk_at dksX3_point_5 0 rfl rfl)
theorem dX3_point_120 : decode cX3_point 120 = .ok (.iconst 2, 1) := dk_5 (dk_at dksX3_point_5 3 rfl rfl)
theorem dX3_point_121 : decode cX3_point 121 = .ok (.iload_n 1, 1) := dk_27 (dk_at dksX3_point_5 4 rfl rfl)
theorem dX3_point_122 : decode cX3_point 122 = .ok (.iastore, 1) := dk_79 (dk_at dksX3_point_5 5 rfl rfl)
theorem dX3_point_123 : decode cX3_point 123 = .ok (.aload_n 0, 1) := dk_42 (dk_at dksX3_point_5 6 rfl rfl)
theorem dX3_point_124 : decode cX3_point 124 = .ok (.iload_n 1, 1) := dk_27 (dk_at dksX3_point_5 7 rfl rfl)
theorem dX3_point_125 : decode cX3_point 125 = .ok (.invokevirtual 106, 3) := dk_182 0 106 (dk_at dksX3_point_5 8 rfl rfl)
theorem dX3_point_128 : decode cX3_point 128 = .ok (.aload_n 0, 1) := dk_42 (dk_at dksX3_point_5 11 rfl rfl)
theorem dX3_point_129 : decode cX3_point 129 = .ok (.aload_n 0, 1) := dk_42 (dk_at dksX3_point_5 12 rfl rfl)
theorem dX3_point_130 : decode cX3_point 130 = .ok (.iload_n 1, 1) := dk_27 (dk_at dksX3_point_5 13 rfl rfl)
theorem dX3_point_131 : decode cX3_point 131 = .ok (.iconst 0, 1) := dk_3 (dk_at dksX3_point_5 14 rfl rfl)
theorem dX3_point_132 : decode cX3_point 132 = .ok (.invokevirtual 95, 3) := dk_182 0 95 (dk_at dksX3_point_5 15 rfl rfl)
theorem dX3_point_135 : decode cX3_point 135 = .ok (.aload_n 0, 1) := dk_42 (dk_at dksX3_point_5 18 rfl rfl)
theorem dX3_point_136 : decode cX3_point 136 = .ok (.iconst 1, 1) := dk_4 (dk_at dksX3_point_5 19 rfl rfl)
theorem dX3_point_137 : decode cX3_point 137 = .ok (.iload_n 1, 1) := dk_27 (dk_at dksX3_point_5 20 rfl rfl)
theorem dX3_point_138 : decode cX3_point 138 = .ok (.isub, 1) := dk_100 (dk_at dksX3_point_5 21 rfl rfl)
theorem dX3_point_139 : decode cX3_point 139 = .ok (.iconst 0, 1) := dk_3 (dk_at dksX3_point_5 22 rfl rfl)
theorem dX3_point_140 : decode cX3_point 140 = .ok (.invokevirtual 95, 3) := dk_182 0 95 (dk_at dksX3_point_6 0 rfl rfl)
theorem dX3_point_143 : decode cX3_point 143 = .ok (.iload_n 2, 1) := dk_28 (dk_at dksX3_point_6 3 rfl rfl)
theorem dX3_point_144 : decode cX3_point 144 = .ok (.invokevirtual 110, 3) := dk_182 0 110 (dk_at dksX3_point_6 4 rfl rfl)
theorem dX3_point_147 : decode cX3_point 147 = .ok (.ifCond .ne 5, 3) := dk_154 0 5 (dk_at dksX3_point_6 7 rfl rfl)
theorem dX3_point_150 : decode cX3_point 150 = .ok (.iconst 0, 1) := dk_3 (dk_at dksX3_point_6 10 rfl rfl)
theorem dX3_point_151 : decode cX3_point 151 = .ok (.ireturn, 1) := dk_172 (dk_at dksX3_point_6 11 rfl rfl)
theorem dX3_point_152 : decode cX3_point 152 = .ok (.aload_n 0, 1) := dk_42 (dk_at dksX3_point_6 12 rfl rfl)
theorem dX3_point_153 : decode cX3_point 153 = .ok (.getfield 26, 3) := dk_180 0 26 (dk_at dksX3_point_6 13 rfl rfl)
theorem dX3_point_156 : decode cX3_point 156 = .ok (.iconst 1, 1) := dk_4 (dk_at dksX3_point_6 16 rfl rfl)
theorem dX3_point_157 : decode cX3_point 157 = .ok (.iconst 0, 1) := dk_3 (dk_at dksX3_point_6 17 rfl rfl)
theorem dX3_point_158 : decode cX3_point 158 = .ok (.iastore, 1) := dk_79 (dk_at dksX3_point_6 18 rfl rfl)
theorem dX3_point_159 : decode cX3_point 159 = .ok (.aload_n 0, 1) := dk_42 (dk_at dksX3_point_6 19 rfl rfl)
theorem dX3_point_160 : decode cX3_point 160 = .ok (.getfield 26, 3) := dk_180 0 26 (dk_at dksX3_point_6 20 rfl rfl)
theorem dX3_point_163 : decode cX3_point 163 = .ok (.iconst 2, 1) := dk_5 (dk_at dksX3_point_6 23 rfl rfl)
theorem dX3_point_164 : decode cX3_point 164 = .ok (.iconst (-1), 1) := dk_2 (dk_at dksX3_point_7 0 rfl rfl)
theorem dX3_point_165 : decode cX3_point 165 = .ok (.iastore, 1) := dk_79 (dk_at dksX3_point_7 1 rfl rfl)
theorem dX3_point_166 : decode cX3_point 166 = .ok (.aload_n 0, 1) := dk_42 (dk_at dksX3_point_7 2 rfl rfl)
theorem dX3_point_167 : decode cX3_point 167 = .ok (.getfield 26, 3) := dk_180 0 26 (dk_at dksX3_point_7 3 rfl rfl)
theorem dX3_point_170 : decode cX3_point 170 = .ok (.iconst 5, 1) := dk_8 (dk_at dksX3_point_7 6 rfl rfl)
theorem dX3_point_171 : decode cX3_point 171 = .ok (.iload_n 1, 1) := dk_27 (dk_at dksX3_point_7 7 rfl rfl)
theorem dX3_point_172 : decode cX3_point 172 = .ok (.iastore, 1) := dk_79 (dk_at dksX3_point_7 8 rfl rfl)
theorem dX3_point_173 : decode cX3_point 173 = .ok (.aload_n 0, 1) := dk_42 (dk_at dksX3_point_7 9 rfl rfl)
theorem dX3_point_174 : decode cX3_point 174 = .ok (.iload_n 1, 1) := dk_27 (dk_at dksX3_point_7 10 rfl rfl)
theorem dX3_point_175 : decode cX3_point 175 = .ok (.iconst 1, 1) := dk_4 (dk_at dksX3_point_7 11 rfl rfl)
theorem dX3_point_176 : decode cX3_point 176 = .ok (.aload_n 0, 1) := dk_42 (dk_at dksX3_point_7 12 rfl rfl)
theorem dX3_point_177 : decode cX3_point 177 = .ok (.iload_n 1, 1) := dk_27 (dk_at dksX3_point_7 13 rfl rfl)
theorem dX3_point_178 : decode cX3_point 178 = .ok (.iconst 1, 1) := dk_4 (dk_at dksX3_point_7 14 rfl rfl)
theorem dX3_point_179 : decode cX3_point 179 = .ok (.invokevirtual 95, 3) := dk_182 0 95 (dk_at dksX3_point_7 15 rfl rfl)
theorem dX3_point_182 : decode cX3_point 182 = .ok (.iconst 1, 1) := dk_4 (dk_at dksX3_point_7 18 rfl rfl)
theorem dX3_point_183 : decode cX3_point 183 = .ok (.iadd, 1) := dk_96 (dk_at dksX3_point_7 19 rfl rfl)
theorem dX3_point_184 : decode cX3_point 184 = .ok (.invokevirtual 56, 3) := dk_182 0 56 (dk_at dksX3_point_7 20 rfl rfl)
theorem dX3_point_187 : decode cX3_point 187 = .ok (.aload_n 0, 1) := dk_42 (dk_at dksX3_point_7 23 rfl rfl)
theorem dX3_point_188 : decode cX3_point 188 = .ok (.iload_n 1, 1) := dk_27 (dk_at dksX3_point_8 0 rfl rfl)
theorem dX3_point_189 : decode cX3_point 189 = .ok (.iconst 1, 1) := dk_4 (dk_at dksX3_point_8 1 rfl rfl)
theorem dX3_point_190 : decode cX3_point 190 = .ok (.invokevirtual 95, 3) := dk_182 0 95 (dk_at dksX3_point_8 2 rfl rfl)
theorem dX3_point_193 : decode cX3_point 193 = .ok (.aload_n 0, 1) := dk_42 (dk_at dksX3_point_8 5 rfl rfl)
theorem dX3_point_194 : decode cX3_point 194 = .ok (.getfield 16, 3) := dk_180 0 16 (dk_at dksX3_point_8 6 rfl rfl)
theorem dX3_point_197 : decode cX3_point 197 = .ok (.iconst 3, 1) := dk_6 (dk_at dksX3_point_8 9 rfl rfl)
theorem dX3_point_198 : decode cX3_point 198 = .ok (.iaload, 1) := dk_46 (dk_at dksX3_point_8 10 rfl rfl)
theorem dX3_point_199 : decode cX3_point 199 = .ok (.if_icmp .ge 5, 3) := dk_162 0 5 (dk_at dksX3_point_8 11 rfl rfl)
theorem dX3_point_202 : decode cX3_point 202 = .ok (.iconst 1, 1) := dk_4 (dk_at dksX3_point_8 14 rfl rfl)
theorem dX3_point_203 : decode cX3_point 203 = .ok (.ireturn, 1) := dk_172 (dk_at dksX3_point_8 15 rfl rfl)
theorem dX3_point_204 : decode cX3_point 204 = .ok (.aload_n 0, 1) := dk_42 (dk_at dksX3_point_8 16 rfl rfl)
theorem dX3_point_205 : decode cX3_point 205 = .ok (.getfield 26, 3) := dk_180 0 26 (dk_at dksX3_point_8 17 rfl rfl)
theorem dX3_point_208 : decode cX3_point 208 = .ok (.iconst 4, 1) := dk_7 (dk_at dksX3_point_8 20 rfl rfl)
theorem dX3_point_209 : decode cX3_point 209 = .ok (.iload_n 1, 1) := dk_27 (dk_at dksX3_point_8 21 rfl rfl)
theorem dX3_point_210 : decode cX3_point 210 = .ok (.iastore, 1) := dk_79 (dk_at dksX3_point_8 22 rfl rfl)
theorem dX3_point_211 : decode cX3_point 211 = .ok (.iconst 2, 1) := dk_5 (dk_at dksX3_point_8 23 rfl rfl)
theorem dX3_point_212 : decode cX3_point 212 = .ok (.ireturn, 1) := dk_172 (dk_at dksX3_point_9 0 rfl rfl)
abbrev cX3_goal : ByteArray := prog_9_method_19_code
def yX3_goal : MethodName := ⟨RX3, "goal", "()I"⟩
def dkwX3_goal_0 : List UInt8 := [42, 182, 0, 99, 153, 0, 12, 42, 180, 0, 16, 5, 46, 167, 0, 9, 42, 180, 0, 16, 3, 46, 172]
abbrev dktX3_goal_0 : List UInt8 := dkwX3_goal_0 ++ []
theorem dksX3_goal_0 : cX3_goal.data.toList.drop 0 = dktX3_goal_0 := by decide +kernel
theorem dX3_goal_0 : decode cX3_goal 0 = .ok (.aload_n 0, 1) := dk_42 (dk_at dksX3_goal_0 0 rfl rfl)
theorem dX3_goal_1 : decode cX3_goal 1 = .ok (.invokevirtual 99, 3) := dk_182 0 99 (dk_at dksX3_goal_0 1 rfl rfl)
theorem dX3_goal_4 : decode cX3_goal 4 = .ok (.ifCond .eq 12, 3) := dk_153 0 12 (dk_at dksX3_goal_0 4 rfl rfl)
theorem dX3_goal_7 : decode cX3_goal 7 = .ok (.aload_n 0, 1) := dk_42 (dk_at dksX3_goal_0 7 rfl rfl)
theorem dX3_goal_8 : decode cX3_goal 8 = .ok (.getfield 16, 3) := dk_180 0 16 (dk_at dksX3_goal_0 8 rfl rfl)
theorem dX3_goal_11 : decode cX3_goal 11 = .ok (.iconst 2, 1) := dk_5 (dk_at dksX3_goal_0 11 rfl rfl)
theorem dX3_goal_12 : decode cX3_goal 12 = .ok (.iaload, 1) := dk_46 (dk_at dksX3_goal_0 12 rfl rfl)
theorem dX3_goal_13 : decode cX3_goal 13 = .ok (.goto 9, 3) := dk_167 0 9 (dk_at dksX3_goal_0 13 rfl rfl)
theorem dX3_goal_16 : decode cX3_goal 16 = .ok (.aload_n 0, 1) := dk_42 (dk_at dksX3_goal_0 16 rfl rfl)
theorem dX3_goal_17 : decode cX3_goal 17 = .ok (.getfield 16, 3) := dk_180 0 16 (dk_at dksX3_goal_0 17 rfl rfl)
theorem dX3_goal_20 : decode cX3_goal 20 = .ok (.iconst 0, 1) := dk_3 (dk_at dksX3_goal_0 20 rfl rfl)
theorem dX3_goal_21 : decode cX3_goal 21 = .ok (.iaload, 1) := dk_46 (dk_at dksX3_goal_0 21 rfl rfl)
theorem dX3_goal_22 : decode cX3_goal 22 = .ok (.ireturn, 1) := dk_172 (dk_at dksX3_goal_0 22 rfl rfl)
abbrev cX3_isLastSet : ByteArray := prog_9_method_18_code
def yX3_isLastSet : MethodName := ⟨RX3, "isLastSet", "()Z"⟩
def dkwX3_isLastSet_2 : List UInt8 := [3, 172]
abbrev dktX3_isLastSet_2 : List UInt8 := dkwX3_isLastSet_2 ++ []
def dkwX3_isLastSet_1 : List UInt8 := [160, 0, 24, 42, 4, 4, 182, 0, 95, 42, 180, 0, 16, 6, 46, 4, 100, 160, 0, 7, 4, 167, 0, 4]
abbrev dktX3_isLastSet_1 : List UInt8 := dkwX3_isLastSet_1 ++ dktX3_isLastSet_2
def dkwX3_isLastSet_0 : List UInt8 := [42, 180, 0, 16, 6, 46, 4, 164, 0, 41, 42, 3, 4, 182, 0, 95, 42, 180, 0, 16, 6, 46, 4, 100]
abbrev dktX3_isLastSet_0 : List UInt8 := dkwX3_isLastSet_0 ++ dktX3_isLastSet_1
theorem dksX3_isLastSet_0 : cX3_isLastSet.data.toList.drop 0 = dktX3_isLastSet_0 := by decide +kernel
theorem dksX3_isLastSet_1 : cX3_isLastSet.data.toList.drop 24 = dktX3_isLastSet_1 := dk_seg dksX3_isLastSet_0 24 rfl rfl
theorem dksX3_isLastSet_2 : cX3_isLastSet.data.toList.drop 48 = dktX3_isLastSet_2 := dk_seg dksX3_isLastSet_1 24 rfl rfl
theorem dX3_isLastSet_0 : decode cX3_isLastSet 0 = .ok (.aload_n 0, 1) := dk_42 (dk_at dksX3_isLastSet_0 0 rfl rfl)
theorem dX3_isLastSet_1 : decode cX3_isLastSet 1 = .ok (.getfield 16, 3) := dk_180 0 16 (dk_at dksX3_isLastSet_0 1 rfl rfl)
theorem dX3_isLastSet_4 : decode cX3_isLastSet 4 = .ok (.iconst 3, 1) := dk_6 (dk_at dksX3_isLastSet_0 4 rfl rfl)
theorem dX3_isLastSet_5 : decode cX3_isLastSet 5 = .ok (.iaload, 1) := dk_46 (dk_at dksX3_isLastSet_0 5 rfl rfl)
theorem dX3_isLastSet_6 : decode cX3_isLastSet 6 = .ok (.iconst 1, 1) := dk_4 (dk_at dksX3_isLastSet_0 6 rfl rfl)
theorem dX3_isLastSet_7 : decode cX3_isLastSet 7 = .ok (.if_icmp .le 41, 3) := dk_164 0 41 (dk_at dksX3_isLastSet_0 7 rfl rfl)
theorem dX3_isLastSet_10 : decode cX3_isLastSet 10 = .ok (.aload_n 0, 1) := dk_42 (dk_at dksX3_isLastSet_0 10 rfl rfl)
theorem dX3_isLastSet_11 : decode cX3_isLastSet 11 = .ok (.iconst 0, 1) := dk_3 (dk_at dksX3_isLastSet_0 11 rfl rfl)
theorem dX3_isLastSet_12 : decode cX3_isLastSet 12 = .ok (.iconst 1, 1) := dk_4 (dk_at dksX3_isLastSet_0 12 rfl rfl)
theorem dX3_isLastSet_13 : decode cX3_isLastSet 13 = .ok (.invokevirtual 95, 3) := dk_182 0 95 (dk_at dksX3_isLastSet_0 13 rfl rfl)
theorem dX3_isLastSet_16 : decode cX3_isLastSet 16 = .ok (.aload_n 0, 1) := dk_42 (dk_at dksX3_isLastSet_0 16 rfl rfl)
theorem dX3_isLastSet_17 : decode cX3_isLastSet 17 = .ok (.getfield 16, 3) := dk_180 0 16 (dk_at dksX3_isLastSet_0 17 rfl rfl)
theorem dX3_isLastSet_20 : decode cX3_isLastSet 20 = .ok (.iconst 3, 1) := dk_6 (dk_at dksX3_isLastSet_0 20 rfl rfl)
theorem dX3_isLastSet_21 : decode cX3_isLastSet 21 = .ok (.iaload, 1) := dk_46 (dk_at dksX3_isLastSet_0 21 rfl rfl)
theorem dX3_isLastSet_22 : decode cX3_isLastSet 22 = .ok (.iconst 1, 1) := dk_4 (dk_at dksX3_isLastSet_0 22 rfl rfl)
theorem dX3_isLastSet_23 : decode cX3_isLastSet 23 = .ok (.isub, 1) := dk_100 (dk_at dksX3_isLastSet_0 23 rfl rfl)
theorem dX3_isLastSet_24 : decode cX3_isLastSet 24 = .ok (.if_icmp .ne 24, 3) := dk_160 0 24 (dk_at dksX3_isLastSet_1 0 rfl rfl)
theorem dX3_isLastSet_27 : decode cX3_isLastSet 27 = .ok (.aload_n 0, 1) := dk_42 (dk_at dksX3_isLastSet_1 3 rfl rfl)
theorem dX3_isLastSet_28 : decode cX3_isLastSet 28 = .ok (.iconst 1, 1) := dk_4 (dk_at dksX3_isLastSet_1 4 rfl rfl)
theorem dX3_isLastSet_29 : decode cX3_isLastSet 29 = .ok (.iconst 1, 1) := dk_4 (dk_at dksX3_isLastSet_1 5 rfl rfl)
theorem dX3_isLastSet_30 : decode cX3_isLastSet 30 = .ok (.invokevirtual 95, 3) := dk_182 0 95 (dk_at dksX3_isLastSet_1 6 rfl rfl)
theorem dX3_isLastSet_33 : decode cX3_isLastSet 33 = .ok (.aload_n 0, 1) := dk_42 (dk_at dksX3_isLastSet_1 9 rfl rfl)
theorem dX3_isLastSet_34 : decode cX3_isLastSet 34 = .ok (.getfield 16, 3) := dk_180 0 16 (dk_at dksX3_isLastSet_1 10 rfl rfl)
theorem dX3_isLastSet_37 : decode cX3_isLastSet 37 = .ok (.iconst 3, 1) := dk_6 (dk_at dksX3_isLastSet_1 13 rfl rfl)
theorem dX3_isLastSet_38 : decode cX3_isLastSet 38 = .ok (.iaload, 1) := dk_46 (dk_at dksX3_isLastSet_1 14 rfl rfl)
theorem dX3_isLastSet_39 : decode cX3_isLastSet 39 = .ok (.iconst 1, 1) := dk_4 (dk_at dksX3_isLastSet_1 15 rfl rfl)
theorem dX3_isLastSet_40 : decode cX3_isLastSet 40 = .ok (.isub, 1) := dk_100 (dk_at dksX3_isLastSet_1 16 rfl rfl)
theorem dX3_isLastSet_41 : decode cX3_isLastSet 41 = .ok (.if_icmp .ne 7, 3) := dk_160 0 7 (dk_at dksX3_isLastSet_1 17 rfl rfl)
theorem dX3_isLastSet_44 : decode cX3_isLastSet 44 = .ok (.iconst 1, 1) := dk_4 (dk_at dksX3_isLastSet_1 20 rfl rfl)
theorem dX3_isLastSet_45 : decode cX3_isLastSet 45 = .ok (.goto 4, 3) := dk_167 0 4 (dk_at dksX3_isLastSet_1 21 rfl rfl)
theorem dX3_isLastSet_48 : decode cX3_isLastSet 48 = .ok (.iconst 0, 1) := dk_3 (dk_at dksX3_isLastSet_2 0 rfl rfl)
theorem dX3_isLastSet_49 : decode cX3_isLastSet 49 = .ok (.ireturn, 1) := dk_172 (dk_at dksX3_isLastSet_2 1 rfl rfl)
abbrev cX3_turn : ByteArray := prog_9_method_17_code
def yX3_turn : MethodName := ⟨RX3, "turn", "(I)V"⟩
def dkwX3_turn_4 : List UInt8 := [42, 27, 16, 11, 42, 27, 7, 182, 0, 95, 182, 0, 56, 42, 27, 7, 2, 182, 0, 56, 177]
abbrev dktX3_turn_4 : List UInt8 := dkwX3_turn_4 ++ []
def dkwX3_turn_3 : List UInt8 := [182, 0, 95, 2, 159, 0, 19, 42, 27, 16, 11, 182, 0, 95, 42, 180, 0, 13, 27, 46, 159, 0, 4, 177]
abbrev dktX3_turn_3 : List UInt8 := dkwX3_turn_3 ++ dktX3_turn_4
def dkwX3_turn_2 : List UInt8 := [182, 0, 56, 42, 27, 16, 6, 42, 27, 16, 6, 182, 0, 95, 4, 96, 182, 0, 56, 42, 27, 7]
abbrev dktX3_turn_2 : List UInt8 := dkwX3_turn_2 ++ dktX3_turn_3
def dkwX3_turn_1 : List UInt8 := [16, 8, 29, 96, 4, 96, 182, 0, 95, 182, 0, 56, 132, 3, 1, 167, 255, 228, 42, 27, 16, 13, 28]
abbrev dktX3_turn_1 : List UInt8 := dkwX3_turn_1 ++ dktX3_turn_2
def dkwX3_turn_0 : List UInt8 := [42, 27, 16, 8, 182, 0, 95, 61, 3, 62, 29, 8, 162, 0, 29, 42, 27, 16, 8, 29, 96, 42, 27]
abbrev dktX3_turn_0 : List UInt8 := dkwX3_turn_0 ++ dktX3_turn_1
theorem dksX3_turn_0 : cX3_turn.data.toList.drop 0 = dktX3_turn_0 := by decide +kernel
theorem dksX3_turn_1 : cX3_turn.data.toList.drop 23 = dktX3_turn_1 := dk_seg dksX3_turn_0 23 rfl rfl
theorem dksX3_turn_2 : cX3_turn.data.toList.drop 46 = dktX3_turn_2 := dk_seg dksX3_turn_1 23 rfl rfl
theorem dksX3_turn_3 : cX3_turn.data.toList.drop 68 = dktX3_turn_3 := dk_seg dksX3_turn_2 22 rfl rfl
theorem dksX3_turn_4 : cX3_turn.data.toList.drop 92 = dktX3_turn_4 := dk_seg dksX3_turn_3 24 rfl rfl
theorem dX3_turn_0 : decode cX3_turn 0 = .ok (.aload_n 0, 1) := dk_42 (dk_at dksX3_turn_0 0 rfl rfl)
theorem dX3_turn_1 : decode cX3_turn 1 = .ok (.iload_n 1, 1) := dk_27 (dk_at dksX3_turn_0 1 rfl rfl)
theorem dX3_turn_2 : decode cX3_turn 2 = .ok (.bipush 8, 2) := dk_16 8 (dk_at dksX3_turn_0 2 rfl rfl)
theorem dX3_turn_4 : decode cX3_turn 4 = .ok (.invokevirtual 95, 3) := dk_182 0 95 (dk_at dksX3_turn_0 4 rfl rfl)
theorem dX3_turn_7 : decode cX3_turn 7 = .ok (.istore_n 2, 1) := dk_61 (dk_at dksX3_turn_0 7 rfl rfl)
theorem dX3_turn_8 : decode cX3_turn 8 = .ok (.iconst 0, 1) := dk_3 (dk_at dksX3_turn_0 8 rfl rfl)
theorem dX3_turn_9 : decode cX3_turn 9 = .ok (.istore_n 3, 1) := dk_62 (dk_at dksX3_turn_0 9 rfl rfl)
theorem dX3_turn_10 : decode cX3_turn 10 = .ok (.iload_n 3, 1) := dk_29 (dk_at dksX3_turn_0 10 rfl rfl)
theorem dX3_turn_11 : decode cX3_turn 11 = .ok (.iconst 5, 1) := dk_8 (dk_at dksX3_turn_0 11 rfl rfl)
theorem dX3_turn_12 : decode cX3_turn 12 = .ok (.if_icmp .ge 29, 3) := dk_162 0 29 (dk_at dksX3_turn_0 12 rfl rfl)
theorem dX3_turn_15 : decode cX3_turn 15 = .ok (.aload_n 0, 1) := dk_42 (dk_at dksX3_turn_0 15 rfl rfl)
theorem dX3_turn_16 : decode cX3_turn 16 = .ok (.iload_n 1, 1) := dk_27 (dk_at dksX3_turn_0 16 rfl rfl)
theorem dX3_turn_17 : decode cX3_turn 17 = .ok (.bipush 8, 2) := dk_16 8 (dk_at dksX3_turn_0 17 rfl rfl)
theorem dX3_turn_19 : decode cX3_turn 19 = .ok (.iload_n 3, 1) := dk_29 (dk_at dksX3_turn_0 19 rfl rfl)
theorem dX3_turn_20 : decode cX3_turn 20 = .ok (.iadd, 1) := dk_96 (dk_at dksX3_turn_0 20 rfl rfl)
theorem dX3_turn_21 : decode cX3_turn 21 = .ok (.aload_n 0, 1) := dk_42 (dk_at dksX3_turn_0 21 rfl rfl)
theorem dX3_turn_22 : decode cX3_turn 22 = .ok (.iload_n 1, 1) := dk_27 (dk_at dksX3_turn_0 22 rfl rfl)
theorem dX3_turn_23 : decode cX3_turn 23 = .ok (.bipush 8, 2) := dk_16 8 (dk_at dksX3_turn_1 0 rfl rfl)
theorem dX3_turn_25 : decode cX3_turn 25 = .ok (.iload_n 3, 1) := dk_29 (dk_at dksX3_turn_1 2 rfl rfl)
theorem dX3_turn_26 : decode cX3_turn 26 = .ok (.iadd, 1) := dk_96 (dk_at dksX3_turn_1 3 rfl rfl)
theorem dX3_turn_27 : decode cX3_turn 27 = .ok (.iconst 1, 1) := dk_4 (dk_at dksX3_turn_1 4 rfl rfl)
theorem dX3_turn_28 : decode cX3_turn 28 = .ok (.iadd, 1) := dk_96 (dk_at dksX3_turn_1 5 rfl rfl)
theorem dX3_turn_29 : decode cX3_turn 29 = .ok (.invokevirtual 95, 3) := dk_182 0 95 (dk_at dksX3_turn_1 6 rfl rfl)
theorem dX3_turn_32 : decode cX3_turn 32 = .ok (.invokevirtual 56, 3) := dk_182 0 56 (dk_at dksX3_turn_1 9 rfl rfl)
theorem dX3_turn_35 : decode cX3_turn 35 = .ok (.iinc 3 1, 3) := dk_132 3 1 (dk_at dksX3_turn_1 12 rfl rfl)
theorem dX3_turn_38 : decode cX3_turn 38 = .ok (.goto (-28), 3) := dk_167 255 228 (dk_at dksX3_turn_1 15 rfl rfl)
theorem dX3_turn_41 : decode cX3_turn 41 = .ok (.aload_n 0, 1) := dk_42 (dk_at dksX3_turn_1 18 rfl rfl)
theorem dX3_turn_42 : decode cX3_turn 42 = .ok (.iload_n 1, 1) := dk_27 (dk_at dksX3_turn_1 19 rfl rfl)
theorem dX3_turn_43 : decode cX3_turn 43 = .ok (.bipush 13, 2) := dk_16 13 (dk_at dksX3_turn_1 20 rfl rfl)
theorem dX3_turn_45 : decode cX3_turn 45 = .ok (.iload_n 2, 1) := dk_28 (dk_at dksX3_turn_1 22 rfl rfl)
theorem dX3_turn_46 : decode cX3_turn 46 = .ok (.invokevirtual 56, 3) := dk_182 0 56 (dk_at dksX3_turn_2 0 rfl rfl)
theorem dX3_turn_49 : decode cX3_turn 49 = .ok (.aload_n 0, 1) := dk_42 (dk_at dksX3_turn_2 3 rfl rfl)
theorem dX3_turn_50 : decode cX3_turn 50 = .ok (.iload_n 1, 1) := dk_27 (dk_at dksX3_turn_2 4 rfl rfl)
theorem dX3_turn_51 : decode cX3_turn 51 = .ok (.bipush 6, 2) := dk_16 6 (dk_at dksX3_turn_2 5 rfl rfl)
theorem dX3_turn_53 : decode cX3_turn 53 = .ok (.aload_n 0, 1) := dk_42 (dk_at dksX3_turn_2 7 rfl rfl)
theorem dX3_turn_54 : decode cX3_turn 54 = .ok (.iload_n 1, 1) := dk_27 (dk_at dksX3_turn_2 8 rfl rfl)
theorem dX3_turn_55 : decode cX3_turn 55 = .ok (.bipush 6, 2) := dk_16 6 (dk_at dksX3_turn_2 9 rfl rfl)
theorem dX3_turn_57 : decode cX3_turn 57 = .ok (.invokevirtual 95, 3) := dk_182 0 95 (dk_at dksX3_turn_2 11 rfl rfl)
theorem dX3_turn_60 : decode cX3_turn 60 = .ok (.iconst 1, 1) := dk_4 (dk_at dksX3_turn_2 14 rfl rfl)
theorem dX3_turn_61 : decode cX3_turn 61 = .ok (.iadd, 1) := dk_96 (dk_at dksX3_turn_2 15 rfl rfl)
theorem dX3_turn_62 : decode cX3_turn 62 = .ok (.invokevirtual 56, 3) := dk_182 0 56 (dk_at dksX3_turn_2 16 rfl rfl)
theorem dX3_turn_65 : decode cX3_turn 65 = .ok (.aload_n 0, 1) := dk_42 (dk_at dksX3_turn_2 19 rfl rfl)
theorem dX3_turn_66 : decode cX3_turn 66 = .ok (.iload_n 1, 1) := dk_27 (dk_at dksX3_turn_2 20 rfl rfl)
theorem dX3_turn_67 : decode cX3_turn 67 = .ok (.iconst 4, 1) := dk_7 (dk_at dksX3_turn_2 21 rfl rfl)
theorem dX3_turn_68 : decode cX3_turn 68 = .ok (.invokevirtual 95, 3) := dk_182 0 95 (dk_at dksX3_turn_3 0 rfl rfl)
theorem dX3_turn_71 : decode cX3_turn 71 = .ok (.iconst (-1), 1) := dk_2 (dk_at dksX3_turn_3 3 rfl rfl)
theorem dX3_turn_72 : decode cX3_turn 72 = .ok (.if_icmp .eq 19, 3) := dk_159 0 19 (dk_at dksX3_turn_3 4 rfl rfl)
theorem dX3_turn_75 : decode cX3_turn 75 = .ok (.aload_n 0, 1) := dk_42 (dk_at dksX3_turn_3 7 rfl rfl)
theorem dX3_turn_76 : decode cX3_turn 76 = .ok (.iload_n 1, 1) := dk_27 (dk_at dksX3_turn_3 8 rfl rfl)
theorem dX3_turn_77 : decode cX3_turn 77 = .ok (.bipush 11, 2) := dk_16 11 (dk_at dksX3_turn_3 9 rfl rfl)
theorem dX3_turn_79 : decode cX3_turn 79 = .ok (.invokevirtual 95, 3) := dk_182 0 95 (dk_at dksX3_turn_3 11 rfl rfl)
theorem dX3_turn_82 : decode cX3_turn 82 = .ok (.aload_n 0, 1) := dk_42 (dk_at dksX3_turn_3 14 rfl rfl)
theorem dX3_turn_83 : decode cX3_turn 83 = .ok (.getfield 13, 3) := dk_180 0 13 (dk_at dksX3_turn_3 15 rfl rfl)
theorem dX3_turn_86 : decode cX3_turn 86 = .ok (.iload_n 1, 1) := dk_27 (dk_at dksX3_turn_3 18 rfl rfl)
theorem dX3_turn_87 : decode cX3_turn 87 = .ok (.iaload, 1) := dk_46 (dk_at dksX3_turn_3 19 rfl rfl)
theorem dX3_turn_88 : decode cX3_turn 88 = .ok (.if_icmp .eq 4, 3) := dk_159 0 4 (dk_at dksX3_turn_3 20 rfl rfl)
theorem dX3_turn_91 : decode cX3_turn 91 = .ok (.return_, 1) := dk_177 (dk_at dksX3_turn_3 23 rfl rfl)
theorem dX3_turn_92 : decode cX3_turn 92 = .ok (.aload_n 0, 1) := dk_42 (dk_at dksX3_turn_4 0 rfl rfl)
theorem dX3_turn_93 : decode cX3_turn 93 = .ok (.iload_n 1, 1) := dk_27 (dk_at dksX3_turn_4 1 rfl rfl)
theorem dX3_turn_94 : decode cX3_turn 94 = .ok (.bipush 11, 2) := dk_16 11 (dk_at dksX3_turn_4 2 rfl rfl)
theorem dX3_turn_96 : decode cX3_turn 96 = .ok (.aload_n 0, 1) := dk_42 (dk_at dksX3_turn_4 4 rfl rfl)
theorem dX3_turn_97 : decode cX3_turn 97 = .ok (.iload_n 1, 1) := dk_27 (dk_at dksX3_turn_4 5 rfl rfl)
theorem dX3_turn_98 : decode cX3_turn 98 = .ok (.iconst 4, 1) := dk_7 (dk_at dksX3_turn_4 6 rfl rfl)
theorem dX3_turn_99 : decode cX3_turn 99 = .ok (.invokevirtual 95, 3) := dk_182 0 95 (dk_at dksX3_turn_4 7 rfl rfl)
theorem dX3_turn_102 : decode cX3_turn 102 = .ok (.invokevirtual 56, 3) := dk_182 0 56 (dk_at dksX3_turn_4 10 rfl rfl)
theorem dX3_turn_105 : decode cX3_turn 105 = .ok (.aload_n 0, 1) := dk_42 (dk_at dksX3_turn_4 13 rfl rfl)
theorem dX3_turn_106 : decode cX3_turn 106 = .ok (.iload_n 1, 1) := dk_27 (dk_at dksX3_turn_4 14 rfl rfl)
theorem dX3_turn_107 : decode cX3_turn 107 = .ok (.iconst 4, 1) := dk_7 (dk_at dksX3_turn_4 15 rfl rfl)
theorem dX3_turn_108 : decode cX3_turn 108 = .ok (.iconst (-1), 1) := dk_2 (dk_at dksX3_turn_4 16 rfl rfl)
theorem dX3_turn_109 : decode cX3_turn 109 = .ok (.invokevirtual 56, 3) := dk_182 0 56 (dk_at dksX3_turn_4 17 rfl rfl)
theorem dX3_turn_112 : decode cX3_turn 112 = .ok (.return_, 1) := dk_177 (dk_at dksX3_turn_4 20 rfl rfl)
abbrev cX3_wins : ByteArray := prog_9_method_20_code
def yX3_wins : MethodName := ⟨RX3, "wins", "(III)Z"⟩
def dkwX3_wins_1 : List UInt8 := [167, 0, 4, 3, 172]
abbrev dktX3_wins_1 : List UInt8 := dkwX3_wins_1 ++ []
def dkwX3_wins_0 : List UInt8 := [27, 29, 161, 0, 10, 27, 28, 100, 5, 162, 0, 13, 27, 42, 180, 0, 16, 4, 46, 161, 0, 7, 4]
abbrev dktX3_wins_0 : List UInt8 := dkwX3_wins_0 ++ dktX3_wins_1
theorem dksX3_wins_0 : cX3_wins.data.toList.drop 0 = dktX3_wins_0 := by decide +kernel
theorem dksX3_wins_1 : cX3_wins.data.toList.drop 23 = dktX3_wins_1 := dk_seg dksX3_wins_0 23 rfl rfl
theorem dX3_wins_0 : decode cX3_wins 0 = .ok (.iload_n 1, 1) := dk_27 (dk_at dksX3_wins_0 0 rfl rfl)
theorem dX3_wins_1 : decode cX3_wins 1 = .ok (.iload_n 3, 1) := dk_29 (dk_at dksX3_wins_0 1 rfl rfl)
theorem dX3_wins_2 : decode cX3_wins 2 = .ok (.if_icmp .lt 10, 3) := dk_161 0 10 (dk_at dksX3_wins_0 2 rfl rfl)
theorem dX3_wins_5 : decode cX3_wins 5 = .ok (.iload_n 1, 1) := dk_27 (dk_at dksX3_wins_0 5 rfl rfl)
theorem dX3_wins_6 : decode cX3_wins 6 = .ok (.iload_n 2, 1) := dk_28 (dk_at dksX3_wins_0 6 rfl rfl)
theorem dX3_wins_7 : decode cX3_wins 7 = .ok (.isub, 1) := dk_100 (dk_at dksX3_wins_0 7 rfl rfl)
theorem dX3_wins_8 : decode cX3_wins 8 = .ok (.iconst 2, 1) := dk_5 (dk_at dksX3_wins_0 8 rfl rfl)
theorem dX3_wins_9 : decode cX3_wins 9 = .ok (.if_icmp .ge 13, 3) := dk_162 0 13 (dk_at dksX3_wins_0 9 rfl rfl)
theorem dX3_wins_12 : decode cX3_wins 12 = .ok (.iload_n 1, 1) := dk_27 (dk_at dksX3_wins_0 12 rfl rfl)
theorem dX3_wins_13 : decode cX3_wins 13 = .ok (.aload_n 0, 1) := dk_42 (dk_at dksX3_wins_0 13 rfl rfl)
theorem dX3_wins_14 : decode cX3_wins 14 = .ok (.getfield 16, 3) := dk_180 0 16 (dk_at dksX3_wins_0 14 rfl rfl)
theorem dX3_wins_17 : decode cX3_wins 17 = .ok (.iconst 1, 1) := dk_4 (dk_at dksX3_wins_0 17 rfl rfl)
theorem dX3_wins_18 : decode cX3_wins 18 = .ok (.iaload, 1) := dk_46 (dk_at dksX3_wins_0 18 rfl rfl)
theorem dX3_wins_19 : decode cX3_wins 19 = .ok (.if_icmp .lt 7, 3) := dk_161 0 7 (dk_at dksX3_wins_0 19 rfl rfl)
theorem dX3_wins_22 : decode cX3_wins 22 = .ok (.iconst 1, 1) := dk_4 (dk_at dksX3_wins_0 22 rfl rfl)
theorem dX3_wins_23 : decode cX3_wins 23 = .ok (.goto 4, 3) := dk_167 0 4 (dk_at dksX3_wins_1 0 rfl rfl)
theorem dX3_wins_26 : decode cX3_wins 26 = .ok (.iconst 0, 1) := dk_3 (dk_at dksX3_wins_1 3 rfl rfl)
theorem dX3_wins_27 : decode cX3_wins 27 = .ok (.ireturn, 1) := dk_172 (dk_at dksX3_wins_1 4 rfl rfl)
abbrev cX3_may : ByteArray := prog_9_method_25_code
def yX3_may : MethodName := ⟨RX3, "may", "(III)I"⟩
def dkwX3_may_0 : List UInt8 := [42, 3, 181, 0, 63, 27, 184, 0, 71, 153, 0, 13, 42, 27, 28, 29, 182, 0, 120, 167, 0, 4, 2, 172]
abbrev dktX3_may_0 : List UInt8 := dkwX3_may_0 ++ []
theorem dksX3_may_0 : cX3_may.data.toList.drop 0 = dktX3_may_0 := by decide +kernel
theorem dX3_may_0 : decode cX3_may 0 = .ok (.aload_n 0, 1) := dk_42 (dk_at dksX3_may_0 0 rfl rfl)
theorem dX3_may_1 : decode cX3_may 1 = .ok (.iconst 0, 1) := dk_3 (dk_at dksX3_may_0 1 rfl rfl)
theorem dX3_may_2 : decode cX3_may 2 = .ok (.putfield 63, 3) := dk_181 0 63 (dk_at dksX3_may_0 2 rfl rfl)
theorem dX3_may_5 : decode cX3_may 5 = .ok (.iload_n 1, 1) := dk_27 (dk_at dksX3_may_0 5 rfl rfl)
theorem dX3_may_6 : decode cX3_may 6 = .ok (.invokestatic 71, 3) := dk_184 0 71 (dk_at dksX3_may_0 6 rfl rfl)
theorem dX3_may_9 : decode cX3_may 9 = .ok (.ifCond .eq 13, 3) := dk_153 0 13 (dk_at dksX3_may_0 9 rfl rfl)
theorem dX3_may_12 : decode cX3_may 12 = .ok (.aload_n 0, 1) := dk_42 (dk_at dksX3_may_0 12 rfl rfl)
theorem dX3_may_13 : decode cX3_may 13 = .ok (.iload_n 1, 1) := dk_27 (dk_at dksX3_may_0 13 rfl rfl)
theorem dX3_may_14 : decode cX3_may 14 = .ok (.iload_n 2, 1) := dk_28 (dk_at dksX3_may_0 14 rfl rfl)
theorem dX3_may_15 : decode cX3_may 15 = .ok (.iload_n 3, 1) := dk_29 (dk_at dksX3_may_0 15 rfl rfl)
theorem dX3_may_16 : decode cX3_may 16 = .ok (.invokevirtual 120, 3) := dk_182 0 120 (dk_at dksX3_may_0 16 rfl rfl)
theorem dX3_may_19 : decode cX3_may 19 = .ok (.goto 4, 3) := dk_167 0 4 (dk_at dksX3_may_0 19 rfl rfl)
theorem dX3_may_22 : decode cX3_may 22 = .ok (.iconst (-1), 1) := dk_2 (dk_at dksX3_may_0 22 rfl rfl)
theorem dX3_may_23 : decode cX3_may 23 = .ok (.ireturn, 1) := dk_172 (dk_at dksX3_may_0 23 rfl rfl)
abbrev cX3_mayNot : ByteArray := prog_9_method_24_code
def yX3_mayNot : MethodName := ⟨RX3, "mayNot", "(III)I"⟩
def dkwX3_mayNot_7 : List UInt8 := [167, 0, 5, 16, 6, 172]
abbrev dktX3_mayNot_7 : List UInt8 := dkwX3_mayNot_7 ++ []
def dkwX3_mayNot_6 : List UInt8 := [6, 160, 0, 26, 21, 5, 5, 160, 0, 20, 42, 27, 16, 26, 28, 96, 182, 0, 95, 29, 160, 0, 7, 3]
abbrev dktX3_mayNot_6 : List UInt8 := dkwX3_mayNot_6 ++ dktX3_mayNot_7
def dkwX3_mayNot_5 : List UInt8 := [16, 14, 29, 96, 182, 0, 95, 54, 5, 21, 4, 4, 160, 0, 10, 21, 5, 154, 0, 5, 3, 172, 21, 4]
abbrev dktX3_mayNot_5 : List UInt8 := dkwX3_mayNot_5 ++ dktX3_mayNot_6
def dkwX3_mayNot_4 : List UInt8 := [180, 0, 16, 7, 46, 161, 0, 5, 8, 172, 42, 27, 16, 14, 28, 96, 182, 0, 95, 54, 4, 42, 27]
abbrev dktX3_mayNot_4 : List UInt8 := dkwX3_mayNot_4 ++ dktX3_mayNot_5
def dkwX3_mayNot_3 : List UInt8 := [159, 0, 13, 42, 27, 7, 182, 0, 95, 29, 160, 0, 5, 7, 172, 42, 27, 5, 182, 0, 95, 42]
abbrev dktX3_mayNot_3 : List UInt8 := dkwX3_mayNot_3 ++ dktX3_mayNot_4
def dkwX3_mayNot_2 : List UInt8 := [160, 0, 5, 6, 172, 42, 27, 29, 182, 0, 117, 2, 160, 0, 23, 29, 42, 180, 0, 13, 27, 46]
abbrev dktX3_mayNot_2 : List UInt8 := dkwX3_mayNot_2 ++ dktX3_mayNot_3
def dkwX3_mayNot_1 : List UInt8 := [29, 160, 0, 5, 5, 172, 42, 27, 28, 182, 0, 117, 2, 159, 0, 13, 28, 42, 180, 0, 13, 27, 46]
abbrev dktX3_mayNot_1 : List UInt8 := dkwX3_mayNot_1 ++ dktX3_mayNot_2
def dkwX3_mayNot_0 : List UInt8 := [42, 182, 0, 82, 154, 0, 5, 4, 172, 28, 184, 0, 75, 153, 0, 15, 29, 184, 0, 75, 153, 0, 8, 28]
abbrev dktX3_mayNot_0 : List UInt8 := dkwX3_mayNot_0 ++ dktX3_mayNot_1
theorem dksX3_mayNot_0 : cX3_mayNot.data.toList.drop 0 = dktX3_mayNot_0 := by decide +kernel
theorem dksX3_mayNot_1 : cX3_mayNot.data.toList.drop 24 = dktX3_mayNot_1 := dk_seg dksX3_mayNot_0 24 rfl rfl
theorem dksX3_mayNot_2 : cX3_mayNot.data.toList.drop 47 = dktX3_mayNot_2 := dk_seg dksX3_mayNot_1 23 rfl rfl
theorem dksX3_mayNot_3 : cX3_mayNot.data.toList.drop 69 = dktX3_mayNot_3 := dk_seg dksX3_mayNot_2 22 rfl rfl
theorem dksX3_mayNot_4 : cX3_mayNot.data.toList.drop 91 = dktX3_mayNot_4 := dk_seg dksX3_mayNot_3 22 rfl rfl
theorem dksX3_mayNot_5 : cX3_mayNot.data.toList.drop 114 = dktX3_mayNot_5 := dk_seg dksX3_mayNot_4 23 rfl rfl
theorem dksX3_mayNot_6 : cX3_mayNot.data.toList.drop 138 = dktX3_mayNot_6 := dk_seg dksX3_mayNot_5 24 rfl rfl
theorem dksX3_mayNot_7 : cX3_mayNot.data.toList.drop 162 = dktX3_mayNot_7 := dk_seg dksX3_mayNot_6 24 rfl rfl
theorem dX3_mayNot_0 : decode cX3_mayNot 0 = .ok (.aload_n 0, 1) := dk_42 (dk_at dksX3_mayNot_0 0 rfl rfl)
theorem dX3_mayNot_1 : decode cX3_mayNot 1 = .ok (.invokevirtual 82, 3) := dk_182 0 82 (dk_at dksX3_mayNot_0 1 rfl rfl)
theorem dX3_mayNot_4 : decode cX3_mayNot 4 = .ok (.ifCond .ne 5, 3) := dk_154 0 5 (dk_at dksX3_mayNot_0 4 rfl rfl)
theorem dX3_mayNot_7 : decode cX3_mayNot 7 = .ok (.iconst 1, 1) := dk_4 (dk_at dksX3_mayNot_0 7 rfl rfl)
theorem dX3_mayNot_8 : decode cX3_mayNot 8 = .ok (.ireturn, 1) := dk_172 (dk_at dksX3_mayNot_0 8 rfl rfl)
theorem dX3_mayNot_9 : decode cX3_mayNot 9 = .ok (.iload_n 2, 1) := dk_28 (dk_at dksX3_mayNot_0 9 rfl rfl)
theorem dX3_mayNot_10 : decode cX3_mayNot 10 = .ok (.invokestatic 75, 3) := dk_184 0 75 (dk_at dksX3_mayNot_0 10 rfl rfl)
theorem dX3_mayNot_13 : decode cX3_mayNot 13 = .ok (.ifCond .eq 15, 3) := dk_153 0 15 (dk_at dksX3_mayNot_0 13 rfl rfl)
theorem dX3_mayNot_16 : decode cX3_mayNot 16 = .ok (.iload_n 3, 1) := dk_29 (dk_at dksX3_mayNot_0 16 rfl rfl)
theorem dX3_mayNot_17 : decode cX3_mayNot 17 = .ok (.invokestatic 75, 3) := dk_184 0 75 (dk_at dksX3_mayNot_0 17 rfl rfl)
theorem dX3_mayNot_20 : decode cX3_mayNot 20 = .ok (.ifCond .eq 8, 3) := dk_153 0 8 (dk_at dksX3_mayNot_0 20 rfl rfl)
theorem dX3_mayNot_23 : decode cX3_mayNot 23 = .ok (.iload_n 2, 1) := dk_28 (dk_at dksX3_mayNot_0 23 rfl rfl)
theorem dX3_mayNot_24 : decode cX3_mayNot 24 = .ok (.iload_n 3, 1) := dk_29 (dk_at dksX3_mayNot_1 0 rfl rfl)
theorem dX3_mayNot_25 : decode cX3_mayNot 25 = .ok (.if_icmp .ne 5, 3) := dk_160 0 5 (dk_at dksX3_mayNot_1 1 rfl rfl)
theorem dX3_mayNot_28 : decode cX3_mayNot 28 = .ok (.iconst 2, 1) := dk_5 (dk_at dksX3_mayNot_1 4 rfl rfl)
theorem dX3_mayNot_29 : decode cX3_mayNot 29 = .ok (.ireturn, 1) := dk_172 (dk_at dksX3_mayNot_1 5 rfl rfl)
theorem dX3_mayNot_30 : decode cX3_mayNot 30 = .ok (.aload_n 0, 1) := dk_42 (dk_at dksX3_mayNot_1 6 rfl rfl)
theorem dX3_mayNot_31 : decode cX3_mayNot 31 = .ok (.iload_n 1, 1) := dk_27 (dk_at dksX3_mayNot_1 7 rfl rfl)
theorem dX3_mayNot_32 : decode cX3_mayNot 32 = .ok (.iload_n 2, 1) := dk_28 (dk_at dksX3_mayNot_1 8 rfl rfl)
theorem dX3_mayNot_33 : decode cX3_mayNot 33 = .ok (.invokevirtual 117, 3) := dk_182 0 117 (dk_at dksX3_mayNot_1 9 rfl rfl)
theorem dX3_mayNot_36 : decode cX3_mayNot 36 = .ok (.iconst (-1), 1) := dk_2 (dk_at dksX3_mayNot_1 12 rfl rfl)
theorem dX3_mayNot_37 : decode cX3_mayNot 37 = .ok (.if_icmp .eq 13, 3) := dk_159 0 13 (dk_at dksX3_mayNot_1 13 rfl rfl)
theorem dX3_mayNot_40 : decode cX3_mayNot 40 = .ok (.iload_n 2, 1) := dk_28 (dk_at dksX3_mayNot_1 16 rfl rfl)
theorem dX3_mayNot_41 : decode cX3_mayNot 41 = .ok (.aload_n 0, 1) := dk_42 (dk_at dksX3_mayNot_1 17 rfl rfl)
theorem dX3_mayNot_42 : decode cX3_mayNot 42 = .ok (.getfield 13, 3) := dk_180 0 13 (dk_at dksX3_mayNot_1 18 rfl rfl)
theorem dX3_mayNot_45 : decode cX3_mayNot 45 = .ok (.iload_n 1, 1) := dk_27 (dk_at dksX3_mayNot_1 21 rfl rfl)
theorem dX3_mayNot_46 : decode cX3_mayNot 46 = .ok (.iaload, 1) := dk_46 (dk_at dksX3_mayNot_1 22 rfl rfl)
theorem dX3_mayNot_47 : decode cX3_mayNot 47 = .ok (.if_icmp .ne 5, 3) := dk_160 0 5 (dk_at dksX3_mayNot_2 0 rfl rfl)
theorem dX3_mayNot_50 : decode cX3_mayNot 50 = .ok (.iconst 3, 1) := dk_6 (dk_at dksX3_mayNot_2 3 rfl rfl)
theorem dX3_mayNot_51 : decode cX3_mayNot 51 = .ok (.ireturn, 1) := dk_172 (dk_at dksX3_mayNot_2 4 rfl rfl)
theorem dX3_mayNot_52 : decode cX3_mayNot 52 = .ok (.aload_n 0, 1) := dk_42 (dk_at dksX3_mayNot_2 5 rfl rfl)
theorem dX3_mayNot_53 : decode cX3_mayNot 53 = .ok (.iload_n 1, 1) := dk_27 (dk_at dksX3_mayNot_2 6 rfl rfl)
theorem dX3_mayNot_54 : decode cX3_mayNot 54 = .ok (.iload_n 3, 1) := dk_29 (dk_at dksX3_mayNot_2 7 rfl rfl)
theorem dX3_mayNot_55 : decode cX3_mayNot 55 = .ok (.invokevirtual 117, 3) := dk_182 0 117 (dk_at dksX3_mayNot_2 8 rfl rfl)
theorem dX3_mayNot_58 : decode cX3_mayNot 58 = .ok (.iconst (-1), 1) := dk_2 (dk_at dksX3_mayNot_2 11 rfl rfl)
theorem dX3_mayNot_59 : decode cX3_mayNot 59 = .ok (.if_icmp .ne 23, 3) := dk_160 0 23 (dk_at dksX3_mayNot_2 12 rfl rfl)
theorem dX3_mayNot_62 : decode cX3_mayNot 62 = .ok (.iload_n 3, 1) := dk_29 (dk_at dksX3_mayNot_2 15 rfl rfl)
theorem dX3_mayNot_63 : decode cX3_mayNot 63 = .ok (.aload_n 0, 1) := dk_42 (dk_at dksX3_mayNot_2 16 rfl rfl)
theorem dX3_mayNot_64 : decode cX3_mayNot 64 = .ok (.getfield 13, 3) := dk_180 0 13 (dk_at dksX3_mayNot_2 17 rfl rfl)
theorem dX3_mayNot_67 : decode cX3_mayNot 67 = .ok (.iload_n 1, 1) := dk_27 (dk_at dksX3_mayNot_2 20 rfl rfl)
theorem dX3_mayNot_68 : decode cX3_mayNot 68 = .ok (.iaload, 1) := dk_46 (dk_at dksX3_mayNot_2 21 rfl rfl)
theorem dX3_mayNot_69 : decode cX3_mayNot 69 = .ok (.if_icmp .eq 13, 3) := dk_159 0 13 (dk_at dksX3_mayNot_3 0 rfl rfl)
theorem dX3_mayNot_72 : decode cX3_mayNot 72 = .ok (.aload_n 0, 1) := dk_42 (dk_at dksX3_mayNot_3 3 rfl rfl)
theorem dX3_mayNot_73 : decode cX3_mayNot 73 = .ok (.iload_n 1, 1) := dk_27 (dk_at dksX3_mayNot_3 4 rfl rfl)
theorem dX3_mayNot_74 : decode cX3_mayNot 74 = .ok (.iconst 4, 1) := dk_7 (dk_at dksX3_mayNot_3 5 rfl rfl)
theorem dX3_mayNot_75 : decode cX3_mayNot 75 = .ok (.invokevirtual 95, 3) := dk_182 0 95 (dk_at dksX3_mayNot_3 6 rfl rfl)
theorem dX3_mayNot_78 : decode cX3_mayNot 78 = .ok (.iload_n 3, 1) := dk_29 (dk_at dksX3_mayNot_3 9 rfl rfl)
theorem dX3_mayNot_79 : decode cX3_mayNot 79 = .ok (.if_icmp .ne 5, 3) := dk_160 0 5 (dk_at dksX3_mayNot_3 10 rfl rfl)
theorem dX3_mayNot_82 : decode cX3_mayNot 82 = .ok (.iconst 4, 1) := dk_7 (dk_at dksX3_mayNot_3 13 rfl rfl)
theorem dX3_mayNot_83 : decode cX3_mayNot 83 = .ok (.ireturn, 1) := dk_172 (dk_at dksX3_mayNot_3 14 rfl rfl)
theorem dX3_mayNot_84 : decode cX3_mayNot 84 = .ok (.aload_n 0, 1) := dk_42 (dk_at dksX3_mayNot_3 15 rfl rfl)
theorem dX3_mayNot_85 : decode cX3_mayNot 85 = .ok (.iload_n 1, 1) := dk_27 (dk_at dksX3_mayNot_3 16 rfl rfl)
theorem dX3_mayNot_86 : decode cX3_mayNot 86 = .ok (.iconst 2, 1) := dk_5 (dk_at dksX3_mayNot_3 17 rfl rfl)
theorem dX3_mayNot_87 : decode cX3_mayNot 87 = .ok (.invokevirtual 95, 3) := dk_182 0 95 (dk_at dksX3_mayNot_3 18 rfl rfl)
theorem dX3_mayNot_90 : decode cX3_mayNot 90 = .ok (.aload_n 0, 1) := dk_42 (dk_at dksX3_mayNot_3 21 rfl rfl)
theorem dX3_mayNot_91 : decode cX3_mayNot 91 = .ok (.getfield 16, 3) := dk_180 0 16 (dk_at dksX3_mayNot_4 0 rfl rfl)
theorem dX3_mayNot_94 : decode cX3_mayNot 94 = .ok (.iconst 4, 1) := dk_7 (dk_at dksX3_mayNot_4 3 rfl rfl)
theorem dX3_mayNot_95 : decode cX3_mayNot 95 = .ok (.iaload, 1) := dk_46 (dk_at dksX3_mayNot_4 4 rfl rfl)
theorem dX3_mayNot_96 : decode cX3_mayNot 96 = .ok (.if_icmp .lt 5, 3) := dk_161 0 5 (dk_at dksX3_mayNot_4 5 rfl rfl)
theorem dX3_mayNot_99 : decode cX3_mayNot 99 = .ok (.iconst 5, 1) := dk_8 (dk_at dksX3_mayNot_4 8 rfl rfl)
theorem dX3_mayNot_100 : decode cX3_mayNot 100 = .ok (.ireturn, 1) := dk_172 (dk_at dksX3_mayNot_4 9 rfl rfl)
theorem dX3_mayNot_101 : decode cX3_mayNot 101 = .ok (.aload_n 0, 1) := dk_42 (dk_at dksX3_mayNot_4 10 rfl rfl)
theorem dX3_mayNot_102 : decode cX3_mayNot 102 = .ok (.iload_n 1, 1) := dk_27 (dk_at dksX3_mayNot_4 11 rfl rfl)
theorem dX3_mayNot_103 : decode cX3_mayNot 103 = .ok (.bipush 14, 2) := dk_16 14 (dk_at dksX3_mayNot_4 12 rfl rfl)
theorem dX3_mayNot_105 : decode cX3_mayNot 105 = .ok (.iload_n 2, 1) := dk_28 (dk_at dksX3_mayNot_4 14 rfl rfl)
theorem dX3_mayNot_106 : decode cX3_mayNot 106 = .ok (.iadd, 1) := dk_96 (dk_at dksX3_mayNot_4 15 rfl rfl)
theorem dX3_mayNot_107 : decode cX3_mayNot 107 = .ok (.invokevirtual 95, 3) := dk_182 0 95 (dk_at dksX3_mayNot_4 16 rfl rfl)
theorem dX3_mayNot_110 : decode cX3_mayNot 110 = .ok (.istore 4, 2) := dk_54 4 (dk_at dksX3_mayNot_4 19 rfl rfl)
theorem dX3_mayNot_112 : decode cX3_mayNot 112 = .ok (.aload_n 0, 1) := dk_42 (dk_at dksX3_mayNot_4 21 rfl rfl)
theorem dX3_mayNot_113 : decode cX3_mayNot 113 = .ok (.iload_n 1, 1) := dk_27 (dk_at dksX3_mayNot_4 22 rfl rfl)
theorem dX3_mayNot_114 : decode cX3_mayNot 114 = .ok (.bipush 14, 2) := dk_16 14 (dk_at dksX3_mayNot_5 0 rfl rfl)
theorem dX3_mayNot_116 : decode cX3_mayNot 116 = .ok (.iload_n 3, 1) := dk_29 (dk_at dksX3_mayNot_5 2 rfl rfl)
theorem dX3_mayNot_117 : decode cX3_mayNot 117 = .ok (.iadd, 1) := dk_96 (dk_at dksX3_mayNot_5 3 rfl rfl)
theorem dX3_mayNot_118 : decode cX3_mayNot 118 = .ok (.invokevirtual 95, 3) := dk_182 0 95 (dk_at dksX3_mayNot_5 4 rfl rfl)
theorem dX3_mayNot_121 : decode cX3_mayNot 121 = .ok (.istore 5, 2) := dk_54 5 (dk_at dksX3_mayNot_5 7 rfl rfl)
theorem dX3_mayNot_123 : decode cX3_mayNot 123 = .ok (.iload 4, 2) := dk_21 4 (dk_at dksX3_mayNot_5 9 rfl rfl)
theorem dX3_mayNot_125 : decode cX3_mayNot 125 = .ok (.iconst 1, 1) := dk_4 (dk_at dksX3_mayNot_5 11 rfl rfl)
theorem dX3_mayNot_126 : decode cX3_mayNot 126 = .ok (.if_icmp .ne 10, 3) := dk_160 0 10 (dk_at dksX3_mayNot_5 12 rfl rfl)
theorem dX3_mayNot_129 : decode cX3_mayNot 129 = .ok (.iload 5, 2) := dk_21 5 (dk_at dksX3_mayNot_5 15 rfl rfl)
theorem dX3_mayNot_131 : decode cX3_mayNot 131 = .ok (.ifCond .ne 5, 3) := dk_154 0 5 (dk_at dksX3_mayNot_5 17 rfl rfl)
theorem dX3_mayNot_134 : decode cX3_mayNot 134 = .ok (.iconst 0, 1) := dk_3 (dk_at dksX3_mayNot_5 20 rfl rfl)
theorem dX3_mayNot_135 : decode cX3_mayNot 135 = .ok (.ireturn, 1) := dk_172 (dk_at dksX3_mayNot_5 21 rfl rfl)
theorem dX3_mayNot_136 : decode cX3_mayNot 136 = .ok (.iload 4, 2) := dk_21 4 (dk_at dksX3_mayNot_5 22 rfl rfl)
theorem dX3_mayNot_138 : decode cX3_mayNot 138 = .ok (.iconst 3, 1) := dk_6 (dk_at dksX3_mayNot_6 0 rfl rfl)
theorem dX3_mayNot_139 : decode cX3_mayNot 139 = .ok (.if_icmp .ne 26, 3) := dk_160 0 26 (dk_at dksX3_mayNot_6 1 rfl rfl)
theorem dX3_mayNot_142 : decode cX3_mayNot 142 = .ok (.iload 5, 2) := dk_21 5 (dk_at dksX3_mayNot_6 4 rfl rfl)
theorem dX3_mayNot_144 : decode cX3_mayNot 144 = .ok (.iconst 2, 1) := dk_5 (dk_at dksX3_mayNot_6 6 rfl rfl)
theorem dX3_mayNot_145 : decode cX3_mayNot 145 = .ok (.if_icmp .ne 20, 3) := dk_160 0 20 (dk_at dksX3_mayNot_6 7 rfl rfl)
theorem dX3_mayNot_148 : decode cX3_mayNot 148 = .ok (.aload_n 0, 1) := dk_42 (dk_at dksX3_mayNot_6 10 rfl rfl)
theorem dX3_mayNot_149 : decode cX3_mayNot 149 = .ok (.iload_n 1, 1) := dk_27 (dk_at dksX3_mayNot_6 11 rfl rfl)
theorem dX3_mayNot_150 : decode cX3_mayNot 150 = .ok (.bipush 26, 2) := dk_16 26 (dk_at dksX3_mayNot_6 12 rfl rfl)
theorem dX3_mayNot_152 : decode cX3_mayNot 152 = .ok (.iload_n 2, 1) := dk_28 (dk_at dksX3_mayNot_6 14 rfl rfl)
theorem dX3_mayNot_153 : decode cX3_mayNot 153 = .ok (.iadd, 1) := dk_96 (dk_at dksX3_mayNot_6 15 rfl rfl)
theorem dX3_mayNot_154 : decode cX3_mayNot 154 = .ok (.invokevirtual 95, 3) := dk_182 0 95 (dk_at dksX3_mayNot_6 16 rfl rfl)
theorem dX3_mayNot_157 : decode cX3_mayNot 157 = .ok (.iload_n 3, 1) := dk_29 (dk_at dksX3_mayNot_6 19 rfl rfl)
theorem dX3_mayNot_158 : decode cX3_mayNot 158 = .ok (.if_icmp .ne 7, 3) := dk_160 0 7 (dk_at dksX3_mayNot_6 20 rfl rfl)
theorem dX3_mayNot_161 : decode cX3_mayNot 161 = .ok (.iconst 0, 1) := dk_3 (dk_at dksX3_mayNot_6 23 rfl rfl)
theorem dX3_mayNot_162 : decode cX3_mayNot 162 = .ok (.goto 5, 3) := dk_167 0 5 (dk_at dksX3_mayNot_7 0 rfl rfl)
theorem dX3_mayNot_165 : decode cX3_mayNot 165 = .ok (.bipush 6, 2) := dk_16 6 (dk_at dksX3_mayNot_7 3 rfl rfl)
theorem dX3_mayNot_167 : decode cX3_mayNot 167 = .ok (.ireturn, 1) := dk_172 (dk_at dksX3_mayNot_7 5 rfl rfl)
abbrev cX3_placeOf : ByteArray := prog_9_method_23_code
def yX3_placeOf : MethodName := ⟨RX3, "placeOf", "(II)I"⟩
def dkwX3_placeOf_1 : List UInt8 := [132, 3, 1, 167, 255, 232, 2, 172]
abbrev dktX3_placeOf_1 : List UInt8 := dkwX3_placeOf_1 ++ []
def dkwX3_placeOf_0 : List UInt8 := [3, 62, 29, 16, 6, 162, 0, 24, 42, 27, 16, 8, 29, 96, 182, 0, 95, 28, 160, 0, 5, 29, 172]
abbrev dktX3_placeOf_0 : List UInt8 := dkwX3_placeOf_0 ++ dktX3_placeOf_1
theorem dksX3_placeOf_0 : cX3_placeOf.data.toList.drop 0 = dktX3_placeOf_0 := by decide +kernel
theorem dksX3_placeOf_1 : cX3_placeOf.data.toList.drop 23 = dktX3_placeOf_1 := dk_seg dksX3_placeOf_0 23 rfl rfl
theorem dX3_placeOf_0 : decode cX3_placeOf 0 = .ok (.iconst 0, 1) := dk_3 (dk_at dksX3_placeOf_0 0 rfl rfl)
theorem dX3_placeOf_1 : decode cX3_placeOf 1 = .ok (.istore_n 3, 1) := dk_62 (dk_at dksX3_placeOf_0 1 rfl rfl)
theorem dX3_placeOf_2 : decode cX3_placeOf 2 = .ok (.iload_n 3, 1) := dk_29 (dk_at dksX3_placeOf_0 2 rfl rfl)
theorem dX3_placeOf_3 : decode cX3_placeOf 3 = .ok (.bipush 6, 2) := dk_16 6 (dk_at dksX3_placeOf_0 3 rfl rfl)
theorem dX3_placeOf_5 : decode cX3_placeOf 5 = .ok (.if_icmp .ge 24, 3) := dk_162 0 24 (dk_at dksX3_placeOf_0 5 rfl rfl)
theorem dX3_placeOf_8 : decode cX3_placeOf 8 = .ok (.aload_n 0, 1) := dk_42 (dk_at dksX3_placeOf_0 8 rfl rfl)
theorem dX3_placeOf_9 : decode cX3_placeOf 9 = .ok (.iload_n 1, 1) := dk_27 (dk_at dksX3_placeOf_0 9 rfl rfl)
theorem dX3_placeOf_10 : decode cX3_placeOf 10 = .ok (.bipush 8, 2) := dk_16 8 (dk_at dksX3_placeOf_0 10 rfl rfl)
theorem dX3_placeOf_12 : decode cX3_placeOf 12 = .ok (.iload_n 3, 1) := dk_29 (dk_at dksX3_placeOf_0 12 rfl rfl)
theorem dX3_placeOf_13 : decode cX3_placeOf 13 = .ok (.iadd, 1) := dk_96 (dk_at dksX3_placeOf_0 13 rfl rfl)
theorem dX3_placeOf_14 : decode cX3_placeOf 14 = .ok (.invokevirtual 95, 3) := dk_182 0 95 (dk_at dksX3_placeOf_0 14 rfl rfl)
theorem dX3_placeOf_17 : decode cX3_placeOf 17 = .ok (.iload_n 2, 1) := dk_28 (dk_at dksX3_placeOf_0 17 rfl rfl)
theorem dX3_placeOf_18 : decode cX3_placeOf 18 = .ok (.if_icmp .ne 5, 3) := dk_160 0 5 (dk_at dksX3_placeOf_0 18 rfl rfl)
theorem dX3_placeOf_21 : decode cX3_placeOf 21 = .ok (.iload_n 3, 1) := dk_29 (dk_at dksX3_placeOf_0 21 rfl rfl)
theorem dX3_placeOf_22 : decode cX3_placeOf 22 = .ok (.ireturn, 1) := dk_172 (dk_at dksX3_placeOf_0 22 rfl rfl)
theorem dX3_placeOf_23 : decode cX3_placeOf 23 = .ok (.iinc 3 1, 3) := dk_132 3 1 (dk_at dksX3_placeOf_1 0 rfl rfl)
theorem dX3_placeOf_26 : decode cX3_placeOf 26 = .ok (.goto (-24), 3) := dk_167 255 232 (dk_at dksX3_placeOf_1 3 rfl rfl)
theorem dX3_placeOf_29 : decode cX3_placeOf 29 = .ok (.iconst (-1), 1) := dk_2 (dk_at dksX3_placeOf_1 6 rfl rfl)
theorem dX3_placeOf_30 : decode cX3_placeOf 30 = .ok (.ireturn, 1) := dk_172 (dk_at dksX3_placeOf_1 7 rfl rfl)
abbrev cX3_change : ByteArray := prog_9_method_27_code
def yX3_change : MethodName := ⟨RX3, "change", "(III)I"⟩
def dkwX3_change_1 : List UInt8 := [28, 29, 182, 0, 123, 167, 0, 4, 2, 172]
abbrev dktX3_change_1 : List UInt8 := dkwX3_change_1 ++ []
def dkwX3_change_0 : List UInt8 := [42, 3, 181, 0, 63, 27, 184, 0, 71, 153, 0, 23, 42, 27, 28, 29, 182, 0, 120, 154, 0, 13, 42, 27]
abbrev dktX3_change_0 : List UInt8 := dkwX3_change_0 ++ dktX3_change_1
theorem dksX3_change_0 : cX3_change.data.toList.drop 0 = dktX3_change_0 := by decide +kernel
theorem dksX3_change_1 : cX3_change.data.toList.drop 24 = dktX3_change_1 := dk_seg dksX3_change_0 24 rfl rfl
theorem dX3_change_0 : decode cX3_change 0 = .ok (.aload_n 0, 1) := dk_42 (dk_at dksX3_change_0 0 rfl rfl)
theorem dX3_change_1 : decode cX3_change 1 = .ok (.iconst 0, 1) := dk_3 (dk_at dksX3_change_0 1 rfl rfl)
theorem dX3_change_2 : decode cX3_change 2 = .ok (.putfield 63, 3) := dk_181 0 63 (dk_at dksX3_change_0 2 rfl rfl)
theorem dX3_change_5 : decode cX3_change 5 = .ok (.iload_n 1, 1) := dk_27 (dk_at dksX3_change_0 5 rfl rfl)
theorem dX3_change_6 : decode cX3_change 6 = .ok (.invokestatic 71, 3) := dk_184 0 71 (dk_at dksX3_change_0 6 rfl rfl)
theorem dX3_change_9 : decode cX3_change 9 = .ok (.ifCond .eq 23, 3) := dk_153 0 23 (dk_at dksX3_change_0 9 rfl rfl)
theorem dX3_change_12 : decode cX3_change 12 = .ok (.aload_n 0, 1) := dk_42 (dk_at dksX3_change_0 12 rfl rfl)
theorem dX3_change_13 : decode cX3_change 13 = .ok (.iload_n 1, 1) := dk_27 (dk_at dksX3_change_0 13 rfl rfl)
theorem dX3_change_14 : decode cX3_change 14 = .ok (.iload_n 2, 1) := dk_28 (dk_at dksX3_change_0 14 rfl rfl)
theorem dX3_change_15 : decode cX3_change 15 = .ok (.iload_n 3, 1) := dk_29 (dk_at dksX3_change_0 15 rfl rfl)
theorem dX3_change_16 : decode cX3_change 16 = .ok (.invokevirtual 120, 3) := dk_182 0 120 (dk_at dksX3_change_0 16 rfl rfl)
theorem dX3_change_19 : decode cX3_change 19 = .ok (.ifCond .ne 13, 3) := dk_154 0 13 (dk_at dksX3_change_0 19 rfl rfl)
theorem dX3_change_22 : decode cX3_change 22 = .ok (.aload_n 0, 1) := dk_42 (dk_at dksX3_change_0 22 rfl rfl)
theorem dX3_change_23 : decode cX3_change 23 = .ok (.iload_n 1, 1) := dk_27 (dk_at dksX3_change_0 23 rfl rfl)
theorem dX3_change_24 : decode cX3_change 24 = .ok (.iload_n 2, 1) := dk_28 (dk_at dksX3_change_1 0 rfl rfl)
theorem dX3_change_25 : decode cX3_change 25 = .ok (.iload_n 3, 1) := dk_29 (dk_at dksX3_change_1 1 rfl rfl)
theorem dX3_change_26 : decode cX3_change 26 = .ok (.invokevirtual 123, 3) := dk_182 0 123 (dk_at dksX3_change_1 2 rfl rfl)
theorem dX3_change_29 : decode cX3_change 29 = .ok (.goto 4, 3) := dk_167 0 4 (dk_at dksX3_change_1 5 rfl rfl)
theorem dX3_change_32 : decode cX3_change 32 = .ok (.iconst (-1), 1) := dk_2 (dk_at dksX3_change_1 8 rfl rfl)
theorem dX3_change_33 : decode cX3_change 33 = .ok (.ireturn, 1) := dk_172 (dk_at dksX3_change_1 9 rfl rfl)
abbrev cX3_doChange : ByteArray := prog_9_method_26_code
def yX3_doChange : MethodName := ⟨RX3, "doChange", "(III)I"⟩
def dkwX3_doChange_4 : List UInt8 := [28, 182, 0, 56, 42, 27, 5, 42, 27, 5, 182, 0, 95, 4, 96, 182, 0, 56, 21, 4, 172]
abbrev dktX3_doChange_4 : List UInt8 := dkwX3_doChange_4 ++ []
def dkwX3_doChange_3 : List UInt8 := [7, 167, 0, 4, 6, 182, 0, 56, 42, 27, 16, 26, 28, 96, 29, 182, 0, 56, 42, 27, 16, 26, 29, 96]
abbrev dktX3_doChange_3 : List UInt8 := dkwX3_doChange_3 ++ dktX3_doChange_4
def dkwX3_doChange_2 : List UInt8 := [21, 5, 153, 0, 7, 7, 167, 0, 4, 5, 182, 0, 56, 42, 27, 16, 14, 29, 96, 21, 5, 153, 0, 7]
abbrev dktX3_doChange_2 : List UInt8 := dkwX3_doChange_2 ++ dktX3_doChange_3
def dkwX3_doChange_1 : List UInt8 := [167, 0, 4, 3, 54, 5, 42, 27, 16, 8, 21, 4, 96, 29, 182, 0, 56, 42, 27, 16, 14, 28, 96]
abbrev dktX3_doChange_1 : List UInt8 := dkwX3_doChange_1 ++ dktX3_doChange_2
def dkwX3_doChange_0 : List UInt8 := [42, 27, 28, 182, 0, 117, 54, 4, 42, 27, 16, 14, 28, 96, 182, 0, 95, 6, 160, 0, 7, 4]
abbrev dktX3_doChange_0 : List UInt8 := dkwX3_doChange_0 ++ dktX3_doChange_1
theorem dksX3_doChange_0 : cX3_doChange.data.toList.drop 0 = dktX3_doChange_0 := by decide +kernel
theorem dksX3_doChange_1 : cX3_doChange.data.toList.drop 22 = dktX3_doChange_1 := dk_seg dksX3_doChange_0 22 rfl rfl
theorem dksX3_doChange_2 : cX3_doChange.data.toList.drop 45 = dktX3_doChange_2 := dk_seg dksX3_doChange_1 23 rfl rfl
theorem dksX3_doChange_3 : cX3_doChange.data.toList.drop 69 = dktX3_doChange_3 := dk_seg dksX3_doChange_2 24 rfl rfl
theorem dksX3_doChange_4 : cX3_doChange.data.toList.drop 93 = dktX3_doChange_4 := dk_seg dksX3_doChange_3 24 rfl rfl
theorem dX3_doChange_0 : decode cX3_doChange 0 = .ok (.aload_n 0, 1) := dk_42 (dk_at dksX3_doChange_0 0 rfl rfl)
theorem dX3_doChange_1 : decode cX3_doChange 1 = .ok (.iload_n 1, 1) := dk_27 (dk_at dksX3_doChange_0 1 rfl rfl)
theorem dX3_doChange_2 : decode cX3_doChange 2 = .ok (.iload_n 2, 1) := dk_28 (dk_at dksX3_doChange_0 2 rfl rfl)
theorem dX3_doChange_3 : decode cX3_doChange 3 = .ok (.invokevirtual 117, 3) := dk_182 0 117 (dk_at dksX3_doChange_0 3 rfl rfl)
theorem dX3_doChange_6 : decode cX3_doChange 6 = .ok (.istore 4, 2) := dk_54 4 (dk_at dksX3_doChange_0 6 rfl rfl)
theorem dX3_doChange_8 : decode cX3_doChange 8 = .ok (.aload_n 0, 1) := dk_42 (dk_at dksX3_doChange_0 8 rfl rfl)
theorem dX3_doChange_9 : decode cX3_doChange 9 = .ok (.iload_n 1, 1) := dk_27 (dk_at dksX3_doChange_0 9 rfl rfl)
theorem dX3_doChange_10 : decode cX3_doChange 10 = .ok (.bipush 14, 2) := dk_16 14 (dk_at dksX3_doChange_0 10 rfl rfl)
theorem dX3_doChange_12 : decode cX3_doChange 12 = .ok (.iload_n 2, 1) := dk_28 (dk_at dksX3_doChange_0 12 rfl rfl)
theorem dX3_doChange_13 : decode cX3_doChange 13 = .ok (.iadd, 1) := dk_96 (dk_at dksX3_doChange_0 13 rfl rfl)
theorem dX3_doChange_14 : decode cX3_doChange 14 = .ok (.invokevirtual 95, 3) := dk_182 0 95 (dk_at dksX3_doChange_0 14 rfl rfl)
theorem dX3_doChange_17 : decode cX3_doChange 17 = .ok (.iconst 3, 1) := dk_6 (dk_at dksX3_doChange_0 17 rfl rfl)
theorem dX3_doChange_18 : decode cX3_doChange 18 = .ok (.if_icmp .ne 7, 3) := dk_160 0 7 (dk_at dksX3_doChange_0 18 rfl rfl)
theorem dX3_doChange_21 : decode cX3_doChange 21 = .ok (.iconst 1, 1) := dk_4 (dk_at dksX3_doChange_0 21 rfl rfl)
theorem dX3_doChange_22 : decode cX3_doChange 22 = .ok (.goto 4, 3) := dk_167 0 4 (dk_at dksX3_doChange_1 0 rfl rfl)
theorem dX3_doChange_25 : decode cX3_doChange 25 = .ok (.iconst 0, 1) := dk_3 (dk_at dksX3_doChange_1 3 rfl rfl)
theorem dX3_doChange_26 : decode cX3_doChange 26 = .ok (.istore 5, 2) := dk_54 5 (dk_at dksX3_doChange_1 4 rfl rfl)
theorem dX3_doChange_28 : decode cX3_doChange 28 = .ok (.aload_n 0, 1) := dk_42 (dk_at dksX3_doChange_1 6 rfl rfl)
theorem dX3_doChange_29 : decode cX3_doChange 29 = .ok (.iload_n 1, 1) := dk_27 (dk_at dksX3_doChange_1 7 rfl rfl)
theorem dX3_doChange_30 : decode cX3_doChange 30 = .ok (.bipush 8, 2) := dk_16 8 (dk_at dksX3_doChange_1 8 rfl rfl)
theorem dX3_doChange_32 : decode cX3_doChange 32 = .ok (.iload 4, 2) := dk_21 4 (dk_at dksX3_doChange_1 10 rfl rfl)
theorem dX3_doChange_34 : decode cX3_doChange 34 = .ok (.iadd, 1) := dk_96 (dk_at dksX3_doChange_1 12 rfl rfl)
theorem dX3_doChange_35 : decode cX3_doChange 35 = .ok (.iload_n 3, 1) := dk_29 (dk_at dksX3_doChange_1 13 rfl rfl)
theorem dX3_doChange_36 : decode cX3_doChange 36 = .ok (.invokevirtual 56, 3) := dk_182 0 56 (dk_at dksX3_doChange_1 14 rfl rfl)
theorem dX3_doChange_39 : decode cX3_doChange 39 = .ok (.aload_n 0, 1) := dk_42 (dk_at dksX3_doChange_1 17 rfl rfl)
theorem dX3_doChange_40 : decode cX3_doChange 40 = .ok (.iload_n 1, 1) := dk_27 (dk_at dksX3_doChange_1 18 rfl rfl)
theorem dX3_doChange_41 : decode cX3_doChange 41 = .ok (.bipush 14, 2) := dk_16 14 (dk_at dksX3_doChange_1 19 rfl rfl)
theorem dX3_doChange_43 : decode cX3_doChange 43 = .ok (.iload_n 2, 1) := dk_28 (dk_at dksX3_doChange_1 21 rfl rfl)
theorem dX3_doChange_44 : decode cX3_doChange 44 = .ok (.iadd, 1) := dk_96 (dk_at dksX3_doChange_1 22 rfl rfl)
theorem dX3_doChange_45 : decode cX3_doChange 45 = .ok (.iload 5, 2) := dk_21 5 (dk_at dksX3_doChange_2 0 rfl rfl)
theorem dX3_doChange_47 : decode cX3_doChange 47 = .ok (.ifCond .eq 7, 3) := dk_153 0 7 (dk_at dksX3_doChange_2 2 rfl rfl)
theorem dX3_doChange_50 : decode cX3_doChange 50 = .ok (.iconst 4, 1) := dk_7 (dk_at dksX3_doChange_2 5 rfl rfl)
theorem dX3_doChange_51 : decode cX3_doChange 51 = .ok (.goto 4, 3) := dk_167 0 4 (dk_at dksX3_doChange_2 6 rfl rfl)
theorem dX3_doChange_54 : decode cX3_doChange 54 = .ok (.iconst 2, 1) := dk_5 (dk_at dksX3_doChange_2 9 rfl rfl)
theorem dX3_doChange_55 : decode cX3_doChange 55 = .ok (.invokevirtual 56, 3) := dk_182 0 56 (dk_at dksX3_doChange_2 10 rfl rfl)
theorem dX3_doChange_58 : decode cX3_doChange 58 = .ok (.aload_n 0, 1) := dk_42 (dk_at dksX3_doChange_2 13 rfl rfl)
theorem dX3_doChange_59 : decode cX3_doChange 59 = .ok (.iload_n 1, 1) := dk_27 (dk_at dksX3_doChange_2 14 rfl rfl)
theorem dX3_doChange_60 : decode cX3_doChange 60 = .ok (.bipush 14, 2) := dk_16 14 (dk_at dksX3_doChange_2 15 rfl rfl)
theorem dX3_doChange_62 : decode cX3_doChange 62 = .ok (.iload_n 3, 1) := dk_29 (dk_at dksX3_doChange_2 17 rfl rfl)
theorem dX3_doChange_63 : decode cX3_doChange 63 = .ok (.iadd, 1) := dk_96 (dk_at dksX3_doChange_2 18 rfl rfl)
theorem dX3_doChange_64 : decode cX3_doChange 64 = .ok (.iload 5, 2) := dk_21 5 (dk_at dksX3_doChange_2 19 rfl rfl)
theorem dX3_doChange_66 : decode cX3_doChange 66 = .ok (.ifCond .eq 7, 3) := dk_153 0 7 (dk_at dksX3_doChange_2 21 rfl rfl)
theorem dX3_doChange_69 : decode cX3_doChange 69 = .ok (.iconst 4, 1) := dk_7 (dk_at dksX3_doChange_3 0 rfl rfl)
theorem dX3_doChange_70 : decode cX3_doChange 70 = .ok (.goto 4, 3) := dk_167 0 4 (dk_at dksX3_doChange_3 1 rfl rfl)
theorem dX3_doChange_73 : decode cX3_doChange 73 = .ok (.iconst 3, 1) := dk_6 (dk_at dksX3_doChange_3 4 rfl rfl)
theorem dX3_doChange_74 : decode cX3_doChange 74 = .ok (.invokevirtual 56, 3) := dk_182 0 56 (dk_at dksX3_doChange_3 5 rfl rfl)
theorem dX3_doChange_77 : decode cX3_doChange 77 = .ok (.aload_n 0, 1) := dk_42 (dk_at dksX3_doChange_3 8 rfl rfl)
theorem dX3_doChange_78 : decode cX3_doChange 78 = .ok (.iload_n 1, 1) := dk_27 (dk_at dksX3_doChange_3 9 rfl rfl)
theorem dX3_doChange_79 : decode cX3_doChange 79 = .ok (.bipush 26, 2) := dk_16 26 (dk_at dksX3_doChange_3 10 rfl rfl)
theorem dX3_doChange_81 : decode cX3_doChange 81 = .ok (.iload_n 2, 1) := dk_28 (dk_at dksX3_doChange_3 12 rfl rfl)
theorem dX3_doChange_82 : decode cX3_doChange 82 = .ok (.iadd, 1) := dk_96 (dk_at dksX3_doChange_3 13 rfl rfl)
theorem dX3_doChange_83 : decode cX3_doChange 83 = .ok (.iload_n 3, 1) := dk_29 (dk_at dksX3_doChange_3 14 rfl rfl)
theorem dX3_doChange_84 : decode cX3_doChange 84 = .ok (.invokevirtual 56, 3) := dk_182 0 56 (dk_at dksX3_doChange_3 15 rfl rfl)
theorem dX3_doChange_87 : decode cX3_doChange 87 = .ok (.aload_n 0, 1) := dk_42 (dk_at dksX3_doChange_3 18 rfl rfl)
theorem dX3_doChange_88 : decode cX3_doChange 88 = .ok (.iload_n 1, 1) := dk_27 (dk_at dksX3_doChange_3 19 rfl rfl)
theorem dX3_doChange_89 : decode cX3_doChange 89 = .ok (.bipush 26, 2) := dk_16 26 (dk_at dksX3_doChange_3 20 rfl rfl)
theorem dX3_doChange_91 : decode cX3_doChange 91 = .ok (.iload_n 3, 1) := dk_29 (dk_at dksX3_doChange_3 22 rfl rfl)
theorem dX3_doChange_92 : decode cX3_doChange 92 = .ok (.iadd, 1) := dk_96 (dk_at dksX3_doChange_3 23 rfl rfl)
theorem dX3_doChange_93 : decode cX3_doChange 93 = .ok (.iload_n 2, 1) := dk_28 (dk_at dksX3_doChange_4 0 rfl rfl)
theorem dX3_doChange_94 : decode cX3_doChange 94 = .ok (.invokevirtual 56, 3) := dk_182 0 56 (dk_at dksX3_doChange_4 1 rfl rfl)
theorem dX3_doChange_97 : decode cX3_doChange 97 = .ok (.aload_n 0, 1) := dk_42 (dk_at dksX3_doChange_4 4 rfl rfl)
theorem dX3_doChange_98 : decode cX3_doChange 98 = .ok (.iload_n 1, 1) := dk_27 (dk_at dksX3_doChange_4 5 rfl rfl)
theorem dX3_doChange_99 : decode cX3_doChange 99 = .ok (.iconst 2, 1) := dk_5 (dk_at dksX3_doChange_4 6 rfl rfl)
theorem dX3_doChange_100 : decode cX3_doChange 100 = .ok (.aload_n 0, 1) := dk_42 (dk_at dksX3_doChange_4 7 rfl rfl)
theorem dX3_doChange_101 : decode cX3_doChange 101 = .ok (.iload_n 1, 1) := dk_27 (dk_at dksX3_doChange_4 8 rfl rfl)
theorem dX3_doChange_102 : decode cX3_doChange 102 = .ok (.iconst 2, 1) := dk_5 (dk_at dksX3_doChange_4 9 rfl rfl)
theorem dX3_doChange_103 : decode cX3_doChange 103 = .ok (.invokevirtual 95, 3) := dk_182 0 95 (dk_at dksX3_doChange_4 10 rfl rfl)
theorem dX3_doChange_106 : decode cX3_doChange 106 = .ok (.iconst 1, 1) := dk_4 (dk_at dksX3_doChange_4 13 rfl rfl)
theorem dX3_doChange_107 : decode cX3_doChange 107 = .ok (.iadd, 1) := dk_96 (dk_at dksX3_doChange_4 14 rfl rfl)
theorem dX3_doChange_108 : decode cX3_doChange 108 = .ok (.invokevirtual 56, 3) := dk_182 0 56 (dk_at dksX3_doChange_4 15 rfl rfl)
theorem dX3_doChange_111 : decode cX3_doChange 111 = .ok (.iload 4, 2) := dk_21 4 (dk_at dksX3_doChange_4 18 rfl rfl)
theorem dX3_doChange_113 : decode cX3_doChange 113 = .ok (.ireturn, 1) := dk_172 (dk_at dksX3_doChange_4 20 rfl rfl)
abbrev cX3_free : ByteArray := prog_9_method_29_code
def yX3_free : MethodName := ⟨RX3, "free", "(II)I"⟩
def dkwX3_free_0 : List UInt8 := [42, 3, 181, 0, 63, 27, 184, 0, 71, 153, 0, 12, 42, 27, 28, 182, 0, 126, 167, 0, 4, 2, 172]
abbrev dktX3_free_0 : List UInt8 := dkwX3_free_0 ++ []
theorem dksX3_free_0 : cX3_free.data.toList.drop 0 = dktX3_free_0 := by decide +kernel
theorem dX3_free_0 : decode cX3_free 0 = .ok (.aload_n 0, 1) := dk_42 (dk_at dksX3_free_0 0 rfl rfl)
theorem dX3_free_1 : decode cX3_free 1 = .ok (.iconst 0, 1) := dk_3 (dk_at dksX3_free_0 1 rfl rfl)
theorem dX3_free_2 : decode cX3_free 2 = .ok (.putfield 63, 3) := dk_181 0 63 (dk_at dksX3_free_0 2 rfl rfl)
theorem dX3_free_5 : decode cX3_free 5 = .ok (.iload_n 1, 1) := dk_27 (dk_at dksX3_free_0 5 rfl rfl)
theorem dX3_free_6 : decode cX3_free 6 = .ok (.invokestatic 71, 3) := dk_184 0 71 (dk_at dksX3_free_0 6 rfl rfl)
theorem dX3_free_9 : decode cX3_free 9 = .ok (.ifCond .eq 12, 3) := dk_153 0 12 (dk_at dksX3_free_0 9 rfl rfl)
theorem dX3_free_12 : decode cX3_free 12 = .ok (.aload_n 0, 1) := dk_42 (dk_at dksX3_free_0 12 rfl rfl)
theorem dX3_free_13 : decode cX3_free 13 = .ok (.iload_n 1, 1) := dk_27 (dk_at dksX3_free_0 13 rfl rfl)
theorem dX3_free_14 : decode cX3_free 14 = .ok (.iload_n 2, 1) := dk_28 (dk_at dksX3_free_0 14 rfl rfl)
theorem dX3_free_15 : decode cX3_free 15 = .ok (.invokevirtual 126, 3) := dk_182 0 126 (dk_at dksX3_free_0 15 rfl rfl)
theorem dX3_free_18 : decode cX3_free 18 = .ok (.goto 4, 3) := dk_167 0 4 (dk_at dksX3_free_0 18 rfl rfl)
theorem dX3_free_21 : decode cX3_free 21 = .ok (.iconst (-1), 1) := dk_2 (dk_at dksX3_free_0 21 rfl rfl)
theorem dX3_free_22 : decode cX3_free 22 = .ok (.ireturn, 1) := dk_172 (dk_at dksX3_free_0 22 rfl rfl)
abbrev cX3_doFree : ByteArray := prog_9_method_28_code
def yX3_doFree : MethodName := ⟨RX3, "doFree", "(II)I"⟩
def dkwX3_doFree_6 : List UInt8 := [182, 0, 56, 42, 27, 16, 7, 4, 182, 0, 56, 29, 172]
abbrev dktX3_doFree_6 : List UInt8 := dkwX3_doFree_6 ++ []
def dkwX3_doFree_5 : List UInt8 := [159, 0, 5, 2, 172, 42, 27, 16, 8, 29, 96, 42, 180, 0, 13, 27, 46, 182, 0, 56, 42, 27, 7, 28]
abbrev dktX3_doFree_5 : List UInt8 := dkwX3_doFree_5 ++ dktX3_doFree_6
def dkwX3_doFree_4 : List UInt8 := [182, 0, 95, 2, 159, 0, 5, 2, 172, 42, 27, 28, 182, 0, 117, 62, 29, 7, 159, 0, 10, 29, 8]
abbrev dktX3_doFree_4 : List UInt8 := dkwX3_doFree_4 ++ dktX3_doFree_5
def dkwX3_doFree_3 : List UInt8 := [182, 0, 56, 42, 27, 7, 2, 182, 0, 56, 167, 0, 63, 28, 184, 0, 75, 153, 0, 13, 42, 27, 7]
abbrev dktX3_doFree_3 : List UInt8 := dkwX3_doFree_3 ++ dktX3_doFree_4
def dkwX3_doFree_2 : List UInt8 := [27, 42, 180, 0, 13, 27, 46, 182, 0, 117, 62, 42, 27, 16, 8, 29, 96, 42, 27, 7, 182, 0, 95]
abbrev dktX3_doFree_2 : List UInt8 := dkwX3_doFree_2 ++ dktX3_doFree_3
def dkwX3_doFree_1 : List UInt8 := [4, 160, 0, 5, 2, 172, 28, 2, 160, 0, 52, 42, 27, 7, 182, 0, 95, 2, 160, 0, 5, 2, 172, 42]
abbrev dktX3_doFree_1 : List UInt8 := dkwX3_doFree_1 ++ dktX3_doFree_2
def dkwX3_doFree_0 : List UInt8 := [42, 182, 0, 82, 153, 0, 24, 42, 180, 0, 13, 27, 46, 2, 159, 0, 14, 42, 27, 16, 7, 182, 0, 95]
abbrev dktX3_doFree_0 : List UInt8 := dkwX3_doFree_0 ++ dktX3_doFree_1
theorem dksX3_doFree_0 : cX3_doFree.data.toList.drop 0 = dktX3_doFree_0 := by decide +kernel
theorem dksX3_doFree_1 : cX3_doFree.data.toList.drop 24 = dktX3_doFree_1 := dk_seg dksX3_doFree_0 24 rfl rfl
theorem dksX3_doFree_2 : cX3_doFree.data.toList.drop 48 = dktX3_doFree_2 := dk_seg dksX3_doFree_1 24 rfl rfl
theorem dksX3_doFree_3 : cX3_doFree.data.toList.drop 71 = dktX3_doFree_3 := dk_seg dksX3_doFree_2 23 rfl rfl
theorem dksX3_doFree_4 : cX3_doFree.data.toList.drop 94 = dktX3_doFree_4 := dk_seg dksX3_doFree_3 23 rfl rfl
theorem dksX3_doFree_5 : cX3_doFree.data.toList.drop 117 = dktX3_doFree_5 := dk_seg dksX3_doFree_4 23 rfl rfl
theorem dksX3_doFree_6 : cX3_doFree.data.toList.drop 141 = dktX3_doFree_6 := dk_seg dksX3_doFree_5 24 rfl rfl
theorem dX3_doFree_0 : decode cX3_doFree 0 = .ok (.aload_n 0, 1) := dk_42 (dk_at dksX3_doFree_0 0 rfl rfl)
theorem dX3_doFree_1 : decode cX3_doFree 1 = .ok (.invokevirtual 82, 3) := dk_182 0 82 (dk_at dksX3_doFree_0 1 rfl rfl)
theorem dX3_doFree_4 : decode cX3_doFree 4 = .ok (.ifCond .eq 24, 3) := dk_153 0 24 (dk_at dksX3_doFree_0 4 rfl rfl)
theorem dX3_doFree_7 : decode cX3_doFree 7 = .ok (.aload_n 0, 1) := dk_42 (dk_at dksX3_doFree_0 7 rfl rfl)
theorem dX3_doFree_8 : decode cX3_doFree 8 = .ok (.getfield 13, 3) := dk_180 0 13 (dk_at dksX3_doFree_0 8 rfl rfl)
theorem dX3_doFree_11 : decode cX3_doFree 11 = .ok (.iload_n 1, 1) := dk_27 (dk_at dksX3_doFree_0 11 rfl rfl)
theorem dX3_doFree_12 : decode cX3_doFree 12 = .ok (.iaload, 1) := dk_46 (dk_at dksX3_doFree_0 12 rfl rfl)
theorem dX3_doFree_13 : decode cX3_doFree 13 = .ok (.iconst (-1), 1) := dk_2 (dk_at dksX3_doFree_0 13 rfl rfl)
theorem dX3_doFree_14 : decode cX3_doFree 14 = .ok (.if_icmp .eq 14, 3) := dk_159 0 14 (dk_at dksX3_doFree_0 14 rfl rfl)
theorem dX3_doFree_17 : decode cX3_doFree 17 = .ok (.aload_n 0, 1) := dk_42 (dk_at dksX3_doFree_0 17 rfl rfl)
theorem dX3_doFree_18 : decode cX3_doFree 18 = .ok (.iload_n 1, 1) := dk_27 (dk_at dksX3_doFree_0 18 rfl rfl)
theorem dX3_doFree_19 : decode cX3_doFree 19 = .ok (.bipush 7, 2) := dk_16 7 (dk_at dksX3_doFree_0 19 rfl rfl)
theorem dX3_doFree_21 : decode cX3_doFree 21 = .ok (.invokevirtual 95, 3) := dk_182 0 95 (dk_at dksX3_doFree_0 21 rfl rfl)
theorem dX3_doFree_24 : decode cX3_doFree 24 = .ok (.iconst 1, 1) := dk_4 (dk_at dksX3_doFree_1 0 rfl rfl)
theorem dX3_doFree_25 : decode cX3_doFree 25 = .ok (.if_icmp .ne 5, 3) := dk_160 0 5 (dk_at dksX3_doFree_1 1 rfl rfl)
theorem dX3_doFree_28 : decode cX3_doFree 28 = .ok (.iconst (-1), 1) := dk_2 (dk_at dksX3_doFree_1 4 rfl rfl)
theorem dX3_doFree_29 : decode cX3_doFree 29 = .ok (.ireturn, 1) := dk_172 (dk_at dksX3_doFree_1 5 rfl rfl)
theorem dX3_doFree_30 : decode cX3_doFree 30 = .ok (.iload_n 2, 1) := dk_28 (dk_at dksX3_doFree_1 6 rfl rfl)
theorem dX3_doFree_31 : decode cX3_doFree 31 = .ok (.iconst (-1), 1) := dk_2 (dk_at dksX3_doFree_1 7 rfl rfl)
theorem dX3_doFree_32 : decode cX3_doFree 32 = .ok (.if_icmp .ne 52, 3) := dk_160 0 52 (dk_at dksX3_doFree_1 8 rfl rfl)
theorem dX3_doFree_35 : decode cX3_doFree 35 = .ok (.aload_n 0, 1) := dk_42 (dk_at dksX3_doFree_1 11 rfl rfl)
theorem dX3_doFree_36 : decode cX3_doFree 36 = .ok (.iload_n 1, 1) := dk_27 (dk_at dksX3_doFree_1 12 rfl rfl)
theorem dX3_doFree_37 : decode cX3_doFree 37 = .ok (.iconst 4, 1) := dk_7 (dk_at dksX3_doFree_1 13 rfl rfl)
theorem dX3_doFree_38 : decode cX3_doFree 38 = .ok (.invokevirtual 95, 3) := dk_182 0 95 (dk_at dksX3_doFree_1 14 rfl rfl)
theorem dX3_doFree_41 : decode cX3_doFree 41 = .ok (.iconst (-1), 1) := dk_2 (dk_at dksX3_doFree_1 17 rfl rfl)
theorem dX3_doFree_42 : decode cX3_doFree 42 = .ok (.if_icmp .ne 5, 3) := dk_160 0 5 (dk_at dksX3_doFree_1 18 rfl rfl)
theorem dX3_doFree_45 : decode cX3_doFree 45 = .ok (.iconst (-1), 1) := dk_2 (dk_at dksX3_doFree_1 21 rfl rfl)
theorem dX3_doFree_46 : decode cX3_doFree 46 = .ok (.ireturn, 1) := dk_172 (dk_at dksX3_doFree_1 22 rfl rfl)
theorem dX3_doFree_47 : decode cX3_doFree 47 = .ok (.aload_n 0, 1) := dk_42 (dk_at dksX3_doFree_1 23 rfl rfl)
theorem dX3_doFree_48 : decode cX3_doFree 48 = .ok (.iload_n 1, 1) := dk_27 (dk_at dksX3_doFree_2 0 rfl rfl)
theorem dX3_doFree_49 : decode cX3_doFree 49 = .ok (.aload_n 0, 1) := dk_42 (dk_at dksX3_doFree_2 1 rfl rfl)
theorem dX3_doFree_50 : decode cX3_doFree 50 = .ok (.getfield 13, 3) := dk_180 0 13 (dk_at dksX3_doFree_2 2 rfl rfl)
theorem dX3_doFree_53 : decode cX3_doFree 53 = .ok (.iload_n 1, 1) := dk_27 (dk_at dksX3_doFree_2 5 rfl rfl)
theorem dX3_doFree_54 : decode cX3_doFree 54 = .ok (.iaload, 1) := dk_46 (dk_at dksX3_doFree_2 6 rfl rfl)
theorem dX3_doFree_55 : decode cX3_doFree 55 = .ok (.invokevirtual 117, 3) := dk_182 0 117 (dk_at dksX3_doFree_2 7 rfl rfl)
theorem dX3_doFree_58 : decode cX3_doFree 58 = .ok (.istore_n 3, 1) := dk_62 (dk_at dksX3_doFree_2 10 rfl rfl)
theorem dX3_doFree_59 : decode cX3_doFree 59 = .ok (.aload_n 0, 1) := dk_42 (dk_at dksX3_doFree_2 11 rfl rfl)
theorem dX3_doFree_60 : decode cX3_doFree 60 = .ok (.iload_n 1, 1) := dk_27 (dk_at dksX3_doFree_2 12 rfl rfl)
theorem dX3_doFree_61 : decode cX3_doFree 61 = .ok (.bipush 8, 2) := dk_16 8 (dk_at dksX3_doFree_2 13 rfl rfl)
theorem dX3_doFree_63 : decode cX3_doFree 63 = .ok (.iload_n 3, 1) := dk_29 (dk_at dksX3_doFree_2 15 rfl rfl)
theorem dX3_doFree_64 : decode cX3_doFree 64 = .ok (.iadd, 1) := dk_96 (dk_at dksX3_doFree_2 16 rfl rfl)
theorem dX3_doFree_65 : decode cX3_doFree 65 = .ok (.aload_n 0, 1) := dk_42 (dk_at dksX3_doFree_2 17 rfl rfl)
theorem dX3_doFree_66 : decode cX3_doFree 66 = .ok (.iload_n 1, 1) := dk_27 (dk_at dksX3_doFree_2 18 rfl rfl)
theorem dX3_doFree_67 : decode cX3_doFree 67 = .ok (.iconst 4, 1) := dk_7 (dk_at dksX3_doFree_2 19 rfl rfl)
theorem dX3_doFree_68 : decode cX3_doFree 68 = .ok (.invokevirtual 95, 3) := dk_182 0 95 (dk_at dksX3_doFree_2 20 rfl rfl)
theorem dX3_doFree_71 : decode cX3_doFree 71 = .ok (.invokevirtual 56, 3) := dk_182 0 56 (dk_at dksX3_doFree_3 0 rfl rfl)
theorem dX3_doFree_74 : decode cX3_doFree 74 = .ok (.aload_n 0, 1) := dk_42 (dk_at dksX3_doFree_3 3 rfl rfl)
theorem dX3_doFree_75 : decode cX3_doFree 75 = .ok (.iload_n 1, 1) := dk_27 (dk_at dksX3_doFree_3 4 rfl rfl)
theorem dX3_doFree_76 : decode cX3_doFree 76 = .ok (.iconst 4, 1) := dk_7 (dk_at dksX3_doFree_3 5 rfl rfl)
theorem dX3_doFree_77 : decode cX3_doFree 77 = .ok (.iconst (-1), 1) := dk_2 (dk_at dksX3_doFree_3 6 rfl rfl)
theorem dX3_doFree_78 : decode cX3_doFree 78 = .ok (.invokevirtual 56, 3) := dk_182 0 56 (dk_at dksX3_doFree_3 7 rfl rfl)
theorem dX3_doFree_81 : decode cX3_doFree 81 = .ok (.goto 63, 3) := dk_167 0 63 (dk_at dksX3_doFree_3 10 rfl rfl)
theorem dX3_doFree_84 : decode cX3_doFree 84 = .ok (.iload_n 2, 1) := dk_28 (dk_at dksX3_doFree_3 13 rfl rfl)
theorem dX3_doFree_85 : decode cX3_doFree 85 = .ok (.invokestatic 75, 3) := dk_184 0 75 (dk_at dksX3_doFree_3 14 rfl rfl)
theorem dX3_doFree_88 : decode cX3_doFree 88 = .ok (.ifCond .eq 13, 3) := dk_153 0 13 (dk_at dksX3_doFree_3 17 rfl rfl)
theorem dX3_doFree_91 : decode cX3_doFree 91 = .ok (.aload_n 0, 1) := dk_42 (dk_at dksX3_doFree_3 20 rfl rfl)
theorem dX3_doFree_92 : decode cX3_doFree 92 = .ok (.iload_n 1, 1) := dk_27 (dk_at dksX3_doFree_3 21 rfl rfl)
theorem dX3_doFree_93 : decode cX3_doFree 93 = .ok (.iconst 4, 1) := dk_7 (dk_at dksX3_doFree_3 22 rfl rfl)
theorem dX3_doFree_94 : decode cX3_doFree 94 = .ok (.invokevirtual 95, 3) := dk_182 0 95 (dk_at dksX3_doFree_4 0 rfl rfl)
theorem dX3_doFree_97 : decode cX3_doFree 97 = .ok (.iconst (-1), 1) := dk_2 (dk_at dksX3_doFree_4 3 rfl rfl)
theorem dX3_doFree_98 : decode cX3_doFree 98 = .ok (.if_icmp .eq 5, 3) := dk_159 0 5 (dk_at dksX3_doFree_4 4 rfl rfl)
theorem dX3_doFree_101 : decode cX3_doFree 101 = .ok (.iconst (-1), 1) := dk_2 (dk_at dksX3_doFree_4 7 rfl rfl)
theorem dX3_doFree_102 : decode cX3_doFree 102 = .ok (.ireturn, 1) := dk_172 (dk_at dksX3_doFree_4 8 rfl rfl)
theorem dX3_doFree_103 : decode cX3_doFree 103 = .ok (.aload_n 0, 1) := dk_42 (dk_at dksX3_doFree_4 9 rfl rfl)
theorem dX3_doFree_104 : decode cX3_doFree 104 = .ok (.iload_n 1, 1) := dk_27 (dk_at dksX3_doFree_4 10 rfl rfl)
theorem dX3_doFree_105 : decode cX3_doFree 105 = .ok (.iload_n 2, 1) := dk_28 (dk_at dksX3_doFree_4 11 rfl rfl)
theorem dX3_doFree_106 : decode cX3_doFree 106 = .ok (.invokevirtual 117, 3) := dk_182 0 117 (dk_at dksX3_doFree_4 12 rfl rfl)
theorem dX3_doFree_109 : decode cX3_doFree 109 = .ok (.istore_n 3, 1) := dk_62 (dk_at dksX3_doFree_4 15 rfl rfl)
theorem dX3_doFree_110 : decode cX3_doFree 110 = .ok (.iload_n 3, 1) := dk_29 (dk_at dksX3_doFree_4 16 rfl rfl)
theorem dX3_doFree_111 : decode cX3_doFree 111 = .ok (.iconst 4, 1) := dk_7 (dk_at dksX3_doFree_4 17 rfl rfl)
theorem dX3_doFree_112 : decode cX3_doFree 112 = .ok (.if_icmp .eq 10, 3) := dk_159 0 10 (dk_at dksX3_doFree_4 18 rfl rfl)
theorem dX3_doFree_115 : decode cX3_doFree 115 = .ok (.iload_n 3, 1) := dk_29 (dk_at dksX3_doFree_4 21 rfl rfl)
theorem dX3_doFree_116 : decode cX3_doFree 116 = .ok (.iconst 5, 1) := dk_8 (dk_at dksX3_doFree_4 22 rfl rfl)
theorem dX3_doFree_117 : decode cX3_doFree 117 = .ok (.if_icmp .eq 5, 3) := dk_159 0 5 (dk_at dksX3_doFree_5 0 rfl rfl)
theorem dX3_doFree_120 : decode cX3_doFree 120 = .ok (.iconst (-1), 1) := dk_2 (dk_at dksX3_doFree_5 3 rfl rfl)
theorem dX3_doFree_121 : decode cX3_doFree 121 = .ok (.ireturn, 1) := dk_172 (dk_at dksX3_doFree_5 4 rfl rfl)
theorem dX3_doFree_122 : decode cX3_doFree 122 = .ok (.aload_n 0, 1) := dk_42 (dk_at dksX3_doFree_5 5 rfl rfl)
theorem dX3_doFree_123 : decode cX3_doFree 123 = .ok (.iload_n 1, 1) := dk_27 (dk_at dksX3_doFree_5 6 rfl rfl)
theorem dX3_doFree_124 : decode cX3_doFree 124 = .ok (.bipush 8, 2) := dk_16 8 (dk_at dksX3_doFree_5 7 rfl rfl)
theorem dX3_doFree_126 : decode cX3_doFree 126 = .ok (.iload_n 3, 1) := dk_29 (dk_at dksX3_doFree_5 9 rfl rfl)
theorem dX3_doFree_127 : decode cX3_doFree 127 = .ok (.iadd, 1) := dk_96 (dk_at dksX3_doFree_5 10 rfl rfl)
theorem dX3_doFree_128 : decode cX3_doFree 128 = .ok (.aload_n 0, 1) := dk_42 (dk_at dksX3_doFree_5 11 rfl rfl)
theorem dX3_doFree_129 : decode cX3_doFree 129 = .ok (.getfield 13, 3) := dk_180 0 13 (dk_at dksX3_doFree_5 12 rfl rfl)
theorem dX3_doFree_132 : decode cX3_doFree 132 = .ok (.iload_n 1, 1) := dk_27 (dk_at dksX3_doFree_5 15 rfl rfl)
theorem dX3_doFree_133 : decode cX3_doFree 133 = .ok (.iaload, 1) := dk_46 (dk_at dksX3_doFree_5 16 rfl rfl)
theorem dX3_doFree_134 : decode cX3_doFree 134 = .ok (.invokevirtual 56, 3) := dk_182 0 56 (dk_at dksX3_doFree_5 17 rfl rfl)
theorem dX3_doFree_137 : decode cX3_doFree 137 = .ok (.aload_n 0, 1) := dk_42 (dk_at dksX3_doFree_5 20 rfl rfl)
theorem dX3_doFree_138 : decode cX3_doFree 138 = .ok (.iload_n 1, 1) := dk_27 (dk_at dksX3_doFree_5 21 rfl rfl)
theorem dX3_doFree_139 : decode cX3_doFree 139 = .ok (.iconst 4, 1) := dk_7 (dk_at dksX3_doFree_5 22 rfl rfl)
theorem dX3_doFree_140 : decode cX3_doFree 140 = .ok (.iload_n 2, 1) := dk_28 (dk_at dksX3_doFree_5 23 rfl rfl)
theorem dX3_doFree_141 : decode cX3_doFree 141 = .ok (.invokevirtual 56, 3) := dk_182 0 56 (dk_at dksX3_doFree_6 0 rfl rfl)
theorem dX3_doFree_144 : decode cX3_doFree 144 = .ok (.aload_n 0, 1) := dk_42 (dk_at dksX3_doFree_6 3 rfl rfl)
theorem dX3_doFree_145 : decode cX3_doFree 145 = .ok (.iload_n 1, 1) := dk_27 (dk_at dksX3_doFree_6 4 rfl rfl)
theorem dX3_doFree_146 : decode cX3_doFree 146 = .ok (.bipush 7, 2) := dk_16 7 (dk_at dksX3_doFree_6 5 rfl rfl)
theorem dX3_doFree_148 : decode cX3_doFree 148 = .ok (.iconst 1, 1) := dk_4 (dk_at dksX3_doFree_6 7 rfl rfl)
theorem dX3_doFree_149 : decode cX3_doFree 149 = .ok (.invokevirtual 56, 3) := dk_182 0 56 (dk_at dksX3_doFree_6 8 rfl rfl)
theorem dX3_doFree_152 : decode cX3_doFree 152 = .ok (.iload_n 3, 1) := dk_29 (dk_at dksX3_doFree_6 11 rfl rfl)
theorem dX3_doFree_153 : decode cX3_doFree 153 = .ok (.ireturn, 1) := dk_172 (dk_at dksX3_doFree_6 12 rfl rfl)
abbrev cX3_pause : ByteArray := prog_9_method_31_code
def yX3_pause : MethodName := ⟨RX3, "pause", "(I)I"⟩
def dkwX3_pause_0 : List UInt8 := [42, 3, 181, 0, 63, 27, 184, 0, 71, 153, 0, 11, 42, 27, 182, 0, 129, 167, 0, 4, 2, 172]
abbrev dktX3_pause_0 : List UInt8 := dkwX3_pause_0 ++ []
theorem dksX3_pause_0 : cX3_pause.data.toList.drop 0 = dktX3_pause_0 := by decide +kernel
theorem dX3_pause_0 : decode cX3_pause 0 = .ok (.aload_n 0, 1) := dk_42 (dk_at dksX3_pause_0 0 rfl rfl)
theorem dX3_pause_1 : decode cX3_pause 1 = .ok (.iconst 0, 1) := dk_3 (dk_at dksX3_pause_0 1 rfl rfl)
theorem dX3_pause_2 : decode cX3_pause 2 = .ok (.putfield 63, 3) := dk_181 0 63 (dk_at dksX3_pause_0 2 rfl rfl)
theorem dX3_pause_5 : decode cX3_pause 5 = .ok (.iload_n 1, 1) := dk_27 (dk_at dksX3_pause_0 5 rfl rfl)
theorem dX3_pause_6 : decode cX3_pause 6 = .ok (.invokestatic 71, 3) := dk_184 0 71 (dk_at dksX3_pause_0 6 rfl rfl)
theorem dX3_pause_9 : decode cX3_pause 9 = .ok (.ifCond .eq 11, 3) := dk_153 0 11 (dk_at dksX3_pause_0 9 rfl rfl)
theorem dX3_pause_12 : decode cX3_pause 12 = .ok (.aload_n 0, 1) := dk_42 (dk_at dksX3_pause_0 12 rfl rfl)
theorem dX3_pause_13 : decode cX3_pause 13 = .ok (.iload_n 1, 1) := dk_27 (dk_at dksX3_pause_0 13 rfl rfl)
theorem dX3_pause_14 : decode cX3_pause 14 = .ok (.invokevirtual 129, 3) := dk_182 0 129 (dk_at dksX3_pause_0 14 rfl rfl)
theorem dX3_pause_17 : decode cX3_pause 17 = .ok (.goto 4, 3) := dk_167 0 4 (dk_at dksX3_pause_0 17 rfl rfl)
theorem dX3_pause_20 : decode cX3_pause 20 = .ok (.iconst (-1), 1) := dk_2 (dk_at dksX3_pause_0 20 rfl rfl)
theorem dX3_pause_21 : decode cX3_pause 21 = .ok (.ireturn, 1) := dk_172 (dk_at dksX3_pause_0 21 rfl rfl)
abbrev cX3_doPause : ByteArray := prog_9_method_30_code
def yX3_doPause : MethodName := ⟨RX3, "doPause", "(I)I"⟩
def dkwX3_doPause_1 : List UInt8 := [42, 27, 6, 42, 27, 6, 182, 0, 95, 4, 96, 182, 0, 56, 42, 27, 6, 182, 0, 95, 172]
abbrev dktX3_doPause_1 : List UInt8 := dkwX3_doPause_1 ++ []
def dkwX3_doPause_0 : List UInt8 := [42, 182, 0, 82, 153, 0, 18, 42, 27, 6, 182, 0, 95, 42, 180, 0, 16, 8, 46, 161, 0, 5, 2, 172]
abbrev dktX3_doPause_0 : List UInt8 := dkwX3_doPause_0 ++ dktX3_doPause_1
theorem dksX3_doPause_0 : cX3_doPause.data.toList.drop 0 = dktX3_doPause_0 := by decide +kernel
theorem dksX3_doPause_1 : cX3_doPause.data.toList.drop 24 = dktX3_doPause_1 := dk_seg dksX3_doPause_0 24 rfl rfl
theorem dX3_doPause_0 : decode cX3_doPause 0 = .ok (.aload_n 0, 1) := dk_42 (dk_at dksX3_doPause_0 0 rfl rfl)
theorem dX3_doPause_1 : decode cX3_doPause 1 = .ok (.invokevirtual 82, 3) := dk_182 0 82 (dk_at dksX3_doPause_0 1 rfl rfl)
theorem dX3_doPause_4 : decode cX3_doPause 4 = .ok (.ifCond .eq 18, 3) := dk_153 0 18 (dk_at dksX3_doPause_0 4 rfl rfl)
theorem dX3_doPause_7 : decode cX3_doPause 7 = .ok (.aload_n 0, 1) := dk_42 (dk_at dksX3_doPause_0 7 rfl rfl)
theorem dX3_doPause_8 : decode cX3_doPause 8 = .ok (.iload_n 1, 1) := dk_27 (dk_at dksX3_doPause_0 8 rfl rfl)
theorem dX3_doPause_9 : decode cX3_doPause 9 = .ok (.iconst 3, 1) := dk_6 (dk_at dksX3_doPause_0 9 rfl rfl)
theorem dX3_doPause_10 : decode cX3_doPause 10 = .ok (.invokevirtual 95, 3) := dk_182 0 95 (dk_at dksX3_doPause_0 10 rfl rfl)
theorem dX3_doPause_13 : decode cX3_doPause 13 = .ok (.aload_n 0, 1) := dk_42 (dk_at dksX3_doPause_0 13 rfl rfl)
theorem dX3_doPause_14 : decode cX3_doPause 14 = .ok (.getfield 16, 3) := dk_180 0 16 (dk_at dksX3_doPause_0 14 rfl rfl)
theorem dX3_doPause_17 : decode cX3_doPause 17 = .ok (.iconst 5, 1) := dk_8 (dk_at dksX3_doPause_0 17 rfl rfl)
theorem dX3_doPause_18 : decode cX3_doPause 18 = .ok (.iaload, 1) := dk_46 (dk_at dksX3_doPause_0 18 rfl rfl)
theorem dX3_doPause_19 : decode cX3_doPause 19 = .ok (.if_icmp .lt 5, 3) := dk_161 0 5 (dk_at dksX3_doPause_0 19 rfl rfl)
theorem dX3_doPause_22 : decode cX3_doPause 22 = .ok (.iconst (-1), 1) := dk_2 (dk_at dksX3_doPause_0 22 rfl rfl)
theorem dX3_doPause_23 : decode cX3_doPause 23 = .ok (.ireturn, 1) := dk_172 (dk_at dksX3_doPause_0 23 rfl rfl)
theorem dX3_doPause_24 : decode cX3_doPause 24 = .ok (.aload_n 0, 1) := dk_42 (dk_at dksX3_doPause_1 0 rfl rfl)
theorem dX3_doPause_25 : decode cX3_doPause 25 = .ok (.iload_n 1, 1) := dk_27 (dk_at dksX3_doPause_1 1 rfl rfl)
theorem dX3_doPause_26 : decode cX3_doPause 26 = .ok (.iconst 3, 1) := dk_6 (dk_at dksX3_doPause_1 2 rfl rfl)
theorem dX3_doPause_27 : decode cX3_doPause 27 = .ok (.aload_n 0, 1) := dk_42 (dk_at dksX3_doPause_1 3 rfl rfl)
theorem dX3_doPause_28 : decode cX3_doPause 28 = .ok (.iload_n 1, 1) := dk_27 (dk_at dksX3_doPause_1 4 rfl rfl)
theorem dX3_doPause_29 : decode cX3_doPause 29 = .ok (.iconst 3, 1) := dk_6 (dk_at dksX3_doPause_1 5 rfl rfl)
theorem dX3_doPause_30 : decode cX3_doPause 30 = .ok (.invokevirtual 95, 3) := dk_182 0 95 (dk_at dksX3_doPause_1 6 rfl rfl)
theorem dX3_doPause_33 : decode cX3_doPause 33 = .ok (.iconst 1, 1) := dk_4 (dk_at dksX3_doPause_1 9 rfl rfl)
theorem dX3_doPause_34 : decode cX3_doPause 34 = .ok (.iadd, 1) := dk_96 (dk_at dksX3_doPause_1 10 rfl rfl)
theorem dX3_doPause_35 : decode cX3_doPause 35 = .ok (.invokevirtual 56, 3) := dk_182 0 56 (dk_at dksX3_doPause_1 11 rfl rfl)
theorem dX3_doPause_38 : decode cX3_doPause 38 = .ok (.aload_n 0, 1) := dk_42 (dk_at dksX3_doPause_1 14 rfl rfl)
theorem dX3_doPause_39 : decode cX3_doPause 39 = .ok (.iload_n 1, 1) := dk_27 (dk_at dksX3_doPause_1 15 rfl rfl)
theorem dX3_doPause_40 : decode cX3_doPause 40 = .ok (.iconst 3, 1) := dk_6 (dk_at dksX3_doPause_1 16 rfl rfl)
theorem dX3_doPause_41 : decode cX3_doPause 41 = .ok (.invokevirtual 95, 3) := dk_182 0 95 (dk_at dksX3_doPause_1 17 rfl rfl)
theorem dX3_doPause_44 : decode cX3_doPause 44 = .ok (.ireturn, 1) := dk_172 (dk_at dksX3_doPause_1 20 rfl rfl)
abbrev cX3_wrong : ByteArray := prog_9_method_32_code
def yX3_wrong : MethodName := ⟨RX3, "wrong", "(I)I"⟩
def dkwX3_wrong_2 : List UInt8 := [182, 0, 56, 42, 4, 28, 100, 182, 0, 113, 172]
abbrev dktX3_wrong_2 : List UInt8 := dkwX3_wrong_2 ++ []
def dkwX3_wrong_1 : List UInt8 := [28, 8, 182, 0, 95, 184, 0, 67, 154, 0, 5, 2, 172, 42, 28, 3, 42, 28, 3, 182, 0, 95, 27, 100]
abbrev dktX3_wrong_1 : List UInt8 := dkwX3_wrong_1 ++ dktX3_wrong_2
def dkwX3_wrong_0 : List UInt8 := [42, 3, 181, 0, 63, 42, 182, 0, 82, 154, 0, 5, 2, 172, 42, 180, 0, 26, 5, 46, 61, 27, 3, 42]
abbrev dktX3_wrong_0 : List UInt8 := dkwX3_wrong_0 ++ dktX3_wrong_1
theorem dksX3_wrong_0 : cX3_wrong.data.toList.drop 0 = dktX3_wrong_0 := by decide +kernel
theorem dksX3_wrong_1 : cX3_wrong.data.toList.drop 24 = dktX3_wrong_1 := dk_seg dksX3_wrong_0 24 rfl rfl
theorem dksX3_wrong_2 : cX3_wrong.data.toList.drop 48 = dktX3_wrong_2 := dk_seg dksX3_wrong_1 24 rfl rfl
theorem dX3_wrong_0 : decode cX3_wrong 0 = .ok (.aload_n 0, 1) := dk_42 (dk_at dksX3_wrong_0 0 rfl rfl)
theorem dX3_wrong_1 : decode cX3_wrong 1 = .ok (.iconst 0, 1) := dk_3 (dk_at dksX3_wrong_0 1 rfl rfl)
theorem dX3_wrong_2 : decode cX3_wrong 2 = .ok (.putfield 63, 3) := dk_181 0 63 (dk_at dksX3_wrong_0 2 rfl rfl)
theorem dX3_wrong_5 : decode cX3_wrong 5 = .ok (.aload_n 0, 1) := dk_42 (dk_at dksX3_wrong_0 5 rfl rfl)
theorem dX3_wrong_6 : decode cX3_wrong 6 = .ok (.invokevirtual 82, 3) := dk_182 0 82 (dk_at dksX3_wrong_0 6 rfl rfl)
theorem dX3_wrong_9 : decode cX3_wrong 9 = .ok (.ifCond .ne 5, 3) := dk_154 0 5 (dk_at dksX3_wrong_0 9 rfl rfl)
theorem dX3_wrong_12 : decode cX3_wrong 12 = .ok (.iconst (-1), 1) := dk_2 (dk_at dksX3_wrong_0 12 rfl rfl)
theorem dX3_wrong_13 : decode cX3_wrong 13 = .ok (.ireturn, 1) := dk_172 (dk_at dksX3_wrong_0 13 rfl rfl)
theorem dX3_wrong_14 : decode cX3_wrong 14 = .ok (.aload_n 0, 1) := dk_42 (dk_at dksX3_wrong_0 14 rfl rfl)
theorem dX3_wrong_15 : decode cX3_wrong 15 = .ok (.getfield 26, 3) := dk_180 0 26 (dk_at dksX3_wrong_0 15 rfl rfl)
theorem dX3_wrong_18 : decode cX3_wrong 18 = .ok (.iconst 2, 1) := dk_5 (dk_at dksX3_wrong_0 18 rfl rfl)
theorem dX3_wrong_19 : decode cX3_wrong 19 = .ok (.iaload, 1) := dk_46 (dk_at dksX3_wrong_0 19 rfl rfl)
theorem dX3_wrong_20 : decode cX3_wrong 20 = .ok (.istore_n 2, 1) := dk_61 (dk_at dksX3_wrong_0 20 rfl rfl)
theorem dX3_wrong_21 : decode cX3_wrong 21 = .ok (.iload_n 1, 1) := dk_27 (dk_at dksX3_wrong_0 21 rfl rfl)
theorem dX3_wrong_22 : decode cX3_wrong 22 = .ok (.iconst 0, 1) := dk_3 (dk_at dksX3_wrong_0 22 rfl rfl)
theorem dX3_wrong_23 : decode cX3_wrong 23 = .ok (.aload_n 0, 1) := dk_42 (dk_at dksX3_wrong_0 23 rfl rfl)
theorem dX3_wrong_24 : decode cX3_wrong 24 = .ok (.iload_n 2, 1) := dk_28 (dk_at dksX3_wrong_1 0 rfl rfl)
theorem dX3_wrong_25 : decode cX3_wrong 25 = .ok (.iconst 5, 1) := dk_8 (dk_at dksX3_wrong_1 1 rfl rfl)
theorem dX3_wrong_26 : decode cX3_wrong 26 = .ok (.invokevirtual 95, 3) := dk_182 0 95 (dk_at dksX3_wrong_1 2 rfl rfl)
theorem dX3_wrong_29 : decode cX3_wrong 29 = .ok (.invokestatic 67, 3) := dk_184 0 67 (dk_at dksX3_wrong_1 5 rfl rfl)
theorem dX3_wrong_32 : decode cX3_wrong 32 = .ok (.ifCond .ne 5, 3) := dk_154 0 5 (dk_at dksX3_wrong_1 8 rfl rfl)
theorem dX3_wrong_35 : decode cX3_wrong 35 = .ok (.iconst (-1), 1) := dk_2 (dk_at dksX3_wrong_1 11 rfl rfl)
theorem dX3_wrong_36 : decode cX3_wrong 36 = .ok (.ireturn, 1) := dk_172 (dk_at dksX3_wrong_1 12 rfl rfl)
theorem dX3_wrong_37 : decode cX3_wrong 37 = .ok (.aload_n 0, 1) := dk_42 (dk_at dksX3_wrong_1 13 rfl rfl)
theorem dX3_wrong_38 : decode cX3_wrong 38 = .ok (.iload_n 2, 1) := dk_28 (dk_at dksX3_wrong_1 14 rfl rfl)
theorem dX3_wrong_39 : decode cX3_wrong 39 = .ok (.iconst 0, 1) := dk_3 (dk_at dksX3_wrong_1 15 rfl rfl)
theorem dX3_wrong_40 : decode cX3_wrong 40 = .ok (.aload_n 0, 1) := dk_42 (dk_at dksX3_wrong_1 16 rfl rfl)
theorem dX3_wrong_41 : decode cX3_wrong 41 = .ok (.iload_n 2, 1) := dk_28 (dk_at dksX3_wrong_1 17 rfl rfl)
theorem dX3_wrong_42 : decode cX3_wrong 42 = .ok (.iconst 0, 1) := dk_3 (dk_at dksX3_wrong_1 18 rfl rfl)
theorem dX3_wrong_43 : decode cX3_wrong 43 = .ok (.invokevirtual 95, 3) := dk_182 0 95 (dk_at dksX3_wrong_1 19 rfl rfl)
theorem dX3_wrong_46 : decode cX3_wrong 46 = .ok (.iload_n 1, 1) := dk_27 (dk_at dksX3_wrong_1 22 rfl rfl)
theorem dX3_wrong_47 : decode cX3_wrong 47 = .ok (.isub, 1) := dk_100 (dk_at dksX3_wrong_1 23 rfl rfl)
theorem dX3_wrong_48 : decode cX3_wrong 48 = .ok (.invokevirtual 56, 3) := dk_182 0 56 (dk_at dksX3_wrong_2 0 rfl rfl)
theorem dX3_wrong_51 : decode cX3_wrong 51 = .ok (.aload_n 0, 1) := dk_42 (dk_at dksX3_wrong_2 3 rfl rfl)
theorem dX3_wrong_52 : decode cX3_wrong 52 = .ok (.iconst 1, 1) := dk_4 (dk_at dksX3_wrong_2 4 rfl rfl)
theorem dX3_wrong_53 : decode cX3_wrong 53 = .ok (.iload_n 2, 1) := dk_28 (dk_at dksX3_wrong_2 5 rfl rfl)
theorem dX3_wrong_54 : decode cX3_wrong 54 = .ok (.isub, 1) := dk_100 (dk_at dksX3_wrong_2 6 rfl rfl)
theorem dX3_wrong_55 : decode cX3_wrong 55 = .ok (.invokevirtual 113, 3) := dk_182 0 113 (dk_at dksX3_wrong_2 7 rfl rfl)
theorem dX3_wrong_58 : decode cX3_wrong 58 = .ok (.ireturn, 1) := dk_172 (dk_at dksX3_wrong_2 10 rfl rfl)
abbrev cX3_at : ByteArray := prog_9_method_33_code
def yX3_at : MethodName := ⟨RX3, "at", "(II)I"⟩
def dkwX3_at_1 : List UInt8 := [180, 0, 26, 3, 46, 2, 159, 0, 15, 42, 27, 16, 8, 28, 96, 182, 0, 95, 167, 0, 4, 2, 172]
abbrev dktX3_at_1 : List UInt8 := dkwX3_at_1 ++ []
def dkwX3_at_0 : List UInt8 := [42, 3, 181, 0, 63, 27, 184, 0, 71, 153, 0, 34, 28, 3, 8, 184, 0, 67, 153, 0, 25, 42]
abbrev dktX3_at_0 : List UInt8 := dkwX3_at_0 ++ dktX3_at_1
theorem dksX3_at_0 : cX3_at.data.toList.drop 0 = dktX3_at_0 := by decide +kernel
theorem dksX3_at_1 : cX3_at.data.toList.drop 22 = dktX3_at_1 := dk_seg dksX3_at_0 22 rfl rfl
theorem dX3_at_0 : decode cX3_at 0 = .ok (.aload_n 0, 1) := dk_42 (dk_at dksX3_at_0 0 rfl rfl)
theorem dX3_at_1 : decode cX3_at 1 = .ok (.iconst 0, 1) := dk_3 (dk_at dksX3_at_0 1 rfl rfl)
theorem dX3_at_2 : decode cX3_at 2 = .ok (.putfield 63, 3) := dk_181 0 63 (dk_at dksX3_at_0 2 rfl rfl)
theorem dX3_at_5 : decode cX3_at 5 = .ok (.iload_n 1, 1) := dk_27 (dk_at dksX3_at_0 5 rfl rfl)
theorem dX3_at_6 : decode cX3_at 6 = .ok (.invokestatic 71, 3) := dk_184 0 71 (dk_at dksX3_at_0 6 rfl rfl)
theorem dX3_at_9 : decode cX3_at 9 = .ok (.ifCond .eq 34, 3) := dk_153 0 34 (dk_at dksX3_at_0 9 rfl rfl)
theorem dX3_at_12 : decode cX3_at 12 = .ok (.iload_n 2, 1) := dk_28 (dk_at dksX3_at_0 12 rfl rfl)
theorem dX3_at_13 : decode cX3_at 13 = .ok (.iconst 0, 1) := dk_3 (dk_at dksX3_at_0 13 rfl rfl)
theorem dX3_at_14 : decode cX3_at 14 = .ok (.iconst 5, 1) := dk_8 (dk_at dksX3_at_0 14 rfl rfl)
theorem dX3_at_15 : decode cX3_at 15 = .ok (.invokestatic 67, 3) := dk_184 0 67 (dk_at dksX3_at_0 15 rfl rfl)
theorem dX3_at_18 : decode cX3_at 18 = .ok (.ifCond .eq 25, 3) := dk_153 0 25 (dk_at dksX3_at_0 18 rfl rfl)
theorem dX3_at_21 : decode cX3_at 21 = .ok (.aload_n 0, 1) := dk_42 (dk_at dksX3_at_0 21 rfl rfl)
theorem dX3_at_22 : decode cX3_at 22 = .ok (.getfield 26, 3) := dk_180 0 26 (dk_at dksX3_at_1 0 rfl rfl)
theorem dX3_at_25 : decode cX3_at 25 = .ok (.iconst 0, 1) := dk_3 (dk_at dksX3_at_1 3 rfl rfl)
theorem dX3_at_26 : decode cX3_at 26 = .ok (.iaload, 1) := dk_46 (dk_at dksX3_at_1 4 rfl rfl)
theorem dX3_at_27 : decode cX3_at 27 = .ok (.iconst (-1), 1) := dk_2 (dk_at dksX3_at_1 5 rfl rfl)
theorem dX3_at_28 : decode cX3_at 28 = .ok (.if_icmp .eq 15, 3) := dk_159 0 15 (dk_at dksX3_at_1 6 rfl rfl)
theorem dX3_at_31 : decode cX3_at 31 = .ok (.aload_n 0, 1) := dk_42 (dk_at dksX3_at_1 9 rfl rfl)
theorem dX3_at_32 : decode cX3_at 32 = .ok (.iload_n 1, 1) := dk_27 (dk_at dksX3_at_1 10 rfl rfl)
theorem dX3_at_33 : decode cX3_at 33 = .ok (.bipush 8, 2) := dk_16 8 (dk_at dksX3_at_1 11 rfl rfl)
theorem dX3_at_35 : decode cX3_at 35 = .ok (.iload_n 2, 1) := dk_28 (dk_at dksX3_at_1 13 rfl rfl)
theorem dX3_at_36 : decode cX3_at 36 = .ok (.iadd, 1) := dk_96 (dk_at dksX3_at_1 14 rfl rfl)
theorem dX3_at_37 : decode cX3_at 37 = .ok (.invokevirtual 95, 3) := dk_182 0 95 (dk_at dksX3_at_1 15 rfl rfl)
theorem dX3_at_40 : decode cX3_at 40 = .ok (.goto 4, 3) := dk_167 0 4 (dk_at dksX3_at_1 18 rfl rfl)
theorem dX3_at_43 : decode cX3_at 43 = .ok (.iconst (-1), 1) := dk_2 (dk_at dksX3_at_1 21 rfl rfl)
theorem dX3_at_44 : decode cX3_at 44 = .ok (.ireturn, 1) := dk_172 (dk_at dksX3_at_1 22 rfl rfl)
abbrev cX3_of : ByteArray := prog_9_method_34_code
def yX3_of : MethodName := ⟨RX3, "of", "(II)I"⟩
def dkwX3_of_1 : List UInt8 := [28, 182, 0, 95, 167, 0, 4, 2, 172]
abbrev dktX3_of_1 : List UInt8 := dkwX3_of_1 ++ []
def dkwX3_of_0 : List UInt8 := [42, 3, 181, 0, 63, 27, 184, 0, 71, 153, 0, 22, 28, 3, 16, 6, 184, 0, 67, 153, 0, 12, 42, 27]
abbrev dktX3_of_0 : List UInt8 := dkwX3_of_0 ++ dktX3_of_1
theorem dksX3_of_0 : cX3_of.data.toList.drop 0 = dktX3_of_0 := by decide +kernel
theorem dksX3_of_1 : cX3_of.data.toList.drop 24 = dktX3_of_1 := dk_seg dksX3_of_0 24 rfl rfl
theorem dX3_of_0 : decode cX3_of 0 = .ok (.aload_n 0, 1) := dk_42 (dk_at dksX3_of_0 0 rfl rfl)
theorem dX3_of_1 : decode cX3_of 1 = .ok (.iconst 0, 1) := dk_3 (dk_at dksX3_of_0 1 rfl rfl)
theorem dX3_of_2 : decode cX3_of 2 = .ok (.putfield 63, 3) := dk_181 0 63 (dk_at dksX3_of_0 2 rfl rfl)
theorem dX3_of_5 : decode cX3_of 5 = .ok (.iload_n 1, 1) := dk_27 (dk_at dksX3_of_0 5 rfl rfl)
theorem dX3_of_6 : decode cX3_of 6 = .ok (.invokestatic 71, 3) := dk_184 0 71 (dk_at dksX3_of_0 6 rfl rfl)
theorem dX3_of_9 : decode cX3_of 9 = .ok (.ifCond .eq 22, 3) := dk_153 0 22 (dk_at dksX3_of_0 9 rfl rfl)
theorem dX3_of_12 : decode cX3_of 12 = .ok (.iload_n 2, 1) := dk_28 (dk_at dksX3_of_0 12 rfl rfl)
theorem dX3_of_13 : decode cX3_of 13 = .ok (.iconst 0, 1) := dk_3 (dk_at dksX3_of_0 13 rfl rfl)
theorem dX3_of_14 : decode cX3_of 14 = .ok (.bipush 6, 2) := dk_16 6 (dk_at dksX3_of_0 14 rfl rfl)
theorem dX3_of_16 : decode cX3_of 16 = .ok (.invokestatic 67, 3) := dk_184 0 67 (dk_at dksX3_of_0 16 rfl rfl)
theorem dX3_of_19 : decode cX3_of 19 = .ok (.ifCond .eq 12, 3) := dk_153 0 12 (dk_at dksX3_of_0 19 rfl rfl)
theorem dX3_of_22 : decode cX3_of 22 = .ok (.aload_n 0, 1) := dk_42 (dk_at dksX3_of_0 22 rfl rfl)
theorem dX3_of_23 : decode cX3_of 23 = .ok (.iload_n 1, 1) := dk_27 (dk_at dksX3_of_0 23 rfl rfl)
theorem dX3_of_24 : decode cX3_of 24 = .ok (.iload_n 2, 1) := dk_28 (dk_at dksX3_of_1 0 rfl rfl)
theorem dX3_of_25 : decode cX3_of 25 = .ok (.invokevirtual 95, 3) := dk_182 0 95 (dk_at dksX3_of_1 1 rfl rfl)
theorem dX3_of_28 : decode cX3_of 28 = .ok (.goto 4, 3) := dk_167 0 4 (dk_at dksX3_of_1 4 rfl rfl)
theorem dX3_of_31 : decode cX3_of 31 = .ok (.iconst (-1), 1) := dk_2 (dk_at dksX3_of_1 7 rfl rfl)
theorem dX3_of_32 : decode cX3_of 32 = .ok (.ireturn, 1) := dk_172 (dk_at dksX3_of_1 8 rfl rfl)
abbrev cX3_count : ByteArray := prog_9_method_35_code
def yX3_count : MethodName := ⟨RX3, "count", "(I)I"⟩
def dkwX3_count_4 : List UInt8 := [180, 0, 26, 8, 46, 172, 2, 172]
abbrev dktX3_count_4 : List UInt8 := dkwX3_count_4 ++ []
def dkwX3_count_3 : List UInt8 := [180, 0, 26, 6, 46, 172, 42, 180, 0, 26, 7, 46, 172, 42, 180, 0, 132, 172, 42, 180, 0, 135, 172, 42]
abbrev dktX3_count_3 : List UInt8 := dkwX3_count_3 ++ dktX3_count_4
def dkwX3_count_2 : List UInt8 := [42, 180, 0, 26, 3, 46, 172, 42, 180, 0, 26, 4, 46, 172, 42, 180, 0, 26, 5, 46, 172, 42]
abbrev dktX3_count_2 : List UInt8 := dkwX3_count_2 ++ dktX3_count_3
def dkwX3_count_1 : List UInt8 := [170, 0, 0, 0, 0, 98, 0, 0, 0, 0, 0, 0, 0, 7, 0, 0, 0, 46, 0, 0, 0, 53, 0, 0, 0, 60, 0, 0, 0, 67, 0, 0, 0, 74, 0, 0, 0, 81, 0, 0, 0, 86, 0, 0, 0, 91]
abbrev dktX3_count_1 : List UInt8 := dkwX3_count_1 ++ dktX3_count_2
def dkwX3_count_0 : List UInt8 := [42, 3, 181, 0, 63, 27]
abbrev dktX3_count_0 : List UInt8 := dkwX3_count_0 ++ dktX3_count_1
theorem dksX3_count_0 : cX3_count.data.toList.drop 0 = dktX3_count_0 := by decide +kernel
theorem dksX3_count_1 : cX3_count.data.toList.drop 6 = dktX3_count_1 := dk_seg dksX3_count_0 6 rfl rfl
theorem dksX3_count_2 : cX3_count.data.toList.drop 52 = dktX3_count_2 := dk_seg dksX3_count_1 46 rfl rfl
theorem dksX3_count_3 : cX3_count.data.toList.drop 74 = dktX3_count_3 := dk_seg dksX3_count_2 22 rfl rfl
theorem dksX3_count_4 : cX3_count.data.toList.drop 98 = dktX3_count_4 := dk_seg dksX3_count_3 24 rfl rfl
theorem dX3_count_0 : decode cX3_count 0 = .ok (.aload_n 0, 1) := dk_42 (dk_at dksX3_count_0 0 rfl rfl)
theorem dX3_count_1 : decode cX3_count 1 = .ok (.iconst 0, 1) := dk_3 (dk_at dksX3_count_0 1 rfl rfl)
theorem dX3_count_2 : decode cX3_count 2 = .ok (.putfield 63, 3) := dk_181 0 63 (dk_at dksX3_count_0 2 rfl rfl)
theorem dX3_count_5 : decode cX3_count 5 = .ok (.iload_n 1, 1) := dk_27 (dk_at dksX3_count_0 5 rfl rfl)
theorem dX3_count_6 : decode cX3_count 6 = .ok (.tableswitch 98 0 7 #[46, 53, 60, 67, 74, 81, 86, 91], 46) := by decide +kernel
theorem dX3_count_52 : decode cX3_count 52 = .ok (.aload_n 0, 1) := dk_42 (dk_at dksX3_count_2 0 rfl rfl)
theorem dX3_count_53 : decode cX3_count 53 = .ok (.getfield 26, 3) := dk_180 0 26 (dk_at dksX3_count_2 1 rfl rfl)
theorem dX3_count_56 : decode cX3_count 56 = .ok (.iconst 0, 1) := dk_3 (dk_at dksX3_count_2 4 rfl rfl)
theorem dX3_count_57 : decode cX3_count 57 = .ok (.iaload, 1) := dk_46 (dk_at dksX3_count_2 5 rfl rfl)
theorem dX3_count_58 : decode cX3_count 58 = .ok (.ireturn, 1) := dk_172 (dk_at dksX3_count_2 6 rfl rfl)
theorem dX3_count_59 : decode cX3_count 59 = .ok (.aload_n 0, 1) := dk_42 (dk_at dksX3_count_2 7 rfl rfl)
theorem dX3_count_60 : decode cX3_count 60 = .ok (.getfield 26, 3) := dk_180 0 26 (dk_at dksX3_count_2 8 rfl rfl)
theorem dX3_count_63 : decode cX3_count 63 = .ok (.iconst 1, 1) := dk_4 (dk_at dksX3_count_2 11 rfl rfl)
theorem dX3_count_64 : decode cX3_count 64 = .ok (.iaload, 1) := dk_46 (dk_at dksX3_count_2 12 rfl rfl)
theorem dX3_count_65 : decode cX3_count 65 = .ok (.ireturn, 1) := dk_172 (dk_at dksX3_count_2 13 rfl rfl)
theorem dX3_count_66 : decode cX3_count 66 = .ok (.aload_n 0, 1) := dk_42 (dk_at dksX3_count_2 14 rfl rfl)
theorem dX3_count_67 : decode cX3_count 67 = .ok (.getfield 26, 3) := dk_180 0 26 (dk_at dksX3_count_2 15 rfl rfl)
theorem dX3_count_70 : decode cX3_count 70 = .ok (.iconst 2, 1) := dk_5 (dk_at dksX3_count_2 18 rfl rfl)
theorem dX3_count_71 : decode cX3_count 71 = .ok (.iaload, 1) := dk_46 (dk_at dksX3_count_2 19 rfl rfl)
theorem dX3_count_72 : decode cX3_count 72 = .ok (.ireturn, 1) := dk_172 (dk_at dksX3_count_2 20 rfl rfl)
theorem dX3_count_73 : decode cX3_count 73 = .ok (.aload_n 0, 1) := dk_42 (dk_at dksX3_count_2 21 rfl rfl)
theorem dX3_count_74 : decode cX3_count 74 = .ok (.getfield 26, 3) := dk_180 0 26 (dk_at dksX3_count_3 0 rfl rfl)
theorem dX3_count_77 : decode cX3_count 77 = .ok (.iconst 3, 1) := dk_6 (dk_at dksX3_count_3 3 rfl rfl)
theorem dX3_count_78 : decode cX3_count 78 = .ok (.iaload, 1) := dk_46 (dk_at dksX3_count_3 4 rfl rfl)
theorem dX3_count_79 : decode cX3_count 79 = .ok (.ireturn, 1) := dk_172 (dk_at dksX3_count_3 5 rfl rfl)
theorem dX3_count_80 : decode cX3_count 80 = .ok (.aload_n 0, 1) := dk_42 (dk_at dksX3_count_3 6 rfl rfl)
theorem dX3_count_81 : decode cX3_count 81 = .ok (.getfield 26, 3) := dk_180 0 26 (dk_at dksX3_count_3 7 rfl rfl)
theorem dX3_count_84 : decode cX3_count 84 = .ok (.iconst 4, 1) := dk_7 (dk_at dksX3_count_3 10 rfl rfl)
theorem dX3_count_85 : decode cX3_count 85 = .ok (.iaload, 1) := dk_46 (dk_at dksX3_count_3 11 rfl rfl)
theorem dX3_count_86 : decode cX3_count 86 = .ok (.ireturn, 1) := dk_172 (dk_at dksX3_count_3 12 rfl rfl)
theorem dX3_count_87 : decode cX3_count 87 = .ok (.aload_n 0, 1) := dk_42 (dk_at dksX3_count_3 13 rfl rfl)
theorem dX3_count_88 : decode cX3_count 88 = .ok (.getfield 132, 3) := dk_180 0 132 (dk_at dksX3_count_3 14 rfl rfl)
theorem dX3_count_91 : decode cX3_count 91 = .ok (.ireturn, 1) := dk_172 (dk_at dksX3_count_3 17 rfl rfl)
theorem dX3_count_92 : decode cX3_count 92 = .ok (.aload_n 0, 1) := dk_42 (dk_at dksX3_count_3 18 rfl rfl)
theorem dX3_count_93 : decode cX3_count 93 = .ok (.getfield 135, 3) := dk_180 0 135 (dk_at dksX3_count_3 19 rfl rfl)
theorem dX3_count_96 : decode cX3_count 96 = .ok (.ireturn, 1) := dk_172 (dk_at dksX3_count_3 22 rfl rfl)
theorem dX3_count_97 : decode cX3_count 97 = .ok (.aload_n 0, 1) := dk_42 (dk_at dksX3_count_3 23 rfl rfl)
theorem dX3_count_98 : decode cX3_count 98 = .ok (.getfield 26, 3) := dk_180 0 26 (dk_at dksX3_count_4 0 rfl rfl)
theorem dX3_count_101 : decode cX3_count 101 = .ok (.iconst 5, 1) := dk_8 (dk_at dksX3_count_4 3 rfl rfl)
theorem dX3_count_102 : decode cX3_count 102 = .ok (.iaload, 1) := dk_46 (dk_at dksX3_count_4 4 rfl rfl)
theorem dX3_count_103 : decode cX3_count 103 = .ok (.ireturn, 1) := dk_172 (dk_at dksX3_count_4 5 rfl rfl)
theorem dX3_count_104 : decode cX3_count 104 = .ok (.iconst (-1), 1) := dk_2 (dk_at dksX3_count_4 6 rfl rfl)
theorem dX3_count_105 : decode cX3_count 105 = .ok (.ireturn, 1) := dk_172 (dk_at dksX3_count_4 7 rfl rfl)
abbrev cX3_served : ByteArray := prog_9_method_36_code
def yX3_served : MethodName := ⟨RX3, "served", "(II)I"⟩
def dkwX3_served_1 : List UInt8 := [96, 182, 0, 95, 167, 0, 4, 2, 172]
abbrev dktX3_served_1 : List UInt8 := dkwX3_served_1 ++ []
def dkwX3_served_0 : List UInt8 := [42, 3, 181, 0, 63, 27, 184, 0, 71, 153, 0, 22, 28, 184, 0, 75, 153, 0, 15, 42, 27, 16, 38, 28]
abbrev dktX3_served_0 : List UInt8 := dkwX3_served_0 ++ dktX3_served_1
theorem dksX3_served_0 : cX3_served.data.toList.drop 0 = dktX3_served_0 := by decide +kernel
theorem dksX3_served_1 : cX3_served.data.toList.drop 24 = dktX3_served_1 := dk_seg dksX3_served_0 24 rfl rfl
theorem dX3_served_0 : decode cX3_served 0 = .ok (.aload_n 0, 1) := dk_42 (dk_at dksX3_served_0 0 rfl rfl)
theorem dX3_served_1 : decode cX3_served 1 = .ok (.iconst 0, 1) := dk_3 (dk_at dksX3_served_0 1 rfl rfl)
theorem dX3_served_2 : decode cX3_served 2 = .ok (.putfield 63, 3) := dk_181 0 63 (dk_at dksX3_served_0 2 rfl rfl)
theorem dX3_served_5 : decode cX3_served 5 = .ok (.iload_n 1, 1) := dk_27 (dk_at dksX3_served_0 5 rfl rfl)
theorem dX3_served_6 : decode cX3_served 6 = .ok (.invokestatic 71, 3) := dk_184 0 71 (dk_at dksX3_served_0 6 rfl rfl)
theorem dX3_served_9 : decode cX3_served 9 = .ok (.ifCond .eq 22, 3) := dk_153 0 22 (dk_at dksX3_served_0 9 rfl rfl)
theorem dX3_served_12 : decode cX3_served 12 = .ok (.iload_n 2, 1) := dk_28 (dk_at dksX3_served_0 12 rfl rfl)
theorem dX3_served_13 : decode cX3_served 13 = .ok (.invokestatic 75, 3) := dk_184 0 75 (dk_at dksX3_served_0 13 rfl rfl)
theorem dX3_served_16 : decode cX3_served 16 = .ok (.ifCond .eq 15, 3) := dk_153 0 15 (dk_at dksX3_served_0 16 rfl rfl)
theorem dX3_served_19 : decode cX3_served 19 = .ok (.aload_n 0, 1) := dk_42 (dk_at dksX3_served_0 19 rfl rfl)
theorem dX3_served_20 : decode cX3_served 20 = .ok (.iload_n 1, 1) := dk_27 (dk_at dksX3_served_0 20 rfl rfl)
theorem dX3_served_21 : decode cX3_served 21 = .ok (.bipush 38, 2) := dk_16 38 (dk_at dksX3_served_0 21 rfl rfl)
theorem dX3_served_23 : decode cX3_served 23 = .ok (.iload_n 2, 1) := dk_28 (dk_at dksX3_served_0 23 rfl rfl)
theorem dX3_served_24 : decode cX3_served 24 = .ok (.iadd, 1) := dk_96 (dk_at dksX3_served_1 0 rfl rfl)
theorem dX3_served_25 : decode cX3_served 25 = .ok (.invokevirtual 95, 3) := dk_182 0 95 (dk_at dksX3_served_1 1 rfl rfl)
theorem dX3_served_28 : decode cX3_served 28 = .ok (.goto 4, 3) := dk_167 0 4 (dk_at dksX3_served_1 4 rfl rfl)
theorem dX3_served_31 : decode cX3_served 31 = .ok (.iconst (-1), 1) := dk_2 (dk_at dksX3_served_1 7 rfl rfl)
theorem dX3_served_32 : decode cX3_served 32 = .ok (.ireturn, 1) := dk_172 (dk_at dksX3_served_1 8 rfl rfl)
abbrev cX3_feet : ByteArray := prog_9_method_37_code
def yX3_feet : MethodName := ⟨RX3, "feet", "(IIII)Z"⟩
def dkwX3_feet_3 : List UInt8 := [16, 6, 27, 104, 28, 96, 21, 4, 79, 4, 172]
abbrev dktX3_feet_3 : List UInt8 := dkwX3_feet_3 ++ []
def dkwX3_feet_2 : List UInt8 := [182, 0, 82, 154, 0, 5, 3, 172, 42, 180, 0, 32, 16, 6, 27, 104, 28, 96, 29, 79, 42, 180, 0, 35]
abbrev dktX3_feet_2 : List UInt8 := dkwX3_feet_2 ++ dktX3_feet_3
def dkwX3_feet_1 : List UInt8 := [17, 3, 231, 184, 0, 67, 153, 0, 22, 21, 4, 3, 17, 3, 231, 184, 0, 67, 153, 0, 10, 42]
abbrev dktX3_feet_1 : List UInt8 := dkwX3_feet_1 ++ dktX3_feet_2
def dkwX3_feet_0 : List UInt8 := [42, 3, 181, 0, 63, 27, 184, 0, 71, 153, 0, 42, 28, 3, 8, 184, 0, 67, 153, 0, 33, 29, 3]
abbrev dktX3_feet_0 : List UInt8 := dkwX3_feet_0 ++ dktX3_feet_1
theorem dksX3_feet_0 : cX3_feet.data.toList.drop 0 = dktX3_feet_0 := by decide +kernel
theorem dksX3_feet_1 : cX3_feet.data.toList.drop 23 = dktX3_feet_1 := dk_seg dksX3_feet_0 23 rfl rfl
theorem dksX3_feet_2 : cX3_feet.data.toList.drop 45 = dktX3_feet_2 := dk_seg dksX3_feet_1 22 rfl rfl
theorem dksX3_feet_3 : cX3_feet.data.toList.drop 69 = dktX3_feet_3 := dk_seg dksX3_feet_2 24 rfl rfl
theorem dX3_feet_0 : decode cX3_feet 0 = .ok (.aload_n 0, 1) := dk_42 (dk_at dksX3_feet_0 0 rfl rfl)
theorem dX3_feet_1 : decode cX3_feet 1 = .ok (.iconst 0, 1) := dk_3 (dk_at dksX3_feet_0 1 rfl rfl)
theorem dX3_feet_2 : decode cX3_feet 2 = .ok (.putfield 63, 3) := dk_181 0 63 (dk_at dksX3_feet_0 2 rfl rfl)
theorem dX3_feet_5 : decode cX3_feet 5 = .ok (.iload_n 1, 1) := dk_27 (dk_at dksX3_feet_0 5 rfl rfl)
theorem dX3_feet_6 : decode cX3_feet 6 = .ok (.invokestatic 71, 3) := dk_184 0 71 (dk_at dksX3_feet_0 6 rfl rfl)
theorem dX3_feet_9 : decode cX3_feet 9 = .ok (.ifCond .eq 42, 3) := dk_153 0 42 (dk_at dksX3_feet_0 9 rfl rfl)
theorem dX3_feet_12 : decode cX3_feet 12 = .ok (.iload_n 2, 1) := dk_28 (dk_at dksX3_feet_0 12 rfl rfl)
theorem dX3_feet_13 : decode cX3_feet 13 = .ok (.iconst 0, 1) := dk_3 (dk_at dksX3_feet_0 13 rfl rfl)
theorem dX3_feet_14 : decode cX3_feet 14 = .ok (.iconst 5, 1) := dk_8 (dk_at dksX3_feet_0 14 rfl rfl)
theorem dX3_feet_15 : decode cX3_feet 15 = .ok (.invokestatic 67, 3) := dk_184 0 67 (dk_at dksX3_feet_0 15 rfl rfl)
theorem dX3_feet_18 : decode cX3_feet 18 = .ok (.ifCond .eq 33, 3) := dk_153 0 33 (dk_at dksX3_feet_0 18 rfl rfl)
theorem dX3_feet_21 : decode cX3_feet 21 = .ok (.iload_n 3, 1) := dk_29 (dk_at dksX3_feet_0 21 rfl rfl)
theorem dX3_feet_22 : decode cX3_feet 22 = .ok (.iconst 0, 1) := dk_3 (dk_at dksX3_feet_0 22 rfl rfl)
theorem dX3_feet_23 : decode cX3_feet 23 = .ok (.sipush 999, 3) := dk_17 3 231 (dk_at dksX3_feet_1 0 rfl rfl)
theorem dX3_feet_26 : decode cX3_feet 26 = .ok (.invokestatic 67, 3) := dk_184 0 67 (dk_at dksX3_feet_1 3 rfl rfl)
theorem dX3_feet_29 : decode cX3_feet 29 = .ok (.ifCond .eq 22, 3) := dk_153 0 22 (dk_at dksX3_feet_1 6 rfl rfl)
theorem dX3_feet_32 : decode cX3_feet 32 = .ok (.iload 4, 2) := dk_21 4 (dk_at dksX3_feet_1 9 rfl rfl)
theorem dX3_feet_34 : decode cX3_feet 34 = .ok (.iconst 0, 1) := dk_3 (dk_at dksX3_feet_1 11 rfl rfl)
theorem dX3_feet_35 : decode cX3_feet 35 = .ok (.sipush 999, 3) := dk_17 3 231 (dk_at dksX3_feet_1 12 rfl rfl)
theorem dX3_feet_38 : decode cX3_feet 38 = .ok (.invokestatic 67, 3) := dk_184 0 67 (dk_at dksX3_feet_1 15 rfl rfl)
theorem dX3_feet_41 : decode cX3_feet 41 = .ok (.ifCond .eq 10, 3) := dk_153 0 10 (dk_at dksX3_feet_1 18 rfl rfl)
theorem dX3_feet_44 : decode cX3_feet 44 = .ok (.aload_n 0, 1) := dk_42 (dk_at dksX3_feet_1 21 rfl rfl)
theorem dX3_feet_45 : decode cX3_feet 45 = .ok (.invokevirtual 82, 3) := dk_182 0 82 (dk_at dksX3_feet_2 0 rfl rfl)
theorem dX3_feet_48 : decode cX3_feet 48 = .ok (.ifCond .ne 5, 3) := dk_154 0 5 (dk_at dksX3_feet_2 3 rfl rfl)
theorem dX3_feet_51 : decode cX3_feet 51 = .ok (.iconst 0, 1) := dk_3 (dk_at dksX3_feet_2 6 rfl rfl)
theorem dX3_feet_52 : decode cX3_feet 52 = .ok (.ireturn, 1) := dk_172 (dk_at dksX3_feet_2 7 rfl rfl)
theorem dX3_feet_53 : decode cX3_feet 53 = .ok (.aload_n 0, 1) := dk_42 (dk_at dksX3_feet_2 8 rfl rfl)
theorem dX3_feet_54 : decode cX3_feet 54 = .ok (.getfield 32, 3) := dk_180 0 32 (dk_at dksX3_feet_2 9 rfl rfl)
theorem dX3_feet_57 : decode cX3_feet 57 = .ok (.bipush 6, 2) := dk_16 6 (dk_at dksX3_feet_2 12 rfl rfl)
theorem dX3_feet_59 : decode cX3_feet 59 = .ok (.iload_n 1, 1) := dk_27 (dk_at dksX3_feet_2 14 rfl rfl)
theorem dX3_feet_60 : decode cX3_feet 60 = .ok (.imul, 1) := dk_104 (dk_at dksX3_feet_2 15 rfl rfl)
theorem dX3_feet_61 : decode cX3_feet 61 = .ok (.iload_n 2, 1) := dk_28 (dk_at dksX3_feet_2 16 rfl rfl)
theorem dX3_feet_62 : decode cX3_feet 62 = .ok (.iadd, 1) := dk_96 (dk_at dksX3_feet_2 17 rfl rfl)
theorem dX3_feet_63 : decode cX3_feet 63 = .ok (.iload_n 3, 1) := dk_29 (dk_at dksX3_feet_2 18 rfl rfl)
theorem dX3_feet_64 : decode cX3_feet 64 = .ok (.iastore, 1) := dk_79 (dk_at dksX3_feet_2 19 rfl rfl)
theorem dX3_feet_65 : decode cX3_feet 65 = .ok (.aload_n 0, 1) := dk_42 (dk_at dksX3_feet_2 20 rfl rfl)
theorem dX3_feet_66 : decode cX3_feet 66 = .ok (.getfield 35, 3) := dk_180 0 35 (dk_at dksX3_feet_2 21 rfl rfl)
theorem dX3_feet_69 : decode cX3_feet 69 = .ok (.bipush 6, 2) := dk_16 6 (dk_at dksX3_feet_3 0 rfl rfl)
theorem dX3_feet_71 : decode cX3_feet 71 = .ok (.iload_n 1, 1) := dk_27 (dk_at dksX3_feet_3 2 rfl rfl)
theorem dX3_feet_72 : decode cX3_feet 72 = .ok (.imul, 1) := dk_104 (dk_at dksX3_feet_3 3 rfl rfl)
theorem dX3_feet_73 : decode cX3_feet 73 = .ok (.iload_n 2, 1) := dk_28 (dk_at dksX3_feet_3 4 rfl rfl)
theorem dX3_feet_74 : decode cX3_feet 74 = .ok (.iadd, 1) := dk_96 (dk_at dksX3_feet_3 5 rfl rfl)
theorem dX3_feet_75 : decode cX3_feet 75 = .ok (.iload 4, 2) := dk_21 4 (dk_at dksX3_feet_3 6 rfl rfl)
theorem dX3_feet_77 : decode cX3_feet 77 = .ok (.iastore, 1) := dk_79 (dk_at dksX3_feet_3 8 rfl rfl)
theorem dX3_feet_78 : decode cX3_feet 78 = .ok (.iconst 1, 1) := dk_4 (dk_at dksX3_feet_3 9 rfl rfl)
theorem dX3_feet_79 : decode cX3_feet 79 = .ok (.ireturn, 1) := dk_172 (dk_at dksX3_feet_3 10 rfl rfl)
abbrev cX3_overlap : ByteArray := prog_9_method_38_code
def yX3_overlap : MethodName := ⟨RX3, "overlap", "(I)I"⟩
def dkwX3_overlap_4 : List UInt8 := [172, 132, 2, 1, 167, 255, 180, 16, 254, 172]
abbrev dktX3_overlap_4 : List UInt8 := dkwX3_overlap_4 ++ []
def dkwX3_overlap_3 : List UInt8 := [104, 178, 0, 141, 28, 46, 96, 46, 45, 16, 6, 27, 104, 178, 0, 138, 28, 46, 96, 46, 161, 0, 5, 28]
abbrev dktX3_overlap_3 : List UInt8 := dkwX3_overlap_3 ++ dktX3_overlap_4
def dkwX3_overlap_2 : List UInt8 := [167, 0, 49, 28, 6, 162, 0, 10, 42, 180, 0, 35, 167, 0, 7, 42, 180, 0, 32, 78, 45, 16, 6, 27]
abbrev dktX3_overlap_2 : List UInt8 := dkwX3_overlap_2 ++ dktX3_overlap_3
def dkwX3_overlap_1 : List UInt8 := [16, 7, 162, 0, 76, 178, 0, 138, 28, 46, 154, 0, 16, 42, 180, 0, 26, 5, 46, 27, 160, 0, 6]
abbrev dktX3_overlap_1 : List UInt8 := dkwX3_overlap_1 ++ dktX3_overlap_2
def dkwX3_overlap_0 : List UInt8 := [42, 3, 181, 0, 63, 27, 184, 0, 71, 153, 0, 10, 42, 182, 0, 82, 154, 0, 5, 2, 172, 3, 61, 28]
abbrev dktX3_overlap_0 : List UInt8 := dkwX3_overlap_0 ++ dktX3_overlap_1
theorem dksX3_overlap_0 : cX3_overlap.data.toList.drop 0 = dktX3_overlap_0 := by decide +kernel
theorem dksX3_overlap_1 : cX3_overlap.data.toList.drop 24 = dktX3_overlap_1 := dk_seg dksX3_overlap_0 24 rfl rfl
theorem dksX3_overlap_2 : cX3_overlap.data.toList.drop 47 = dktX3_overlap_2 := dk_seg dksX3_overlap_1 23 rfl rfl
theorem dksX3_overlap_3 : cX3_overlap.data.toList.drop 71 = dktX3_overlap_3 := dk_seg dksX3_overlap_2 24 rfl rfl
theorem dksX3_overlap_4 : cX3_overlap.data.toList.drop 95 = dktX3_overlap_4 := dk_seg dksX3_overlap_3 24 rfl rfl
theorem dX3_overlap_0 : decode cX3_overlap 0 = .ok (.aload_n 0, 1) := dk_42 (dk_at dksX3_overlap_0 0 rfl rfl)
theorem dX3_overlap_1 : decode cX3_overlap 1 = .ok (.iconst 0, 1) := dk_3 (dk_at dksX3_overlap_0 1 rfl rfl)
theorem dX3_overlap_2 : decode cX3_overlap 2 = .ok (.putfield 63, 3) := dk_181 0 63 (dk_at dksX3_overlap_0 2 rfl rfl)
theorem dX3_overlap_5 : decode cX3_overlap 5 = .ok (.iload_n 1, 1) := dk_27 (dk_at dksX3_overlap_0 5 rfl rfl)
theorem dX3_overlap_6 : decode cX3_overlap 6 = .ok (.invokestatic 71, 3) := dk_184 0 71 (dk_at dksX3_overlap_0 6 rfl rfl)
theorem dX3_overlap_9 : decode cX3_overlap 9 = .ok (.ifCond .eq 10, 3) := dk_153 0 10 (dk_at dksX3_overlap_0 9 rfl rfl)
theorem dX3_overlap_12 : decode cX3_overlap 12 = .ok (.aload_n 0, 1) := dk_42 (dk_at dksX3_overlap_0 12 rfl rfl)
theorem dX3_overlap_13 : decode cX3_overlap 13 = .ok (.invokevirtual 82, 3) := dk_182 0 82 (dk_at dksX3_overlap_0 13 rfl rfl)
theorem dX3_overlap_16 : decode cX3_overlap 16 = .ok (.ifCond .ne 5, 3) := dk_154 0 5 (dk_at dksX3_overlap_0 16 rfl rfl)
theorem dX3_overlap_19 : decode cX3_overlap 19 = .ok (.iconst (-1), 1) := dk_2 (dk_at dksX3_overlap_0 19 rfl rfl)
theorem dX3_overlap_20 : decode cX3_overlap 20 = .ok (.ireturn, 1) := dk_172 (dk_at dksX3_overlap_0 20 rfl rfl)
theorem dX3_overlap_21 : decode cX3_overlap 21 = .ok (.iconst 0, 1) := dk_3 (dk_at dksX3_overlap_0 21 rfl rfl)
theorem dX3_overlap_22 : decode cX3_overlap 22 = .ok (.istore_n 2, 1) := dk_61 (dk_at dksX3_overlap_0 22 rfl rfl)
theorem dX3_overlap_23 : decode cX3_overlap 23 = .ok (.iload_n 2, 1) := dk_28 (dk_at dksX3_overlap_0 23 rfl rfl)
theorem dX3_overlap_24 : decode cX3_overlap 24 = .ok (.bipush 7, 2) := dk_16 7 (dk_at dksX3_overlap_1 0 rfl rfl)
theorem dX3_overlap_26 : decode cX3_overlap 26 = .ok (.if_icmp .ge 76, 3) := dk_162 0 76 (dk_at dksX3_overlap_1 2 rfl rfl)
theorem dX3_overlap_29 : decode cX3_overlap 29 = .ok (.getstatic 138, 3) := dk_178 0 138 (dk_at dksX3_overlap_1 5 rfl rfl)
theorem dX3_overlap_32 : decode cX3_overlap 32 = .ok (.iload_n 2, 1) := dk_28 (dk_at dksX3_overlap_1 8 rfl rfl)
theorem dX3_overlap_33 : decode cX3_overlap 33 = .ok (.iaload, 1) := dk_46 (dk_at dksX3_overlap_1 9 rfl rfl)
theorem dX3_overlap_34 : decode cX3_overlap 34 = .ok (.ifCond .ne 16, 3) := dk_154 0 16 (dk_at dksX3_overlap_1 10 rfl rfl)
theorem dX3_overlap_37 : decode cX3_overlap 37 = .ok (.aload_n 0, 1) := dk_42 (dk_at dksX3_overlap_1 13 rfl rfl)
theorem dX3_overlap_38 : decode cX3_overlap 38 = .ok (.getfield 26, 3) := dk_180 0 26 (dk_at dksX3_overlap_1 14 rfl rfl)
theorem dX3_overlap_41 : decode cX3_overlap 41 = .ok (.iconst 2, 1) := dk_5 (dk_at dksX3_overlap_1 17 rfl rfl)
theorem dX3_overlap_42 : decode cX3_overlap 42 = .ok (.iaload, 1) := dk_46 (dk_at dksX3_overlap_1 18 rfl rfl)
theorem dX3_overlap_43 : decode cX3_overlap 43 = .ok (.iload_n 1, 1) := dk_27 (dk_at dksX3_overlap_1 19 rfl rfl)
theorem dX3_overlap_44 : decode cX3_overlap 44 = .ok (.if_icmp .ne 6, 3) := dk_160 0 6 (dk_at dksX3_overlap_1 20 rfl rfl)
theorem dX3_overlap_47 : decode cX3_overlap 47 = .ok (.goto 49, 3) := dk_167 0 49 (dk_at dksX3_overlap_2 0 rfl rfl)
theorem dX3_overlap_50 : decode cX3_overlap 50 = .ok (.iload_n 2, 1) := dk_28 (dk_at dksX3_overlap_2 3 rfl rfl)
theorem dX3_overlap_51 : decode cX3_overlap 51 = .ok (.iconst 3, 1) := dk_6 (dk_at dksX3_overlap_2 4 rfl rfl)
theorem dX3_overlap_52 : decode cX3_overlap 52 = .ok (.if_icmp .ge 10, 3) := dk_162 0 10 (dk_at dksX3_overlap_2 5 rfl rfl)
theorem dX3_overlap_55 : decode cX3_overlap 55 = .ok (.aload_n 0, 1) := dk_42 (dk_at dksX3_overlap_2 8 rfl rfl)
theorem dX3_overlap_56 : decode cX3_overlap 56 = .ok (.getfield 35, 3) := dk_180 0 35 (dk_at dksX3_overlap_2 9 rfl rfl)
theorem dX3_overlap_59 : decode cX3_overlap 59 = .ok (.goto 7, 3) := dk_167 0 7 (dk_at dksX3_overlap_2 12 rfl rfl)
theorem dX3_overlap_62 : decode cX3_overlap 62 = .ok (.aload_n 0, 1) := dk_42 (dk_at dksX3_overlap_2 15 rfl rfl)
theorem dX3_overlap_63 : decode cX3_overlap 63 = .ok (.getfield 32, 3) := dk_180 0 32 (dk_at dksX3_overlap_2 16 rfl rfl)
theorem dX3_overlap_66 : decode cX3_overlap 66 = .ok (.astore_n 3, 1) := dk_78 (dk_at dksX3_overlap_2 19 rfl rfl)
theorem dX3_overlap_67 : decode cX3_overlap 67 = .ok (.aload_n 3, 1) := dk_45 (dk_at dksX3_overlap_2 20 rfl rfl)
theorem dX3_overlap_68 : decode cX3_overlap 68 = .ok (.bipush 6, 2) := dk_16 6 (dk_at dksX3_overlap_2 21 rfl rfl)
theorem dX3_overlap_70 : decode cX3_overlap 70 = .ok (.iload_n 1, 1) := dk_27 (dk_at dksX3_overlap_2 23 rfl rfl)
theorem dX3_overlap_71 : decode cX3_overlap 71 = .ok (.imul, 1) := dk_104 (dk_at dksX3_overlap_3 0 rfl rfl)
theorem dX3_overlap_72 : decode cX3_overlap 72 = .ok (.getstatic 141, 3) := dk_178 0 141 (dk_at dksX3_overlap_3 1 rfl rfl)
theorem dX3_overlap_75 : decode cX3_overlap 75 = .ok (.iload_n 2, 1) := dk_28 (dk_at dksX3_overlap_3 4 rfl rfl)
theorem dX3_overlap_76 : decode cX3_overlap 76 = .ok (.iaload, 1) := dk_46 (dk_at dksX3_overlap_3 5 rfl rfl)
theorem dX3_overlap_77 : decode cX3_overlap 77 = .ok (.iadd, 1) := dk_96 (dk_at dksX3_overlap_3 6 rfl rfl)
theorem dX3_overlap_78 : decode cX3_overlap 78 = .ok (.iaload, 1) := dk_46 (dk_at dksX3_overlap_3 7 rfl rfl)
theorem dX3_overlap_79 : decode cX3_overlap 79 = .ok (.aload_n 3, 1) := dk_45 (dk_at dksX3_overlap_3 8 rfl rfl)
theorem dX3_overlap_80 : decode cX3_overlap 80 = .ok (.bipush 6, 2) := dk_16 6 (dk_at dksX3_overlap_3 9 rfl rfl)
theorem dX3_overlap_82 : decode cX3_overlap 82 = .ok (.iload_n 1, 1) := dk_27 (dk_at dksX3_overlap_3 11 rfl rfl)
theorem dX3_overlap_83 : decode cX3_overlap 83 = .ok (.imul, 1) := dk_104 (dk_at dksX3_overlap_3 12 rfl rfl)
theorem dX3_overlap_84 : decode cX3_overlap 84 = .ok (.getstatic 138, 3) := dk_178 0 138 (dk_at dksX3_overlap_3 13 rfl rfl)
theorem dX3_overlap_87 : decode cX3_overlap 87 = .ok (.iload_n 2, 1) := dk_28 (dk_at dksX3_overlap_3 16 rfl rfl)
theorem dX3_overlap_88 : decode cX3_overlap 88 = .ok (.iaload, 1) := dk_46 (dk_at dksX3_overlap_3 17 rfl rfl)
theorem dX3_overlap_89 : decode cX3_overlap 89 = .ok (.iadd, 1) := dk_96 (dk_at dksX3_overlap_3 18 rfl rfl)
theorem dX3_overlap_90 : decode cX3_overlap 90 = .ok (.iaload, 1) := dk_46 (dk_at dksX3_overlap_3 19 rfl rfl)
theorem dX3_overlap_91 : decode cX3_overlap 91 = .ok (.if_icmp .lt 5, 3) := dk_161 0 5 (dk_at dksX3_overlap_3 20 rfl rfl)
theorem dX3_overlap_94 : decode cX3_overlap 94 = .ok (.iload_n 2, 1) := dk_28 (dk_at dksX3_overlap_3 23 rfl rfl)
theorem dX3_overlap_95 : decode cX3_overlap 95 = .ok (.ireturn, 1) := dk_172 (dk_at dksX3_overlap_4 0 rfl rfl)
theorem dX3_overlap_96 : decode cX3_overlap 96 = .ok (.iinc 2 1, 3) := dk_132 2 1 (dk_at dksX3_overlap_4 1 rfl rfl)
theorem dX3_overlap_99 : decode cX3_overlap 99 = .ok (.goto (-76), 3) := dk_167 255 180 (dk_at dksX3_overlap_4 4 rfl rfl)
theorem dX3_overlap_102 : decode cX3_overlap 102 = .ok (.bipush (-2), 2) := dk_16 254 (dk_at dksX3_overlap_4 7 rfl rfl)
theorem dX3_overlap_104 : decode cX3_overlap 104 = .ok (.ireturn, 1) := dk_172 (dk_at dksX3_overlap_4 9 rfl rfl)
abbrev cX3_sign : ByteArray := prog_9_method_39_code
def yX3_sign : MethodName := ⟨RX3, "sign", "(I)I"⟩
def dkwX3_sign_2 : List UInt8 := [132, 2, 255, 167, 255, 226, 42, 180, 0, 135, 172]
abbrev dktX3_sign_2 : List UInt8 := dkwX3_sign_2 ++ []
def dkwX3_sign_1 : List UInt8 := [42, 180, 0, 38, 42, 89, 180, 0, 135, 90, 4, 96, 181, 0, 135, 27, 16, 8, 28, 104, 122, 145, 84]
abbrev dktX3_sign_1 : List UInt8 := dkwX3_sign_1 ++ dktX3_sign_2
def dkwX3_sign_0 : List UInt8 := [42, 3, 181, 0, 63, 42, 180, 0, 135, 7, 96, 16, 100, 164, 0, 5, 2, 172, 6, 61, 28, 155, 0, 32]
abbrev dktX3_sign_0 : List UInt8 := dkwX3_sign_0 ++ dktX3_sign_1
theorem dksX3_sign_0 : cX3_sign.data.toList.drop 0 = dktX3_sign_0 := by decide +kernel
theorem dksX3_sign_1 : cX3_sign.data.toList.drop 24 = dktX3_sign_1 := dk_seg dksX3_sign_0 24 rfl rfl
theorem dksX3_sign_2 : cX3_sign.data.toList.drop 47 = dktX3_sign_2 := dk_seg dksX3_sign_1 23 rfl rfl
theorem dX3_sign_0 : decode cX3_sign 0 = .ok (.aload_n 0, 1) := dk_42 (dk_at dksX3_sign_0 0 rfl rfl)
theorem dX3_sign_1 : decode cX3_sign 1 = .ok (.iconst 0, 1) := dk_3 (dk_at dksX3_sign_0 1 rfl rfl)
theorem dX3_sign_2 : decode cX3_sign 2 = .ok (.putfield 63, 3) := dk_181 0 63 (dk_at dksX3_sign_0 2 rfl rfl)
theorem dX3_sign_5 : decode cX3_sign 5 = .ok (.aload_n 0, 1) := dk_42 (dk_at dksX3_sign_0 5 rfl rfl)
theorem dX3_sign_6 : decode cX3_sign 6 = .ok (.getfield 135, 3) := dk_180 0 135 (dk_at dksX3_sign_0 6 rfl rfl)
theorem dX3_sign_9 : decode cX3_sign 9 = .ok (.iconst 4, 1) := dk_7 (dk_at dksX3_sign_0 9 rfl rfl)
theorem dX3_sign_10 : decode cX3_sign 10 = .ok (.iadd, 1) := dk_96 (dk_at dksX3_sign_0 10 rfl rfl)
theorem dX3_sign_11 : decode cX3_sign 11 = .ok (.bipush 100, 2) := dk_16 100 (dk_at dksX3_sign_0 11 rfl rfl)
theorem dX3_sign_13 : decode cX3_sign 13 = .ok (.if_icmp .le 5, 3) := dk_164 0 5 (dk_at dksX3_sign_0 13 rfl rfl)
theorem dX3_sign_16 : decode cX3_sign 16 = .ok (.iconst (-1), 1) := dk_2 (dk_at dksX3_sign_0 16 rfl rfl)
theorem dX3_sign_17 : decode cX3_sign 17 = .ok (.ireturn, 1) := dk_172 (dk_at dksX3_sign_0 17 rfl rfl)
theorem dX3_sign_18 : decode cX3_sign 18 = .ok (.iconst 3, 1) := dk_6 (dk_at dksX3_sign_0 18 rfl rfl)
theorem dX3_sign_19 : decode cX3_sign 19 = .ok (.istore_n 2, 1) := dk_61 (dk_at dksX3_sign_0 19 rfl rfl)
theorem dX3_sign_20 : decode cX3_sign 20 = .ok (.iload_n 2, 1) := dk_28 (dk_at dksX3_sign_0 20 rfl rfl)
theorem dX3_sign_21 : decode cX3_sign 21 = .ok (.ifCond .lt 32, 3) := dk_155 0 32 (dk_at dksX3_sign_0 21 rfl rfl)
theorem dX3_sign_24 : decode cX3_sign 24 = .ok (.aload_n 0, 1) := dk_42 (dk_at dksX3_sign_1 0 rfl rfl)
theorem dX3_sign_25 : decode cX3_sign 25 = .ok (.getfield 38, 3) := dk_180 0 38 (dk_at dksX3_sign_1 1 rfl rfl)
theorem dX3_sign_28 : decode cX3_sign 28 = .ok (.aload_n 0, 1) := dk_42 (dk_at dksX3_sign_1 4 rfl rfl)
theorem dX3_sign_29 : decode cX3_sign 29 = .ok (.dup, 1) := dk_89 (dk_at dksX3_sign_1 5 rfl rfl)
theorem dX3_sign_30 : decode cX3_sign 30 = .ok (.getfield 135, 3) := dk_180 0 135 (dk_at dksX3_sign_1 6 rfl rfl)
theorem dX3_sign_33 : decode cX3_sign 33 = .ok (.dup_x1, 1) := dk_90 (dk_at dksX3_sign_1 9 rfl rfl)
theorem dX3_sign_34 : decode cX3_sign 34 = .ok (.iconst 1, 1) := dk_4 (dk_at dksX3_sign_1 10 rfl rfl)
theorem dX3_sign_35 : decode cX3_sign 35 = .ok (.iadd, 1) := dk_96 (dk_at dksX3_sign_1 11 rfl rfl)
theorem dX3_sign_36 : decode cX3_sign 36 = .ok (.putfield 135, 3) := dk_181 0 135 (dk_at dksX3_sign_1 12 rfl rfl)
theorem dX3_sign_39 : decode cX3_sign 39 = .ok (.iload_n 1, 1) := dk_27 (dk_at dksX3_sign_1 15 rfl rfl)
theorem dX3_sign_40 : decode cX3_sign 40 = .ok (.bipush 8, 2) := dk_16 8 (dk_at dksX3_sign_1 16 rfl rfl)
theorem dX3_sign_42 : decode cX3_sign 42 = .ok (.iload_n 2, 1) := dk_28 (dk_at dksX3_sign_1 18 rfl rfl)
theorem dX3_sign_43 : decode cX3_sign 43 = .ok (.imul, 1) := dk_104 (dk_at dksX3_sign_1 19 rfl rfl)
theorem dX3_sign_44 : decode cX3_sign 44 = .ok (.ishr, 1) := dk_122 (dk_at dksX3_sign_1 20 rfl rfl)
theorem dX3_sign_45 : decode cX3_sign 45 = .ok (.i2b, 1) := dk_145 (dk_at dksX3_sign_1 21 rfl rfl)
theorem dX3_sign_46 : decode cX3_sign 46 = .ok (.bastore, 1) := dk_84 (dk_at dksX3_sign_1 22 rfl rfl)
theorem dX3_sign_47 : decode cX3_sign 47 = .ok (.iinc 2 (-1), 3) := dk_132 2 255 (dk_at dksX3_sign_2 0 rfl rfl)
theorem dX3_sign_50 : decode cX3_sign 50 = .ok (.goto (-30), 3) := dk_167 255 226 (dk_at dksX3_sign_2 3 rfl rfl)
theorem dX3_sign_53 : decode cX3_sign 53 = .ok (.aload_n 0, 1) := dk_42 (dk_at dksX3_sign_2 6 rfl rfl)
theorem dX3_sign_54 : decode cX3_sign 54 = .ok (.getfield 135, 3) := dk_180 0 135 (dk_at dksX3_sign_2 7 rfl rfl)
theorem dX3_sign_57 : decode cX3_sign 57 = .ok (.ireturn, 1) := dk_172 (dk_at dksX3_sign_2 10 rfl rfl)
abbrev cX3_end : ByteArray := prog_9_method_40_code
def yX3_end : MethodName := ⟨RX3, "end", "(I)Z"⟩
def dkwX3_end_1 : List UInt8 := [4, 172]
abbrev dktX3_end_1 : List UInt8 := dkwX3_end_1 ++ []
def dkwX3_end_0 : List UInt8 := [42, 3, 181, 0, 63, 27, 3, 42, 180, 0, 135, 184, 0, 67, 154, 0, 5, 3, 172, 42, 27, 181, 0, 135]
abbrev dktX3_end_0 : List UInt8 := dkwX3_end_0 ++ dktX3_end_1
theorem dksX3_end_0 : cX3_end.data.toList.drop 0 = dktX3_end_0 := by decide +kernel
theorem dksX3_end_1 : cX3_end.data.toList.drop 24 = dktX3_end_1 := dk_seg dksX3_end_0 24 rfl rfl
theorem dX3_end_0 : decode cX3_end 0 = .ok (.aload_n 0, 1) := dk_42 (dk_at dksX3_end_0 0 rfl rfl)
theorem dX3_end_1 : decode cX3_end 1 = .ok (.iconst 0, 1) := dk_3 (dk_at dksX3_end_0 1 rfl rfl)
theorem dX3_end_2 : decode cX3_end 2 = .ok (.putfield 63, 3) := dk_181 0 63 (dk_at dksX3_end_0 2 rfl rfl)
theorem dX3_end_5 : decode cX3_end 5 = .ok (.iload_n 1, 1) := dk_27 (dk_at dksX3_end_0 5 rfl rfl)
theorem dX3_end_6 : decode cX3_end 6 = .ok (.iconst 0, 1) := dk_3 (dk_at dksX3_end_0 6 rfl rfl)
theorem dX3_end_7 : decode cX3_end 7 = .ok (.aload_n 0, 1) := dk_42 (dk_at dksX3_end_0 7 rfl rfl)
theorem dX3_end_8 : decode cX3_end 8 = .ok (.getfield 135, 3) := dk_180 0 135 (dk_at dksX3_end_0 8 rfl rfl)
theorem dX3_end_11 : decode cX3_end 11 = .ok (.invokestatic 67, 3) := dk_184 0 67 (dk_at dksX3_end_0 11 rfl rfl)
theorem dX3_end_14 : decode cX3_end 14 = .ok (.ifCond .ne 5, 3) := dk_154 0 5 (dk_at dksX3_end_0 14 rfl rfl)
theorem dX3_end_17 : decode cX3_end 17 = .ok (.iconst 0, 1) := dk_3 (dk_at dksX3_end_0 17 rfl rfl)
theorem dX3_end_18 : decode cX3_end 18 = .ok (.ireturn, 1) := dk_172 (dk_at dksX3_end_0 18 rfl rfl)
theorem dX3_end_19 : decode cX3_end 19 = .ok (.aload_n 0, 1) := dk_42 (dk_at dksX3_end_0 19 rfl rfl)
theorem dX3_end_20 : decode cX3_end 20 = .ok (.iload_n 1, 1) := dk_27 (dk_at dksX3_end_0 20 rfl rfl)
theorem dX3_end_21 : decode cX3_end 21 = .ok (.putfield 135, 3) := dk_181 0 135 (dk_at dksX3_end_0 21 rfl rfl)
theorem dX3_end_24 : decode cX3_end 24 = .ok (.iconst 1, 1) := dk_4 (dk_at dksX3_end_1 0 rfl rfl)
theorem dX3_end_25 : decode cX3_end 25 = .ok (.ireturn, 1) := dk_172 (dk_at dksX3_end_1 1 rfl rfl)
abbrev cX3_sheet : ByteArray := prog_9_method_44_code
def yX3_sheet : MethodName := ⟨RX3, "sheet", "()I"⟩
def dkwX3_sheet_5 : List UInt8 := [182, 0, 152, 96, 54, 4, 167, 255, 215, 29, 172]
abbrev dktX3_sheet_5 : List UInt8 := dkwX3_sheet_5 ++ []
def dkwX3_sheet_4 : List UInt8 := [154, 0, 14, 42, 182, 0, 161, 17, 252, 23, 21, 4, 100, 172, 132, 3, 1, 21, 4, 42, 21, 4, 27]
abbrev dktX3_sheet_4 : List UInt8 := dkwX3_sheet_4 ++ dktX3_sheet_5
def dkwX3_sheet_3 : List UInt8 := [172, 42, 182, 0, 155, 3, 62, 3, 54, 4, 21, 4, 27, 162, 0, 41, 42, 21, 4, 182, 0, 158]
abbrev dktX3_sheet_3 : List UInt8 := dkwX3_sheet_3 ++ dktX3_sheet_4
def dkwX3_sheet_2 : List UInt8 := [21, 4, 156, 0, 6, 21, 4, 172, 29, 21, 4, 96, 62, 167, 255, 230, 27, 16, 80, 164, 0, 6, 16, 175]
abbrev dktX3_sheet_2 : List UInt8 := dkwX3_sheet_2 ++ dktX3_sheet_3
def dkwX3_sheet_1 : List UInt8 := [172, 27, 16, 80, 184, 0, 147, 61, 3, 62, 29, 28, 162, 0, 27, 42, 29, 28, 182, 0, 152, 54, 4]
abbrev dktX3_sheet_1 : List UInt8 := dkwX3_sheet_1 ++ dktX3_sheet_2
def dkwX3_sheet_0 : List UInt8 := [42, 3, 181, 0, 63, 42, 180, 0, 135, 60, 42, 3, 181, 0, 135, 42, 182, 0, 82, 154, 0, 6, 16, 156]
abbrev dktX3_sheet_0 : List UInt8 := dkwX3_sheet_0 ++ dktX3_sheet_1
theorem dksX3_sheet_0 : cX3_sheet.data.toList.drop 0 = dktX3_sheet_0 := by decide +kernel
theorem dksX3_sheet_1 : cX3_sheet.data.toList.drop 24 = dktX3_sheet_1 := dk_seg dksX3_sheet_0 24 rfl rfl
theorem dksX3_sheet_2 : cX3_sheet.data.toList.drop 47 = dktX3_sheet_2 := dk_seg dksX3_sheet_1 23 rfl rfl
theorem dksX3_sheet_3 : cX3_sheet.data.toList.drop 71 = dktX3_sheet_3 := dk_seg dksX3_sheet_2 24 rfl rfl
theorem dksX3_sheet_4 : cX3_sheet.data.toList.drop 93 = dktX3_sheet_4 := dk_seg dksX3_sheet_3 22 rfl rfl
theorem dksX3_sheet_5 : cX3_sheet.data.toList.drop 116 = dktX3_sheet_5 := dk_seg dksX3_sheet_4 23 rfl rfl
theorem dX3_sheet_0 : decode cX3_sheet 0 = .ok (.aload_n 0, 1) := dk_42 (dk_at dksX3_sheet_0 0 rfl rfl)
theorem dX3_sheet_1 : decode cX3_sheet 1 = .ok (.iconst 0, 1) := dk_3 (dk_at dksX3_sheet_0 1 rfl rfl)
theorem dX3_sheet_2 : decode cX3_sheet 2 = .ok (.putfield 63, 3) := dk_181 0 63 (dk_at dksX3_sheet_0 2 rfl rfl)
theorem dX3_sheet_5 : decode cX3_sheet 5 = .ok (.aload_n 0, 1) := dk_42 (dk_at dksX3_sheet_0 5 rfl rfl)
theorem dX3_sheet_6 : decode cX3_sheet 6 = .ok (.getfield 135, 3) := dk_180 0 135 (dk_at dksX3_sheet_0 6 rfl rfl)
theorem dX3_sheet_9 : decode cX3_sheet 9 = .ok (.istore_n 1, 1) := dk_60 (dk_at dksX3_sheet_0 9 rfl rfl)
theorem dX3_sheet_10 : decode cX3_sheet 10 = .ok (.aload_n 0, 1) := dk_42 (dk_at dksX3_sheet_0 10 rfl rfl)
theorem dX3_sheet_11 : decode cX3_sheet 11 = .ok (.iconst 0, 1) := dk_3 (dk_at dksX3_sheet_0 11 rfl rfl)
theorem dX3_sheet_12 : decode cX3_sheet 12 = .ok (.putfield 135, 3) := dk_181 0 135 (dk_at dksX3_sheet_0 12 rfl rfl)
theorem dX3_sheet_15 : decode cX3_sheet 15 = .ok (.aload_n 0, 1) := dk_42 (dk_at dksX3_sheet_0 15 rfl rfl)
theorem dX3_sheet_16 : decode cX3_sheet 16 = .ok (.invokevirtual 82, 3) := dk_182 0 82 (dk_at dksX3_sheet_0 16 rfl rfl)
theorem dX3_sheet_19 : decode cX3_sheet 19 = .ok (.ifCond .ne 6, 3) := dk_154 0 6 (dk_at dksX3_sheet_0 19 rfl rfl)
theorem dX3_sheet_22 : decode cX3_sheet 22 = .ok (.bipush (-100), 2) := dk_16 156 (dk_at dksX3_sheet_0 22 rfl rfl)
theorem dX3_sheet_24 : decode cX3_sheet 24 = .ok (.ireturn, 1) := dk_172 (dk_at dksX3_sheet_1 0 rfl rfl)
theorem dX3_sheet_25 : decode cX3_sheet 25 = .ok (.iload_n 1, 1) := dk_27 (dk_at dksX3_sheet_1 1 rfl rfl)
theorem dX3_sheet_26 : decode cX3_sheet 26 = .ok (.bipush 80, 2) := dk_16 80 (dk_at dksX3_sheet_1 2 rfl rfl)
theorem dX3_sheet_28 : decode cX3_sheet 28 = .ok (.invokestatic 147, 3) := dk_184 0 147 (dk_at dksX3_sheet_1 4 rfl rfl)
theorem dX3_sheet_31 : decode cX3_sheet 31 = .ok (.istore_n 2, 1) := dk_61 (dk_at dksX3_sheet_1 7 rfl rfl)
theorem dX3_sheet_32 : decode cX3_sheet 32 = .ok (.iconst 0, 1) := dk_3 (dk_at dksX3_sheet_1 8 rfl rfl)
theorem dX3_sheet_33 : decode cX3_sheet 33 = .ok (.istore_n 3, 1) := dk_62 (dk_at dksX3_sheet_1 9 rfl rfl)
theorem dX3_sheet_34 : decode cX3_sheet 34 = .ok (.iload_n 3, 1) := dk_29 (dk_at dksX3_sheet_1 10 rfl rfl)
theorem dX3_sheet_35 : decode cX3_sheet 35 = .ok (.iload_n 2, 1) := dk_28 (dk_at dksX3_sheet_1 11 rfl rfl)
theorem dX3_sheet_36 : decode cX3_sheet 36 = .ok (.if_icmp .ge 27, 3) := dk_162 0 27 (dk_at dksX3_sheet_1 12 rfl rfl)
theorem dX3_sheet_39 : decode cX3_sheet 39 = .ok (.aload_n 0, 1) := dk_42 (dk_at dksX3_sheet_1 15 rfl rfl)
theorem dX3_sheet_40 : decode cX3_sheet 40 = .ok (.iload_n 3, 1) := dk_29 (dk_at dksX3_sheet_1 16 rfl rfl)
theorem dX3_sheet_41 : decode cX3_sheet 41 = .ok (.iload_n 2, 1) := dk_28 (dk_at dksX3_sheet_1 17 rfl rfl)
theorem dX3_sheet_42 : decode cX3_sheet 42 = .ok (.invokevirtual 152, 3) := dk_182 0 152 (dk_at dksX3_sheet_1 18 rfl rfl)
theorem dX3_sheet_45 : decode cX3_sheet 45 = .ok (.istore 4, 2) := dk_54 4 (dk_at dksX3_sheet_1 21 rfl rfl)
theorem dX3_sheet_47 : decode cX3_sheet 47 = .ok (.iload 4, 2) := dk_21 4 (dk_at dksX3_sheet_2 0 rfl rfl)
theorem dX3_sheet_49 : decode cX3_sheet 49 = .ok (.ifCond .ge 6, 3) := dk_156 0 6 (dk_at dksX3_sheet_2 2 rfl rfl)
theorem dX3_sheet_52 : decode cX3_sheet 52 = .ok (.iload 4, 2) := dk_21 4 (dk_at dksX3_sheet_2 5 rfl rfl)
theorem dX3_sheet_54 : decode cX3_sheet 54 = .ok (.ireturn, 1) := dk_172 (dk_at dksX3_sheet_2 7 rfl rfl)
theorem dX3_sheet_55 : decode cX3_sheet 55 = .ok (.iload_n 3, 1) := dk_29 (dk_at dksX3_sheet_2 8 rfl rfl)
theorem dX3_sheet_56 : decode cX3_sheet 56 = .ok (.iload 4, 2) := dk_21 4 (dk_at dksX3_sheet_2 9 rfl rfl)
theorem dX3_sheet_58 : decode cX3_sheet 58 = .ok (.iadd, 1) := dk_96 (dk_at dksX3_sheet_2 11 rfl rfl)
theorem dX3_sheet_59 : decode cX3_sheet 59 = .ok (.istore_n 3, 1) := dk_62 (dk_at dksX3_sheet_2 12 rfl rfl)
theorem dX3_sheet_60 : decode cX3_sheet 60 = .ok (.goto (-26), 3) := dk_167 255 230 (dk_at dksX3_sheet_2 13 rfl rfl)
theorem dX3_sheet_63 : decode cX3_sheet 63 = .ok (.iload_n 1, 1) := dk_27 (dk_at dksX3_sheet_2 16 rfl rfl)
theorem dX3_sheet_64 : decode cX3_sheet 64 = .ok (.bipush 80, 2) := dk_16 80 (dk_at dksX3_sheet_2 17 rfl rfl)
theorem dX3_sheet_66 : decode cX3_sheet 66 = .ok (.if_icmp .le 6, 3) := dk_164 0 6 (dk_at dksX3_sheet_2 19 rfl rfl)
theorem dX3_sheet_69 : decode cX3_sheet 69 = .ok (.bipush (-81), 2) := dk_16 175 (dk_at dksX3_sheet_2 22 rfl rfl)
theorem dX3_sheet_71 : decode cX3_sheet 71 = .ok (.ireturn, 1) := dk_172 (dk_at dksX3_sheet_3 0 rfl rfl)
theorem dX3_sheet_72 : decode cX3_sheet 72 = .ok (.aload_n 0, 1) := dk_42 (dk_at dksX3_sheet_3 1 rfl rfl)
theorem dX3_sheet_73 : decode cX3_sheet 73 = .ok (.invokevirtual 155, 3) := dk_182 0 155 (dk_at dksX3_sheet_3 2 rfl rfl)
theorem dX3_sheet_76 : decode cX3_sheet 76 = .ok (.iconst 0, 1) := dk_3 (dk_at dksX3_sheet_3 5 rfl rfl)
theorem dX3_sheet_77 : decode cX3_sheet 77 = .ok (.istore_n 3, 1) := dk_62 (dk_at dksX3_sheet_3 6 rfl rfl)
theorem dX3_sheet_78 : decode cX3_sheet 78 = .ok (.iconst 0, 1) := dk_3 (dk_at dksX3_sheet_3 7 rfl rfl)
theorem dX3_sheet_79 : decode cX3_sheet 79 = .ok (.istore 4, 2) := dk_54 4 (dk_at dksX3_sheet_3 8 rfl rfl)
theorem dX3_sheet_81 : decode cX3_sheet 81 = .ok (.iload 4, 2) := dk_21 4 (dk_at dksX3_sheet_3 10 rfl rfl)
theorem dX3_sheet_83 : decode cX3_sheet 83 = .ok (.iload_n 1, 1) := dk_27 (dk_at dksX3_sheet_3 12 rfl rfl)
theorem dX3_sheet_84 : decode cX3_sheet 84 = .ok (.if_icmp .ge 41, 3) := dk_162 0 41 (dk_at dksX3_sheet_3 13 rfl rfl)
theorem dX3_sheet_87 : decode cX3_sheet 87 = .ok (.aload_n 0, 1) := dk_42 (dk_at dksX3_sheet_3 16 rfl rfl)
theorem dX3_sheet_88 : decode cX3_sheet 88 = .ok (.iload 4, 2) := dk_21 4 (dk_at dksX3_sheet_3 17 rfl rfl)
theorem dX3_sheet_90 : decode cX3_sheet 90 = .ok (.invokevirtual 158, 3) := dk_182 0 158 (dk_at dksX3_sheet_3 19 rfl rfl)
theorem dX3_sheet_93 : decode cX3_sheet 93 = .ok (.ifCond .ne 14, 3) := dk_154 0 14 (dk_at dksX3_sheet_4 0 rfl rfl)
theorem dX3_sheet_96 : decode cX3_sheet 96 = .ok (.aload_n 0, 1) := dk_42 (dk_at dksX3_sheet_4 3 rfl rfl)
theorem dX3_sheet_97 : decode cX3_sheet 97 = .ok (.invokevirtual 161, 3) := dk_182 0 161 (dk_at dksX3_sheet_4 4 rfl rfl)
theorem dX3_sheet_100 : decode cX3_sheet 100 = .ok (.sipush (-1001), 3) := dk_17 252 23 (dk_at dksX3_sheet_4 7 rfl rfl)
theorem dX3_sheet_103 : decode cX3_sheet 103 = .ok (.iload 4, 2) := dk_21 4 (dk_at dksX3_sheet_4 10 rfl rfl)
theorem dX3_sheet_105 : decode cX3_sheet 105 = .ok (.isub, 1) := dk_100 (dk_at dksX3_sheet_4 12 rfl rfl)
theorem dX3_sheet_106 : decode cX3_sheet 106 = .ok (.ireturn, 1) := dk_172 (dk_at dksX3_sheet_4 13 rfl rfl)
theorem dX3_sheet_107 : decode cX3_sheet 107 = .ok (.iinc 3 1, 3) := dk_132 3 1 (dk_at dksX3_sheet_4 14 rfl rfl)
theorem dX3_sheet_110 : decode cX3_sheet 110 = .ok (.iload 4, 2) := dk_21 4 (dk_at dksX3_sheet_4 17 rfl rfl)
theorem dX3_sheet_112 : decode cX3_sheet 112 = .ok (.aload_n 0, 1) := dk_42 (dk_at dksX3_sheet_4 19 rfl rfl)
theorem dX3_sheet_113 : decode cX3_sheet 113 = .ok (.iload 4, 2) := dk_21 4 (dk_at dksX3_sheet_4 20 rfl rfl)
theorem dX3_sheet_115 : decode cX3_sheet 115 = .ok (.iload_n 1, 1) := dk_27 (dk_at dksX3_sheet_4 22 rfl rfl)
theorem dX3_sheet_116 : decode cX3_sheet 116 = .ok (.invokevirtual 152, 3) := dk_182 0 152 (dk_at dksX3_sheet_5 0 rfl rfl)
theorem dX3_sheet_119 : decode cX3_sheet 119 = .ok (.iadd, 1) := dk_96 (dk_at dksX3_sheet_5 3 rfl rfl)
theorem dX3_sheet_120 : decode cX3_sheet 120 = .ok (.istore 4, 2) := dk_54 4 (dk_at dksX3_sheet_5 4 rfl rfl)
theorem dX3_sheet_122 : decode cX3_sheet 122 = .ok (.goto (-41), 3) := dk_167 255 215 (dk_at dksX3_sheet_5 6 rfl rfl)
theorem dX3_sheet_125 : decode cX3_sheet 125 = .ok (.iload_n 3, 1) := dk_29 (dk_at dksX3_sheet_5 9 rfl rfl)
theorem dX3_sheet_126 : decode cX3_sheet 126 = .ok (.ireturn, 1) := dk_172 (dk_at dksX3_sheet_5 10 rfl rfl)
abbrev cX3_reads : ByteArray := prog_9_method_42_code
def yX3_reads : MethodName := ⟨RX3, "reads", "(II)I"⟩
def dkwX3_reads_5 : List UInt8 := [184, 0, 144, 2, 160, 0, 10, 16, 253, 27, 100, 167, 0, 4, 6, 172]
abbrev dktX3_reads_5 : List UInt8 := dkwX3_reads_5 ++ []
def dkwX3_reads_4 : List UInt8 := [5, 96, 28, 162, 0, 14, 42, 180, 0, 38, 27, 5, 96, 51, 167, 0, 4, 2, 54, 5, 21, 5]
abbrev dktX3_reads_4 : List UInt8 := dkwX3_reads_4 ++ dktX3_reads_5
def dkwX3_reads_3 : List UInt8 := [5, 172, 21, 4, 16, 42, 159, 0, 17, 21, 4, 184, 0, 144, 2, 160, 0, 8, 16, 254, 27, 100, 172, 27]
abbrev dktX3_reads_3 : List UInt8 := dkwX3_reads_3 ++ dktX3_reads_4
def dkwX3_reads_2 : List UInt8 := [27, 4, 96, 51, 167, 0, 4, 2, 54, 4, 21, 4, 16, 33, 159, 0, 10, 21, 4, 16, 45, 160, 0, 5]
abbrev dktX3_reads_2 : List UInt8 := dkwX3_reads_2 ++ dktX3_reads_3
def dkwX3_reads_1 : List UInt8 := [159, 0, 13, 29, 16, 98, 159, 0, 7, 2, 27, 100, 172, 27, 4, 96, 28, 162, 0, 14, 42, 180, 0, 38]
abbrev dktX3_reads_1 : List UInt8 := dkwX3_reads_1 ++ dktX3_reads_2
def dkwX3_reads_0 : List UInt8 := [42, 180, 0, 38, 27, 51, 62, 29, 16, 65, 159, 0, 9, 29, 16, 66, 160, 0, 5, 4, 172, 29, 16, 97]
abbrev dktX3_reads_0 : List UInt8 := dkwX3_reads_0 ++ dktX3_reads_1
theorem dksX3_reads_0 : cX3_reads.data.toList.drop 0 = dktX3_reads_0 := by decide +kernel
theorem dksX3_reads_1 : cX3_reads.data.toList.drop 24 = dktX3_reads_1 := dk_seg dksX3_reads_0 24 rfl rfl
theorem dksX3_reads_2 : cX3_reads.data.toList.drop 48 = dktX3_reads_2 := dk_seg dksX3_reads_1 24 rfl rfl
theorem dksX3_reads_3 : cX3_reads.data.toList.drop 72 = dktX3_reads_3 := dk_seg dksX3_reads_2 24 rfl rfl
theorem dksX3_reads_4 : cX3_reads.data.toList.drop 96 = dktX3_reads_4 := dk_seg dksX3_reads_3 24 rfl rfl
theorem dksX3_reads_5 : cX3_reads.data.toList.drop 118 = dktX3_reads_5 := dk_seg dksX3_reads_4 22 rfl rfl
theorem dX3_reads_0 : decode cX3_reads 0 = .ok (.aload_n 0, 1) := dk_42 (dk_at dksX3_reads_0 0 rfl rfl)
theorem dX3_reads_1 : decode cX3_reads 1 = .ok (.getfield 38, 3) := dk_180 0 38 (dk_at dksX3_reads_0 1 rfl rfl)
theorem dX3_reads_4 : decode cX3_reads 4 = .ok (.iload_n 1, 1) := dk_27 (dk_at dksX3_reads_0 4 rfl rfl)
theorem dX3_reads_5 : decode cX3_reads 5 = .ok (.baload, 1) := dk_51 (dk_at dksX3_reads_0 5 rfl rfl)
theorem dX3_reads_6 : decode cX3_reads 6 = .ok (.istore_n 3, 1) := dk_62 (dk_at dksX3_reads_0 6 rfl rfl)
theorem dX3_reads_7 : decode cX3_reads 7 = .ok (.iload_n 3, 1) := dk_29 (dk_at dksX3_reads_0 7 rfl rfl)
theorem dX3_reads_8 : decode cX3_reads 8 = .ok (.bipush 65, 2) := dk_16 65 (dk_at dksX3_reads_0 8 rfl rfl)
theorem dX3_reads_10 : decode cX3_reads 10 = .ok (.if_icmp .eq 9, 3) := dk_159 0 9 (dk_at dksX3_reads_0 10 rfl rfl)
theorem dX3_reads_13 : decode cX3_reads 13 = .ok (.iload_n 3, 1) := dk_29 (dk_at dksX3_reads_0 13 rfl rfl)
theorem dX3_reads_14 : decode cX3_reads 14 = .ok (.bipush 66, 2) := dk_16 66 (dk_at dksX3_reads_0 14 rfl rfl)
theorem dX3_reads_16 : decode cX3_reads 16 = .ok (.if_icmp .ne 5, 3) := dk_160 0 5 (dk_at dksX3_reads_0 16 rfl rfl)
theorem dX3_reads_19 : decode cX3_reads 19 = .ok (.iconst 1, 1) := dk_4 (dk_at dksX3_reads_0 19 rfl rfl)
theorem dX3_reads_20 : decode cX3_reads 20 = .ok (.ireturn, 1) := dk_172 (dk_at dksX3_reads_0 20 rfl rfl)
theorem dX3_reads_21 : decode cX3_reads 21 = .ok (.iload_n 3, 1) := dk_29 (dk_at dksX3_reads_0 21 rfl rfl)
theorem dX3_reads_22 : decode cX3_reads 22 = .ok (.bipush 97, 2) := dk_16 97 (dk_at dksX3_reads_0 22 rfl rfl)
theorem dX3_reads_24 : decode cX3_reads 24 = .ok (.if_icmp .eq 13, 3) := dk_159 0 13 (dk_at dksX3_reads_1 0 rfl rfl)
theorem dX3_reads_27 : decode cX3_reads 27 = .ok (.iload_n 3, 1) := dk_29 (dk_at dksX3_reads_1 3 rfl rfl)
theorem dX3_reads_28 : decode cX3_reads 28 = .ok (.bipush 98, 2) := dk_16 98 (dk_at dksX3_reads_1 4 rfl rfl)
theorem dX3_reads_30 : decode cX3_reads 30 = .ok (.if_icmp .eq 7, 3) := dk_159 0 7 (dk_at dksX3_reads_1 6 rfl rfl)
theorem dX3_reads_33 : decode cX3_reads 33 = .ok (.iconst (-1), 1) := dk_2 (dk_at dksX3_reads_1 9 rfl rfl)
theorem dX3_reads_34 : decode cX3_reads 34 = .ok (.iload_n 1, 1) := dk_27 (dk_at dksX3_reads_1 10 rfl rfl)
theorem dX3_reads_35 : decode cX3_reads 35 = .ok (.isub, 1) := dk_100 (dk_at dksX3_reads_1 11 rfl rfl)
theorem dX3_reads_36 : decode cX3_reads 36 = .ok (.ireturn, 1) := dk_172 (dk_at dksX3_reads_1 12 rfl rfl)
theorem dX3_reads_37 : decode cX3_reads 37 = .ok (.iload_n 1, 1) := dk_27 (dk_at dksX3_reads_1 13 rfl rfl)
theorem dX3_reads_38 : decode cX3_reads 38 = .ok (.iconst 1, 1) := dk_4 (dk_at dksX3_reads_1 14 rfl rfl)
theorem dX3_reads_39 : decode cX3_reads 39 = .ok (.iadd, 1) := dk_96 (dk_at dksX3_reads_1 15 rfl rfl)
theorem dX3_reads_40 : decode cX3_reads 40 = .ok (.iload_n 2, 1) := dk_28 (dk_at dksX3_reads_1 16 rfl rfl)
theorem dX3_reads_41 : decode cX3_reads 41 = .ok (.if_icmp .ge 14, 3) := dk_162 0 14 (dk_at dksX3_reads_1 17 rfl rfl)
theorem dX3_reads_44 : decode cX3_reads 44 = .ok (.aload_n 0, 1) := dk_42 (dk_at dksX3_reads_1 20 rfl rfl)
theorem dX3_reads_45 : decode cX3_reads 45 = .ok (.getfield 38, 3) := dk_180 0 38 (dk_at dksX3_reads_1 21 rfl rfl)
theorem dX3_reads_48 : decode cX3_reads 48 = .ok (.iload_n 1, 1) := dk_27 (dk_at dksX3_reads_2 0 rfl rfl)
theorem dX3_reads_49 : decode cX3_reads 49 = .ok (.iconst 1, 1) := dk_4 (dk_at dksX3_reads_2 1 rfl rfl)
theorem dX3_reads_50 : decode cX3_reads 50 = .ok (.iadd, 1) := dk_96 (dk_at dksX3_reads_2 2 rfl rfl)
theorem dX3_reads_51 : decode cX3_reads 51 = .ok (.baload, 1) := dk_51 (dk_at dksX3_reads_2 3 rfl rfl)
theorem dX3_reads_52 : decode cX3_reads 52 = .ok (.goto 4, 3) := dk_167 0 4 (dk_at dksX3_reads_2 4 rfl rfl)
theorem dX3_reads_55 : decode cX3_reads 55 = .ok (.iconst (-1), 1) := dk_2 (dk_at dksX3_reads_2 7 rfl rfl)
theorem dX3_reads_56 : decode cX3_reads 56 = .ok (.istore 4, 2) := dk_54 4 (dk_at dksX3_reads_2 8 rfl rfl)
theorem dX3_reads_58 : decode cX3_reads 58 = .ok (.iload 4, 2) := dk_21 4 (dk_at dksX3_reads_2 10 rfl rfl)
theorem dX3_reads_60 : decode cX3_reads 60 = .ok (.bipush 33, 2) := dk_16 33 (dk_at dksX3_reads_2 12 rfl rfl)
theorem dX3_reads_62 : decode cX3_reads 62 = .ok (.if_icmp .eq 10, 3) := dk_159 0 10 (dk_at dksX3_reads_2 14 rfl rfl)
theorem dX3_reads_65 : decode cX3_reads 65 = .ok (.iload 4, 2) := dk_21 4 (dk_at dksX3_reads_2 17 rfl rfl)
theorem dX3_reads_67 : decode cX3_reads 67 = .ok (.bipush 45, 2) := dk_16 45 (dk_at dksX3_reads_2 19 rfl rfl)
theorem dX3_reads_69 : decode cX3_reads 69 = .ok (.if_icmp .ne 5, 3) := dk_160 0 5 (dk_at dksX3_reads_2 21 rfl rfl)
theorem dX3_reads_72 : decode cX3_reads 72 = .ok (.iconst 2, 1) := dk_5 (dk_at dksX3_reads_3 0 rfl rfl)
theorem dX3_reads_73 : decode cX3_reads 73 = .ok (.ireturn, 1) := dk_172 (dk_at dksX3_reads_3 1 rfl rfl)
theorem dX3_reads_74 : decode cX3_reads 74 = .ok (.iload 4, 2) := dk_21 4 (dk_at dksX3_reads_3 2 rfl rfl)
theorem dX3_reads_76 : decode cX3_reads 76 = .ok (.bipush 42, 2) := dk_16 42 (dk_at dksX3_reads_3 4 rfl rfl)
theorem dX3_reads_78 : decode cX3_reads 78 = .ok (.if_icmp .eq 17, 3) := dk_159 0 17 (dk_at dksX3_reads_3 6 rfl rfl)
theorem dX3_reads_81 : decode cX3_reads 81 = .ok (.iload 4, 2) := dk_21 4 (dk_at dksX3_reads_3 9 rfl rfl)
theorem dX3_reads_83 : decode cX3_reads 83 = .ok (.invokestatic 144, 3) := dk_184 0 144 (dk_at dksX3_reads_3 11 rfl rfl)
theorem dX3_reads_86 : decode cX3_reads 86 = .ok (.iconst (-1), 1) := dk_2 (dk_at dksX3_reads_3 14 rfl rfl)
theorem dX3_reads_87 : decode cX3_reads 87 = .ok (.if_icmp .ne 8, 3) := dk_160 0 8 (dk_at dksX3_reads_3 15 rfl rfl)
theorem dX3_reads_90 : decode cX3_reads 90 = .ok (.bipush (-2), 2) := dk_16 254 (dk_at dksX3_reads_3 18 rfl rfl)
theorem dX3_reads_92 : decode cX3_reads 92 = .ok (.iload_n 1, 1) := dk_27 (dk_at dksX3_reads_3 20 rfl rfl)
theorem dX3_reads_93 : decode cX3_reads 93 = .ok (.isub, 1) := dk_100 (dk_at dksX3_reads_3 21 rfl rfl)
theorem dX3_reads_94 : decode cX3_reads 94 = .ok (.ireturn, 1) := dk_172 (dk_at dksX3_reads_3 22 rfl rfl)
theorem dX3_reads_95 : decode cX3_reads 95 = .ok (.iload_n 1, 1) := dk_27 (dk_at dksX3_reads_3 23 rfl rfl)
theorem dX3_reads_96 : decode cX3_reads 96 = .ok (.iconst 2, 1) := dk_5 (dk_at dksX3_reads_4 0 rfl rfl)
theorem dX3_reads_97 : decode cX3_reads 97 = .ok (.iadd, 1) := dk_96 (dk_at dksX3_reads_4 1 rfl rfl)
theorem dX3_reads_98 : decode cX3_reads 98 = .ok (.iload_n 2, 1) := dk_28 (dk_at dksX3_reads_4 2 rfl rfl)
theorem dX3_reads_99 : decode cX3_reads 99 = .ok (.if_icmp .ge 14, 3) := dk_162 0 14 (dk_at dksX3_reads_4 3 rfl rfl)
theorem dX3_reads_102 : decode cX3_reads 102 = .ok (.aload_n 0, 1) := dk_42 (dk_at dksX3_reads_4 6 rfl rfl)
theorem dX3_reads_103 : decode cX3_reads 103 = .ok (.getfield 38, 3) := dk_180 0 38 (dk_at dksX3_reads_4 7 rfl rfl)
theorem dX3_reads_106 : decode cX3_reads 106 = .ok (.iload_n 1, 1) := dk_27 (dk_at dksX3_reads_4 10 rfl rfl)
theorem dX3_reads_107 : decode cX3_reads 107 = .ok (.iconst 2, 1) := dk_5 (dk_at dksX3_reads_4 11 rfl rfl)
theorem dX3_reads_108 : decode cX3_reads 108 = .ok (.iadd, 1) := dk_96 (dk_at dksX3_reads_4 12 rfl rfl)
theorem dX3_reads_109 : decode cX3_reads 109 = .ok (.baload, 1) := dk_51 (dk_at dksX3_reads_4 13 rfl rfl)
theorem dX3_reads_110 : decode cX3_reads 110 = .ok (.goto 4, 3) := dk_167 0 4 (dk_at dksX3_reads_4 14 rfl rfl)
theorem dX3_reads_113 : decode cX3_reads 113 = .ok (.iconst (-1), 1) := dk_2 (dk_at dksX3_reads_4 17 rfl rfl)
theorem dX3_reads_114 : decode cX3_reads 114 = .ok (.istore 5, 2) := dk_54 5 (dk_at dksX3_reads_4 18 rfl rfl)
theorem dX3_reads_116 : decode cX3_reads 116 = .ok (.iload 5, 2) := dk_21 5 (dk_at dksX3_reads_4 20 rfl rfl)
theorem dX3_reads_118 : decode cX3_reads 118 = .ok (.invokestatic 144, 3) := dk_184 0 144 (dk_at dksX3_reads_5 0 rfl rfl)
theorem dX3_reads_121 : decode cX3_reads 121 = .ok (.iconst (-1), 1) := dk_2 (dk_at dksX3_reads_5 3 rfl rfl)
theorem dX3_reads_122 : decode cX3_reads 122 = .ok (.if_icmp .ne 10, 3) := dk_160 0 10 (dk_at dksX3_reads_5 4 rfl rfl)
theorem dX3_reads_125 : decode cX3_reads 125 = .ok (.bipush (-3), 2) := dk_16 253 (dk_at dksX3_reads_5 7 rfl rfl)
theorem dX3_reads_127 : decode cX3_reads 127 = .ok (.iload_n 1, 1) := dk_27 (dk_at dksX3_reads_5 9 rfl rfl)
theorem dX3_reads_128 : decode cX3_reads 128 = .ok (.isub, 1) := dk_100 (dk_at dksX3_reads_5 10 rfl rfl)
theorem dX3_reads_129 : decode cX3_reads 129 = .ok (.goto 4, 3) := dk_167 0 4 (dk_at dksX3_reads_5 11 rfl rfl)
theorem dX3_reads_132 : decode cX3_reads 132 = .ok (.iconst 3, 1) := dk_6 (dk_at dksX3_reads_5 14 rfl rfl)
theorem dX3_reads_133 : decode cX3_reads 133 = .ok (.ireturn, 1) := dk_172 (dk_at dksX3_reads_5 15 rfl rfl)
abbrev cX3_playerOf : ByteArray := prog_9_method_41_code
def yX3_playerOf : MethodName := ⟨RX3, "playerOf", "(I)I"⟩
def dkwX3_playerOf_1 : List UInt8 := [160, 0, 8, 16, 10, 167, 0, 15, 26, 16, 121, 160, 0, 8, 16, 11, 167, 0, 4, 2, 172]
abbrev dktX3_playerOf_1 : List UInt8 := dkwX3_playerOf_1 ++ []
def dkwX3_playerOf_0 : List UInt8 := [26, 16, 48, 161, 0, 16, 26, 16, 57, 163, 0, 10, 26, 16, 48, 100, 167, 0, 26, 26, 16, 120]
abbrev dktX3_playerOf_0 : List UInt8 := dkwX3_playerOf_0 ++ dktX3_playerOf_1
theorem dksX3_playerOf_0 : cX3_playerOf.data.toList.drop 0 = dktX3_playerOf_0 := by decide +kernel
theorem dksX3_playerOf_1 : cX3_playerOf.data.toList.drop 22 = dktX3_playerOf_1 := dk_seg dksX3_playerOf_0 22 rfl rfl
theorem dX3_playerOf_0 : decode cX3_playerOf 0 = .ok (.iload_n 0, 1) := dk_26 (dk_at dksX3_playerOf_0 0 rfl rfl)
theorem dX3_playerOf_1 : decode cX3_playerOf 1 = .ok (.bipush 48, 2) := dk_16 48 (dk_at dksX3_playerOf_0 1 rfl rfl)
theorem dX3_playerOf_3 : decode cX3_playerOf 3 = .ok (.if_icmp .lt 16, 3) := dk_161 0 16 (dk_at dksX3_playerOf_0 3 rfl rfl)
theorem dX3_playerOf_6 : decode cX3_playerOf 6 = .ok (.iload_n 0, 1) := dk_26 (dk_at dksX3_playerOf_0 6 rfl rfl)
theorem dX3_playerOf_7 : decode cX3_playerOf 7 = .ok (.bipush 57, 2) := dk_16 57 (dk_at dksX3_playerOf_0 7 rfl rfl)
theorem dX3_playerOf_9 : decode cX3_playerOf 9 = .ok (.if_icmp .gt 10, 3) := dk_163 0 10 (dk_at dksX3_playerOf_0 9 rfl rfl)
theorem dX3_playerOf_12 : decode cX3_playerOf 12 = .ok (.iload_n 0, 1) := dk_26 (dk_at dksX3_playerOf_0 12 rfl rfl)
theorem dX3_playerOf_13 : decode cX3_playerOf 13 = .ok (.bipush 48, 2) := dk_16 48 (dk_at dksX3_playerOf_0 13 rfl rfl)
theorem dX3_playerOf_15 : decode cX3_playerOf 15 = .ok (.isub, 1) := dk_100 (dk_at dksX3_playerOf_0 15 rfl rfl)
theorem dX3_playerOf_16 : decode cX3_playerOf 16 = .ok (.goto 26, 3) := dk_167 0 26 (dk_at dksX3_playerOf_0 16 rfl rfl)
theorem dX3_playerOf_19 : decode cX3_playerOf 19 = .ok (.iload_n 0, 1) := dk_26 (dk_at dksX3_playerOf_0 19 rfl rfl)
theorem dX3_playerOf_20 : decode cX3_playerOf 20 = .ok (.bipush 120, 2) := dk_16 120 (dk_at dksX3_playerOf_0 20 rfl rfl)
theorem dX3_playerOf_22 : decode cX3_playerOf 22 = .ok (.if_icmp .ne 8, 3) := dk_160 0 8 (dk_at dksX3_playerOf_1 0 rfl rfl)
theorem dX3_playerOf_25 : decode cX3_playerOf 25 = .ok (.bipush 10, 2) := dk_16 10 (dk_at dksX3_playerOf_1 3 rfl rfl)
theorem dX3_playerOf_27 : decode cX3_playerOf 27 = .ok (.goto 15, 3) := dk_167 0 15 (dk_at dksX3_playerOf_1 5 rfl rfl)
theorem dX3_playerOf_30 : decode cX3_playerOf 30 = .ok (.iload_n 0, 1) := dk_26 (dk_at dksX3_playerOf_1 8 rfl rfl)
theorem dX3_playerOf_31 : decode cX3_playerOf 31 = .ok (.bipush 121, 2) := dk_16 121 (dk_at dksX3_playerOf_1 9 rfl rfl)
theorem dX3_playerOf_33 : decode cX3_playerOf 33 = .ok (.if_icmp .ne 8, 3) := dk_160 0 8 (dk_at dksX3_playerOf_1 11 rfl rfl)
theorem dX3_playerOf_36 : decode cX3_playerOf 36 = .ok (.bipush 11, 2) := dk_16 11 (dk_at dksX3_playerOf_1 14 rfl rfl)
theorem dX3_playerOf_38 : decode cX3_playerOf 38 = .ok (.goto 4, 3) := dk_167 0 4 (dk_at dksX3_playerOf_1 16 rfl rfl)
theorem dX3_playerOf_41 : decode cX3_playerOf 41 = .ok (.iconst (-1), 1) := dk_2 (dk_at dksX3_playerOf_1 19 rfl rfl)
theorem dX3_playerOf_42 : decode cX3_playerOf 42 = .ok (.ireturn, 1) := dk_172 (dk_at dksX3_playerOf_1 20 rfl rfl)
abbrev cX3_putAside : ByteArray := prog_9_method_45_code
def yX3_putAside : MethodName := ⟨RX3, "putAside", "()V"⟩
def dkwX3_putAside_1 : List UInt8 := [167, 255, 235, 177]
abbrev dktX3_putAside_1 : List UInt8 := dkwX3_putAside_1 ++ []
def dkwX3_putAside_0 : List UInt8 := [3, 60, 27, 16, 106, 162, 0, 21, 42, 180, 0, 29, 27, 42, 180, 0, 26, 27, 46, 79, 132, 1, 1]
abbrev dktX3_putAside_0 : List UInt8 := dkwX3_putAside_0 ++ dktX3_putAside_1
theorem dksX3_putAside_0 : cX3_putAside.data.toList.drop 0 = dktX3_putAside_0 := by decide +kernel
theorem dksX3_putAside_1 : cX3_putAside.data.toList.drop 23 = dktX3_putAside_1 := dk_seg dksX3_putAside_0 23 rfl rfl
theorem dX3_putAside_0 : decode cX3_putAside 0 = .ok (.iconst 0, 1) := dk_3 (dk_at dksX3_putAside_0 0 rfl rfl)
theorem dX3_putAside_1 : decode cX3_putAside 1 = .ok (.istore_n 1, 1) := dk_60 (dk_at dksX3_putAside_0 1 rfl rfl)
theorem dX3_putAside_2 : decode cX3_putAside 2 = .ok (.iload_n 1, 1) := dk_27 (dk_at dksX3_putAside_0 2 rfl rfl)
theorem dX3_putAside_3 : decode cX3_putAside 3 = .ok (.bipush 106, 2) := dk_16 106 (dk_at dksX3_putAside_0 3 rfl rfl)
theorem dX3_putAside_5 : decode cX3_putAside 5 = .ok (.if_icmp .ge 21, 3) := dk_162 0 21 (dk_at dksX3_putAside_0 5 rfl rfl)
theorem dX3_putAside_8 : decode cX3_putAside 8 = .ok (.aload_n 0, 1) := dk_42 (dk_at dksX3_putAside_0 8 rfl rfl)
theorem dX3_putAside_9 : decode cX3_putAside 9 = .ok (.getfield 29, 3) := dk_180 0 29 (dk_at dksX3_putAside_0 9 rfl rfl)
theorem dX3_putAside_12 : decode cX3_putAside 12 = .ok (.iload_n 1, 1) := dk_27 (dk_at dksX3_putAside_0 12 rfl rfl)
theorem dX3_putAside_13 : decode cX3_putAside 13 = .ok (.aload_n 0, 1) := dk_42 (dk_at dksX3_putAside_0 13 rfl rfl)
theorem dX3_putAside_14 : decode cX3_putAside 14 = .ok (.getfield 26, 3) := dk_180 0 26 (dk_at dksX3_putAside_0 14 rfl rfl)
theorem dX3_putAside_17 : decode cX3_putAside 17 = .ok (.iload_n 1, 1) := dk_27 (dk_at dksX3_putAside_0 17 rfl rfl)
theorem dX3_putAside_18 : decode cX3_putAside 18 = .ok (.iaload, 1) := dk_46 (dk_at dksX3_putAside_0 18 rfl rfl)
theorem dX3_putAside_19 : decode cX3_putAside 19 = .ok (.iastore, 1) := dk_79 (dk_at dksX3_putAside_0 19 rfl rfl)
theorem dX3_putAside_20 : decode cX3_putAside 20 = .ok (.iinc 1 1, 3) := dk_132 1 1 (dk_at dksX3_putAside_0 20 rfl rfl)
theorem dX3_putAside_23 : decode cX3_putAside 23 = .ok (.goto (-21), 3) := dk_167 255 235 (dk_at dksX3_putAside_1 0 rfl rfl)
theorem dX3_putAside_26 : decode cX3_putAside 26 = .ok (.return_, 1) := dk_177 (dk_at dksX3_putAside_1 3 rfl rfl)
abbrev cX3_doItem : ByteArray := prog_9_method_43_code
def yX3_doItem : MethodName := ⟨RX3, "doItem", "(I)Z"⟩
def dkwX3_doItem_7 : List UInt8 := [182, 0, 123, 87, 4, 172]
abbrev dktX3_doItem_7 : List UInt8 := dkwX3_doItem_7 ++ []
def dkwX3_doItem_6 : List UInt8 := [21, 4, 184, 0, 144, 21, 5, 182, 0, 120, 153, 0, 5, 3, 172, 42, 29, 21, 4, 184, 0, 144, 21, 5]
abbrev dktX3_doItem_6 : List UInt8 := dkwX3_doItem_6 ++ dktX3_doItem_7
def dkwX3_doItem_5 : List UInt8 := [16, 42, 160, 0, 20, 42, 29, 21, 5, 182, 0, 126, 2, 159, 0, 7, 4, 167, 0, 4, 3, 172, 42, 29]
abbrev dktX3_doItem_5 : List UInt8 := dkwX3_doItem_5 ++ dktX3_doItem_6
def dkwX3_doItem_4 : List UInt8 := [159, 0, 7, 4, 167, 0, 4, 3, 172, 42, 180, 0, 38, 27, 5, 96, 51, 184, 0, 144, 54, 5, 21, 4]
abbrev dktX3_doItem_4 : List UInt8 := dkwX3_doItem_4 ++ dktX3_doItem_5
def dkwX3_doItem_3 : List UInt8 := [159, 0, 7, 4, 167, 0, 4, 3, 172, 21, 4, 16, 45, 160, 0, 19, 42, 29, 2, 182, 0, 126, 2]
abbrev dktX3_doItem_3 : List UInt8 := dkwX3_doItem_3 ++ dktX3_doItem_4
def dkwX3_doItem_2 : List UInt8 := [180, 0, 38, 27, 4, 96, 51, 54, 4, 21, 4, 16, 33, 160, 0, 18, 42, 29, 182, 0, 129, 2]
abbrev dktX3_doItem_2 : List UInt8 := dkwX3_doItem_2 ++ dktX3_doItem_3
def dkwX3_doItem_1 : List UInt8 := [16, 66, 160, 0, 14, 42, 28, 16, 65, 100, 182, 0, 113, 87, 4, 172, 28, 16, 97, 100, 62, 42]
abbrev dktX3_doItem_1 : List UInt8 := dkwX3_doItem_1 ++ dktX3_doItem_2
def dkwX3_doItem_0 : List UInt8 := [42, 180, 0, 38, 27, 51, 61, 42, 182, 0, 82, 154, 0, 5, 3, 172, 28, 16, 65, 159, 0, 9, 28]
abbrev dktX3_doItem_0 : List UInt8 := dkwX3_doItem_0 ++ dktX3_doItem_1
theorem dksX3_doItem_0 : cX3_doItem.data.toList.drop 0 = dktX3_doItem_0 := by decide +kernel
theorem dksX3_doItem_1 : cX3_doItem.data.toList.drop 23 = dktX3_doItem_1 := dk_seg dksX3_doItem_0 23 rfl rfl
theorem dksX3_doItem_2 : cX3_doItem.data.toList.drop 45 = dktX3_doItem_2 := dk_seg dksX3_doItem_1 22 rfl rfl
theorem dksX3_doItem_3 : cX3_doItem.data.toList.drop 67 = dktX3_doItem_3 := dk_seg dksX3_doItem_2 22 rfl rfl
theorem dksX3_doItem_4 : cX3_doItem.data.toList.drop 90 = dktX3_doItem_4 := dk_seg dksX3_doItem_3 23 rfl rfl
theorem dksX3_doItem_5 : cX3_doItem.data.toList.drop 114 = dktX3_doItem_5 := dk_seg dksX3_doItem_4 24 rfl rfl
theorem dksX3_doItem_6 : cX3_doItem.data.toList.drop 138 = dktX3_doItem_6 := dk_seg dksX3_doItem_5 24 rfl rfl
theorem dksX3_doItem_7 : cX3_doItem.data.toList.drop 162 = dktX3_doItem_7 := dk_seg dksX3_doItem_6 24 rfl rfl
theorem dX3_doItem_0 : decode cX3_doItem 0 = .ok (.aload_n 0, 1) := dk_42 (dk_at dksX3_doItem_0 0 rfl rfl)
theorem dX3_doItem_1 : decode cX3_doItem 1 = .ok (.getfield 38, 3) := dk_180 0 38 (dk_at dksX3_doItem_0 1 rfl rfl)
theorem dX3_doItem_4 : decode cX3_doItem 4 = .ok (.iload_n 1, 1) := dk_27 (dk_at dksX3_doItem_0 4 rfl rfl)
theorem dX3_doItem_5 : decode cX3_doItem 5 = .ok (.baload, 1) := dk_51 (dk_at dksX3_doItem_0 5 rfl rfl)
theorem dX3_doItem_6 : decode cX3_doItem 6 = .ok (.istore_n 2, 1) := dk_61 (dk_at dksX3_doItem_0 6 rfl rfl)
theorem dX3_doItem_7 : decode cX3_doItem 7 = .ok (.aload_n 0, 1) := dk_42 (dk_at dksX3_doItem_0 7 rfl rfl)
theorem dX3_doItem_8 : decode cX3_doItem 8 = .ok (.invokevirtual 82, 3) := dk_182 0 82 (dk_at dksX3_doItem_0 8 rfl rfl)
theorem dX3_doItem_11 : decode cX3_doItem 11 = .ok (.ifCond .ne 5, 3) := dk_154 0 5 (dk_at dksX3_doItem_0 11 rfl rfl)
theorem dX3_doItem_14 : decode cX3_doItem 14 = .ok (.iconst 0, 1) := dk_3 (dk_at dksX3_doItem_0 14 rfl rfl)
theorem dX3_doItem_15 : decode cX3_doItem 15 = .ok (.ireturn, 1) := dk_172 (dk_at dksX3_doItem_0 15 rfl rfl)
theorem dX3_doItem_16 : decode cX3_doItem 16 = .ok (.iload_n 2, 1) := dk_28 (dk_at dksX3_doItem_0 16 rfl rfl)
theorem dX3_doItem_17 : decode cX3_doItem 17 = .ok (.bipush 65, 2) := dk_16 65 (dk_at dksX3_doItem_0 17 rfl rfl)
theorem dX3_doItem_19 : decode cX3_doItem 19 = .ok (.if_icmp .eq 9, 3) := dk_159 0 9 (dk_at dksX3_doItem_0 19 rfl rfl)
theorem dX3_doItem_22 : decode cX3_doItem 22 = .ok (.iload_n 2, 1) := dk_28 (dk_at dksX3_doItem_0 22 rfl rfl)
theorem dX3_doItem_23 : decode cX3_doItem 23 = .ok (.bipush 66, 2) := dk_16 66 (dk_at dksX3_doItem_1 0 rfl rfl)
theorem dX3_doItem_25 : decode cX3_doItem 25 = .ok (.if_icmp .ne 14, 3) := dk_160 0 14 (dk_at dksX3_doItem_1 2 rfl rfl)
theorem dX3_doItem_28 : decode cX3_doItem 28 = .ok (.aload_n 0, 1) := dk_42 (dk_at dksX3_doItem_1 5 rfl rfl)
theorem dX3_doItem_29 : decode cX3_doItem 29 = .ok (.iload_n 2, 1) := dk_28 (dk_at dksX3_doItem_1 6 rfl rfl)
theorem dX3_doItem_30 : decode cX3_doItem 30 = .ok (.bipush 65, 2) := dk_16 65 (dk_at dksX3_doItem_1 7 rfl rfl)
theorem dX3_doItem_32 : decode cX3_doItem 32 = .ok (.isub, 1) := dk_100 (dk_at dksX3_doItem_1 9 rfl rfl)
theorem dX3_doItem_33 : decode cX3_doItem 33 = .ok (.invokevirtual 113, 3) := dk_182 0 113 (dk_at dksX3_doItem_1 10 rfl rfl)
theorem dX3_doItem_36 : decode cX3_doItem 36 = .ok (.pop, 1) := dk_87 (dk_at dksX3_doItem_1 13 rfl rfl)
theorem dX3_doItem_37 : decode cX3_doItem 37 = .ok (.iconst 1, 1) := dk_4 (dk_at dksX3_doItem_1 14 rfl rfl)
theorem dX3_doItem_38 : decode cX3_doItem 38 = .ok (.ireturn, 1) := dk_172 (dk_at dksX3_doItem_1 15 rfl rfl)
theorem dX3_doItem_39 : decode cX3_doItem 39 = .ok (.iload_n 2, 1) := dk_28 (dk_at dksX3_doItem_1 16 rfl rfl)
theorem dX3_doItem_40 : decode cX3_doItem 40 = .ok (.bipush 97, 2) := dk_16 97 (dk_at dksX3_doItem_1 17 rfl rfl)
theorem dX3_doItem_42 : decode cX3_doItem 42 = .ok (.isub, 1) := dk_100 (dk_at dksX3_doItem_1 19 rfl rfl)
theorem dX3_doItem_43 : decode cX3_doItem 43 = .ok (.istore_n 3, 1) := dk_62 (dk_at dksX3_doItem_1 20 rfl rfl)
theorem dX3_doItem_44 : decode cX3_doItem 44 = .ok (.aload_n 0, 1) := dk_42 (dk_at dksX3_doItem_1 21 rfl rfl)
theorem dX3_doItem_45 : decode cX3_doItem 45 = .ok (.getfield 38, 3) := dk_180 0 38 (dk_at dksX3_doItem_2 0 rfl rfl)
theorem dX3_doItem_48 : decode cX3_doItem 48 = .ok (.iload_n 1, 1) := dk_27 (dk_at dksX3_doItem_2 3 rfl rfl)
theorem dX3_doItem_49 : decode cX3_doItem 49 = .ok (.iconst 1, 1) := dk_4 (dk_at dksX3_doItem_2 4 rfl rfl)
theorem dX3_doItem_50 : decode cX3_doItem 50 = .ok (.iadd, 1) := dk_96 (dk_at dksX3_doItem_2 5 rfl rfl)
theorem dX3_doItem_51 : decode cX3_doItem 51 = .ok (.baload, 1) := dk_51 (dk_at dksX3_doItem_2 6 rfl rfl)
theorem dX3_doItem_52 : decode cX3_doItem 52 = .ok (.istore 4, 2) := dk_54 4 (dk_at dksX3_doItem_2 7 rfl rfl)
theorem dX3_doItem_54 : decode cX3_doItem 54 = .ok (.iload 4, 2) := dk_21 4 (dk_at dksX3_doItem_2 9 rfl rfl)
theorem dX3_doItem_56 : decode cX3_doItem 56 = .ok (.bipush 33, 2) := dk_16 33 (dk_at dksX3_doItem_2 11 rfl rfl)
theorem dX3_doItem_58 : decode cX3_doItem 58 = .ok (.if_icmp .ne 18, 3) := dk_160 0 18 (dk_at dksX3_doItem_2 13 rfl rfl)
theorem dX3_doItem_61 : decode cX3_doItem 61 = .ok (.aload_n 0, 1) := dk_42 (dk_at dksX3_doItem_2 16 rfl rfl)
theorem dX3_doItem_62 : decode cX3_doItem 62 = .ok (.iload_n 3, 1) := dk_29 (dk_at dksX3_doItem_2 17 rfl rfl)
theorem dX3_doItem_63 : decode cX3_doItem 63 = .ok (.invokevirtual 129, 3) := dk_182 0 129 (dk_at dksX3_doItem_2 18 rfl rfl)
theorem dX3_doItem_66 : decode cX3_doItem 66 = .ok (.iconst (-1), 1) := dk_2 (dk_at dksX3_doItem_2 21 rfl rfl)
theorem dX3_doItem_67 : decode cX3_doItem 67 = .ok (.if_icmp .eq 7, 3) := dk_159 0 7 (dk_at dksX3_doItem_3 0 rfl rfl)
theorem dX3_doItem_70 : decode cX3_doItem 70 = .ok (.iconst 1, 1) := dk_4 (dk_at dksX3_doItem_3 3 rfl rfl)
theorem dX3_doItem_71 : decode cX3_doItem 71 = .ok (.goto 4, 3) := dk_167 0 4 (dk_at dksX3_doItem_3 4 rfl rfl)
theorem dX3_doItem_74 : decode cX3_doItem 74 = .ok (.iconst 0, 1) := dk_3 (dk_at dksX3_doItem_3 7 rfl rfl)
theorem dX3_doItem_75 : decode cX3_doItem 75 = .ok (.ireturn, 1) := dk_172 (dk_at dksX3_doItem_3 8 rfl rfl)
theorem dX3_doItem_76 : decode cX3_doItem 76 = .ok (.iload 4, 2) := dk_21 4 (dk_at dksX3_doItem_3 9 rfl rfl)
theorem dX3_doItem_78 : decode cX3_doItem 78 = .ok (.bipush 45, 2) := dk_16 45 (dk_at dksX3_doItem_3 11 rfl rfl)
theorem dX3_doItem_80 : decode cX3_doItem 80 = .ok (.if_icmp .ne 19, 3) := dk_160 0 19 (dk_at dksX3_doItem_3 13 rfl rfl)
theorem dX3_doItem_83 : decode cX3_doItem 83 = .ok (.aload_n 0, 1) := dk_42 (dk_at dksX3_doItem_3 16 rfl rfl)
theorem dX3_doItem_84 : decode cX3_doItem 84 = .ok (.iload_n 3, 1) := dk_29 (dk_at dksX3_doItem_3 17 rfl rfl)
theorem dX3_doItem_85 : decode cX3_doItem 85 = .ok (.iconst (-1), 1) := dk_2 (dk_at dksX3_doItem_3 18 rfl rfl)
theorem dX3_doItem_86 : decode cX3_doItem 86 = .ok (.invokevirtual 126, 3) := dk_182 0 126 (dk_at dksX3_doItem_3 19 rfl rfl)
theorem dX3_doItem_89 : decode cX3_doItem 89 = .ok (.iconst (-1), 1) := dk_2 (dk_at dksX3_doItem_3 22 rfl rfl)
theorem dX3_doItem_90 : decode cX3_doItem 90 = .ok (.if_icmp .eq 7, 3) := dk_159 0 7 (dk_at dksX3_doItem_4 0 rfl rfl)
theorem dX3_doItem_93 : decode cX3_doItem 93 = .ok (.iconst 1, 1) := dk_4 (dk_at dksX3_doItem_4 3 rfl rfl)
theorem dX3_doItem_94 : decode cX3_doItem 94 = .ok (.goto 4, 3) := dk_167 0 4 (dk_at dksX3_doItem_4 4 rfl rfl)
theorem dX3_doItem_97 : decode cX3_doItem 97 = .ok (.iconst 0, 1) := dk_3 (dk_at dksX3_doItem_4 7 rfl rfl)
theorem dX3_doItem_98 : decode cX3_doItem 98 = .ok (.ireturn, 1) := dk_172 (dk_at dksX3_doItem_4 8 rfl rfl)
theorem dX3_doItem_99 : decode cX3_doItem 99 = .ok (.aload_n 0, 1) := dk_42 (dk_at dksX3_doItem_4 9 rfl rfl)
theorem dX3_doItem_100 : decode cX3_doItem 100 = .ok (.getfield 38, 3) := dk_180 0 38 (dk_at dksX3_doItem_4 10 rfl rfl)
theorem dX3_doItem_103 : decode cX3_doItem 103 = .ok (.iload_n 1, 1) := dk_27 (dk_at dksX3_doItem_4 13 rfl rfl)
theorem dX3_doItem_104 : decode cX3_doItem 104 = .ok (.iconst 2, 1) := dk_5 (dk_at dksX3_doItem_4 14 rfl rfl)
theorem dX3_doItem_105 : decode cX3_doItem 105 = .ok (.iadd, 1) := dk_96 (dk_at dksX3_doItem_4 15 rfl rfl)
theorem dX3_doItem_106 : decode cX3_doItem 106 = .ok (.baload, 1) := dk_51 (dk_at dksX3_doItem_4 16 rfl rfl)
theorem dX3_doItem_107 : decode cX3_doItem 107 = .ok (.invokestatic 144, 3) := dk_184 0 144 (dk_at dksX3_doItem_4 17 rfl rfl)
theorem dX3_doItem_110 : decode cX3_doItem 110 = .ok (.istore 5, 2) := dk_54 5 (dk_at dksX3_doItem_4 20 rfl rfl)
theorem dX3_doItem_112 : decode cX3_doItem 112 = .ok (.iload 4, 2) := dk_21 4 (dk_at dksX3_doItem_4 22 rfl rfl)
theorem dX3_doItem_114 : decode cX3_doItem 114 = .ok (.bipush 42, 2) := dk_16 42 (dk_at dksX3_doItem_5 0 rfl rfl)
theorem dX3_doItem_116 : decode cX3_doItem 116 = .ok (.if_icmp .ne 20, 3) := dk_160 0 20 (dk_at dksX3_doItem_5 2 rfl rfl)
theorem dX3_doItem_119 : decode cX3_doItem 119 = .ok (.aload_n 0, 1) := dk_42 (dk_at dksX3_doItem_5 5 rfl rfl)
theorem dX3_doItem_120 : decode cX3_doItem 120 = .ok (.iload_n 3, 1) := dk_29 (dk_at dksX3_doItem_5 6 rfl rfl)
theorem dX3_doItem_121 : decode cX3_doItem 121 = .ok (.iload 5, 2) := dk_21 5 (dk_at dksX3_doItem_5 7 rfl rfl)
theorem dX3_doItem_123 : decode cX3_doItem 123 = .ok (.invokevirtual 126, 3) := dk_182 0 126 (dk_at dksX3_doItem_5 9 rfl rfl)
theorem dX3_doItem_126 : decode cX3_doItem 126 = .ok (.iconst (-1), 1) := dk_2 (dk_at dksX3_doItem_5 12 rfl rfl)
theorem dX3_doItem_127 : decode cX3_doItem 127 = .ok (.if_icmp .eq 7, 3) := dk_159 0 7 (dk_at dksX3_doItem_5 13 rfl rfl)
theorem dX3_doItem_130 : decode cX3_doItem 130 = .ok (.iconst 1, 1) := dk_4 (dk_at dksX3_doItem_5 16 rfl rfl)
theorem dX3_doItem_131 : decode cX3_doItem 131 = .ok (.goto 4, 3) := dk_167 0 4 (dk_at dksX3_doItem_5 17 rfl rfl)
theorem dX3_doItem_134 : decode cX3_doItem 134 = .ok (.iconst 0, 1) := dk_3 (dk_at dksX3_doItem_5 20 rfl rfl)
theorem dX3_doItem_135 : decode cX3_doItem 135 = .ok (.ireturn, 1) := dk_172 (dk_at dksX3_doItem_5 21 rfl rfl)
theorem dX3_doItem_136 : decode cX3_doItem 136 = .ok (.aload_n 0, 1) := dk_42 (dk_at dksX3_doItem_5 22 rfl rfl)
theorem dX3_doItem_137 : decode cX3_doItem 137 = .ok (.iload_n 3, 1) := dk_29 (dk_at dksX3_doItem_5 23 rfl rfl)
theorem dX3_doItem_138 : decode cX3_doItem 138 = .ok (.iload 4, 2) := dk_21 4 (dk_at dksX3_doItem_6 0 rfl rfl)
theorem dX3_doItem_140 : decode cX3_doItem 140 = .ok (.invokestatic 144, 3) := dk_184 0 144 (dk_at dksX3_doItem_6 2 rfl rfl)
theorem dX3_doItem_143 : decode cX3_doItem 143 = .ok (.iload 5, 2) := dk_21 5 (dk_at dksX3_doItem_6 5 rfl rfl)
theorem dX3_doItem_145 : decode cX3_doItem 145 = .ok (.invokevirtual 120, 3) := dk_182 0 120 (dk_at dksX3_doItem_6 7 rfl rfl)
theorem dX3_doItem_148 : decode cX3_doItem 148 = .ok (.ifCond .eq 5, 3) := dk_153 0 5 (dk_at dksX3_doItem_6 10 rfl rfl)
theorem dX3_doItem_151 : decode cX3_doItem 151 = .ok (.iconst 0, 1) := dk_3 (dk_at dksX3_doItem_6 13 rfl rfl)
theorem dX3_doItem_152 : decode cX3_doItem 152 = .ok (.ireturn, 1) := dk_172 (dk_at dksX3_doItem_6 14 rfl rfl)
theorem dX3_doItem_153 : decode cX3_doItem 153 = .ok (.aload_n 0, 1) := dk_42 (dk_at dksX3_doItem_6 15 rfl rfl)
theorem dX3_doItem_154 : decode cX3_doItem 154 = .ok (.iload_n 3, 1) := dk_29 (dk_at dksX3_doItem_6 16 rfl rfl)
theorem dX3_doItem_155 : decode cX3_doItem 155 = .ok (.iload 4, 2) := dk_21 4 (dk_at dksX3_doItem_6 17 rfl rfl)
theorem dX3_doItem_157 : decode cX3_doItem 157 = .ok (.invokestatic 144, 3) := dk_184 0 144 (dk_at dksX3_doItem_6 19 rfl rfl)
theorem dX3_doItem_160 : decode cX3_doItem 160 = .ok (.iload 5, 2) := dk_21 5 (dk_at dksX3_doItem_6 22 rfl rfl)
theorem dX3_doItem_162 : decode cX3_doItem 162 = .ok (.invokevirtual 123, 3) := dk_182 0 123 (dk_at dksX3_doItem_7 0 rfl rfl)
theorem dX3_doItem_165 : decode cX3_doItem 165 = .ok (.pop, 1) := dk_87 (dk_at dksX3_doItem_7 3 rfl rfl)
theorem dX3_doItem_166 : decode cX3_doItem 166 = .ok (.iconst 1, 1) := dk_4 (dk_at dksX3_doItem_7 4 rfl rfl)
theorem dX3_doItem_167 : decode cX3_doItem 167 = .ok (.ireturn, 1) := dk_172 (dk_at dksX3_doItem_7 5 rfl rfl)
abbrev cX3_putBack : ByteArray := prog_9_method_46_code
def yX3_putBack : MethodName := ⟨RX3, "putBack", "()V"⟩
def dkwX3_putBack_1 : List UInt8 := [167, 255, 235, 177]
abbrev dktX3_putBack_1 : List UInt8 := dkwX3_putBack_1 ++ []
def dkwX3_putBack_0 : List UInt8 := [3, 60, 27, 16, 106, 162, 0, 21, 42, 180, 0, 26, 27, 42, 180, 0, 29, 27, 46, 79, 132, 1, 1]
abbrev dktX3_putBack_0 : List UInt8 := dkwX3_putBack_0 ++ dktX3_putBack_1
theorem dksX3_putBack_0 : cX3_putBack.data.toList.drop 0 = dktX3_putBack_0 := by decide +kernel
theorem dksX3_putBack_1 : cX3_putBack.data.toList.drop 23 = dktX3_putBack_1 := dk_seg dksX3_putBack_0 23 rfl rfl
theorem dX3_putBack_0 : decode cX3_putBack 0 = .ok (.iconst 0, 1) := dk_3 (dk_at dksX3_putBack_0 0 rfl rfl)
theorem dX3_putBack_1 : decode cX3_putBack 1 = .ok (.istore_n 1, 1) := dk_60 (dk_at dksX3_putBack_0 1 rfl rfl)
theorem dX3_putBack_2 : decode cX3_putBack 2 = .ok (.iload_n 1, 1) := dk_27 (dk_at dksX3_putBack_0 2 rfl rfl)
theorem dX3_putBack_3 : decode cX3_putBack 3 = .ok (.bipush 106, 2) := dk_16 106 (dk_at dksX3_putBack_0 3 rfl rfl)
theorem dX3_putBack_5 : decode cX3_putBack 5 = .ok (.if_icmp .ge 21, 3) := dk_162 0 21 (dk_at dksX3_putBack_0 5 rfl rfl)
theorem dX3_putBack_8 : decode cX3_putBack 8 = .ok (.aload_n 0, 1) := dk_42 (dk_at dksX3_putBack_0 8 rfl rfl)
theorem dX3_putBack_9 : decode cX3_putBack 9 = .ok (.getfield 26, 3) := dk_180 0 26 (dk_at dksX3_putBack_0 9 rfl rfl)
theorem dX3_putBack_12 : decode cX3_putBack 12 = .ok (.iload_n 1, 1) := dk_27 (dk_at dksX3_putBack_0 12 rfl rfl)
theorem dX3_putBack_13 : decode cX3_putBack 13 = .ok (.aload_n 0, 1) := dk_42 (dk_at dksX3_putBack_0 13 rfl rfl)
theorem dX3_putBack_14 : decode cX3_putBack 14 = .ok (.getfield 29, 3) := dk_180 0 29 (dk_at dksX3_putBack_0 14 rfl rfl)
theorem dX3_putBack_17 : decode cX3_putBack 17 = .ok (.iload_n 1, 1) := dk_27 (dk_at dksX3_putBack_0 17 rfl rfl)
theorem dX3_putBack_18 : decode cX3_putBack 18 = .ok (.iaload, 1) := dk_46 (dk_at dksX3_putBack_0 18 rfl rfl)
theorem dX3_putBack_19 : decode cX3_putBack 19 = .ok (.iastore, 1) := dk_79 (dk_at dksX3_putBack_0 19 rfl rfl)
theorem dX3_putBack_20 : decode cX3_putBack 20 = .ok (.iinc 1 1, 3) := dk_132 1 1 (dk_at dksX3_putBack_0 20 rfl rfl)
theorem dX3_putBack_23 : decode cX3_putBack 23 = .ok (.goto (-21), 3) := dk_167 255 235 (dk_at dksX3_putBack_1 0 rfl rfl)
theorem dX3_putBack_26 : decode cX3_putBack 26 = .ok (.return_, 1) := dk_177 (dk_at dksX3_putBack_1 3 rfl rfl)
abbrev cX3_odds : ByteArray := prog_9_method_51_code
def yX3_odds : MethodName := ⟨RX3, "odds", "(III)I"⟩
def dkwX3_odds_2 : List UInt8 := [182, 0, 177, 172]
abbrev dktX3_odds_2 : List UInt8 := dkwX3_odds_2 ++ []
def dkwX3_odds_1 : List UInt8 := [184, 0, 67, 153, 0, 10, 29, 184, 0, 71, 154, 0, 5, 2, 172, 42, 182, 0, 174, 42, 27, 28, 29]
abbrev dktX3_odds_1 : List UInt8 := dkwX3_odds_1 ++ dktX3_odds_2
def dkwX3_odds_0 : List UInt8 := [42, 3, 181, 0, 63, 42, 182, 0, 82, 153, 0, 28, 27, 3, 8, 184, 0, 67, 153, 0, 19, 28, 3, 8]
abbrev dktX3_odds_0 : List UInt8 := dkwX3_odds_0 ++ dktX3_odds_1
theorem dksX3_odds_0 : cX3_odds.data.toList.drop 0 = dktX3_odds_0 := by decide +kernel
theorem dksX3_odds_1 : cX3_odds.data.toList.drop 24 = dktX3_odds_1 := dk_seg dksX3_odds_0 24 rfl rfl
theorem dksX3_odds_2 : cX3_odds.data.toList.drop 47 = dktX3_odds_2 := dk_seg dksX3_odds_1 23 rfl rfl
theorem dX3_odds_0 : decode cX3_odds 0 = .ok (.aload_n 0, 1) := dk_42 (dk_at dksX3_odds_0 0 rfl rfl)
theorem dX3_odds_1 : decode cX3_odds 1 = .ok (.iconst 0, 1) := dk_3 (dk_at dksX3_odds_0 1 rfl rfl)
theorem dX3_odds_2 : decode cX3_odds 2 = .ok (.putfield 63, 3) := dk_181 0 63 (dk_at dksX3_odds_0 2 rfl rfl)
theorem dX3_odds_5 : decode cX3_odds 5 = .ok (.aload_n 0, 1) := dk_42 (dk_at dksX3_odds_0 5 rfl rfl)
theorem dX3_odds_6 : decode cX3_odds 6 = .ok (.invokevirtual 82, 3) := dk_182 0 82 (dk_at dksX3_odds_0 6 rfl rfl)
theorem dX3_odds_9 : decode cX3_odds 9 = .ok (.ifCond .eq 28, 3) := dk_153 0 28 (dk_at dksX3_odds_0 9 rfl rfl)
theorem dX3_odds_12 : decode cX3_odds 12 = .ok (.iload_n 1, 1) := dk_27 (dk_at dksX3_odds_0 12 rfl rfl)
theorem dX3_odds_13 : decode cX3_odds 13 = .ok (.iconst 0, 1) := dk_3 (dk_at dksX3_odds_0 13 rfl rfl)
theorem dX3_odds_14 : decode cX3_odds 14 = .ok (.iconst 5, 1) := dk_8 (dk_at dksX3_odds_0 14 rfl rfl)
theorem dX3_odds_15 : decode cX3_odds 15 = .ok (.invokestatic 67, 3) := dk_184 0 67 (dk_at dksX3_odds_0 15 rfl rfl)
theorem dX3_odds_18 : decode cX3_odds 18 = .ok (.ifCond .eq 19, 3) := dk_153 0 19 (dk_at dksX3_odds_0 18 rfl rfl)
theorem dX3_odds_21 : decode cX3_odds 21 = .ok (.iload_n 2, 1) := dk_28 (dk_at dksX3_odds_0 21 rfl rfl)
theorem dX3_odds_22 : decode cX3_odds 22 = .ok (.iconst 0, 1) := dk_3 (dk_at dksX3_odds_0 22 rfl rfl)
theorem dX3_odds_23 : decode cX3_odds 23 = .ok (.iconst 5, 1) := dk_8 (dk_at dksX3_odds_0 23 rfl rfl)
theorem dX3_odds_24 : decode cX3_odds 24 = .ok (.invokestatic 67, 3) := dk_184 0 67 (dk_at dksX3_odds_1 0 rfl rfl)
theorem dX3_odds_27 : decode cX3_odds 27 = .ok (.ifCond .eq 10, 3) := dk_153 0 10 (dk_at dksX3_odds_1 3 rfl rfl)
theorem dX3_odds_30 : decode cX3_odds 30 = .ok (.iload_n 3, 1) := dk_29 (dk_at dksX3_odds_1 6 rfl rfl)
theorem dX3_odds_31 : decode cX3_odds 31 = .ok (.invokestatic 71, 3) := dk_184 0 71 (dk_at dksX3_odds_1 7 rfl rfl)
theorem dX3_odds_34 : decode cX3_odds 34 = .ok (.ifCond .ne 5, 3) := dk_154 0 5 (dk_at dksX3_odds_1 10 rfl rfl)
theorem dX3_odds_37 : decode cX3_odds 37 = .ok (.iconst (-1), 1) := dk_2 (dk_at dksX3_odds_1 13 rfl rfl)
theorem dX3_odds_38 : decode cX3_odds 38 = .ok (.ireturn, 1) := dk_172 (dk_at dksX3_odds_1 14 rfl rfl)
theorem dX3_odds_39 : decode cX3_odds 39 = .ok (.aload_n 0, 1) := dk_42 (dk_at dksX3_odds_1 15 rfl rfl)
theorem dX3_odds_40 : decode cX3_odds 40 = .ok (.invokevirtual 174, 3) := dk_182 0 174 (dk_at dksX3_odds_1 16 rfl rfl)
theorem dX3_odds_43 : decode cX3_odds 43 = .ok (.aload_n 0, 1) := dk_42 (dk_at dksX3_odds_1 19 rfl rfl)
theorem dX3_odds_44 : decode cX3_odds 44 = .ok (.iload_n 1, 1) := dk_27 (dk_at dksX3_odds_1 20 rfl rfl)
theorem dX3_odds_45 : decode cX3_odds 45 = .ok (.iload_n 2, 1) := dk_28 (dk_at dksX3_odds_1 21 rfl rfl)
theorem dX3_odds_46 : decode cX3_odds 46 = .ok (.iload_n 3, 1) := dk_29 (dk_at dksX3_odds_1 22 rfl rfl)
theorem dX3_odds_47 : decode cX3_odds 47 = .ok (.invokevirtual 177, 3) := dk_182 0 177 (dk_at dksX3_odds_2 0 rfl rfl)
theorem dX3_odds_50 : decode cX3_odds 50 = .ok (.ireturn, 1) := dk_172 (dk_at dksX3_odds_2 3 rfl rfl)
abbrev cX3_countNow : ByteArray := prog_9_method_47_code
def yX3_countNow : MethodName := ⟨RX3, "countNow", "()V"⟩
def dkwX3_countNow_3 : List UInt8 := [167, 255, 196, 132, 1, 1, 167, 255, 183, 177]
abbrev dktX3_countNow_3 : List UInt8 := dkwX3_countNow_3 ++ []
def dkwX3_countNow_2 : List UInt8 := [180, 0, 13, 27, 46, 160, 0, 12, 42, 27, 7, 182, 0, 95, 167, 0, 4, 29, 79, 132, 2, 1]
abbrev dktX3_countNow_2 : List UInt8 := dkwX3_countNow_2 ++ dktX3_countNow_3
def dkwX3_countNow_1 : List UInt8 := [62, 42, 180, 0, 45, 16, 6, 27, 104, 28, 96, 42, 27, 7, 182, 0, 95, 2, 159, 0, 22, 29, 42]
abbrev dktX3_countNow_1 : List UInt8 := dkwX3_countNow_1 ++ dktX3_countNow_2
def dkwX3_countNow_0 : List UInt8 := [3, 60, 27, 5, 162, 0, 74, 3, 61, 28, 16, 6, 162, 0, 60, 42, 27, 16, 8, 28, 96, 182, 0, 95]
abbrev dktX3_countNow_0 : List UInt8 := dkwX3_countNow_0 ++ dktX3_countNow_1
theorem dksX3_countNow_0 : cX3_countNow.data.toList.drop 0 = dktX3_countNow_0 := by decide +kernel
theorem dksX3_countNow_1 : cX3_countNow.data.toList.drop 24 = dktX3_countNow_1 := dk_seg dksX3_countNow_0 24 rfl rfl
theorem dksX3_countNow_2 : cX3_countNow.data.toList.drop 47 = dktX3_countNow_2 := dk_seg dksX3_countNow_1 23 rfl rfl
theorem dksX3_countNow_3 : cX3_countNow.data.toList.drop 69 = dktX3_countNow_3 := dk_seg dksX3_countNow_2 22 rfl rfl
theorem dX3_countNow_0 : decode cX3_countNow 0 = .ok (.iconst 0, 1) := dk_3 (dk_at dksX3_countNow_0 0 rfl rfl)
theorem dX3_countNow_1 : decode cX3_countNow 1 = .ok (.istore_n 1, 1) := dk_60 (dk_at dksX3_countNow_0 1 rfl rfl)
theorem dX3_countNow_2 : decode cX3_countNow 2 = .ok (.iload_n 1, 1) := dk_27 (dk_at dksX3_countNow_0 2 rfl rfl)
theorem dX3_countNow_3 : decode cX3_countNow 3 = .ok (.iconst 2, 1) := dk_5 (dk_at dksX3_countNow_0 3 rfl rfl)
theorem dX3_countNow_4 : decode cX3_countNow 4 = .ok (.if_icmp .ge 74, 3) := dk_162 0 74 (dk_at dksX3_countNow_0 4 rfl rfl)
theorem dX3_countNow_7 : decode cX3_countNow 7 = .ok (.iconst 0, 1) := dk_3 (dk_at dksX3_countNow_0 7 rfl rfl)
theorem dX3_countNow_8 : decode cX3_countNow 8 = .ok (.istore_n 2, 1) := dk_61 (dk_at dksX3_countNow_0 8 rfl rfl)
theorem dX3_countNow_9 : decode cX3_countNow 9 = .ok (.iload_n 2, 1) := dk_28 (dk_at dksX3_countNow_0 9 rfl rfl)
theorem dX3_countNow_10 : decode cX3_countNow 10 = .ok (.bipush 6, 2) := dk_16 6 (dk_at dksX3_countNow_0 10 rfl rfl)
theorem dX3_countNow_12 : decode cX3_countNow 12 = .ok (.if_icmp .ge 60, 3) := dk_162 0 60 (dk_at dksX3_countNow_0 12 rfl rfl)
theorem dX3_countNow_15 : decode cX3_countNow 15 = .ok (.aload_n 0, 1) := dk_42 (dk_at dksX3_countNow_0 15 rfl rfl)
theorem dX3_countNow_16 : decode cX3_countNow 16 = .ok (.iload_n 1, 1) := dk_27 (dk_at dksX3_countNow_0 16 rfl rfl)
theorem dX3_countNow_17 : decode cX3_countNow 17 = .ok (.bipush 8, 2) := dk_16 8 (dk_at dksX3_countNow_0 17 rfl rfl)
theorem dX3_countNow_19 : decode cX3_countNow 19 = .ok (.iload_n 2, 1) := dk_28 (dk_at dksX3_countNow_0 19 rfl rfl)
theorem dX3_countNow_20 : decode cX3_countNow 20 = .ok (.iadd, 1) := dk_96 (dk_at dksX3_countNow_0 20 rfl rfl)
theorem dX3_countNow_21 : decode cX3_countNow 21 = .ok (.invokevirtual 95, 3) := dk_182 0 95 (dk_at dksX3_countNow_0 21 rfl rfl)
theorem dX3_countNow_24 : decode cX3_countNow 24 = .ok (.istore_n 3, 1) := dk_62 (dk_at dksX3_countNow_1 0 rfl rfl)
theorem dX3_countNow_25 : decode cX3_countNow 25 = .ok (.aload_n 0, 1) := dk_42 (dk_at dksX3_countNow_1 1 rfl rfl)
theorem dX3_countNow_26 : decode cX3_countNow 26 = .ok (.getfield 45, 3) := dk_180 0 45 (dk_at dksX3_countNow_1 2 rfl rfl)
theorem dX3_countNow_29 : decode cX3_countNow 29 = .ok (.bipush 6, 2) := dk_16 6 (dk_at dksX3_countNow_1 5 rfl rfl)
theorem dX3_countNow_31 : decode cX3_countNow 31 = .ok (.iload_n 1, 1) := dk_27 (dk_at dksX3_countNow_1 7 rfl rfl)
theorem dX3_countNow_32 : decode cX3_countNow 32 = .ok (.imul, 1) := dk_104 (dk_at dksX3_countNow_1 8 rfl rfl)
theorem dX3_countNow_33 : decode cX3_countNow 33 = .ok (.iload_n 2, 1) := dk_28 (dk_at dksX3_countNow_1 9 rfl rfl)
theorem dX3_countNow_34 : decode cX3_countNow 34 = .ok (.iadd, 1) := dk_96 (dk_at dksX3_countNow_1 10 rfl rfl)
theorem dX3_countNow_35 : decode cX3_countNow 35 = .ok (.aload_n 0, 1) := dk_42 (dk_at dksX3_countNow_1 11 rfl rfl)
theorem dX3_countNow_36 : decode cX3_countNow 36 = .ok (.iload_n 1, 1) := dk_27 (dk_at dksX3_countNow_1 12 rfl rfl)
theorem dX3_countNow_37 : decode cX3_countNow 37 = .ok (.iconst 4, 1) := dk_7 (dk_at dksX3_countNow_1 13 rfl rfl)
theorem dX3_countNow_38 : decode cX3_countNow 38 = .ok (.invokevirtual 95, 3) := dk_182 0 95 (dk_at dksX3_countNow_1 14 rfl rfl)
theorem dX3_countNow_41 : decode cX3_countNow 41 = .ok (.iconst (-1), 1) := dk_2 (dk_at dksX3_countNow_1 17 rfl rfl)
theorem dX3_countNow_42 : decode cX3_countNow 42 = .ok (.if_icmp .eq 22, 3) := dk_159 0 22 (dk_at dksX3_countNow_1 18 rfl rfl)
theorem dX3_countNow_45 : decode cX3_countNow 45 = .ok (.iload_n 3, 1) := dk_29 (dk_at dksX3_countNow_1 21 rfl rfl)
theorem dX3_countNow_46 : decode cX3_countNow 46 = .ok (.aload_n 0, 1) := dk_42 (dk_at dksX3_countNow_1 22 rfl rfl)
theorem dX3_countNow_47 : decode cX3_countNow 47 = .ok (.getfield 13, 3) := dk_180 0 13 (dk_at dksX3_countNow_2 0 rfl rfl)
theorem dX3_countNow_50 : decode cX3_countNow 50 = .ok (.iload_n 1, 1) := dk_27 (dk_at dksX3_countNow_2 3 rfl rfl)
theorem dX3_countNow_51 : decode cX3_countNow 51 = .ok (.iaload, 1) := dk_46 (dk_at dksX3_countNow_2 4 rfl rfl)
theorem dX3_countNow_52 : decode cX3_countNow 52 = .ok (.if_icmp .ne 12, 3) := dk_160 0 12 (dk_at dksX3_countNow_2 5 rfl rfl)
theorem dX3_countNow_55 : decode cX3_countNow 55 = .ok (.aload_n 0, 1) := dk_42 (dk_at dksX3_countNow_2 8 rfl rfl)
theorem dX3_countNow_56 : decode cX3_countNow 56 = .ok (.iload_n 1, 1) := dk_27 (dk_at dksX3_countNow_2 9 rfl rfl)
theorem dX3_countNow_57 : decode cX3_countNow 57 = .ok (.iconst 4, 1) := dk_7 (dk_at dksX3_countNow_2 10 rfl rfl)
theorem dX3_countNow_58 : decode cX3_countNow 58 = .ok (.invokevirtual 95, 3) := dk_182 0 95 (dk_at dksX3_countNow_2 11 rfl rfl)
theorem dX3_countNow_61 : decode cX3_countNow 61 = .ok (.goto 4, 3) := dk_167 0 4 (dk_at dksX3_countNow_2 14 rfl rfl)
theorem dX3_countNow_64 : decode cX3_countNow 64 = .ok (.iload_n 3, 1) := dk_29 (dk_at dksX3_countNow_2 17 rfl rfl)
theorem dX3_countNow_65 : decode cX3_countNow 65 = .ok (.iastore, 1) := dk_79 (dk_at dksX3_countNow_2 18 rfl rfl)
theorem dX3_countNow_66 : decode cX3_countNow 66 = .ok (.iinc 2 1, 3) := dk_132 2 1 (dk_at dksX3_countNow_2 19 rfl rfl)
theorem dX3_countNow_69 : decode cX3_countNow 69 = .ok (.goto (-60), 3) := dk_167 255 196 (dk_at dksX3_countNow_3 0 rfl rfl)
theorem dX3_countNow_72 : decode cX3_countNow 72 = .ok (.iinc 1 1, 3) := dk_132 1 1 (dk_at dksX3_countNow_3 3 rfl rfl)
theorem dX3_countNow_75 : decode cX3_countNow 75 = .ok (.goto (-73), 3) := dk_167 255 183 (dk_at dksX3_countNow_3 6 rfl rfl)
theorem dX3_countNow_78 : decode cX3_countNow 78 = .ok (.return_, 1) := dk_177 (dk_at dksX3_countNow_3 9 rfl rfl)
abbrev cX3_oddsOf : ByteArray := prog_9_method_50_code
def yX3_oddsOf : MethodName := ⟨RX3, "oddsOf", "(III)I"⟩
def dkwX3_oddsOf_4 : List UInt8 := [21, 6, 184, 0, 147, 184, 0, 171, 172]
abbrev dktX3_oddsOf_4 : List UInt8 := dkwX3_oddsOf_4 ++ []
def dkwX3_oddsOf_3 : List UInt8 := [42, 4, 29, 100, 21, 5, 5, 4, 5, 6, 182, 0, 167, 6, 108, 100, 54, 6, 16, 50, 17, 3, 182]
abbrev dktX3_oddsOf_3 : List UInt8 := dkwX3_oddsOf_3 ++ dktX3_oddsOf_4
def dkwX3_oddsOf_2 : List UInt8 := [4, 3, 7, 8, 182, 0, 167, 6, 108, 100, 42, 29, 21, 4, 6, 4, 5, 6, 182, 0, 167, 6, 108, 96]
abbrev dktX3_oddsOf_2 : List UInt8 := dkwX3_oddsOf_2 ++ dktX3_oddsOf_3
def dkwX3_oddsOf_1 : List UInt8 := [17, 1, 124, 42, 29, 42, 29, 3, 21, 4, 182, 0, 164, 3, 182, 0, 78, 96, 42, 4, 29, 100, 21, 5]
abbrev dktX3_oddsOf_1 : List UInt8 := dkwX3_oddsOf_1 ++ dktX3_oddsOf_2
def dkwX3_oddsOf_0 : List UInt8 := [29, 154, 0, 7, 27, 167, 0, 4, 28, 54, 4, 29, 154, 0, 7, 28, 167, 0, 4, 27, 54, 5]
abbrev dktX3_oddsOf_0 : List UInt8 := dkwX3_oddsOf_0 ++ dktX3_oddsOf_1
theorem dksX3_oddsOf_0 : cX3_oddsOf.data.toList.drop 0 = dktX3_oddsOf_0 := by decide +kernel
theorem dksX3_oddsOf_1 : cX3_oddsOf.data.toList.drop 22 = dktX3_oddsOf_1 := dk_seg dksX3_oddsOf_0 22 rfl rfl
theorem dksX3_oddsOf_2 : cX3_oddsOf.data.toList.drop 46 = dktX3_oddsOf_2 := dk_seg dksX3_oddsOf_1 24 rfl rfl
theorem dksX3_oddsOf_3 : cX3_oddsOf.data.toList.drop 70 = dktX3_oddsOf_3 := dk_seg dksX3_oddsOf_2 24 rfl rfl
theorem dksX3_oddsOf_4 : cX3_oddsOf.data.toList.drop 93 = dktX3_oddsOf_4 := dk_seg dksX3_oddsOf_3 23 rfl rfl
theorem dX3_oddsOf_0 : decode cX3_oddsOf 0 = .ok (.iload_n 3, 1) := dk_29 (dk_at dksX3_oddsOf_0 0 rfl rfl)
theorem dX3_oddsOf_1 : decode cX3_oddsOf 1 = .ok (.ifCond .ne 7, 3) := dk_154 0 7 (dk_at dksX3_oddsOf_0 1 rfl rfl)
theorem dX3_oddsOf_4 : decode cX3_oddsOf 4 = .ok (.iload_n 1, 1) := dk_27 (dk_at dksX3_oddsOf_0 4 rfl rfl)
theorem dX3_oddsOf_5 : decode cX3_oddsOf 5 = .ok (.goto 4, 3) := dk_167 0 4 (dk_at dksX3_oddsOf_0 5 rfl rfl)
theorem dX3_oddsOf_8 : decode cX3_oddsOf 8 = .ok (.iload_n 2, 1) := dk_28 (dk_at dksX3_oddsOf_0 8 rfl rfl)
theorem dX3_oddsOf_9 : decode cX3_oddsOf 9 = .ok (.istore 4, 2) := dk_54 4 (dk_at dksX3_oddsOf_0 9 rfl rfl)
theorem dX3_oddsOf_11 : decode cX3_oddsOf 11 = .ok (.iload_n 3, 1) := dk_29 (dk_at dksX3_oddsOf_0 11 rfl rfl)
theorem dX3_oddsOf_12 : decode cX3_oddsOf 12 = .ok (.ifCond .ne 7, 3) := dk_154 0 7 (dk_at dksX3_oddsOf_0 12 rfl rfl)
theorem dX3_oddsOf_15 : decode cX3_oddsOf 15 = .ok (.iload_n 2, 1) := dk_28 (dk_at dksX3_oddsOf_0 15 rfl rfl)
theorem dX3_oddsOf_16 : decode cX3_oddsOf 16 = .ok (.goto 4, 3) := dk_167 0 4 (dk_at dksX3_oddsOf_0 16 rfl rfl)
theorem dX3_oddsOf_19 : decode cX3_oddsOf 19 = .ok (.iload_n 1, 1) := dk_27 (dk_at dksX3_oddsOf_0 19 rfl rfl)
theorem dX3_oddsOf_20 : decode cX3_oddsOf 20 = .ok (.istore 5, 2) := dk_54 5 (dk_at dksX3_oddsOf_0 20 rfl rfl)
theorem dX3_oddsOf_22 : decode cX3_oddsOf 22 = .ok (.sipush 380, 3) := dk_17 1 124 (dk_at dksX3_oddsOf_1 0 rfl rfl)
theorem dX3_oddsOf_25 : decode cX3_oddsOf 25 = .ok (.aload_n 0, 1) := dk_42 (dk_at dksX3_oddsOf_1 3 rfl rfl)
theorem dX3_oddsOf_26 : decode cX3_oddsOf 26 = .ok (.iload_n 3, 1) := dk_29 (dk_at dksX3_oddsOf_1 4 rfl rfl)
theorem dX3_oddsOf_27 : decode cX3_oddsOf 27 = .ok (.aload_n 0, 1) := dk_42 (dk_at dksX3_oddsOf_1 5 rfl rfl)
theorem dX3_oddsOf_28 : decode cX3_oddsOf 28 = .ok (.iload_n 3, 1) := dk_29 (dk_at dksX3_oddsOf_1 6 rfl rfl)
theorem dX3_oddsOf_29 : decode cX3_oddsOf 29 = .ok (.iconst 0, 1) := dk_3 (dk_at dksX3_oddsOf_1 7 rfl rfl)
theorem dX3_oddsOf_30 : decode cX3_oddsOf 30 = .ok (.iload 4, 2) := dk_21 4 (dk_at dksX3_oddsOf_1 8 rfl rfl)
theorem dX3_oddsOf_32 : decode cX3_oddsOf 32 = .ok (.invokevirtual 164, 3) := dk_182 0 164 (dk_at dksX3_oddsOf_1 10 rfl rfl)
theorem dX3_oddsOf_35 : decode cX3_oddsOf 35 = .ok (.iconst 0, 1) := dk_3 (dk_at dksX3_oddsOf_1 13 rfl rfl)
theorem dX3_oddsOf_36 : decode cX3_oddsOf 36 = .ok (.invokevirtual 78, 3) := dk_182 0 78 (dk_at dksX3_oddsOf_1 14 rfl rfl)
theorem dX3_oddsOf_39 : decode cX3_oddsOf 39 = .ok (.iadd, 1) := dk_96 (dk_at dksX3_oddsOf_1 17 rfl rfl)
theorem dX3_oddsOf_40 : decode cX3_oddsOf 40 = .ok (.aload_n 0, 1) := dk_42 (dk_at dksX3_oddsOf_1 18 rfl rfl)
theorem dX3_oddsOf_41 : decode cX3_oddsOf 41 = .ok (.iconst 1, 1) := dk_4 (dk_at dksX3_oddsOf_1 19 rfl rfl)
theorem dX3_oddsOf_42 : decode cX3_oddsOf 42 = .ok (.iload_n 3, 1) := dk_29 (dk_at dksX3_oddsOf_1 20 rfl rfl)
theorem dX3_oddsOf_43 : decode cX3_oddsOf 43 = .ok (.isub, 1) := dk_100 (dk_at dksX3_oddsOf_1 21 rfl rfl)
theorem dX3_oddsOf_44 : decode cX3_oddsOf 44 = .ok (.iload 5, 2) := dk_21 5 (dk_at dksX3_oddsOf_1 22 rfl rfl)
theorem dX3_oddsOf_46 : decode cX3_oddsOf 46 = .ok (.iconst 1, 1) := dk_4 (dk_at dksX3_oddsOf_2 0 rfl rfl)
theorem dX3_oddsOf_47 : decode cX3_oddsOf 47 = .ok (.iconst 0, 1) := dk_3 (dk_at dksX3_oddsOf_2 1 rfl rfl)
theorem dX3_oddsOf_48 : decode cX3_oddsOf 48 = .ok (.iconst 4, 1) := dk_7 (dk_at dksX3_oddsOf_2 2 rfl rfl)
theorem dX3_oddsOf_49 : decode cX3_oddsOf 49 = .ok (.iconst 5, 1) := dk_8 (dk_at dksX3_oddsOf_2 3 rfl rfl)
theorem dX3_oddsOf_50 : decode cX3_oddsOf 50 = .ok (.invokevirtual 167, 3) := dk_182 0 167 (dk_at dksX3_oddsOf_2 4 rfl rfl)
theorem dX3_oddsOf_53 : decode cX3_oddsOf 53 = .ok (.iconst 3, 1) := dk_6 (dk_at dksX3_oddsOf_2 7 rfl rfl)
theorem dX3_oddsOf_54 : decode cX3_oddsOf 54 = .ok (.idiv, 1) := dk_108 (dk_at dksX3_oddsOf_2 8 rfl rfl)
theorem dX3_oddsOf_55 : decode cX3_oddsOf 55 = .ok (.isub, 1) := dk_100 (dk_at dksX3_oddsOf_2 9 rfl rfl)
theorem dX3_oddsOf_56 : decode cX3_oddsOf 56 = .ok (.aload_n 0, 1) := dk_42 (dk_at dksX3_oddsOf_2 10 rfl rfl)
theorem dX3_oddsOf_57 : decode cX3_oddsOf 57 = .ok (.iload_n 3, 1) := dk_29 (dk_at dksX3_oddsOf_2 11 rfl rfl)
theorem dX3_oddsOf_58 : decode cX3_oddsOf 58 = .ok (.iload 4, 2) := dk_21 4 (dk_at dksX3_oddsOf_2 12 rfl rfl)
theorem dX3_oddsOf_60 : decode cX3_oddsOf 60 = .ok (.iconst 3, 1) := dk_6 (dk_at dksX3_oddsOf_2 14 rfl rfl)
theorem dX3_oddsOf_61 : decode cX3_oddsOf 61 = .ok (.iconst 1, 1) := dk_4 (dk_at dksX3_oddsOf_2 15 rfl rfl)
theorem dX3_oddsOf_62 : decode cX3_oddsOf 62 = .ok (.iconst 2, 1) := dk_5 (dk_at dksX3_oddsOf_2 16 rfl rfl)
theorem dX3_oddsOf_63 : decode cX3_oddsOf 63 = .ok (.iconst 3, 1) := dk_6 (dk_at dksX3_oddsOf_2 17 rfl rfl)
theorem dX3_oddsOf_64 : decode cX3_oddsOf 64 = .ok (.invokevirtual 167, 3) := dk_182 0 167 (dk_at dksX3_oddsOf_2 18 rfl rfl)
theorem dX3_oddsOf_67 : decode cX3_oddsOf 67 = .ok (.iconst 3, 1) := dk_6 (dk_at dksX3_oddsOf_2 21 rfl rfl)
theorem dX3_oddsOf_68 : decode cX3_oddsOf 68 = .ok (.idiv, 1) := dk_108 (dk_at dksX3_oddsOf_2 22 rfl rfl)
theorem dX3_oddsOf_69 : decode cX3_oddsOf 69 = .ok (.iadd, 1) := dk_96 (dk_at dksX3_oddsOf_2 23 rfl rfl)
theorem dX3_oddsOf_70 : decode cX3_oddsOf 70 = .ok (.aload_n 0, 1) := dk_42 (dk_at dksX3_oddsOf_3 0 rfl rfl)
theorem dX3_oddsOf_71 : decode cX3_oddsOf 71 = .ok (.iconst 1, 1) := dk_4 (dk_at dksX3_oddsOf_3 1 rfl rfl)
theorem dX3_oddsOf_72 : decode cX3_oddsOf 72 = .ok (.iload_n 3, 1) := dk_29 (dk_at dksX3_oddsOf_3 2 rfl rfl)
theorem dX3_oddsOf_73 : decode cX3_oddsOf 73 = .ok (.isub, 1) := dk_100 (dk_at dksX3_oddsOf_3 3 rfl rfl)
theorem dX3_oddsOf_74 : decode cX3_oddsOf 74 = .ok (.iload 5, 2) := dk_21 5 (dk_at dksX3_oddsOf_3 4 rfl rfl)
theorem dX3_oddsOf_76 : decode cX3_oddsOf 76 = .ok (.iconst 2, 1) := dk_5 (dk_at dksX3_oddsOf_3 6 rfl rfl)
theorem dX3_oddsOf_77 : decode cX3_oddsOf 77 = .ok (.iconst 1, 1) := dk_4 (dk_at dksX3_oddsOf_3 7 rfl rfl)
theorem dX3_oddsOf_78 : decode cX3_oddsOf 78 = .ok (.iconst 2, 1) := dk_5 (dk_at dksX3_oddsOf_3 8 rfl rfl)
theorem dX3_oddsOf_79 : decode cX3_oddsOf 79 = .ok (.iconst 3, 1) := dk_6 (dk_at dksX3_oddsOf_3 9 rfl rfl)
theorem dX3_oddsOf_80 : decode cX3_oddsOf 80 = .ok (.invokevirtual 167, 3) := dk_182 0 167 (dk_at dksX3_oddsOf_3 10 rfl rfl)
theorem dX3_oddsOf_83 : decode cX3_oddsOf 83 = .ok (.iconst 3, 1) := dk_6 (dk_at dksX3_oddsOf_3 13 rfl rfl)
theorem dX3_oddsOf_84 : decode cX3_oddsOf 84 = .ok (.idiv, 1) := dk_108 (dk_at dksX3_oddsOf_3 14 rfl rfl)
theorem dX3_oddsOf_85 : decode cX3_oddsOf 85 = .ok (.isub, 1) := dk_100 (dk_at dksX3_oddsOf_3 15 rfl rfl)
theorem dX3_oddsOf_86 : decode cX3_oddsOf 86 = .ok (.istore 6, 2) := dk_54 6 (dk_at dksX3_oddsOf_3 16 rfl rfl)
theorem dX3_oddsOf_88 : decode cX3_oddsOf 88 = .ok (.bipush 50, 2) := dk_16 50 (dk_at dksX3_oddsOf_3 18 rfl rfl)
theorem dX3_oddsOf_90 : decode cX3_oddsOf 90 = .ok (.sipush 950, 3) := dk_17 3 182 (dk_at dksX3_oddsOf_3 20 rfl rfl)
theorem dX3_oddsOf_93 : decode cX3_oddsOf 93 = .ok (.iload 6, 2) := dk_21 6 (dk_at dksX3_oddsOf_4 0 rfl rfl)
theorem dX3_oddsOf_95 : decode cX3_oddsOf 95 = .ok (.invokestatic 147, 3) := dk_184 0 147 (dk_at dksX3_oddsOf_4 2 rfl rfl)
theorem dX3_oddsOf_98 : decode cX3_oddsOf 98 = .ok (.invokestatic 171, 3) := dk_184 0 171 (dk_at dksX3_oddsOf_4 5 rfl rfl)
theorem dX3_oddsOf_101 : decode cX3_oddsOf 101 = .ok (.ireturn, 1) := dk_172 (dk_at dksX3_oddsOf_4 8 rfl rfl)
abbrev cX3_later : ByteArray := prog_9_method_48_code
def yX3_later : MethodName := ⟨RX3, "later", "(III)I"⟩
def dkwX3_later_0 : List UInt8 := [42, 180, 0, 45, 16, 6, 27, 104, 28, 29, 96, 16, 6, 112, 96, 46, 172]
abbrev dktX3_later_0 : List UInt8 := dkwX3_later_0 ++ []
theorem dksX3_later_0 : cX3_later.data.toList.drop 0 = dktX3_later_0 := by decide +kernel
theorem dX3_later_0 : decode cX3_later 0 = .ok (.aload_n 0, 1) := dk_42 (dk_at dksX3_later_0 0 rfl rfl)
theorem dX3_later_1 : decode cX3_later 1 = .ok (.getfield 45, 3) := dk_180 0 45 (dk_at dksX3_later_0 1 rfl rfl)
theorem dX3_later_4 : decode cX3_later 4 = .ok (.bipush 6, 2) := dk_16 6 (dk_at dksX3_later_0 4 rfl rfl)
theorem dX3_later_6 : decode cX3_later 6 = .ok (.iload_n 1, 1) := dk_27 (dk_at dksX3_later_0 6 rfl rfl)
theorem dX3_later_7 : decode cX3_later 7 = .ok (.imul, 1) := dk_104 (dk_at dksX3_later_0 7 rfl rfl)
theorem dX3_later_8 : decode cX3_later 8 = .ok (.iload_n 2, 1) := dk_28 (dk_at dksX3_later_0 8 rfl rfl)
theorem dX3_later_9 : decode cX3_later 9 = .ok (.iload_n 3, 1) := dk_29 (dk_at dksX3_later_0 9 rfl rfl)
theorem dX3_later_10 : decode cX3_later 10 = .ok (.iadd, 1) := dk_96 (dk_at dksX3_later_0 10 rfl rfl)
theorem dX3_later_11 : decode cX3_later 11 = .ok (.bipush 6, 2) := dk_16 6 (dk_at dksX3_later_0 11 rfl rfl)
theorem dX3_later_13 : decode cX3_later 13 = .ok (.irem, 1) := dk_112 (dk_at dksX3_later_0 13 rfl rfl)
theorem dX3_later_14 : decode cX3_later 14 = .ok (.iadd, 1) := dk_96 (dk_at dksX3_later_0 14 rfl rfl)
theorem dX3_later_15 : decode cX3_later 15 = .ok (.iaload, 1) := dk_46 (dk_at dksX3_later_0 15 rfl rfl)
theorem dX3_later_16 : decode cX3_later 16 = .ok (.ireturn, 1) := dk_172 (dk_at dksX3_later_0 16 rfl rfl)
abbrev cX3_sum : ByteArray := prog_9_method_49_code
def yX3_sum : MethodName := ⟨RX3, "sum", "(IIIIII)I"⟩
def dkwX3_sum_1 : List UInt8 := [29, 182, 0, 78, 96, 42, 27, 42, 27, 21, 6, 28, 182, 0, 164, 29, 182, 0, 78, 96, 172]
abbrev dktX3_sum_1 : List UInt8 := dkwX3_sum_1 ++ []
def dkwX3_sum_0 : List UInt8 := [42, 27, 42, 27, 21, 4, 28, 182, 0, 164, 29, 182, 0, 78, 42, 27, 42, 27, 21, 5, 28, 182, 0, 164]
abbrev dktX3_sum_0 : List UInt8 := dkwX3_sum_0 ++ dktX3_sum_1
theorem dksX3_sum_0 : cX3_sum.data.toList.drop 0 = dktX3_sum_0 := by decide +kernel
theorem dksX3_sum_1 : cX3_sum.data.toList.drop 24 = dktX3_sum_1 := dk_seg dksX3_sum_0 24 rfl rfl
theorem dX3_sum_0 : decode cX3_sum 0 = .ok (.aload_n 0, 1) := dk_42 (dk_at dksX3_sum_0 0 rfl rfl)
theorem dX3_sum_1 : decode cX3_sum 1 = .ok (.iload_n 1, 1) := dk_27 (dk_at dksX3_sum_0 1 rfl rfl)
theorem dX3_sum_2 : decode cX3_sum 2 = .ok (.aload_n 0, 1) := dk_42 (dk_at dksX3_sum_0 2 rfl rfl)
theorem dX3_sum_3 : decode cX3_sum 3 = .ok (.iload_n 1, 1) := dk_27 (dk_at dksX3_sum_0 3 rfl rfl)
theorem dX3_sum_4 : decode cX3_sum 4 = .ok (.iload 4, 2) := dk_21 4 (dk_at dksX3_sum_0 4 rfl rfl)
theorem dX3_sum_6 : decode cX3_sum 6 = .ok (.iload_n 2, 1) := dk_28 (dk_at dksX3_sum_0 6 rfl rfl)
theorem dX3_sum_7 : decode cX3_sum 7 = .ok (.invokevirtual 164, 3) := dk_182 0 164 (dk_at dksX3_sum_0 7 rfl rfl)
theorem dX3_sum_10 : decode cX3_sum 10 = .ok (.iload_n 3, 1) := dk_29 (dk_at dksX3_sum_0 10 rfl rfl)
theorem dX3_sum_11 : decode cX3_sum 11 = .ok (.invokevirtual 78, 3) := dk_182 0 78 (dk_at dksX3_sum_0 11 rfl rfl)
theorem dX3_sum_14 : decode cX3_sum 14 = .ok (.aload_n 0, 1) := dk_42 (dk_at dksX3_sum_0 14 rfl rfl)
theorem dX3_sum_15 : decode cX3_sum 15 = .ok (.iload_n 1, 1) := dk_27 (dk_at dksX3_sum_0 15 rfl rfl)
theorem dX3_sum_16 : decode cX3_sum 16 = .ok (.aload_n 0, 1) := dk_42 (dk_at dksX3_sum_0 16 rfl rfl)
theorem dX3_sum_17 : decode cX3_sum 17 = .ok (.iload_n 1, 1) := dk_27 (dk_at dksX3_sum_0 17 rfl rfl)
theorem dX3_sum_18 : decode cX3_sum 18 = .ok (.iload 5, 2) := dk_21 5 (dk_at dksX3_sum_0 18 rfl rfl)
theorem dX3_sum_20 : decode cX3_sum 20 = .ok (.iload_n 2, 1) := dk_28 (dk_at dksX3_sum_0 20 rfl rfl)
theorem dX3_sum_21 : decode cX3_sum 21 = .ok (.invokevirtual 164, 3) := dk_182 0 164 (dk_at dksX3_sum_0 21 rfl rfl)
theorem dX3_sum_24 : decode cX3_sum 24 = .ok (.iload_n 3, 1) := dk_29 (dk_at dksX3_sum_1 0 rfl rfl)
theorem dX3_sum_25 : decode cX3_sum 25 = .ok (.invokevirtual 78, 3) := dk_182 0 78 (dk_at dksX3_sum_1 1 rfl rfl)
theorem dX3_sum_28 : decode cX3_sum 28 = .ok (.iadd, 1) := dk_96 (dk_at dksX3_sum_1 4 rfl rfl)
theorem dX3_sum_29 : decode cX3_sum 29 = .ok (.aload_n 0, 1) := dk_42 (dk_at dksX3_sum_1 5 rfl rfl)
theorem dX3_sum_30 : decode cX3_sum 30 = .ok (.iload_n 1, 1) := dk_27 (dk_at dksX3_sum_1 6 rfl rfl)
theorem dX3_sum_31 : decode cX3_sum 31 = .ok (.aload_n 0, 1) := dk_42 (dk_at dksX3_sum_1 7 rfl rfl)
theorem dX3_sum_32 : decode cX3_sum 32 = .ok (.iload_n 1, 1) := dk_27 (dk_at dksX3_sum_1 8 rfl rfl)
theorem dX3_sum_33 : decode cX3_sum 33 = .ok (.iload 6, 2) := dk_21 6 (dk_at dksX3_sum_1 9 rfl rfl)
theorem dX3_sum_35 : decode cX3_sum 35 = .ok (.iload_n 2, 1) := dk_28 (dk_at dksX3_sum_1 11 rfl rfl)
theorem dX3_sum_36 : decode cX3_sum 36 = .ok (.invokevirtual 164, 3) := dk_182 0 164 (dk_at dksX3_sum_1 12 rfl rfl)
theorem dX3_sum_39 : decode cX3_sum 39 = .ok (.iload_n 3, 1) := dk_29 (dk_at dksX3_sum_1 15 rfl rfl)
theorem dX3_sum_40 : decode cX3_sum 40 = .ok (.invokevirtual 78, 3) := dk_182 0 78 (dk_at dksX3_sum_1 16 rfl rfl)
theorem dX3_sum_43 : decode cX3_sum 43 = .ok (.iadd, 1) := dk_96 (dk_at dksX3_sum_1 19 rfl rfl)
theorem dX3_sum_44 : decode cX3_sum 44 = .ok (.ireturn, 1) := dk_172 (dk_at dksX3_sum_1 20 rfl rfl)
abbrev cX3_chance : ByteArray := prog_9_method_56_code
def yX3_chance : MethodName := ⟨RX3, "chance", "()I"⟩
def dkwX3_chance_1 : List UInt8 := [182, 0, 194, 42, 182, 0, 197, 172]
abbrev dktX3_chance_1 : List UInt8 := dkwX3_chance_1 ++ []
def dkwX3_chance_0 : List UInt8 := [42, 3, 181, 0, 63, 42, 182, 0, 82, 154, 0, 5, 2, 172, 42, 182, 0, 174, 42, 42, 182, 0, 102]
abbrev dktX3_chance_0 : List UInt8 := dkwX3_chance_0 ++ dktX3_chance_1
theorem dksX3_chance_0 : cX3_chance.data.toList.drop 0 = dktX3_chance_0 := by decide +kernel
theorem dksX3_chance_1 : cX3_chance.data.toList.drop 23 = dktX3_chance_1 := dk_seg dksX3_chance_0 23 rfl rfl
theorem dX3_chance_0 : decode cX3_chance 0 = .ok (.aload_n 0, 1) := dk_42 (dk_at dksX3_chance_0 0 rfl rfl)
theorem dX3_chance_1 : decode cX3_chance 1 = .ok (.iconst 0, 1) := dk_3 (dk_at dksX3_chance_0 1 rfl rfl)
theorem dX3_chance_2 : decode cX3_chance 2 = .ok (.putfield 63, 3) := dk_181 0 63 (dk_at dksX3_chance_0 2 rfl rfl)
theorem dX3_chance_5 : decode cX3_chance 5 = .ok (.aload_n 0, 1) := dk_42 (dk_at dksX3_chance_0 5 rfl rfl)
theorem dX3_chance_6 : decode cX3_chance 6 = .ok (.invokevirtual 82, 3) := dk_182 0 82 (dk_at dksX3_chance_0 6 rfl rfl)
theorem dX3_chance_9 : decode cX3_chance 9 = .ok (.ifCond .ne 5, 3) := dk_154 0 5 (dk_at dksX3_chance_0 9 rfl rfl)
theorem dX3_chance_12 : decode cX3_chance 12 = .ok (.iconst (-1), 1) := dk_2 (dk_at dksX3_chance_0 12 rfl rfl)
theorem dX3_chance_13 : decode cX3_chance 13 = .ok (.ireturn, 1) := dk_172 (dk_at dksX3_chance_0 13 rfl rfl)
theorem dX3_chance_14 : decode cX3_chance 14 = .ok (.aload_n 0, 1) := dk_42 (dk_at dksX3_chance_0 14 rfl rfl)
theorem dX3_chance_15 : decode cX3_chance 15 = .ok (.invokevirtual 174, 3) := dk_182 0 174 (dk_at dksX3_chance_0 15 rfl rfl)
theorem dX3_chance_18 : decode cX3_chance 18 = .ok (.aload_n 0, 1) := dk_42 (dk_at dksX3_chance_0 18 rfl rfl)
theorem dX3_chance_19 : decode cX3_chance 19 = .ok (.aload_n 0, 1) := dk_42 (dk_at dksX3_chance_0 19 rfl rfl)
theorem dX3_chance_20 : decode cX3_chance 20 = .ok (.invokevirtual 102, 3) := dk_182 0 102 (dk_at dksX3_chance_0 20 rfl rfl)
theorem dX3_chance_23 : decode cX3_chance 23 = .ok (.invokevirtual 194, 3) := dk_182 0 194 (dk_at dksX3_chance_1 0 rfl rfl)
theorem dX3_chance_26 : decode cX3_chance 26 = .ok (.aload_n 0, 1) := dk_42 (dk_at dksX3_chance_1 3 rfl rfl)
theorem dX3_chance_27 : decode cX3_chance 27 = .ok (.invokevirtual 197, 3) := dk_182 0 197 (dk_at dksX3_chance_1 4 rfl rfl)
theorem dX3_chance_30 : decode cX3_chance 30 = .ok (.ireturn, 1) := dk_172 (dk_at dksX3_chance_1 7 rfl rfl)
abbrev cX3_fill : ByteArray := prog_9_method_53_code
def yX3_fill : MethodName := ⟨RX3, "fill", "(I)V"⟩
def dkwX3_fill_16 : List UInt8 := [177]
abbrev dktX3_fill_16 : List UInt8 := dkwX3_fill_16 ++ []
def dkwX3_fill_15 : List UInt8 := [132, 9, 1, 167, 255, 63, 132, 8, 1, 167, 255, 47, 132, 4, 1, 167, 254, 239, 132, 3, 255, 167, 254, 220]
abbrev dktX3_fill_15 : List UInt8 := dkwX3_fill_15 ++ dktX3_fill_16
def dkwX3_fill_14 : List UInt8 := [21, 4, 4, 96, 21, 5, 3, 21, 8, 4, 96, 16, 6, 112, 21, 9, 184, 0, 184, 47, 184, 0, 188, 80]
abbrev dktX3_fill_14 : List UInt8 := dkwX3_fill_14 ++ dktX3_fill_15
def dkwX3_fill_13 : List UInt8 := [42, 180, 0, 52, 21, 4, 21, 5, 4, 96, 4, 21, 8, 21, 9, 184, 0, 184, 47, 42, 180, 0, 52]
abbrev dktX3_fill_13 : List UInt8 := dkwX3_fill_13 ++ dktX3_fill_14
def dkwX3_fill_12 : List UInt8 := [153, 0, 8, 22, 6, 167, 0, 65, 42, 180, 0, 48, 16, 6, 21, 8, 96, 16, 6, 104, 21, 9, 96, 46]
abbrev dktX3_fill_12 : List UInt8 := dkwX3_fill_12 ++ dktX3_fill_13
def dkwX3_fill_11 : List UInt8 := [42, 180, 0, 52, 21, 4, 21, 5, 4, 21, 8, 21, 9, 184, 0, 184, 22, 6, 20, 0, 182, 148]
abbrev dktX3_fill_11 : List UInt8 := dkwX3_fill_11 ++ dktX3_fill_12
def dkwX3_fill_10 : List UInt8 := [21, 4, 21, 5, 4, 96, 4, 21, 8, 21, 9, 4, 96, 16, 6, 112, 184, 0, 184, 47, 184, 0, 188, 80]
abbrev dktX3_fill_10 : List UInt8 := dkwX3_fill_10 ++ dktX3_fill_11
def dkwX3_fill_9 : List UInt8 := [46, 42, 180, 0, 52, 21, 4, 4, 96, 21, 5, 3, 21, 8, 21, 9, 184, 0, 184, 47, 42, 180, 0, 52]
abbrev dktX3_fill_9 : List UInt8 := dkwX3_fill_9 ++ dktX3_fill_10
def dkwX3_fill_8 : List UInt8 := [20, 0, 182, 148, 153, 0, 8, 22, 6, 167, 0, 62, 42, 180, 0, 48, 21, 8, 16, 6, 104, 21, 9, 96]
abbrev dktX3_fill_8 : List UInt8 := dkwX3_fill_8 ++ dktX3_fill_9
def dkwX3_fill_7 : List UInt8 := [16, 6, 162, 0, 192, 42, 180, 0, 52, 21, 4, 21, 5, 3, 21, 8, 21, 9, 184, 0, 184, 22, 6]
abbrev dktX3_fill_7 : List UInt8 := dkwX3_fill_7 ++ dktX3_fill_8
def dkwX3_fill_6 : List UInt8 := [9, 167, 0, 6, 20, 0, 182, 55, 6, 3, 54, 8, 21, 8, 16, 6, 162, 0, 208, 3, 54, 9, 21, 9]
abbrev dktX3_fill_6 : List UInt8 := dkwX3_fill_6 ++ dktX3_fill_7
def dkwX3_fill_5 : List UInt8 := [182, 0, 110, 153, 0, 9, 20, 0, 180, 167, 0, 22, 42, 21, 5, 21, 4, 27, 182, 0, 110, 153, 0, 7]
abbrev dktX3_fill_5 : List UInt8 := dkwX3_fill_5 ++ dktX3_fill_6
def dkwX3_fill_4 : List UInt8 := [21, 4, 28, 29, 184, 0, 147, 163, 1, 13, 29, 21, 4, 100, 54, 5, 42, 21, 4, 21, 5, 27]
abbrev dktX3_fill_4 : List UInt8 := dkwX3_fill_4 ++ dktX3_fill_5
def dkwX3_fill_3 : List UInt8 := [180, 0, 16, 4, 46, 61, 5, 28, 104, 62, 29, 155, 1, 38, 3, 29, 28, 100, 184, 0, 171, 54, 4]
abbrev dktX3_fill_3 : List UInt8 := dkwX3_fill_3 ++ dktX3_fill_4
def dkwX3_fill_2 : List UInt8 := [182, 0, 177, 79, 132, 4, 1, 167, 255, 222, 132, 3, 1, 167, 255, 207, 132, 2, 1, 167, 255, 193, 42]
abbrev dktX3_fill_2 : List UInt8 := dkwX3_fill_2 ++ dktX3_fill_3
def dkwX3_fill_1 : List UInt8 := [162, 0, 34, 42, 180, 0, 48, 21, 4, 16, 6, 104, 28, 96, 16, 6, 104, 29, 96, 42, 28, 29, 21, 4]
abbrev dktX3_fill_1 : List UInt8 := dkwX3_fill_1 ++ dktX3_fill_2
def dkwX3_fill_0 : List UInt8 := [3, 61, 28, 16, 6, 162, 0, 63, 3, 62, 29, 16, 6, 162, 0, 49, 3, 54, 4, 21, 4, 5]
abbrev dktX3_fill_0 : List UInt8 := dkwX3_fill_0 ++ dktX3_fill_1
theorem dksX3_fill_0 : cX3_fill.data.toList.drop 0 = dktX3_fill_0 := by decide +kernel
theorem dksX3_fill_1 : cX3_fill.data.toList.drop 22 = dktX3_fill_1 := dk_seg dksX3_fill_0 22 rfl rfl
theorem dksX3_fill_2 : cX3_fill.data.toList.drop 46 = dktX3_fill_2 := dk_seg dksX3_fill_1 24 rfl rfl
theorem dksX3_fill_3 : cX3_fill.data.toList.drop 69 = dktX3_fill_3 := dk_seg dksX3_fill_2 23 rfl rfl
theorem dksX3_fill_4 : cX3_fill.data.toList.drop 92 = dktX3_fill_4 := dk_seg dksX3_fill_3 23 rfl rfl
theorem dksX3_fill_5 : cX3_fill.data.toList.drop 114 = dktX3_fill_5 := dk_seg dksX3_fill_4 22 rfl rfl
theorem dksX3_fill_6 : cX3_fill.data.toList.drop 138 = dktX3_fill_6 := dk_seg dksX3_fill_5 24 rfl rfl
theorem dksX3_fill_7 : cX3_fill.data.toList.drop 162 = dktX3_fill_7 := dk_seg dksX3_fill_6 24 rfl rfl
theorem dksX3_fill_8 : cX3_fill.data.toList.drop 185 = dktX3_fill_8 := dk_seg dksX3_fill_7 23 rfl rfl
theorem dksX3_fill_9 : cX3_fill.data.toList.drop 209 = dktX3_fill_9 := dk_seg dksX3_fill_8 24 rfl rfl
theorem dksX3_fill_10 : cX3_fill.data.toList.drop 233 = dktX3_fill_10 := dk_seg dksX3_fill_9 24 rfl rfl
theorem dksX3_fill_11 : cX3_fill.data.toList.drop 257 = dktX3_fill_11 := dk_seg dksX3_fill_10 24 rfl rfl
theorem dksX3_fill_12 : cX3_fill.data.toList.drop 279 = dktX3_fill_12 := dk_seg dksX3_fill_11 22 rfl rfl
theorem dksX3_fill_13 : cX3_fill.data.toList.drop 303 = dktX3_fill_13 := dk_seg dksX3_fill_12 24 rfl rfl
theorem dksX3_fill_14 : cX3_fill.data.toList.drop 326 = dktX3_fill_14 := dk_seg dksX3_fill_13 23 rfl rfl
theorem dksX3_fill_15 : cX3_fill.data.toList.drop 350 = dktX3_fill_15 := dk_seg dksX3_fill_14 24 rfl rfl
theorem dksX3_fill_16 : cX3_fill.data.toList.drop 374 = dktX3_fill_16 := dk_seg dksX3_fill_15 24 rfl rfl
theorem dX3_fill_0 : decode cX3_fill 0 = .ok (.iconst 0, 1) := dk_3 (dk_at dksX3_fill_0 0 rfl rfl)
theorem dX3_fill_1 : decode cX3_fill 1 = .ok (.istore_n 2, 1) := dk_61 (dk_at dksX3_fill_0 1 rfl rfl)
theorem dX3_fill_2 : decode cX3_fill 2 = .ok (.iload_n 2, 1) := dk_28 (dk_at dksX3_fill_0 2 rfl rfl)
theorem dX3_fill_3 : decode cX3_fill 3 = .ok (.bipush 6, 2) := dk_16 6 (dk_at dksX3_fill_0 3 rfl rfl)
theorem dX3_fill_5 : decode cX3_fill 5 = .ok (.if_icmp .ge 63, 3) := dk_162 0 63 (dk_at dksX3_fill_0 5 rfl rfl)
theorem dX3_fill_8 : decode cX3_fill 8 = .ok (.iconst 0, 1) := dk_3 (dk_at dksX3_fill_0 8 rfl rfl)
theorem dX3_fill_9 : decode cX3_fill 9 = .ok (.istore_n 3, 1) := dk_62 (dk_at dksX3_fill_0 9 rfl rfl)
theorem dX3_fill_10 : decode cX3_fill 10 = .ok (.iload_n 3, 1) := dk_29 (dk_at dksX3_fill_0 10 rfl rfl)
theorem dX3_fill_11 : decode cX3_fill 11 = .ok (.bipush 6, 2) := dk_16 6 (dk_at dksX3_fill_0 11 rfl rfl)
theorem dX3_fill_13 : decode cX3_fill 13 = .ok (.if_icmp .ge 49, 3) := dk_162 0 49 (dk_at dksX3_fill_0 13 rfl rfl)
theorem dX3_fill_16 : decode cX3_fill 16 = .ok (.iconst 0, 1) := dk_3 (dk_at dksX3_fill_0 16 rfl rfl)
theorem dX3_fill_17 : decode cX3_fill 17 = .ok (.istore 4, 2) := dk_54 4 (dk_at dksX3_fill_0 17 rfl rfl)
theorem dX3_fill_19 : decode cX3_fill 19 = .ok (.iload 4, 2) := dk_21 4 (dk_at dksX3_fill_0 19 rfl rfl)
theorem dX3_fill_21 : decode cX3_fill 21 = .ok (.iconst 2, 1) := dk_5 (dk_at dksX3_fill_0 21 rfl rfl)
theorem dX3_fill_22 : decode cX3_fill 22 = .ok (.if_icmp .ge 34, 3) := dk_162 0 34 (dk_at dksX3_fill_1 0 rfl rfl)
theorem dX3_fill_25 : decode cX3_fill 25 = .ok (.aload_n 0, 1) := dk_42 (dk_at dksX3_fill_1 3 rfl rfl)
theorem dX3_fill_26 : decode cX3_fill 26 = .ok (.getfield 48, 3) := dk_180 0 48 (dk_at dksX3_fill_1 4 rfl rfl)
theorem dX3_fill_29 : decode cX3_fill 29 = .ok (.iload 4, 2) := dk_21 4 (dk_at dksX3_fill_1 7 rfl rfl)
theorem dX3_fill_31 : decode cX3_fill 31 = .ok (.bipush 6, 2) := dk_16 6 (dk_at dksX3_fill_1 9 rfl rfl)
theorem dX3_fill_33 : decode cX3_fill 33 = .ok (.imul, 1) := dk_104 (dk_at dksX3_fill_1 11 rfl rfl)
theorem dX3_fill_34 : decode cX3_fill 34 = .ok (.iload_n 2, 1) := dk_28 (dk_at dksX3_fill_1 12 rfl rfl)
theorem dX3_fill_35 : decode cX3_fill 35 = .ok (.iadd, 1) := dk_96 (dk_at dksX3_fill_1 13 rfl rfl)
theorem dX3_fill_36 : decode cX3_fill 36 = .ok (.bipush 6, 2) := dk_16 6 (dk_at dksX3_fill_1 14 rfl rfl)
theorem dX3_fill_38 : decode cX3_fill 38 = .ok (.imul, 1) := dk_104 (dk_at dksX3_fill_1 16 rfl rfl)
theorem dX3_fill_39 : decode cX3_fill 39 = .ok (.iload_n 3, 1) := dk_29 (dk_at dksX3_fill_1 17 rfl rfl)
theorem dX3_fill_40 : decode cX3_fill 40 = .ok (.iadd, 1) := dk_96 (dk_at dksX3_fill_1 18 rfl rfl)
theorem dX3_fill_41 : decode cX3_fill 41 = .ok (.aload_n 0, 1) := dk_42 (dk_at dksX3_fill_1 19 rfl rfl)
theorem dX3_fill_42 : decode cX3_fill 42 = .ok (.iload_n 2, 1) := dk_28 (dk_at dksX3_fill_1 20 rfl rfl)
theorem dX3_fill_43 : decode cX3_fill 43 = .ok (.iload_n 3, 1) := dk_29 (dk_at dksX3_fill_1 21 rfl rfl)
theorem dX3_fill_44 : decode cX3_fill 44 = .ok (.iload 4, 2) := dk_21 4 (dk_at dksX3_fill_1 22 rfl rfl)
theorem dX3_fill_46 : decode cX3_fill 46 = .ok (.invokevirtual 177, 3) := dk_182 0 177 (dk_at dksX3_fill_2 0 rfl rfl)
theorem dX3_fill_49 : decode cX3_fill 49 = .ok (.iastore, 1) := dk_79 (dk_at dksX3_fill_2 3 rfl rfl)
theorem dX3_fill_50 : decode cX3_fill 50 = .ok (.iinc 4 1, 3) := dk_132 4 1 (dk_at dksX3_fill_2 4 rfl rfl)
theorem dX3_fill_53 : decode cX3_fill 53 = .ok (.goto (-34), 3) := dk_167 255 222 (dk_at dksX3_fill_2 7 rfl rfl)
theorem dX3_fill_56 : decode cX3_fill 56 = .ok (.iinc 3 1, 3) := dk_132 3 1 (dk_at dksX3_fill_2 10 rfl rfl)
theorem dX3_fill_59 : decode cX3_fill 59 = .ok (.goto (-49), 3) := dk_167 255 207 (dk_at dksX3_fill_2 13 rfl rfl)
theorem dX3_fill_62 : decode cX3_fill 62 = .ok (.iinc 2 1, 3) := dk_132 2 1 (dk_at dksX3_fill_2 16 rfl rfl)
theorem dX3_fill_65 : decode cX3_fill 65 = .ok (.goto (-63), 3) := dk_167 255 193 (dk_at dksX3_fill_2 19 rfl rfl)
theorem dX3_fill_68 : decode cX3_fill 68 = .ok (.aload_n 0, 1) := dk_42 (dk_at dksX3_fill_2 22 rfl rfl)
theorem dX3_fill_69 : decode cX3_fill 69 = .ok (.getfield 16, 3) := dk_180 0 16 (dk_at dksX3_fill_3 0 rfl rfl)
theorem dX3_fill_72 : decode cX3_fill 72 = .ok (.iconst 1, 1) := dk_4 (dk_at dksX3_fill_3 3 rfl rfl)
theorem dX3_fill_73 : decode cX3_fill 73 = .ok (.iaload, 1) := dk_46 (dk_at dksX3_fill_3 4 rfl rfl)
theorem dX3_fill_74 : decode cX3_fill 74 = .ok (.istore_n 2, 1) := dk_61 (dk_at dksX3_fill_3 5 rfl rfl)
theorem dX3_fill_75 : decode cX3_fill 75 = .ok (.iconst 2, 1) := dk_5 (dk_at dksX3_fill_3 6 rfl rfl)
theorem dX3_fill_76 : decode cX3_fill 76 = .ok (.iload_n 2, 1) := dk_28 (dk_at dksX3_fill_3 7 rfl rfl)
theorem dX3_fill_77 : decode cX3_fill 77 = .ok (.imul, 1) := dk_104 (dk_at dksX3_fill_3 8 rfl rfl)
theorem dX3_fill_78 : decode cX3_fill 78 = .ok (.istore_n 3, 1) := dk_62 (dk_at dksX3_fill_3 9 rfl rfl)
theorem dX3_fill_79 : decode cX3_fill 79 = .ok (.iload_n 3, 1) := dk_29 (dk_at dksX3_fill_3 10 rfl rfl)
theorem dX3_fill_80 : decode cX3_fill 80 = .ok (.ifCond .lt 294, 3) := dk_155 1 38 (dk_at dksX3_fill_3 11 rfl rfl)
theorem dX3_fill_83 : decode cX3_fill 83 = .ok (.iconst 0, 1) := dk_3 (dk_at dksX3_fill_3 14 rfl rfl)
theorem dX3_fill_84 : decode cX3_fill 84 = .ok (.iload_n 3, 1) := dk_29 (dk_at dksX3_fill_3 15 rfl rfl)
theorem dX3_fill_85 : decode cX3_fill 85 = .ok (.iload_n 2, 1) := dk_28 (dk_at dksX3_fill_3 16 rfl rfl)
theorem dX3_fill_86 : decode cX3_fill 86 = .ok (.isub, 1) := dk_100 (dk_at dksX3_fill_3 17 rfl rfl)
theorem dX3_fill_87 : decode cX3_fill 87 = .ok (.invokestatic 171, 3) := dk_184 0 171 (dk_at dksX3_fill_3 18 rfl rfl)
theorem dX3_fill_90 : decode cX3_fill 90 = .ok (.istore 4, 2) := dk_54 4 (dk_at dksX3_fill_3 21 rfl rfl)
theorem dX3_fill_92 : decode cX3_fill 92 = .ok (.iload 4, 2) := dk_21 4 (dk_at dksX3_fill_4 0 rfl rfl)
theorem dX3_fill_94 : decode cX3_fill 94 = .ok (.iload_n 2, 1) := dk_28 (dk_at dksX3_fill_4 2 rfl rfl)
theorem dX3_fill_95 : decode cX3_fill 95 = .ok (.iload_n 3, 1) := dk_29 (dk_at dksX3_fill_4 3 rfl rfl)
theorem dX3_fill_96 : decode cX3_fill 96 = .ok (.invokestatic 147, 3) := dk_184 0 147 (dk_at dksX3_fill_4 4 rfl rfl)
theorem dX3_fill_99 : decode cX3_fill 99 = .ok (.if_icmp .gt 269, 3) := dk_163 1 13 (dk_at dksX3_fill_4 7 rfl rfl)
theorem dX3_fill_102 : decode cX3_fill 102 = .ok (.iload_n 3, 1) := dk_29 (dk_at dksX3_fill_4 10 rfl rfl)
theorem dX3_fill_103 : decode cX3_fill 103 = .ok (.iload 4, 2) := dk_21 4 (dk_at dksX3_fill_4 11 rfl rfl)
theorem dX3_fill_105 : decode cX3_fill 105 = .ok (.isub, 1) := dk_100 (dk_at dksX3_fill_4 13 rfl rfl)
theorem dX3_fill_106 : decode cX3_fill 106 = .ok (.istore 5, 2) := dk_54 5 (dk_at dksX3_fill_4 14 rfl rfl)
theorem dX3_fill_108 : decode cX3_fill 108 = .ok (.aload_n 0, 1) := dk_42 (dk_at dksX3_fill_4 16 rfl rfl)
theorem dX3_fill_109 : decode cX3_fill 109 = .ok (.iload 4, 2) := dk_21 4 (dk_at dksX3_fill_4 17 rfl rfl)
theorem dX3_fill_111 : decode cX3_fill 111 = .ok (.iload 5, 2) := dk_21 5 (dk_at dksX3_fill_4 19 rfl rfl)
theorem dX3_fill_113 : decode cX3_fill 113 = .ok (.iload_n 1, 1) := dk_27 (dk_at dksX3_fill_4 21 rfl rfl)
theorem dX3_fill_114 : decode cX3_fill 114 = .ok (.invokevirtual 110, 3) := dk_182 0 110 (dk_at dksX3_fill_5 0 rfl rfl)
theorem dX3_fill_117 : decode cX3_fill 117 = .ok (.ifCond .eq 9, 3) := dk_153 0 9 (dk_at dksX3_fill_5 3 rfl rfl)
theorem dX3_fill_120 : decode cX3_fill 120 = .ok (.ldc2_w 180, 3) := dk_20 0 180 (dk_at dksX3_fill_5 6 rfl rfl)
theorem dX3_fill_123 : decode cX3_fill 123 = .ok (.goto 22, 3) := dk_167 0 22 (dk_at dksX3_fill_5 9 rfl rfl)
theorem dX3_fill_126 : decode cX3_fill 126 = .ok (.aload_n 0, 1) := dk_42 (dk_at dksX3_fill_5 12 rfl rfl)
theorem dX3_fill_127 : decode cX3_fill 127 = .ok (.iload 5, 2) := dk_21 5 (dk_at dksX3_fill_5 13 rfl rfl)
theorem dX3_fill_129 : decode cX3_fill 129 = .ok (.iload 4, 2) := dk_21 4 (dk_at dksX3_fill_5 15 rfl rfl)
theorem dX3_fill_131 : decode cX3_fill 131 = .ok (.iload_n 1, 1) := dk_27 (dk_at dksX3_fill_5 17 rfl rfl)
theorem dX3_fill_132 : decode cX3_fill 132 = .ok (.invokevirtual 110, 3) := dk_182 0 110 (dk_at dksX3_fill_5 18 rfl rfl)
theorem dX3_fill_135 : decode cX3_fill 135 = .ok (.ifCond .eq 7, 3) := dk_153 0 7 (dk_at dksX3_fill_5 21 rfl rfl)
theorem dX3_fill_138 : decode cX3_fill 138 = .ok (.lconst 0, 1) := dk_9 (dk_at dksX3_fill_6 0 rfl rfl)
theorem dX3_fill_139 : decode cX3_fill 139 = .ok (.goto 6, 3) := dk_167 0 6 (dk_at dksX3_fill_6 1 rfl rfl)
theorem dX3_fill_142 : decode cX3_fill 142 = .ok (.ldc2_w 182, 3) := dk_20 0 182 (dk_at dksX3_fill_6 4 rfl rfl)
theorem dX3_fill_145 : decode cX3_fill 145 = .ok (.lstore 6, 2) := dk_55 6 (dk_at dksX3_fill_6 7 rfl rfl)
theorem dX3_fill_147 : decode cX3_fill 147 = .ok (.iconst 0, 1) := dk_3 (dk_at dksX3_fill_6 9 rfl rfl)
theorem dX3_fill_148 : decode cX3_fill 148 = .ok (.istore 8, 2) := dk_54 8 (dk_at dksX3_fill_6 10 rfl rfl)
theorem dX3_fill_150 : decode cX3_fill 150 = .ok (.iload 8, 2) := dk_21 8 (dk_at dksX3_fill_6 12 rfl rfl)
theorem dX3_fill_152 : decode cX3_fill 152 = .ok (.bipush 6, 2) := dk_16 6 (dk_at dksX3_fill_6 14 rfl rfl)
theorem dX3_fill_154 : decode cX3_fill 154 = .ok (.if_icmp .ge 208, 3) := dk_162 0 208 (dk_at dksX3_fill_6 16 rfl rfl)
theorem dX3_fill_157 : decode cX3_fill 157 = .ok (.iconst 0, 1) := dk_3 (dk_at dksX3_fill_6 19 rfl rfl)
theorem dX3_fill_158 : decode cX3_fill 158 = .ok (.istore 9, 2) := dk_54 9 (dk_at dksX3_fill_6 20 rfl rfl)
theorem dX3_fill_160 : decode cX3_fill 160 = .ok (.iload 9, 2) := dk_21 9 (dk_at dksX3_fill_6 22 rfl rfl)
theorem dX3_fill_162 : decode cX3_fill 162 = .ok (.bipush 6, 2) := dk_16 6 (dk_at dksX3_fill_7 0 rfl rfl)
theorem dX3_fill_164 : decode cX3_fill 164 = .ok (.if_icmp .ge 192, 3) := dk_162 0 192 (dk_at dksX3_fill_7 2 rfl rfl)
theorem dX3_fill_167 : decode cX3_fill 167 = .ok (.aload_n 0, 1) := dk_42 (dk_at dksX3_fill_7 5 rfl rfl)
theorem dX3_fill_168 : decode cX3_fill 168 = .ok (.getfield 52, 3) := dk_180 0 52 (dk_at dksX3_fill_7 6 rfl rfl)
theorem dX3_fill_171 : decode cX3_fill 171 = .ok (.iload 4, 2) := dk_21 4 (dk_at dksX3_fill_7 9 rfl rfl)
theorem dX3_fill_173 : decode cX3_fill 173 = .ok (.iload 5, 2) := dk_21 5 (dk_at dksX3_fill_7 11 rfl rfl)
theorem dX3_fill_175 : decode cX3_fill 175 = .ok (.iconst 0, 1) := dk_3 (dk_at dksX3_fill_7 13 rfl rfl)
theorem dX3_fill_176 : decode cX3_fill 176 = .ok (.iload 8, 2) := dk_21 8 (dk_at dksX3_fill_7 14 rfl rfl)
theorem dX3_fill_178 : decode cX3_fill 178 = .ok (.iload 9, 2) := dk_21 9 (dk_at dksX3_fill_7 16 rfl rfl)
theorem dX3_fill_180 : decode cX3_fill 180 = .ok (.invokestatic 184, 3) := dk_184 0 184 (dk_at dksX3_fill_7 18 rfl rfl)
theorem dX3_fill_183 : decode cX3_fill 183 = .ok (.lload 6, 2) := dk_22 6 (dk_at dksX3_fill_7 21 rfl rfl)
theorem dX3_fill_185 : decode cX3_fill 185 = .ok (.ldc2_w 182, 3) := dk_20 0 182 (dk_at dksX3_fill_8 0 rfl rfl)
theorem dX3_fill_188 : decode cX3_fill 188 = .ok (.lcmp, 1) := dk_148 (dk_at dksX3_fill_8 3 rfl rfl)
theorem dX3_fill_189 : decode cX3_fill 189 = .ok (.ifCond .eq 8, 3) := dk_153 0 8 (dk_at dksX3_fill_8 4 rfl rfl)
theorem dX3_fill_192 : decode cX3_fill 192 = .ok (.lload 6, 2) := dk_22 6 (dk_at dksX3_fill_8 7 rfl rfl)
theorem dX3_fill_194 : decode cX3_fill 194 = .ok (.goto 62, 3) := dk_167 0 62 (dk_at dksX3_fill_8 9 rfl rfl)
theorem dX3_fill_197 : decode cX3_fill 197 = .ok (.aload_n 0, 1) := dk_42 (dk_at dksX3_fill_8 12 rfl rfl)
theorem dX3_fill_198 : decode cX3_fill 198 = .ok (.getfield 48, 3) := dk_180 0 48 (dk_at dksX3_fill_8 13 rfl rfl)
theorem dX3_fill_201 : decode cX3_fill 201 = .ok (.iload 8, 2) := dk_21 8 (dk_at dksX3_fill_8 16 rfl rfl)
theorem dX3_fill_203 : decode cX3_fill 203 = .ok (.bipush 6, 2) := dk_16 6 (dk_at dksX3_fill_8 18 rfl rfl)
theorem dX3_fill_205 : decode cX3_fill 205 = .ok (.imul, 1) := dk_104 (dk_at dksX3_fill_8 20 rfl rfl)
theorem dX3_fill_206 : decode cX3_fill 206 = .ok (.iload 9, 2) := dk_21 9 (dk_at dksX3_fill_8 21 rfl rfl)
theorem dX3_fill_208 : decode cX3_fill 208 = .ok (.iadd, 1) := dk_96 (dk_at dksX3_fill_8 23 rfl rfl)
theorem dX3_fill_209 : decode cX3_fill 209 = .ok (.iaload, 1) := dk_46 (dk_at dksX3_fill_9 0 rfl rfl)
theorem dX3_fill_210 : decode cX3_fill 210 = .ok (.aload_n 0, 1) := dk_42 (dk_at dksX3_fill_9 1 rfl rfl)
theorem dX3_fill_211 : decode cX3_fill 211 = .ok (.getfield 52, 3) := dk_180 0 52 (dk_at dksX3_fill_9 2 rfl rfl)
theorem dX3_fill_214 : decode cX3_fill 214 = .ok (.iload 4, 2) := dk_21 4 (dk_at dksX3_fill_9 5 rfl rfl)
theorem dX3_fill_216 : decode cX3_fill 216 = .ok (.iconst 1, 1) := dk_4 (dk_at dksX3_fill_9 7 rfl rfl)
theorem dX3_fill_217 : decode cX3_fill 217 = .ok (.iadd, 1) := dk_96 (dk_at dksX3_fill_9 8 rfl rfl)
theorem dX3_fill_218 : decode cX3_fill 218 = .ok (.iload 5, 2) := dk_21 5 (dk_at dksX3_fill_9 9 rfl rfl)
theorem dX3_fill_220 : decode cX3_fill 220 = .ok (.iconst 0, 1) := dk_3 (dk_at dksX3_fill_9 11 rfl rfl)
theorem dX3_fill_221 : decode cX3_fill 221 = .ok (.iload 8, 2) := dk_21 8 (dk_at dksX3_fill_9 12 rfl rfl)
theorem dX3_fill_223 : decode cX3_fill 223 = .ok (.iload 9, 2) := dk_21 9 (dk_at dksX3_fill_9 14 rfl rfl)
theorem dX3_fill_225 : decode cX3_fill 225 = .ok (.invokestatic 184, 3) := dk_184 0 184 (dk_at dksX3_fill_9 16 rfl rfl)
theorem dX3_fill_228 : decode cX3_fill 228 = .ok (.laload, 1) := dk_47 (dk_at dksX3_fill_9 19 rfl rfl)
theorem dX3_fill_229 : decode cX3_fill 229 = .ok (.aload_n 0, 1) := dk_42 (dk_at dksX3_fill_9 20 rfl rfl)
theorem dX3_fill_230 : decode cX3_fill 230 = .ok (.getfield 52, 3) := dk_180 0 52 (dk_at dksX3_fill_9 21 rfl rfl)
theorem dX3_fill_233 : decode cX3_fill 233 = .ok (.iload 4, 2) := dk_21 4 (dk_at dksX3_fill_10 0 rfl rfl)
theorem dX3_fill_235 : decode cX3_fill 235 = .ok (.iload 5, 2) := dk_21 5 (dk_at dksX3_fill_10 2 rfl rfl)
theorem dX3_fill_237 : decode cX3_fill 237 = .ok (.iconst 1, 1) := dk_4 (dk_at dksX3_fill_10 4 rfl rfl)
theorem dX3_fill_238 : decode cX3_fill 238 = .ok (.iadd, 1) := dk_96 (dk_at dksX3_fill_10 5 rfl rfl)
theorem dX3_fill_239 : decode cX3_fill 239 = .ok (.iconst 1, 1) := dk_4 (dk_at dksX3_fill_10 6 rfl rfl)
theorem dX3_fill_240 : decode cX3_fill 240 = .ok (.iload 8, 2) := dk_21 8 (dk_at dksX3_fill_10 7 rfl rfl)
theorem dX3_fill_242 : decode cX3_fill 242 = .ok (.iload 9, 2) := dk_21 9 (dk_at dksX3_fill_10 9 rfl rfl)
theorem dX3_fill_244 : decode cX3_fill 244 = .ok (.iconst 1, 1) := dk_4 (dk_at dksX3_fill_10 11 rfl rfl)
theorem dX3_fill_245 : decode cX3_fill 245 = .ok (.iadd, 1) := dk_96 (dk_at dksX3_fill_10 12 rfl rfl)
theorem dX3_fill_246 : decode cX3_fill 246 = .ok (.bipush 6, 2) := dk_16 6 (dk_at dksX3_fill_10 13 rfl rfl)
theorem dX3_fill_248 : decode cX3_fill 248 = .ok (.irem, 1) := dk_112 (dk_at dksX3_fill_10 15 rfl rfl)
theorem dX3_fill_249 : decode cX3_fill 249 = .ok (.invokestatic 184, 3) := dk_184 0 184 (dk_at dksX3_fill_10 16 rfl rfl)
theorem dX3_fill_252 : decode cX3_fill 252 = .ok (.laload, 1) := dk_47 (dk_at dksX3_fill_10 19 rfl rfl)
theorem dX3_fill_253 : decode cX3_fill 253 = .ok (.invokestatic 188, 3) := dk_184 0 188 (dk_at dksX3_fill_10 20 rfl rfl)
theorem dX3_fill_256 : decode cX3_fill 256 = .ok (.lastore, 1) := dk_80 (dk_at dksX3_fill_10 23 rfl rfl)
theorem dX3_fill_257 : decode cX3_fill 257 = .ok (.aload_n 0, 1) := dk_42 (dk_at dksX3_fill_11 0 rfl rfl)
theorem dX3_fill_258 : decode cX3_fill 258 = .ok (.getfield 52, 3) := dk_180 0 52 (dk_at dksX3_fill_11 1 rfl rfl)
theorem dX3_fill_261 : decode cX3_fill 261 = .ok (.iload 4, 2) := dk_21 4 (dk_at dksX3_fill_11 4 rfl rfl)
theorem dX3_fill_263 : decode cX3_fill 263 = .ok (.iload 5, 2) := dk_21 5 (dk_at dksX3_fill_11 6 rfl rfl)
theorem dX3_fill_265 : decode cX3_fill 265 = .ok (.iconst 1, 1) := dk_4 (dk_at dksX3_fill_11 8 rfl rfl)
theorem dX3_fill_266 : decode cX3_fill 266 = .ok (.iload 8, 2) := dk_21 8 (dk_at dksX3_fill_11 9 rfl rfl)
theorem dX3_fill_268 : decode cX3_fill 268 = .ok (.iload 9, 2) := dk_21 9 (dk_at dksX3_fill_11 11 rfl rfl)
theorem dX3_fill_270 : decode cX3_fill 270 = .ok (.invokestatic 184, 3) := dk_184 0 184 (dk_at dksX3_fill_11 13 rfl rfl)
theorem dX3_fill_273 : decode cX3_fill 273 = .ok (.lload 6, 2) := dk_22 6 (dk_at dksX3_fill_11 16 rfl rfl)
theorem dX3_fill_275 : decode cX3_fill 275 = .ok (.ldc2_w 182, 3) := dk_20 0 182 (dk_at dksX3_fill_11 18 rfl rfl)
theorem dX3_fill_278 : decode cX3_fill 278 = .ok (.lcmp, 1) := dk_148 (dk_at dksX3_fill_11 21 rfl rfl)
theorem dX3_fill_279 : decode cX3_fill 279 = .ok (.ifCond .eq 8, 3) := dk_153 0 8 (dk_at dksX3_fill_12 0 rfl rfl)
theorem dX3_fill_282 : decode cX3_fill 282 = .ok (.lload 6, 2) := dk_22 6 (dk_at dksX3_fill_12 3 rfl rfl)
theorem dX3_fill_284 : decode cX3_fill 284 = .ok (.goto 65, 3) := dk_167 0 65 (dk_at dksX3_fill_12 5 rfl rfl)
theorem dX3_fill_287 : decode cX3_fill 287 = .ok (.aload_n 0, 1) := dk_42 (dk_at dksX3_fill_12 8 rfl rfl)
theorem dX3_fill_288 : decode cX3_fill 288 = .ok (.getfield 48, 3) := dk_180 0 48 (dk_at dksX3_fill_12 9 rfl rfl)
theorem dX3_fill_291 : decode cX3_fill 291 = .ok (.bipush 6, 2) := dk_16 6 (dk_at dksX3_fill_12 12 rfl rfl)
theorem dX3_fill_293 : decode cX3_fill 293 = .ok (.iload 8, 2) := dk_21 8 (dk_at dksX3_fill_12 14 rfl rfl)
theorem dX3_fill_295 : decode cX3_fill 295 = .ok (.iadd, 1) := dk_96 (dk_at dksX3_fill_12 16 rfl rfl)
theorem dX3_fill_296 : decode cX3_fill 296 = .ok (.bipush 6, 2) := dk_16 6 (dk_at dksX3_fill_12 17 rfl rfl)
theorem dX3_fill_298 : decode cX3_fill 298 = .ok (.imul, 1) := dk_104 (dk_at dksX3_fill_12 19 rfl rfl)
theorem dX3_fill_299 : decode cX3_fill 299 = .ok (.iload 9, 2) := dk_21 9 (dk_at dksX3_fill_12 20 rfl rfl)
theorem dX3_fill_301 : decode cX3_fill 301 = .ok (.iadd, 1) := dk_96 (dk_at dksX3_fill_12 22 rfl rfl)
theorem dX3_fill_302 : decode cX3_fill 302 = .ok (.iaload, 1) := dk_46 (dk_at dksX3_fill_12 23 rfl rfl)
theorem dX3_fill_303 : decode cX3_fill 303 = .ok (.aload_n 0, 1) := dk_42 (dk_at dksX3_fill_13 0 rfl rfl)
theorem dX3_fill_304 : decode cX3_fill 304 = .ok (.getfield 52, 3) := dk_180 0 52 (dk_at dksX3_fill_13 1 rfl rfl)
theorem dX3_fill_307 : decode cX3_fill 307 = .ok (.iload 4, 2) := dk_21 4 (dk_at dksX3_fill_13 4 rfl rfl)
theorem dX3_fill_309 : decode cX3_fill 309 = .ok (.iload 5, 2) := dk_21 5 (dk_at dksX3_fill_13 6 rfl rfl)
theorem dX3_fill_311 : decode cX3_fill 311 = .ok (.iconst 1, 1) := dk_4 (dk_at dksX3_fill_13 8 rfl rfl)
theorem dX3_fill_312 : decode cX3_fill 312 = .ok (.iadd, 1) := dk_96 (dk_at dksX3_fill_13 9 rfl rfl)
theorem dX3_fill_313 : decode cX3_fill 313 = .ok (.iconst 1, 1) := dk_4 (dk_at dksX3_fill_13 10 rfl rfl)
theorem dX3_fill_314 : decode cX3_fill 314 = .ok (.iload 8, 2) := dk_21 8 (dk_at dksX3_fill_13 11 rfl rfl)
theorem dX3_fill_316 : decode cX3_fill 316 = .ok (.iload 9, 2) := dk_21 9 (dk_at dksX3_fill_13 13 rfl rfl)
theorem dX3_fill_318 : decode cX3_fill 318 = .ok (.invokestatic 184, 3) := dk_184 0 184 (dk_at dksX3_fill_13 15 rfl rfl)
theorem dX3_fill_321 : decode cX3_fill 321 = .ok (.laload, 1) := dk_47 (dk_at dksX3_fill_13 18 rfl rfl)
theorem dX3_fill_322 : decode cX3_fill 322 = .ok (.aload_n 0, 1) := dk_42 (dk_at dksX3_fill_13 19 rfl rfl)
theorem dX3_fill_323 : decode cX3_fill 323 = .ok (.getfield 52, 3) := dk_180 0 52 (dk_at dksX3_fill_13 20 rfl rfl)
theorem dX3_fill_326 : decode cX3_fill 326 = .ok (.iload 4, 2) := dk_21 4 (dk_at dksX3_fill_14 0 rfl rfl)
theorem dX3_fill_328 : decode cX3_fill 328 = .ok (.iconst 1, 1) := dk_4 (dk_at dksX3_fill_14 2 rfl rfl)
theorem dX3_fill_329 : decode cX3_fill 329 = .ok (.iadd, 1) := dk_96 (dk_at dksX3_fill_14 3 rfl rfl)
theorem dX3_fill_330 : decode cX3_fill 330 = .ok (.iload 5, 2) := dk_21 5 (dk_at dksX3_fill_14 4 rfl rfl)
theorem dX3_fill_332 : decode cX3_fill 332 = .ok (.iconst 0, 1) := dk_3 (dk_at dksX3_fill_14 6 rfl rfl)
theorem dX3_fill_333 : decode cX3_fill 333 = .ok (.iload 8, 2) := dk_21 8 (dk_at dksX3_fill_14 7 rfl rfl)
theorem dX3_fill_335 : decode cX3_fill 335 = .ok (.iconst 1, 1) := dk_4 (dk_at dksX3_fill_14 9 rfl rfl)
theorem dX3_fill_336 : decode cX3_fill 336 = .ok (.iadd, 1) := dk_96 (dk_at dksX3_fill_14 10 rfl rfl)
theorem dX3_fill_337 : decode cX3_fill 337 = .ok (.bipush 6, 2) := dk_16 6 (dk_at dksX3_fill_14 11 rfl rfl)
theorem dX3_fill_339 : decode cX3_fill 339 = .ok (.irem, 1) := dk_112 (dk_at dksX3_fill_14 13 rfl rfl)
theorem dX3_fill_340 : decode cX3_fill 340 = .ok (.iload 9, 2) := dk_21 9 (dk_at dksX3_fill_14 14 rfl rfl)
theorem dX3_fill_342 : decode cX3_fill 342 = .ok (.invokestatic 184, 3) := dk_184 0 184 (dk_at dksX3_fill_14 16 rfl rfl)
theorem dX3_fill_345 : decode cX3_fill 345 = .ok (.laload, 1) := dk_47 (dk_at dksX3_fill_14 19 rfl rfl)
theorem dX3_fill_346 : decode cX3_fill 346 = .ok (.invokestatic 188, 3) := dk_184 0 188 (dk_at dksX3_fill_14 20 rfl rfl)
theorem dX3_fill_349 : decode cX3_fill 349 = .ok (.lastore, 1) := dk_80 (dk_at dksX3_fill_14 23 rfl rfl)
theorem dX3_fill_350 : decode cX3_fill 350 = .ok (.iinc 9 1, 3) := dk_132 9 1 (dk_at dksX3_fill_15 0 rfl rfl)
theorem dX3_fill_353 : decode cX3_fill 353 = .ok (.goto (-193), 3) := dk_167 255 63 (dk_at dksX3_fill_15 3 rfl rfl)
theorem dX3_fill_356 : decode cX3_fill 356 = .ok (.iinc 8 1, 3) := dk_132 8 1 (dk_at dksX3_fill_15 6 rfl rfl)
theorem dX3_fill_359 : decode cX3_fill 359 = .ok (.goto (-209), 3) := dk_167 255 47 (dk_at dksX3_fill_15 9 rfl rfl)
theorem dX3_fill_362 : decode cX3_fill 362 = .ok (.iinc 4 1, 3) := dk_132 4 1 (dk_at dksX3_fill_15 12 rfl rfl)
theorem dX3_fill_365 : decode cX3_fill 365 = .ok (.goto (-273), 3) := dk_167 254 239 (dk_at dksX3_fill_15 15 rfl rfl)
theorem dX3_fill_368 : decode cX3_fill 368 = .ok (.iinc 3 (-1), 3) := dk_132 3 255 (dk_at dksX3_fill_15 18 rfl rfl)
theorem dX3_fill_371 : decode cX3_fill 371 = .ok (.goto (-292), 3) := dk_167 254 220 (dk_at dksX3_fill_15 21 rfl rfl)
theorem dX3_fill_374 : decode cX3_fill 374 = .ok (.return_, 1) := dk_177 (dk_at dksX3_fill_16 0 rfl rfl)
abbrev cX3_cell : ByteArray := prog_9_method_52_code
def yX3_cell : MethodName := ⟨RX3, "cell", "(IIIII)I"⟩
def dkwX3_cell_0 : List UInt8 := [26, 16, 31, 104, 27, 96, 5, 104, 28, 96, 16, 6, 104, 29, 96, 16, 6, 104, 21, 4, 96, 172]
abbrev dktX3_cell_0 : List UInt8 := dkwX3_cell_0 ++ []
theorem dksX3_cell_0 : cX3_cell.data.toList.drop 0 = dktX3_cell_0 := by decide +kernel
theorem dX3_cell_0 : decode cX3_cell 0 = .ok (.iload_n 0, 1) := dk_26 (dk_at dksX3_cell_0 0 rfl rfl)
theorem dX3_cell_1 : decode cX3_cell 1 = .ok (.bipush 31, 2) := dk_16 31 (dk_at dksX3_cell_0 1 rfl rfl)
theorem dX3_cell_3 : decode cX3_cell 3 = .ok (.imul, 1) := dk_104 (dk_at dksX3_cell_0 3 rfl rfl)
theorem dX3_cell_4 : decode cX3_cell 4 = .ok (.iload_n 1, 1) := dk_27 (dk_at dksX3_cell_0 4 rfl rfl)
theorem dX3_cell_5 : decode cX3_cell 5 = .ok (.iadd, 1) := dk_96 (dk_at dksX3_cell_0 5 rfl rfl)
theorem dX3_cell_6 : decode cX3_cell 6 = .ok (.iconst 2, 1) := dk_5 (dk_at dksX3_cell_0 6 rfl rfl)
theorem dX3_cell_7 : decode cX3_cell 7 = .ok (.imul, 1) := dk_104 (dk_at dksX3_cell_0 7 rfl rfl)
theorem dX3_cell_8 : decode cX3_cell 8 = .ok (.iload_n 2, 1) := dk_28 (dk_at dksX3_cell_0 8 rfl rfl)
theorem dX3_cell_9 : decode cX3_cell 9 = .ok (.iadd, 1) := dk_96 (dk_at dksX3_cell_0 9 rfl rfl)
theorem dX3_cell_10 : decode cX3_cell 10 = .ok (.bipush 6, 2) := dk_16 6 (dk_at dksX3_cell_0 10 rfl rfl)
theorem dX3_cell_12 : decode cX3_cell 12 = .ok (.imul, 1) := dk_104 (dk_at dksX3_cell_0 12 rfl rfl)
theorem dX3_cell_13 : decode cX3_cell 13 = .ok (.iload_n 3, 1) := dk_29 (dk_at dksX3_cell_0 13 rfl rfl)
theorem dX3_cell_14 : decode cX3_cell 14 = .ok (.iadd, 1) := dk_96 (dk_at dksX3_cell_0 14 rfl rfl)
theorem dX3_cell_15 : decode cX3_cell 15 = .ok (.bipush 6, 2) := dk_16 6 (dk_at dksX3_cell_0 15 rfl rfl)
theorem dX3_cell_17 : decode cX3_cell 17 = .ok (.imul, 1) := dk_104 (dk_at dksX3_cell_0 17 rfl rfl)
theorem dX3_cell_18 : decode cX3_cell 18 = .ok (.iload 4, 2) := dk_21 4 (dk_at dksX3_cell_0 18 rfl rfl)
theorem dX3_cell_20 : decode cX3_cell 20 = .ok (.iadd, 1) := dk_96 (dk_at dksX3_cell_0 20 rfl rfl)
theorem dX3_cell_21 : decode cX3_cell 21 = .ok (.ireturn, 1) := dk_172 (dk_at dksX3_cell_0 21 rfl rfl)
abbrev cX3_mean : ByteArray := prog_9_method_54_code
def yX3_mean : MethodName := ⟨RX3, "mean", "(IJJ)J"⟩
def dkwX3_mean_0 : List UInt8 := [26, 133, 31, 105, 17, 3, 232, 26, 100, 133, 33, 105, 97, 20, 0, 192, 109, 173]
abbrev dktX3_mean_0 : List UInt8 := dkwX3_mean_0 ++ []
theorem dksX3_mean_0 : cX3_mean.data.toList.drop 0 = dktX3_mean_0 := by decide +kernel
theorem dX3_mean_0 : decode cX3_mean 0 = .ok (.iload_n 0, 1) := dk_26 (dk_at dksX3_mean_0 0 rfl rfl)
theorem dX3_mean_1 : decode cX3_mean 1 = .ok (.i2l, 1) := dk_133 (dk_at dksX3_mean_0 1 rfl rfl)
theorem dX3_mean_2 : decode cX3_mean 2 = .ok (.lload_n 1, 1) := dk_31 (dk_at dksX3_mean_0 2 rfl rfl)
theorem dX3_mean_3 : decode cX3_mean 3 = .ok (.lmul, 1) := dk_105 (dk_at dksX3_mean_0 3 rfl rfl)
theorem dX3_mean_4 : decode cX3_mean 4 = .ok (.sipush 1000, 3) := dk_17 3 232 (dk_at dksX3_mean_0 4 rfl rfl)
theorem dX3_mean_7 : decode cX3_mean 7 = .ok (.iload_n 0, 1) := dk_26 (dk_at dksX3_mean_0 7 rfl rfl)
theorem dX3_mean_8 : decode cX3_mean 8 = .ok (.isub, 1) := dk_100 (dk_at dksX3_mean_0 8 rfl rfl)
theorem dX3_mean_9 : decode cX3_mean 9 = .ok (.i2l, 1) := dk_133 (dk_at dksX3_mean_0 9 rfl rfl)
theorem dX3_mean_10 : decode cX3_mean 10 = .ok (.lload_n 3, 1) := dk_33 (dk_at dksX3_mean_0 10 rfl rfl)
theorem dX3_mean_11 : decode cX3_mean 11 = .ok (.lmul, 1) := dk_105 (dk_at dksX3_mean_0 11 rfl rfl)
theorem dX3_mean_12 : decode cX3_mean 12 = .ok (.ladd, 1) := dk_97 (dk_at dksX3_mean_0 12 rfl rfl)
theorem dX3_mean_13 : decode cX3_mean 13 = .ok (.ldc2_w 192, 3) := dk_20 0 192 (dk_at dksX3_mean_0 13 rfl rfl)
theorem dX3_mean_16 : decode cX3_mean 16 = .ok (.ldiv, 1) := dk_109 (dk_at dksX3_mean_0 16 rfl rfl)
theorem dX3_mean_17 : decode cX3_mean 17 = .ok (.lreturn, 1) := dk_173 (dk_at dksX3_mean_0 17 rfl rfl)
abbrev cX3_now : ByteArray := prog_9_method_55_code
def yX3_now : MethodName := ⟨RX3, "now", "()I"⟩
def dkwX3_now_1 : List UInt8 := [184, 0, 184, 47, 136, 172]
abbrev dktX3_now_1 : List UInt8 := dkwX3_now_1 ++ []
def dkwX3_now_0 : List UInt8 := [42, 180, 0, 52, 42, 3, 3, 182, 0, 95, 42, 4, 3, 182, 0, 95, 42, 180, 0, 26, 5, 46, 3, 3]
abbrev dktX3_now_0 : List UInt8 := dkwX3_now_0 ++ dktX3_now_1
theorem dksX3_now_0 : cX3_now.data.toList.drop 0 = dktX3_now_0 := by decide +kernel
theorem dksX3_now_1 : cX3_now.data.toList.drop 24 = dktX3_now_1 := dk_seg dksX3_now_0 24 rfl rfl
theorem dX3_now_0 : decode cX3_now 0 = .ok (.aload_n 0, 1) := dk_42 (dk_at dksX3_now_0 0 rfl rfl)
theorem dX3_now_1 : decode cX3_now 1 = .ok (.getfield 52, 3) := dk_180 0 52 (dk_at dksX3_now_0 1 rfl rfl)
theorem dX3_now_4 : decode cX3_now 4 = .ok (.aload_n 0, 1) := dk_42 (dk_at dksX3_now_0 4 rfl rfl)
theorem dX3_now_5 : decode cX3_now 5 = .ok (.iconst 0, 1) := dk_3 (dk_at dksX3_now_0 5 rfl rfl)
theorem dX3_now_6 : decode cX3_now 6 = .ok (.iconst 0, 1) := dk_3 (dk_at dksX3_now_0 6 rfl rfl)
theorem dX3_now_7 : decode cX3_now 7 = .ok (.invokevirtual 95, 3) := dk_182 0 95 (dk_at dksX3_now_0 7 rfl rfl)
theorem dX3_now_10 : decode cX3_now 10 = .ok (.aload_n 0, 1) := dk_42 (dk_at dksX3_now_0 10 rfl rfl)
theorem dX3_now_11 : decode cX3_now 11 = .ok (.iconst 1, 1) := dk_4 (dk_at dksX3_now_0 11 rfl rfl)
theorem dX3_now_12 : decode cX3_now 12 = .ok (.iconst 0, 1) := dk_3 (dk_at dksX3_now_0 12 rfl rfl)
theorem dX3_now_13 : decode cX3_now 13 = .ok (.invokevirtual 95, 3) := dk_182 0 95 (dk_at dksX3_now_0 13 rfl rfl)
theorem dX3_now_16 : decode cX3_now 16 = .ok (.aload_n 0, 1) := dk_42 (dk_at dksX3_now_0 16 rfl rfl)
theorem dX3_now_17 : decode cX3_now 17 = .ok (.getfield 26, 3) := dk_180 0 26 (dk_at dksX3_now_0 17 rfl rfl)
theorem dX3_now_20 : decode cX3_now 20 = .ok (.iconst 2, 1) := dk_5 (dk_at dksX3_now_0 20 rfl rfl)
theorem dX3_now_21 : decode cX3_now 21 = .ok (.iaload, 1) := dk_46 (dk_at dksX3_now_0 21 rfl rfl)
theorem dX3_now_22 : decode cX3_now 22 = .ok (.iconst 0, 1) := dk_3 (dk_at dksX3_now_0 22 rfl rfl)
theorem dX3_now_23 : decode cX3_now 23 = .ok (.iconst 0, 1) := dk_3 (dk_at dksX3_now_0 23 rfl rfl)
theorem dX3_now_24 : decode cX3_now 24 = .ok (.invokestatic 184, 3) := dk_184 0 184 (dk_at dksX3_now_1 0 rfl rfl)
theorem dX3_now_27 : decode cX3_now 27 = .ok (.laload, 1) := dk_47 (dk_at dksX3_now_1 3 rfl rfl)
theorem dX3_now_28 : decode cX3_now 28 = .ok (.l2i, 1) := dk_136 (dk_at dksX3_now_1 4 rfl rfl)
theorem dX3_now_29 : decode cX3_now 29 = .ok (.ireturn, 1) := dk_172 (dk_at dksX3_now_1 5 rfl rfl)
abbrev cX3_weight : ByteArray := prog_9_method_57_code
def yX3_weight : MethodName := ⟨RX3, "weight", "()I"⟩
def dkwX3_weight_4 : List UInt8 := [153, 0, 7, 4, 167, 0, 4, 3, 184, 0, 184, 47, 55, 6, 22, 4, 22, 6, 101, 136, 172]
abbrev dktX3_weight_4 : List UInt8 := dkwX3_weight_4 ++ []
def dkwX3_weight_3 : List UInt8 := [167, 0, 4, 4, 3, 184, 0, 184, 47, 55, 4, 42, 180, 0, 52, 27, 28, 4, 96, 4, 3, 29]
abbrev dktX3_weight_3 : List UInt8 := dkwX3_weight_3 ++ dktX3_weight_4
def dkwX3_weight_2 : List UInt8 := [154, 0, 7, 4, 167, 0, 4, 3, 62, 42, 180, 0, 52, 27, 4, 96, 28, 3, 29, 153, 0, 7, 3]
abbrev dktX3_weight_2 : List UInt8 := dkwX3_weight_2 ++ dktX3_weight_3
def dkwX3_weight_1 : List UInt8 := [182, 0, 194, 42, 3, 3, 182, 0, 95, 60, 42, 4, 3, 182, 0, 95, 61, 42, 180, 0, 26, 5, 46]
abbrev dktX3_weight_1 : List UInt8 := dkwX3_weight_1 ++ dktX3_weight_2
def dkwX3_weight_0 : List UInt8 := [42, 3, 181, 0, 63, 42, 182, 0, 82, 154, 0, 5, 2, 172, 42, 182, 0, 174, 42, 42, 182, 0, 102]
abbrev dktX3_weight_0 : List UInt8 := dkwX3_weight_0 ++ dktX3_weight_1
theorem dksX3_weight_0 : cX3_weight.data.toList.drop 0 = dktX3_weight_0 := by decide +kernel
theorem dksX3_weight_1 : cX3_weight.data.toList.drop 23 = dktX3_weight_1 := dk_seg dksX3_weight_0 23 rfl rfl
theorem dksX3_weight_2 : cX3_weight.data.toList.drop 46 = dktX3_weight_2 := dk_seg dksX3_weight_1 23 rfl rfl
theorem dksX3_weight_3 : cX3_weight.data.toList.drop 69 = dktX3_weight_3 := dk_seg dksX3_weight_2 23 rfl rfl
theorem dksX3_weight_4 : cX3_weight.data.toList.drop 91 = dktX3_weight_4 := dk_seg dksX3_weight_3 22 rfl rfl
theorem dX3_weight_0 : decode cX3_weight 0 = .ok (.aload_n 0, 1) := dk_42 (dk_at dksX3_weight_0 0 rfl rfl)
theorem dX3_weight_1 : decode cX3_weight 1 = .ok (.iconst 0, 1) := dk_3 (dk_at dksX3_weight_0 1 rfl rfl)
theorem dX3_weight_2 : decode cX3_weight 2 = .ok (.putfield 63, 3) := dk_181 0 63 (dk_at dksX3_weight_0 2 rfl rfl)
theorem dX3_weight_5 : decode cX3_weight 5 = .ok (.aload_n 0, 1) := dk_42 (dk_at dksX3_weight_0 5 rfl rfl)
theorem dX3_weight_6 : decode cX3_weight 6 = .ok (.invokevirtual 82, 3) := dk_182 0 82 (dk_at dksX3_weight_0 6 rfl rfl)
theorem dX3_weight_9 : decode cX3_weight 9 = .ok (.ifCond .ne 5, 3) := dk_154 0 5 (dk_at dksX3_weight_0 9 rfl rfl)
theorem dX3_weight_12 : decode cX3_weight 12 = .ok (.iconst (-1), 1) := dk_2 (dk_at dksX3_weight_0 12 rfl rfl)
theorem dX3_weight_13 : decode cX3_weight 13 = .ok (.ireturn, 1) := dk_172 (dk_at dksX3_weight_0 13 rfl rfl)
theorem dX3_weight_14 : decode cX3_weight 14 = .ok (.aload_n 0, 1) := dk_42 (dk_at dksX3_weight_0 14 rfl rfl)
theorem dX3_weight_15 : decode cX3_weight 15 = .ok (.invokevirtual 174, 3) := dk_182 0 174 (dk_at dksX3_weight_0 15 rfl rfl)
theorem dX3_weight_18 : decode cX3_weight 18 = .ok (.aload_n 0, 1) := dk_42 (dk_at dksX3_weight_0 18 rfl rfl)
theorem dX3_weight_19 : decode cX3_weight 19 = .ok (.aload_n 0, 1) := dk_42 (dk_at dksX3_weight_0 19 rfl rfl)
theorem dX3_weight_20 : decode cX3_weight 20 = .ok (.invokevirtual 102, 3) := dk_182 0 102 (dk_at dksX3_weight_0 20 rfl rfl)
theorem dX3_weight_23 : decode cX3_weight 23 = .ok (.invokevirtual 194, 3) := dk_182 0 194 (dk_at dksX3_weight_1 0 rfl rfl)
theorem dX3_weight_26 : decode cX3_weight 26 = .ok (.aload_n 0, 1) := dk_42 (dk_at dksX3_weight_1 3 rfl rfl)
theorem dX3_weight_27 : decode cX3_weight 27 = .ok (.iconst 0, 1) := dk_3 (dk_at dksX3_weight_1 4 rfl rfl)
theorem dX3_weight_28 : decode cX3_weight 28 = .ok (.iconst 0, 1) := dk_3 (dk_at dksX3_weight_1 5 rfl rfl)
theorem dX3_weight_29 : decode cX3_weight 29 = .ok (.invokevirtual 95, 3) := dk_182 0 95 (dk_at dksX3_weight_1 6 rfl rfl)
theorem dX3_weight_32 : decode cX3_weight 32 = .ok (.istore_n 1, 1) := dk_60 (dk_at dksX3_weight_1 9 rfl rfl)
theorem dX3_weight_33 : decode cX3_weight 33 = .ok (.aload_n 0, 1) := dk_42 (dk_at dksX3_weight_1 10 rfl rfl)
theorem dX3_weight_34 : decode cX3_weight 34 = .ok (.iconst 1, 1) := dk_4 (dk_at dksX3_weight_1 11 rfl rfl)
theorem dX3_weight_35 : decode cX3_weight 35 = .ok (.iconst 0, 1) := dk_3 (dk_at dksX3_weight_1 12 rfl rfl)
theorem dX3_weight_36 : decode cX3_weight 36 = .ok (.invokevirtual 95, 3) := dk_182 0 95 (dk_at dksX3_weight_1 13 rfl rfl)
theorem dX3_weight_39 : decode cX3_weight 39 = .ok (.istore_n 2, 1) := dk_61 (dk_at dksX3_weight_1 16 rfl rfl)
theorem dX3_weight_40 : decode cX3_weight 40 = .ok (.aload_n 0, 1) := dk_42 (dk_at dksX3_weight_1 17 rfl rfl)
theorem dX3_weight_41 : decode cX3_weight 41 = .ok (.getfield 26, 3) := dk_180 0 26 (dk_at dksX3_weight_1 18 rfl rfl)
theorem dX3_weight_44 : decode cX3_weight 44 = .ok (.iconst 2, 1) := dk_5 (dk_at dksX3_weight_1 21 rfl rfl)
theorem dX3_weight_45 : decode cX3_weight 45 = .ok (.iaload, 1) := dk_46 (dk_at dksX3_weight_1 22 rfl rfl)
theorem dX3_weight_46 : decode cX3_weight 46 = .ok (.ifCond .ne 7, 3) := dk_154 0 7 (dk_at dksX3_weight_2 0 rfl rfl)
theorem dX3_weight_49 : decode cX3_weight 49 = .ok (.iconst 1, 1) := dk_4 (dk_at dksX3_weight_2 3 rfl rfl)
theorem dX3_weight_50 : decode cX3_weight 50 = .ok (.goto 4, 3) := dk_167 0 4 (dk_at dksX3_weight_2 4 rfl rfl)
theorem dX3_weight_53 : decode cX3_weight 53 = .ok (.iconst 0, 1) := dk_3 (dk_at dksX3_weight_2 7 rfl rfl)
theorem dX3_weight_54 : decode cX3_weight 54 = .ok (.istore_n 3, 1) := dk_62 (dk_at dksX3_weight_2 8 rfl rfl)
theorem dX3_weight_55 : decode cX3_weight 55 = .ok (.aload_n 0, 1) := dk_42 (dk_at dksX3_weight_2 9 rfl rfl)
theorem dX3_weight_56 : decode cX3_weight 56 = .ok (.getfield 52, 3) := dk_180 0 52 (dk_at dksX3_weight_2 10 rfl rfl)
theorem dX3_weight_59 : decode cX3_weight 59 = .ok (.iload_n 1, 1) := dk_27 (dk_at dksX3_weight_2 13 rfl rfl)
theorem dX3_weight_60 : decode cX3_weight 60 = .ok (.iconst 1, 1) := dk_4 (dk_at dksX3_weight_2 14 rfl rfl)
theorem dX3_weight_61 : decode cX3_weight 61 = .ok (.iadd, 1) := dk_96 (dk_at dksX3_weight_2 15 rfl rfl)
theorem dX3_weight_62 : decode cX3_weight 62 = .ok (.iload_n 2, 1) := dk_28 (dk_at dksX3_weight_2 16 rfl rfl)
theorem dX3_weight_63 : decode cX3_weight 63 = .ok (.iconst 0, 1) := dk_3 (dk_at dksX3_weight_2 17 rfl rfl)
theorem dX3_weight_64 : decode cX3_weight 64 = .ok (.iload_n 3, 1) := dk_29 (dk_at dksX3_weight_2 18 rfl rfl)
theorem dX3_weight_65 : decode cX3_weight 65 = .ok (.ifCond .eq 7, 3) := dk_153 0 7 (dk_at dksX3_weight_2 19 rfl rfl)
theorem dX3_weight_68 : decode cX3_weight 68 = .ok (.iconst 0, 1) := dk_3 (dk_at dksX3_weight_2 22 rfl rfl)
theorem dX3_weight_69 : decode cX3_weight 69 = .ok (.goto 4, 3) := dk_167 0 4 (dk_at dksX3_weight_3 0 rfl rfl)
theorem dX3_weight_72 : decode cX3_weight 72 = .ok (.iconst 1, 1) := dk_4 (dk_at dksX3_weight_3 3 rfl rfl)
theorem dX3_weight_73 : decode cX3_weight 73 = .ok (.iconst 0, 1) := dk_3 (dk_at dksX3_weight_3 4 rfl rfl)
theorem dX3_weight_74 : decode cX3_weight 74 = .ok (.invokestatic 184, 3) := dk_184 0 184 (dk_at dksX3_weight_3 5 rfl rfl)
theorem dX3_weight_77 : decode cX3_weight 77 = .ok (.laload, 1) := dk_47 (dk_at dksX3_weight_3 8 rfl rfl)
theorem dX3_weight_78 : decode cX3_weight 78 = .ok (.lstore 4, 2) := dk_55 4 (dk_at dksX3_weight_3 9 rfl rfl)
theorem dX3_weight_80 : decode cX3_weight 80 = .ok (.aload_n 0, 1) := dk_42 (dk_at dksX3_weight_3 11 rfl rfl)
theorem dX3_weight_81 : decode cX3_weight 81 = .ok (.getfield 52, 3) := dk_180 0 52 (dk_at dksX3_weight_3 12 rfl rfl)
theorem dX3_weight_84 : decode cX3_weight 84 = .ok (.iload_n 1, 1) := dk_27 (dk_at dksX3_weight_3 15 rfl rfl)
theorem dX3_weight_85 : decode cX3_weight 85 = .ok (.iload_n 2, 1) := dk_28 (dk_at dksX3_weight_3 16 rfl rfl)
theorem dX3_weight_86 : decode cX3_weight 86 = .ok (.iconst 1, 1) := dk_4 (dk_at dksX3_weight_3 17 rfl rfl)
theorem dX3_weight_87 : decode cX3_weight 87 = .ok (.iadd, 1) := dk_96 (dk_at dksX3_weight_3 18 rfl rfl)
theorem dX3_weight_88 : decode cX3_weight 88 = .ok (.iconst 1, 1) := dk_4 (dk_at dksX3_weight_3 19 rfl rfl)
theorem dX3_weight_89 : decode cX3_weight 89 = .ok (.iconst 0, 1) := dk_3 (dk_at dksX3_weight_3 20 rfl rfl)
theorem dX3_weight_90 : decode cX3_weight 90 = .ok (.iload_n 3, 1) := dk_29 (dk_at dksX3_weight_3 21 rfl rfl)
theorem dX3_weight_91 : decode cX3_weight 91 = .ok (.ifCond .eq 7, 3) := dk_153 0 7 (dk_at dksX3_weight_4 0 rfl rfl)
theorem dX3_weight_94 : decode cX3_weight 94 = .ok (.iconst 1, 1) := dk_4 (dk_at dksX3_weight_4 3 rfl rfl)
theorem dX3_weight_95 : decode cX3_weight 95 = .ok (.goto 4, 3) := dk_167 0 4 (dk_at dksX3_weight_4 4 rfl rfl)
theorem dX3_weight_98 : decode cX3_weight 98 = .ok (.iconst 0, 1) := dk_3 (dk_at dksX3_weight_4 7 rfl rfl)
theorem dX3_weight_99 : decode cX3_weight 99 = .ok (.invokestatic 184, 3) := dk_184 0 184 (dk_at dksX3_weight_4 8 rfl rfl)
theorem dX3_weight_102 : decode cX3_weight 102 = .ok (.laload, 1) := dk_47 (dk_at dksX3_weight_4 11 rfl rfl)
theorem dX3_weight_103 : decode cX3_weight 103 = .ok (.lstore 6, 2) := dk_55 6 (dk_at dksX3_weight_4 12 rfl rfl)
theorem dX3_weight_105 : decode cX3_weight 105 = .ok (.lload 4, 2) := dk_22 4 (dk_at dksX3_weight_4 14 rfl rfl)
theorem dX3_weight_107 : decode cX3_weight 107 = .ok (.lload 6, 2) := dk_22 6 (dk_at dksX3_weight_4 16 rfl rfl)
theorem dX3_weight_109 : decode cX3_weight 109 = .ok (.lsub, 1) := dk_101 (dk_at dksX3_weight_4 18 rfl rfl)
theorem dX3_weight_110 : decode cX3_weight 110 = .ok (.l2i, 1) := dk_136 (dk_at dksX3_weight_4 19 rfl rfl)
theorem dX3_weight_111 : decode cX3_weight 111 = .ok (.ireturn, 1) := dk_172 (dk_at dksX3_weight_4 20 rfl rfl)
abbrev cX3_turn_2 : ByteArray := prog_9_method_58_code
def yX3_turn_2 : MethodName := ⟨RX3, "turn", "(II)I"⟩
def dkwX3_turn_2_9 : List UInt8 := [181, 0, 200, 42, 4, 181, 0, 132, 29, 172]
abbrev dktX3_turn_2_9 : List UInt8 := dkwX3_turn_2_9 ++ []
def dkwX3_turn_2_8 : List UInt8 := [155, 0, 6, 167, 0, 10, 21, 6, 62, 22, 7, 55, 4, 132, 6, 1, 167, 255, 111, 42, 22, 4, 136]
abbrev dktX3_turn_2_8 : List UInt8 := dkwX3_turn_2_8 ++ dktX3_turn_2_9
def dkwX3_turn_2_7 : List UInt8 := [159, 0, 29, 27, 154, 0, 14, 22, 7, 22, 4, 148, 157, 0, 17, 167, 0, 21, 22, 7, 22, 4, 148]
abbrev dktX3_turn_2_7 : List UInt8 := dkwX3_turn_2_7 ++ dktX3_turn_2_8
def dkwX3_turn_2_6 : List UInt8 := [182, 0, 102, 182, 0, 194, 42, 180, 0, 52, 3, 3, 28, 3, 3, 184, 0, 184, 47, 55, 7, 29, 2]
abbrev dktX3_turn_2_6 : List UInt8 := dkwX3_turn_2_6 ++ dktX3_turn_2_7
def dkwX3_turn_2_5 : List UInt8 := [167, 0, 5, 21, 8, 96, 46, 79, 132, 8, 1, 167, 255, 203, 132, 7, 1, 167, 255, 188, 42, 42]
abbrev dktX3_turn_2_5 : List UInt8 := dkwX3_turn_2_5 ++ dktX3_turn_2_6
def dkwX3_turn_2_4 : List UInt8 := [180, 0, 19, 16, 6, 21, 7, 104, 21, 7, 27, 160, 0, 14, 21, 8, 21, 6, 96, 16, 6, 112]
abbrev dktX3_turn_2_4 : List UInt8 := dkwX3_turn_2_4 ++ dktX3_turn_2_5
def dkwX3_turn_2_3 : List UInt8 := [54, 8, 21, 8, 16, 6, 162, 0, 52, 42, 180, 0, 45, 16, 6, 21, 7, 104, 21, 8, 96, 42]
abbrev dktX3_turn_2_3 : List UInt8 := dkwX3_turn_2_3 ++ dktX3_turn_2_4
def dkwX3_turn_2_2 : List UInt8 := [62, 9, 55, 4, 3, 54, 6, 21, 6, 16, 6, 162, 0, 144, 3, 54, 7, 21, 7, 5, 162, 0, 68, 3]
abbrev dktX3_turn_2_2 : List UInt8 := dkwX3_turn_2_2 ++ dktX3_turn_2_3
def dkwX3_turn_2_1 : List UInt8 := [154, 0, 21, 42, 180, 0, 22, 3, 51, 153, 0, 12, 42, 180, 0, 22, 4, 51, 154, 0, 5, 2, 172, 2]
abbrev dktX3_turn_2_1 : List UInt8 := dkwX3_turn_2_1 ++ dktX3_turn_2_2
def dkwX3_turn_2_0 : List UInt8 := [42, 3, 181, 0, 63, 27, 184, 0, 71, 153, 0, 35, 28, 184, 0, 71, 153, 0, 28, 42, 182, 0, 82]
abbrev dktX3_turn_2_0 : List UInt8 := dkwX3_turn_2_0 ++ dktX3_turn_2_1
theorem dksX3_turn_2_0 : cX3_turn_2.data.toList.drop 0 = dktX3_turn_2_0 := by decide +kernel
theorem dksX3_turn_2_1 : cX3_turn_2.data.toList.drop 23 = dktX3_turn_2_1 := dk_seg dksX3_turn_2_0 23 rfl rfl
theorem dksX3_turn_2_2 : cX3_turn_2.data.toList.drop 47 = dktX3_turn_2_2 := dk_seg dksX3_turn_2_1 24 rfl rfl
theorem dksX3_turn_2_3 : cX3_turn_2.data.toList.drop 71 = dktX3_turn_2_3 := dk_seg dksX3_turn_2_2 24 rfl rfl
theorem dksX3_turn_2_4 : cX3_turn_2.data.toList.drop 93 = dktX3_turn_2_4 := dk_seg dksX3_turn_2_3 22 rfl rfl
theorem dksX3_turn_2_5 : cX3_turn_2.data.toList.drop 115 = dktX3_turn_2_5 := dk_seg dksX3_turn_2_4 22 rfl rfl
theorem dksX3_turn_2_6 : cX3_turn_2.data.toList.drop 137 = dktX3_turn_2_6 := dk_seg dksX3_turn_2_5 22 rfl rfl
theorem dksX3_turn_2_7 : cX3_turn_2.data.toList.drop 160 = dktX3_turn_2_7 := dk_seg dksX3_turn_2_6 23 rfl rfl
theorem dksX3_turn_2_8 : cX3_turn_2.data.toList.drop 183 = dktX3_turn_2_8 := dk_seg dksX3_turn_2_7 23 rfl rfl
theorem dksX3_turn_2_9 : cX3_turn_2.data.toList.drop 206 = dktX3_turn_2_9 := dk_seg dksX3_turn_2_8 23 rfl rfl
theorem dX3_turn_2_0 : decode cX3_turn_2 0 = .ok (.aload_n 0, 1) := dk_42 (dk_at dksX3_turn_2_0 0 rfl rfl)
theorem dX3_turn_2_1 : decode cX3_turn_2 1 = .ok (.iconst 0, 1) := dk_3 (dk_at dksX3_turn_2_0 1 rfl rfl)
theorem dX3_turn_2_2 : decode cX3_turn_2 2 = .ok (.putfield 63, 3) := dk_181 0 63 (dk_at dksX3_turn_2_0 2 rfl rfl)
theorem dX3_turn_2_5 : decode cX3_turn_2 5 = .ok (.iload_n 1, 1) := dk_27 (dk_at dksX3_turn_2_0 5 rfl rfl)
theorem dX3_turn_2_6 : decode cX3_turn_2 6 = .ok (.invokestatic 71, 3) := dk_184 0 71 (dk_at dksX3_turn_2_0 6 rfl rfl)
theorem dX3_turn_2_9 : decode cX3_turn_2 9 = .ok (.ifCond .eq 35, 3) := dk_153 0 35 (dk_at dksX3_turn_2_0 9 rfl rfl)
theorem dX3_turn_2_12 : decode cX3_turn_2 12 = .ok (.iload_n 2, 1) := dk_28 (dk_at dksX3_turn_2_0 12 rfl rfl)
theorem dX3_turn_2_13 : decode cX3_turn_2 13 = .ok (.invokestatic 71, 3) := dk_184 0 71 (dk_at dksX3_turn_2_0 13 rfl rfl)
theorem dX3_turn_2_16 : decode cX3_turn_2 16 = .ok (.ifCond .eq 28, 3) := dk_153 0 28 (dk_at dksX3_turn_2_0 16 rfl rfl)
theorem dX3_turn_2_19 : decode cX3_turn_2 19 = .ok (.aload_n 0, 1) := dk_42 (dk_at dksX3_turn_2_0 19 rfl rfl)
theorem dX3_turn_2_20 : decode cX3_turn_2 20 = .ok (.invokevirtual 82, 3) := dk_182 0 82 (dk_at dksX3_turn_2_0 20 rfl rfl)
theorem dX3_turn_2_23 : decode cX3_turn_2 23 = .ok (.ifCond .ne 21, 3) := dk_154 0 21 (dk_at dksX3_turn_2_1 0 rfl rfl)
theorem dX3_turn_2_26 : decode cX3_turn_2 26 = .ok (.aload_n 0, 1) := dk_42 (dk_at dksX3_turn_2_1 3 rfl rfl)
theorem dX3_turn_2_27 : decode cX3_turn_2 27 = .ok (.getfield 22, 3) := dk_180 0 22 (dk_at dksX3_turn_2_1 4 rfl rfl)
theorem dX3_turn_2_30 : decode cX3_turn_2 30 = .ok (.iconst 0, 1) := dk_3 (dk_at dksX3_turn_2_1 7 rfl rfl)
theorem dX3_turn_2_31 : decode cX3_turn_2 31 = .ok (.baload, 1) := dk_51 (dk_at dksX3_turn_2_1 8 rfl rfl)
theorem dX3_turn_2_32 : decode cX3_turn_2 32 = .ok (.ifCond .eq 12, 3) := dk_153 0 12 (dk_at dksX3_turn_2_1 9 rfl rfl)
theorem dX3_turn_2_35 : decode cX3_turn_2 35 = .ok (.aload_n 0, 1) := dk_42 (dk_at dksX3_turn_2_1 12 rfl rfl)
theorem dX3_turn_2_36 : decode cX3_turn_2 36 = .ok (.getfield 22, 3) := dk_180 0 22 (dk_at dksX3_turn_2_1 13 rfl rfl)
theorem dX3_turn_2_39 : decode cX3_turn_2 39 = .ok (.iconst 1, 1) := dk_4 (dk_at dksX3_turn_2_1 16 rfl rfl)
theorem dX3_turn_2_40 : decode cX3_turn_2 40 = .ok (.baload, 1) := dk_51 (dk_at dksX3_turn_2_1 17 rfl rfl)
theorem dX3_turn_2_41 : decode cX3_turn_2 41 = .ok (.ifCond .ne 5, 3) := dk_154 0 5 (dk_at dksX3_turn_2_1 18 rfl rfl)
theorem dX3_turn_2_44 : decode cX3_turn_2 44 = .ok (.iconst (-1), 1) := dk_2 (dk_at dksX3_turn_2_1 21 rfl rfl)
theorem dX3_turn_2_45 : decode cX3_turn_2 45 = .ok (.ireturn, 1) := dk_172 (dk_at dksX3_turn_2_1 22 rfl rfl)
theorem dX3_turn_2_46 : decode cX3_turn_2 46 = .ok (.iconst (-1), 1) := dk_2 (dk_at dksX3_turn_2_1 23 rfl rfl)
theorem dX3_turn_2_47 : decode cX3_turn_2 47 = .ok (.istore_n 3, 1) := dk_62 (dk_at dksX3_turn_2_2 0 rfl rfl)
theorem dX3_turn_2_48 : decode cX3_turn_2 48 = .ok (.lconst 0, 1) := dk_9 (dk_at dksX3_turn_2_2 1 rfl rfl)
theorem dX3_turn_2_49 : decode cX3_turn_2 49 = .ok (.lstore 4, 2) := dk_55 4 (dk_at dksX3_turn_2_2 2 rfl rfl)
theorem dX3_turn_2_51 : decode cX3_turn_2 51 = .ok (.iconst 0, 1) := dk_3 (dk_at dksX3_turn_2_2 4 rfl rfl)
theorem dX3_turn_2_52 : decode cX3_turn_2 52 = .ok (.istore 6, 2) := dk_54 6 (dk_at dksX3_turn_2_2 5 rfl rfl)
theorem dX3_turn_2_54 : decode cX3_turn_2 54 = .ok (.iload 6, 2) := dk_21 6 (dk_at dksX3_turn_2_2 7 rfl rfl)
theorem dX3_turn_2_56 : decode cX3_turn_2 56 = .ok (.bipush 6, 2) := dk_16 6 (dk_at dksX3_turn_2_2 9 rfl rfl)
theorem dX3_turn_2_58 : decode cX3_turn_2 58 = .ok (.if_icmp .ge 144, 3) := dk_162 0 144 (dk_at dksX3_turn_2_2 11 rfl rfl)
theorem dX3_turn_2_61 : decode cX3_turn_2 61 = .ok (.iconst 0, 1) := dk_3 (dk_at dksX3_turn_2_2 14 rfl rfl)
theorem dX3_turn_2_62 : decode cX3_turn_2 62 = .ok (.istore 7, 2) := dk_54 7 (dk_at dksX3_turn_2_2 15 rfl rfl)
theorem dX3_turn_2_64 : decode cX3_turn_2 64 = .ok (.iload 7, 2) := dk_21 7 (dk_at dksX3_turn_2_2 17 rfl rfl)
theorem dX3_turn_2_66 : decode cX3_turn_2 66 = .ok (.iconst 2, 1) := dk_5 (dk_at dksX3_turn_2_2 19 rfl rfl)
theorem dX3_turn_2_67 : decode cX3_turn_2 67 = .ok (.if_icmp .ge 68, 3) := dk_162 0 68 (dk_at dksX3_turn_2_2 20 rfl rfl)
theorem dX3_turn_2_70 : decode cX3_turn_2 70 = .ok (.iconst 0, 1) := dk_3 (dk_at dksX3_turn_2_2 23 rfl rfl)
theorem dX3_turn_2_71 : decode cX3_turn_2 71 = .ok (.istore 8, 2) := dk_54 8 (dk_at dksX3_turn_2_3 0 rfl rfl)
theorem dX3_turn_2_73 : decode cX3_turn_2 73 = .ok (.iload 8, 2) := dk_21 8 (dk_at dksX3_turn_2_3 2 rfl rfl)
theorem dX3_turn_2_75 : decode cX3_turn_2 75 = .ok (.bipush 6, 2) := dk_16 6 (dk_at dksX3_turn_2_3 4 rfl rfl)
theorem dX3_turn_2_77 : decode cX3_turn_2 77 = .ok (.if_icmp .ge 52, 3) := dk_162 0 52 (dk_at dksX3_turn_2_3 6 rfl rfl)
theorem dX3_turn_2_80 : decode cX3_turn_2 80 = .ok (.aload_n 0, 1) := dk_42 (dk_at dksX3_turn_2_3 9 rfl rfl)
theorem dX3_turn_2_81 : decode cX3_turn_2 81 = .ok (.getfield 45, 3) := dk_180 0 45 (dk_at dksX3_turn_2_3 10 rfl rfl)
theorem dX3_turn_2_84 : decode cX3_turn_2 84 = .ok (.bipush 6, 2) := dk_16 6 (dk_at dksX3_turn_2_3 13 rfl rfl)
theorem dX3_turn_2_86 : decode cX3_turn_2 86 = .ok (.iload 7, 2) := dk_21 7 (dk_at dksX3_turn_2_3 15 rfl rfl)
theorem dX3_turn_2_88 : decode cX3_turn_2 88 = .ok (.imul, 1) := dk_104 (dk_at dksX3_turn_2_3 17 rfl rfl)
theorem dX3_turn_2_89 : decode cX3_turn_2 89 = .ok (.iload 8, 2) := dk_21 8 (dk_at dksX3_turn_2_3 18 rfl rfl)
theorem dX3_turn_2_91 : decode cX3_turn_2 91 = .ok (.iadd, 1) := dk_96 (dk_at dksX3_turn_2_3 20 rfl rfl)
theorem dX3_turn_2_92 : decode cX3_turn_2 92 = .ok (.aload_n 0, 1) := dk_42 (dk_at dksX3_turn_2_3 21 rfl rfl)
theorem dX3_turn_2_93 : decode cX3_turn_2 93 = .ok (.getfield 19, 3) := dk_180 0 19 (dk_at dksX3_turn_2_4 0 rfl rfl)
theorem dX3_turn_2_96 : decode cX3_turn_2 96 = .ok (.bipush 6, 2) := dk_16 6 (dk_at dksX3_turn_2_4 3 rfl rfl)
theorem dX3_turn_2_98 : decode cX3_turn_2 98 = .ok (.iload 7, 2) := dk_21 7 (dk_at dksX3_turn_2_4 5 rfl rfl)
theorem dX3_turn_2_100 : decode cX3_turn_2 100 = .ok (.imul, 1) := dk_104 (dk_at dksX3_turn_2_4 7 rfl rfl)
theorem dX3_turn_2_101 : decode cX3_turn_2 101 = .ok (.iload 7, 2) := dk_21 7 (dk_at dksX3_turn_2_4 8 rfl rfl)
theorem dX3_turn_2_103 : decode cX3_turn_2 103 = .ok (.iload_n 1, 1) := dk_27 (dk_at dksX3_turn_2_4 10 rfl rfl)
theorem dX3_turn_2_104 : decode cX3_turn_2 104 = .ok (.if_icmp .ne 14, 3) := dk_160 0 14 (dk_at dksX3_turn_2_4 11 rfl rfl)
theorem dX3_turn_2_107 : decode cX3_turn_2 107 = .ok (.iload 8, 2) := dk_21 8 (dk_at dksX3_turn_2_4 14 rfl rfl)
theorem dX3_turn_2_109 : decode cX3_turn_2 109 = .ok (.iload 6, 2) := dk_21 6 (dk_at dksX3_turn_2_4 16 rfl rfl)
theorem dX3_turn_2_111 : decode cX3_turn_2 111 = .ok (.iadd, 1) := dk_96 (dk_at dksX3_turn_2_4 18 rfl rfl)
theorem dX3_turn_2_112 : decode cX3_turn_2 112 = .ok (.bipush 6, 2) := dk_16 6 (dk_at dksX3_turn_2_4 19 rfl rfl)
theorem dX3_turn_2_114 : decode cX3_turn_2 114 = .ok (.irem, 1) := dk_112 (dk_at dksX3_turn_2_4 21 rfl rfl)
theorem dX3_turn_2_115 : decode cX3_turn_2 115 = .ok (.goto 5, 3) := dk_167 0 5 (dk_at dksX3_turn_2_5 0 rfl rfl)
theorem dX3_turn_2_118 : decode cX3_turn_2 118 = .ok (.iload 8, 2) := dk_21 8 (dk_at dksX3_turn_2_5 3 rfl rfl)
theorem dX3_turn_2_120 : decode cX3_turn_2 120 = .ok (.iadd, 1) := dk_96 (dk_at dksX3_turn_2_5 5 rfl rfl)
theorem dX3_turn_2_121 : decode cX3_turn_2 121 = .ok (.iaload, 1) := dk_46 (dk_at dksX3_turn_2_5 6 rfl rfl)
theorem dX3_turn_2_122 : decode cX3_turn_2 122 = .ok (.iastore, 1) := dk_79 (dk_at dksX3_turn_2_5 7 rfl rfl)
theorem dX3_turn_2_123 : decode cX3_turn_2 123 = .ok (.iinc 8 1, 3) := dk_132 8 1 (dk_at dksX3_turn_2_5 8 rfl rfl)
theorem dX3_turn_2_126 : decode cX3_turn_2 126 = .ok (.goto (-53), 3) := dk_167 255 203 (dk_at dksX3_turn_2_5 11 rfl rfl)
theorem dX3_turn_2_129 : decode cX3_turn_2 129 = .ok (.iinc 7 1, 3) := dk_132 7 1 (dk_at dksX3_turn_2_5 14 rfl rfl)
theorem dX3_turn_2_132 : decode cX3_turn_2 132 = .ok (.goto (-68), 3) := dk_167 255 188 (dk_at dksX3_turn_2_5 17 rfl rfl)
theorem dX3_turn_2_135 : decode cX3_turn_2 135 = .ok (.aload_n 0, 1) := dk_42 (dk_at dksX3_turn_2_5 20 rfl rfl)
theorem dX3_turn_2_136 : decode cX3_turn_2 136 = .ok (.aload_n 0, 1) := dk_42 (dk_at dksX3_turn_2_5 21 rfl rfl)
theorem dX3_turn_2_137 : decode cX3_turn_2 137 = .ok (.invokevirtual 102, 3) := dk_182 0 102 (dk_at dksX3_turn_2_6 0 rfl rfl)
theorem dX3_turn_2_140 : decode cX3_turn_2 140 = .ok (.invokevirtual 194, 3) := dk_182 0 194 (dk_at dksX3_turn_2_6 3 rfl rfl)
theorem dX3_turn_2_143 : decode cX3_turn_2 143 = .ok (.aload_n 0, 1) := dk_42 (dk_at dksX3_turn_2_6 6 rfl rfl)
theorem dX3_turn_2_144 : decode cX3_turn_2 144 = .ok (.getfield 52, 3) := dk_180 0 52 (dk_at dksX3_turn_2_6 7 rfl rfl)
theorem dX3_turn_2_147 : decode cX3_turn_2 147 = .ok (.iconst 0, 1) := dk_3 (dk_at dksX3_turn_2_6 10 rfl rfl)
theorem dX3_turn_2_148 : decode cX3_turn_2 148 = .ok (.iconst 0, 1) := dk_3 (dk_at dksX3_turn_2_6 11 rfl rfl)
theorem dX3_turn_2_149 : decode cX3_turn_2 149 = .ok (.iload_n 2, 1) := dk_28 (dk_at dksX3_turn_2_6 12 rfl rfl)
theorem dX3_turn_2_150 : decode cX3_turn_2 150 = .ok (.iconst 0, 1) := dk_3 (dk_at dksX3_turn_2_6 13 rfl rfl)
theorem dX3_turn_2_151 : decode cX3_turn_2 151 = .ok (.iconst 0, 1) := dk_3 (dk_at dksX3_turn_2_6 14 rfl rfl)
theorem dX3_turn_2_152 : decode cX3_turn_2 152 = .ok (.invokestatic 184, 3) := dk_184 0 184 (dk_at dksX3_turn_2_6 15 rfl rfl)
theorem dX3_turn_2_155 : decode cX3_turn_2 155 = .ok (.laload, 1) := dk_47 (dk_at dksX3_turn_2_6 18 rfl rfl)
theorem dX3_turn_2_156 : decode cX3_turn_2 156 = .ok (.lstore 7, 2) := dk_55 7 (dk_at dksX3_turn_2_6 19 rfl rfl)
theorem dX3_turn_2_158 : decode cX3_turn_2 158 = .ok (.iload_n 3, 1) := dk_29 (dk_at dksX3_turn_2_6 21 rfl rfl)
theorem dX3_turn_2_159 : decode cX3_turn_2 159 = .ok (.iconst (-1), 1) := dk_2 (dk_at dksX3_turn_2_6 22 rfl rfl)
theorem dX3_turn_2_160 : decode cX3_turn_2 160 = .ok (.if_icmp .eq 29, 3) := dk_159 0 29 (dk_at dksX3_turn_2_7 0 rfl rfl)
theorem dX3_turn_2_163 : decode cX3_turn_2 163 = .ok (.iload_n 1, 1) := dk_27 (dk_at dksX3_turn_2_7 3 rfl rfl)
theorem dX3_turn_2_164 : decode cX3_turn_2 164 = .ok (.ifCond .ne 14, 3) := dk_154 0 14 (dk_at dksX3_turn_2_7 4 rfl rfl)
theorem dX3_turn_2_167 : decode cX3_turn_2 167 = .ok (.lload 7, 2) := dk_22 7 (dk_at dksX3_turn_2_7 7 rfl rfl)
theorem dX3_turn_2_169 : decode cX3_turn_2 169 = .ok (.lload 4, 2) := dk_22 4 (dk_at dksX3_turn_2_7 9 rfl rfl)
theorem dX3_turn_2_171 : decode cX3_turn_2 171 = .ok (.lcmp, 1) := dk_148 (dk_at dksX3_turn_2_7 11 rfl rfl)
theorem dX3_turn_2_172 : decode cX3_turn_2 172 = .ok (.ifCond .gt 17, 3) := dk_157 0 17 (dk_at dksX3_turn_2_7 12 rfl rfl)
theorem dX3_turn_2_175 : decode cX3_turn_2 175 = .ok (.goto 21, 3) := dk_167 0 21 (dk_at dksX3_turn_2_7 15 rfl rfl)
theorem dX3_turn_2_178 : decode cX3_turn_2 178 = .ok (.lload 7, 2) := dk_22 7 (dk_at dksX3_turn_2_7 18 rfl rfl)
theorem dX3_turn_2_180 : decode cX3_turn_2 180 = .ok (.lload 4, 2) := dk_22 4 (dk_at dksX3_turn_2_7 20 rfl rfl)
theorem dX3_turn_2_182 : decode cX3_turn_2 182 = .ok (.lcmp, 1) := dk_148 (dk_at dksX3_turn_2_7 22 rfl rfl)
theorem dX3_turn_2_183 : decode cX3_turn_2 183 = .ok (.ifCond .lt 6, 3) := dk_155 0 6 (dk_at dksX3_turn_2_8 0 rfl rfl)
theorem dX3_turn_2_186 : decode cX3_turn_2 186 = .ok (.goto 10, 3) := dk_167 0 10 (dk_at dksX3_turn_2_8 3 rfl rfl)
theorem dX3_turn_2_189 : decode cX3_turn_2 189 = .ok (.iload 6, 2) := dk_21 6 (dk_at dksX3_turn_2_8 6 rfl rfl)
theorem dX3_turn_2_191 : decode cX3_turn_2 191 = .ok (.istore_n 3, 1) := dk_62 (dk_at dksX3_turn_2_8 8 rfl rfl)
theorem dX3_turn_2_192 : decode cX3_turn_2 192 = .ok (.lload 7, 2) := dk_22 7 (dk_at dksX3_turn_2_8 9 rfl rfl)
theorem dX3_turn_2_194 : decode cX3_turn_2 194 = .ok (.lstore 4, 2) := dk_55 4 (dk_at dksX3_turn_2_8 11 rfl rfl)
theorem dX3_turn_2_196 : decode cX3_turn_2 196 = .ok (.iinc 6 1, 3) := dk_132 6 1 (dk_at dksX3_turn_2_8 13 rfl rfl)
theorem dX3_turn_2_199 : decode cX3_turn_2 199 = .ok (.goto (-145), 3) := dk_167 255 111 (dk_at dksX3_turn_2_8 16 rfl rfl)
theorem dX3_turn_2_202 : decode cX3_turn_2 202 = .ok (.aload_n 0, 1) := dk_42 (dk_at dksX3_turn_2_8 19 rfl rfl)
theorem dX3_turn_2_203 : decode cX3_turn_2 203 = .ok (.lload 4, 2) := dk_22 4 (dk_at dksX3_turn_2_8 20 rfl rfl)
theorem dX3_turn_2_205 : decode cX3_turn_2 205 = .ok (.l2i, 1) := dk_136 (dk_at dksX3_turn_2_8 22 rfl rfl)
theorem dX3_turn_2_206 : decode cX3_turn_2 206 = .ok (.putfield 200, 3) := dk_181 0 200 (dk_at dksX3_turn_2_9 0 rfl rfl)
theorem dX3_turn_2_209 : decode cX3_turn_2 209 = .ok (.aload_n 0, 1) := dk_42 (dk_at dksX3_turn_2_9 3 rfl rfl)
theorem dX3_turn_2_210 : decode cX3_turn_2 210 = .ok (.iconst 1, 1) := dk_4 (dk_at dksX3_turn_2_9 4 rfl rfl)
theorem dX3_turn_2_211 : decode cX3_turn_2 211 = .ok (.putfield 132, 3) := dk_181 0 132 (dk_at dksX3_turn_2_9 5 rfl rfl)
theorem dX3_turn_2_214 : decode cX3_turn_2 214 = .ok (.iload_n 3, 1) := dk_29 (dk_at dksX3_turn_2_9 8 rfl rfl)
theorem dX3_turn_2_215 : decode cX3_turn_2 215 = .ok (.ireturn, 1) := dk_172 (dk_at dksX3_turn_2_9 9 rfl rfl)
abbrev cX3_advice : ByteArray := prog_9_method_59_code
def yX3_advice : MethodName := ⟨RX3, "advice", "(I)I"⟩
def dkwX3_advice_7 : List UInt8 := [16, 254, 160, 0, 5, 28, 172, 42, 29, 181, 0, 200, 42, 4, 181, 0, 132, 28, 172]
abbrev dktX3_advice_7 : List UInt8 := dkwX3_advice_7 ++ []
def dkwX3_advice_6 : List UInt8 := [21, 4, 104, 21, 5, 96, 61, 21, 6, 62, 132, 5, 1, 167, 255, 160, 132, 4, 1, 167, 255, 144, 28]
abbrev dktX3_advice_6 : List UInt8 := dkwX3_advice_6 ++ dktX3_advice_7
def dkwX3_advice_5 : List UInt8 := [154, 0, 12, 21, 6, 29, 163, 0, 15, 167, 0, 24, 21, 6, 29, 161, 0, 6, 167, 0, 15, 16, 12]
abbrev dktX3_advice_5 : List UInt8 := dkwX3_advice_5 ++ dktX3_advice_6
def dkwX3_advice_4 : List UInt8 := [182, 0, 117, 96, 21, 5, 79, 42, 42, 182, 0, 102, 182, 0, 194, 42, 182, 0, 197, 54, 6, 27]
abbrev dktX3_advice_4 : List UInt8 := dkwX3_advice_4 ++ dktX3_advice_5
def dkwX3_advice_3 : List UInt8 := [153, 0, 6, 167, 0, 74, 42, 182, 0, 174, 42, 180, 0, 45, 16, 6, 27, 104, 42, 27, 21, 4]
abbrev dktX3_advice_3 : List UInt8 := dkwX3_advice_3 ++ dktX3_advice_4
def dkwX3_advice_2 : List UInt8 := [16, 12, 162, 0, 111, 3, 54, 5, 21, 5, 16, 12, 162, 0, 95, 42, 27, 21, 4, 21, 5, 182, 0, 120]
abbrev dktX3_advice_2 : List UInt8 := dkwX3_advice_2 ++ dktX3_advice_3
def dkwX3_advice_1 : List UInt8 := [182, 0, 174, 42, 42, 182, 0, 102, 182, 0, 194, 16, 254, 61, 42, 182, 0, 197, 62, 3, 54, 4, 21, 4]
abbrev dktX3_advice_1 : List UInt8 := dkwX3_advice_1 ++ dktX3_advice_2
def dkwX3_advice_0 : List UInt8 := [42, 3, 181, 0, 63, 27, 184, 0, 71, 153, 0, 10, 42, 182, 0, 82, 154, 0, 5, 2, 172, 42]
abbrev dktX3_advice_0 : List UInt8 := dkwX3_advice_0 ++ dktX3_advice_1
theorem dksX3_advice_0 : cX3_advice.data.toList.drop 0 = dktX3_advice_0 := by decide +kernel
theorem dksX3_advice_1 : cX3_advice.data.toList.drop 22 = dktX3_advice_1 := dk_seg dksX3_advice_0 22 rfl rfl
theorem dksX3_advice_2 : cX3_advice.data.toList.drop 46 = dktX3_advice_2 := dk_seg dksX3_advice_1 24 rfl rfl
theorem dksX3_advice_3 : cX3_advice.data.toList.drop 70 = dktX3_advice_3 := dk_seg dksX3_advice_2 24 rfl rfl
theorem dksX3_advice_4 : cX3_advice.data.toList.drop 92 = dktX3_advice_4 := dk_seg dksX3_advice_3 22 rfl rfl
theorem dksX3_advice_5 : cX3_advice.data.toList.drop 114 = dktX3_advice_5 := dk_seg dksX3_advice_4 22 rfl rfl
theorem dksX3_advice_6 : cX3_advice.data.toList.drop 137 = dktX3_advice_6 := dk_seg dksX3_advice_5 23 rfl rfl
theorem dksX3_advice_7 : cX3_advice.data.toList.drop 160 = dktX3_advice_7 := dk_seg dksX3_advice_6 23 rfl rfl
theorem dX3_advice_0 : decode cX3_advice 0 = .ok (.aload_n 0, 1) := dk_42 (dk_at dksX3_advice_0 0 rfl rfl)
theorem dX3_advice_1 : decode cX3_advice 1 = .ok (.iconst 0, 1) := dk_3 (dk_at dksX3_advice_0 1 rfl rfl)
theorem dX3_advice_2 : decode cX3_advice 2 = .ok (.putfield 63, 3) := dk_181 0 63 (dk_at dksX3_advice_0 2 rfl rfl)
theorem dX3_advice_5 : decode cX3_advice 5 = .ok (.iload_n 1, 1) := dk_27 (dk_at dksX3_advice_0 5 rfl rfl)
theorem dX3_advice_6 : decode cX3_advice 6 = .ok (.invokestatic 71, 3) := dk_184 0 71 (dk_at dksX3_advice_0 6 rfl rfl)
theorem dX3_advice_9 : decode cX3_advice 9 = .ok (.ifCond .eq 10, 3) := dk_153 0 10 (dk_at dksX3_advice_0 9 rfl rfl)
theorem dX3_advice_12 : decode cX3_advice 12 = .ok (.aload_n 0, 1) := dk_42 (dk_at dksX3_advice_0 12 rfl rfl)
theorem dX3_advice_13 : decode cX3_advice 13 = .ok (.invokevirtual 82, 3) := dk_182 0 82 (dk_at dksX3_advice_0 13 rfl rfl)
theorem dX3_advice_16 : decode cX3_advice 16 = .ok (.ifCond .ne 5, 3) := dk_154 0 5 (dk_at dksX3_advice_0 16 rfl rfl)
theorem dX3_advice_19 : decode cX3_advice 19 = .ok (.iconst (-1), 1) := dk_2 (dk_at dksX3_advice_0 19 rfl rfl)
theorem dX3_advice_20 : decode cX3_advice 20 = .ok (.ireturn, 1) := dk_172 (dk_at dksX3_advice_0 20 rfl rfl)
theorem dX3_advice_21 : decode cX3_advice 21 = .ok (.aload_n 0, 1) := dk_42 (dk_at dksX3_advice_0 21 rfl rfl)
theorem dX3_advice_22 : decode cX3_advice 22 = .ok (.invokevirtual 174, 3) := dk_182 0 174 (dk_at dksX3_advice_1 0 rfl rfl)
theorem dX3_advice_25 : decode cX3_advice 25 = .ok (.aload_n 0, 1) := dk_42 (dk_at dksX3_advice_1 3 rfl rfl)
theorem dX3_advice_26 : decode cX3_advice 26 = .ok (.aload_n 0, 1) := dk_42 (dk_at dksX3_advice_1 4 rfl rfl)
theorem dX3_advice_27 : decode cX3_advice 27 = .ok (.invokevirtual 102, 3) := dk_182 0 102 (dk_at dksX3_advice_1 5 rfl rfl)
theorem dX3_advice_30 : decode cX3_advice 30 = .ok (.invokevirtual 194, 3) := dk_182 0 194 (dk_at dksX3_advice_1 8 rfl rfl)
theorem dX3_advice_33 : decode cX3_advice 33 = .ok (.bipush (-2), 2) := dk_16 254 (dk_at dksX3_advice_1 11 rfl rfl)
theorem dX3_advice_35 : decode cX3_advice 35 = .ok (.istore_n 2, 1) := dk_61 (dk_at dksX3_advice_1 13 rfl rfl)
theorem dX3_advice_36 : decode cX3_advice 36 = .ok (.aload_n 0, 1) := dk_42 (dk_at dksX3_advice_1 14 rfl rfl)
theorem dX3_advice_37 : decode cX3_advice 37 = .ok (.invokevirtual 197, 3) := dk_182 0 197 (dk_at dksX3_advice_1 15 rfl rfl)
theorem dX3_advice_40 : decode cX3_advice 40 = .ok (.istore_n 3, 1) := dk_62 (dk_at dksX3_advice_1 18 rfl rfl)
theorem dX3_advice_41 : decode cX3_advice 41 = .ok (.iconst 0, 1) := dk_3 (dk_at dksX3_advice_1 19 rfl rfl)
theorem dX3_advice_42 : decode cX3_advice 42 = .ok (.istore 4, 2) := dk_54 4 (dk_at dksX3_advice_1 20 rfl rfl)
theorem dX3_advice_44 : decode cX3_advice 44 = .ok (.iload 4, 2) := dk_21 4 (dk_at dksX3_advice_1 22 rfl rfl)
theorem dX3_advice_46 : decode cX3_advice 46 = .ok (.bipush 12, 2) := dk_16 12 (dk_at dksX3_advice_2 0 rfl rfl)
theorem dX3_advice_48 : decode cX3_advice 48 = .ok (.if_icmp .ge 111, 3) := dk_162 0 111 (dk_at dksX3_advice_2 2 rfl rfl)
theorem dX3_advice_51 : decode cX3_advice 51 = .ok (.iconst 0, 1) := dk_3 (dk_at dksX3_advice_2 5 rfl rfl)
theorem dX3_advice_52 : decode cX3_advice 52 = .ok (.istore 5, 2) := dk_54 5 (dk_at dksX3_advice_2 6 rfl rfl)
theorem dX3_advice_54 : decode cX3_advice 54 = .ok (.iload 5, 2) := dk_21 5 (dk_at dksX3_advice_2 8 rfl rfl)
theorem dX3_advice_56 : decode cX3_advice 56 = .ok (.bipush 12, 2) := dk_16 12 (dk_at dksX3_advice_2 10 rfl rfl)
theorem dX3_advice_58 : decode cX3_advice 58 = .ok (.if_icmp .ge 95, 3) := dk_162 0 95 (dk_at dksX3_advice_2 12 rfl rfl)
theorem dX3_advice_61 : decode cX3_advice 61 = .ok (.aload_n 0, 1) := dk_42 (dk_at dksX3_advice_2 15 rfl rfl)
theorem dX3_advice_62 : decode cX3_advice 62 = .ok (.iload_n 1, 1) := dk_27 (dk_at dksX3_advice_2 16 rfl rfl)
theorem dX3_advice_63 : decode cX3_advice 63 = .ok (.iload 4, 2) := dk_21 4 (dk_at dksX3_advice_2 17 rfl rfl)
theorem dX3_advice_65 : decode cX3_advice 65 = .ok (.iload 5, 2) := dk_21 5 (dk_at dksX3_advice_2 19 rfl rfl)
theorem dX3_advice_67 : decode cX3_advice 67 = .ok (.invokevirtual 120, 3) := dk_182 0 120 (dk_at dksX3_advice_2 21 rfl rfl)
theorem dX3_advice_70 : decode cX3_advice 70 = .ok (.ifCond .eq 6, 3) := dk_153 0 6 (dk_at dksX3_advice_3 0 rfl rfl)
theorem dX3_advice_73 : decode cX3_advice 73 = .ok (.goto 74, 3) := dk_167 0 74 (dk_at dksX3_advice_3 3 rfl rfl)
theorem dX3_advice_76 : decode cX3_advice 76 = .ok (.aload_n 0, 1) := dk_42 (dk_at dksX3_advice_3 6 rfl rfl)
theorem dX3_advice_77 : decode cX3_advice 77 = .ok (.invokevirtual 174, 3) := dk_182 0 174 (dk_at dksX3_advice_3 7 rfl rfl)
theorem dX3_advice_80 : decode cX3_advice 80 = .ok (.aload_n 0, 1) := dk_42 (dk_at dksX3_advice_3 10 rfl rfl)
theorem dX3_advice_81 : decode cX3_advice 81 = .ok (.getfield 45, 3) := dk_180 0 45 (dk_at dksX3_advice_3 11 rfl rfl)
theorem dX3_advice_84 : decode cX3_advice 84 = .ok (.bipush 6, 2) := dk_16 6 (dk_at dksX3_advice_3 14 rfl rfl)
theorem dX3_advice_86 : decode cX3_advice 86 = .ok (.iload_n 1, 1) := dk_27 (dk_at dksX3_advice_3 16 rfl rfl)
theorem dX3_advice_87 : decode cX3_advice 87 = .ok (.imul, 1) := dk_104 (dk_at dksX3_advice_3 17 rfl rfl)
theorem dX3_advice_88 : decode cX3_advice 88 = .ok (.aload_n 0, 1) := dk_42 (dk_at dksX3_advice_3 18 rfl rfl)
theorem dX3_advice_89 : decode cX3_advice 89 = .ok (.iload_n 1, 1) := dk_27 (dk_at dksX3_advice_3 19 rfl rfl)
theorem dX3_advice_90 : decode cX3_advice 90 = .ok (.iload 4, 2) := dk_21 4 (dk_at dksX3_advice_3 20 rfl rfl)
theorem dX3_advice_92 : decode cX3_advice 92 = .ok (.invokevirtual 117, 3) := dk_182 0 117 (dk_at dksX3_advice_4 0 rfl rfl)
theorem dX3_advice_95 : decode cX3_advice 95 = .ok (.iadd, 1) := dk_96 (dk_at dksX3_advice_4 3 rfl rfl)
theorem dX3_advice_96 : decode cX3_advice 96 = .ok (.iload 5, 2) := dk_21 5 (dk_at dksX3_advice_4 4 rfl rfl)
theorem dX3_advice_98 : decode cX3_advice 98 = .ok (.iastore, 1) := dk_79 (dk_at dksX3_advice_4 6 rfl rfl)
theorem dX3_advice_99 : decode cX3_advice 99 = .ok (.aload_n 0, 1) := dk_42 (dk_at dksX3_advice_4 7 rfl rfl)
theorem dX3_advice_100 : decode cX3_advice 100 = .ok (.aload_n 0, 1) := dk_42 (dk_at dksX3_advice_4 8 rfl rfl)
theorem dX3_advice_101 : decode cX3_advice 101 = .ok (.invokevirtual 102, 3) := dk_182 0 102 (dk_at dksX3_advice_4 9 rfl rfl)
theorem dX3_advice_104 : decode cX3_advice 104 = .ok (.invokevirtual 194, 3) := dk_182 0 194 (dk_at dksX3_advice_4 12 rfl rfl)
theorem dX3_advice_107 : decode cX3_advice 107 = .ok (.aload_n 0, 1) := dk_42 (dk_at dksX3_advice_4 15 rfl rfl)
theorem dX3_advice_108 : decode cX3_advice 108 = .ok (.invokevirtual 197, 3) := dk_182 0 197 (dk_at dksX3_advice_4 16 rfl rfl)
theorem dX3_advice_111 : decode cX3_advice 111 = .ok (.istore 6, 2) := dk_54 6 (dk_at dksX3_advice_4 19 rfl rfl)
theorem dX3_advice_113 : decode cX3_advice 113 = .ok (.iload_n 1, 1) := dk_27 (dk_at dksX3_advice_4 21 rfl rfl)
theorem dX3_advice_114 : decode cX3_advice 114 = .ok (.ifCond .ne 12, 3) := dk_154 0 12 (dk_at dksX3_advice_5 0 rfl rfl)
theorem dX3_advice_117 : decode cX3_advice 117 = .ok (.iload 6, 2) := dk_21 6 (dk_at dksX3_advice_5 3 rfl rfl)
theorem dX3_advice_119 : decode cX3_advice 119 = .ok (.iload_n 3, 1) := dk_29 (dk_at dksX3_advice_5 5 rfl rfl)
theorem dX3_advice_120 : decode cX3_advice 120 = .ok (.if_icmp .gt 15, 3) := dk_163 0 15 (dk_at dksX3_advice_5 6 rfl rfl)
theorem dX3_advice_123 : decode cX3_advice 123 = .ok (.goto 24, 3) := dk_167 0 24 (dk_at dksX3_advice_5 9 rfl rfl)
theorem dX3_advice_126 : decode cX3_advice 126 = .ok (.iload 6, 2) := dk_21 6 (dk_at dksX3_advice_5 12 rfl rfl)
theorem dX3_advice_128 : decode cX3_advice 128 = .ok (.iload_n 3, 1) := dk_29 (dk_at dksX3_advice_5 14 rfl rfl)
theorem dX3_advice_129 : decode cX3_advice 129 = .ok (.if_icmp .lt 6, 3) := dk_161 0 6 (dk_at dksX3_advice_5 15 rfl rfl)
theorem dX3_advice_132 : decode cX3_advice 132 = .ok (.goto 15, 3) := dk_167 0 15 (dk_at dksX3_advice_5 18 rfl rfl)
theorem dX3_advice_135 : decode cX3_advice 135 = .ok (.bipush 12, 2) := dk_16 12 (dk_at dksX3_advice_5 21 rfl rfl)
theorem dX3_advice_137 : decode cX3_advice 137 = .ok (.iload 4, 2) := dk_21 4 (dk_at dksX3_advice_6 0 rfl rfl)
theorem dX3_advice_139 : decode cX3_advice 139 = .ok (.imul, 1) := dk_104 (dk_at dksX3_advice_6 2 rfl rfl)
theorem dX3_advice_140 : decode cX3_advice 140 = .ok (.iload 5, 2) := dk_21 5 (dk_at dksX3_advice_6 3 rfl rfl)
theorem dX3_advice_142 : decode cX3_advice 142 = .ok (.iadd, 1) := dk_96 (dk_at dksX3_advice_6 5 rfl rfl)
theorem dX3_advice_143 : decode cX3_advice 143 = .ok (.istore_n 2, 1) := dk_61 (dk_at dksX3_advice_6 6 rfl rfl)
theorem dX3_advice_144 : decode cX3_advice 144 = .ok (.iload 6, 2) := dk_21 6 (dk_at dksX3_advice_6 7 rfl rfl)
theorem dX3_advice_146 : decode cX3_advice 146 = .ok (.istore_n 3, 1) := dk_62 (dk_at dksX3_advice_6 9 rfl rfl)
theorem dX3_advice_147 : decode cX3_advice 147 = .ok (.iinc 5 1, 3) := dk_132 5 1 (dk_at dksX3_advice_6 10 rfl rfl)
theorem dX3_advice_150 : decode cX3_advice 150 = .ok (.goto (-96), 3) := dk_167 255 160 (dk_at dksX3_advice_6 13 rfl rfl)
theorem dX3_advice_153 : decode cX3_advice 153 = .ok (.iinc 4 1, 3) := dk_132 4 1 (dk_at dksX3_advice_6 16 rfl rfl)
theorem dX3_advice_156 : decode cX3_advice 156 = .ok (.goto (-112), 3) := dk_167 255 144 (dk_at dksX3_advice_6 19 rfl rfl)
theorem dX3_advice_159 : decode cX3_advice 159 = .ok (.iload_n 2, 1) := dk_28 (dk_at dksX3_advice_6 22 rfl rfl)
theorem dX3_advice_160 : decode cX3_advice 160 = .ok (.bipush (-2), 2) := dk_16 254 (dk_at dksX3_advice_7 0 rfl rfl)
theorem dX3_advice_162 : decode cX3_advice 162 = .ok (.if_icmp .ne 5, 3) := dk_160 0 5 (dk_at dksX3_advice_7 2 rfl rfl)
theorem dX3_advice_165 : decode cX3_advice 165 = .ok (.iload_n 2, 1) := dk_28 (dk_at dksX3_advice_7 5 rfl rfl)
theorem dX3_advice_166 : decode cX3_advice 166 = .ok (.ireturn, 1) := dk_172 (dk_at dksX3_advice_7 6 rfl rfl)
theorem dX3_advice_167 : decode cX3_advice 167 = .ok (.aload_n 0, 1) := dk_42 (dk_at dksX3_advice_7 7 rfl rfl)
theorem dX3_advice_168 : decode cX3_advice 168 = .ok (.iload_n 3, 1) := dk_29 (dk_at dksX3_advice_7 8 rfl rfl)
theorem dX3_advice_169 : decode cX3_advice 169 = .ok (.putfield 200, 3) := dk_181 0 200 (dk_at dksX3_advice_7 9 rfl rfl)
theorem dX3_advice_172 : decode cX3_advice 172 = .ok (.aload_n 0, 1) := dk_42 (dk_at dksX3_advice_7 12 rfl rfl)
theorem dX3_advice_173 : decode cX3_advice 173 = .ok (.iconst 1, 1) := dk_4 (dk_at dksX3_advice_7 13 rfl rfl)
theorem dX3_advice_174 : decode cX3_advice 174 = .ok (.putfield 132, 3) := dk_181 0 132 (dk_at dksX3_advice_7 14 rfl rfl)
theorem dX3_advice_177 : decode cX3_advice 177 = .ok (.iload_n 2, 1) := dk_28 (dk_at dksX3_advice_7 17 rfl rfl)
theorem dX3_advice_178 : decode cX3_advice 178 = .ok (.ireturn, 1) := dk_172 (dk_at dksX3_advice_7 18 rfl rfl)
abbrev cX3_row : ByteArray := prog_9_method_60_code
def yX3_row : MethodName := ⟨RX3, "row", "(I)I"⟩
def dkwX3_row_1 : List UInt8 := [181, 0, 63, 3, 172]
abbrev dktX3_row_1 : List UInt8 := dkwX3_row_1 ++ []
def dkwX3_row_0 : List UInt8 := [42, 3, 181, 0, 63, 27, 154, 0, 16, 42, 180, 0, 132, 4, 160, 0, 8, 42, 180, 0, 200, 172, 42, 4]
abbrev dktX3_row_0 : List UInt8 := dkwX3_row_0 ++ dktX3_row_1
theorem dksX3_row_0 : cX3_row.data.toList.drop 0 = dktX3_row_0 := by decide +kernel
theorem dksX3_row_1 : cX3_row.data.toList.drop 24 = dktX3_row_1 := dk_seg dksX3_row_0 24 rfl rfl
theorem dX3_row_0 : decode cX3_row 0 = .ok (.aload_n 0, 1) := dk_42 (dk_at dksX3_row_0 0 rfl rfl)
theorem dX3_row_1 : decode cX3_row 1 = .ok (.iconst 0, 1) := dk_3 (dk_at dksX3_row_0 1 rfl rfl)
theorem dX3_row_2 : decode cX3_row 2 = .ok (.putfield 63, 3) := dk_181 0 63 (dk_at dksX3_row_0 2 rfl rfl)
theorem dX3_row_5 : decode cX3_row 5 = .ok (.iload_n 1, 1) := dk_27 (dk_at dksX3_row_0 5 rfl rfl)
theorem dX3_row_6 : decode cX3_row 6 = .ok (.ifCond .ne 16, 3) := dk_154 0 16 (dk_at dksX3_row_0 6 rfl rfl)
theorem dX3_row_9 : decode cX3_row 9 = .ok (.aload_n 0, 1) := dk_42 (dk_at dksX3_row_0 9 rfl rfl)
theorem dX3_row_10 : decode cX3_row 10 = .ok (.getfield 132, 3) := dk_180 0 132 (dk_at dksX3_row_0 10 rfl rfl)
theorem dX3_row_13 : decode cX3_row 13 = .ok (.iconst 1, 1) := dk_4 (dk_at dksX3_row_0 13 rfl rfl)
theorem dX3_row_14 : decode cX3_row 14 = .ok (.if_icmp .ne 8, 3) := dk_160 0 8 (dk_at dksX3_row_0 14 rfl rfl)
theorem dX3_row_17 : decode cX3_row 17 = .ok (.aload_n 0, 1) := dk_42 (dk_at dksX3_row_0 17 rfl rfl)
theorem dX3_row_18 : decode cX3_row 18 = .ok (.getfield 200, 3) := dk_180 0 200 (dk_at dksX3_row_0 18 rfl rfl)
theorem dX3_row_21 : decode cX3_row 21 = .ok (.ireturn, 1) := dk_172 (dk_at dksX3_row_0 21 rfl rfl)
theorem dX3_row_22 : decode cX3_row 22 = .ok (.aload_n 0, 1) := dk_42 (dk_at dksX3_row_0 22 rfl rfl)
theorem dX3_row_23 : decode cX3_row 23 = .ok (.iconst 1, 1) := dk_4 (dk_at dksX3_row_0 23 rfl rfl)
theorem dX3_row_24 : decode cX3_row 24 = .ok (.putfield 63, 3) := dk_181 0 63 (dk_at dksX3_row_1 0 rfl rfl)
theorem dX3_row_27 : decode cX3_row 27 = .ok (.iconst 0, 1) := dk_3 (dk_at dksX3_row_1 3 rfl rfl)
theorem dX3_row_28 : decode cX3_row 28 = .ok (.ireturn, 1) := dk_172 (dk_at dksX3_row_1 4 rfl rfl)
theorem q50 : (Jvm.Cond.initialized "SixWhoTurnModel") ∈ lw_all := lw_g (lw_at lw_m1 4 rfl) rfl
theorem q750 : (Jvm.Cond.instantiable "SixWhoTurnModel" (18 : Nat)) ∈ lw_all := lw_g (lw_at lw_m3 224 rfl) rfl
theorem q752 : (Jvm.Cond.instanceMethod ({ cls := "SixWhoTurnModel", name := "<init>", desc := "()V" } : Jvm.MethodName)) ∈ lw_all := lw_g (lw_at lw_m3 226 rfl) rfl
theorem q753 : (Jvm.Cond.code ({ cls := "SixWhoTurnModel", name := "<init>", desc := "()V" } : Jvm.MethodName) prog_9_method_1_code (3 : Nat) (Option.none : Option Jvm.ClassFile.FieldType)) ∈ lw_all := lw_g (lw_at lw_m3 227 rfl) rfl
theorem q754 : (Jvm.Cond.methodLink "SixWhoTurnModel" (3 : Nat) ({ cls := "java/lang/Object", name := "<init>", desc := "()V" } : Jvm.MethodName)) ∈ lw_all := lw_g (lw_at lw_m3 228 rfl) rfl
theorem q755 : (Jvm.Cond.constant "SixWhoTurnModel" (51 : Nat) (69192 : Int32)) ∈ lw_all := lw_g (lw_at lw_m3 229 rfl) rfl
theorem q756 : (Jvm.Cond.methodLink "SixWhoTurnModel" (56 : Nat) ({ cls := "SixWhoTurnModel", name := "put", desc := "(III)V" } : Jvm.MethodName)) ∈ lw_all := lw_g (lw_at lw_m3 230 rfl) rfl
theorem q757 : (Jvm.Cond.privateMethod ({ cls := "SixWhoTurnModel", name := "put", desc := "(III)V" } : Jvm.MethodName)) ∈ lw_tbl := lw_at lw_m3 231 rfl
theorem q758 : (Jvm.Cond.instanceMethod ({ cls := "SixWhoTurnModel", name := "put", desc := "(III)V" } : Jvm.MethodName)) ∈ lw_all := lw_g (lw_at lw_m3 232 rfl) rfl
theorem q759 : (Jvm.Cond.code ({ cls := "SixWhoTurnModel", name := "put", desc := "(III)V" } : Jvm.MethodName) prog_9_method_7_code (4 : Nat) (Option.none : Option Jvm.ClassFile.FieldType)) ∈ lw_all := lw_g (lw_at lw_m3 233 rfl) rfl
theorem q760 : (Jvm.Cond.methodLink "SixWhoTurnModel" (60 : Nat) ({ cls := "SixWhoTurnModel", name := "stand", desc := "()V" } : Jvm.MethodName)) ∈ lw_all := lw_g (lw_at lw_m3 234 rfl) rfl
theorem q761 : (Jvm.Cond.privateMethod ({ cls := "SixWhoTurnModel", name := "stand", desc := "()V" } : Jvm.MethodName)) ∈ lw_tbl := lw_at lw_m3 235 rfl
theorem q762 : (Jvm.Cond.instanceMethod ({ cls := "SixWhoTurnModel", name := "stand", desc := "()V" } : Jvm.MethodName)) ∈ lw_all := lw_g (lw_at lw_m3 236 rfl) rfl
theorem q763 : (Jvm.Cond.code ({ cls := "SixWhoTurnModel", name := "stand", desc := "()V" } : Jvm.MethodName) prog_9_method_9_code (3 : Nat) (Option.none : Option Jvm.ClassFile.FieldType)) ∈ lw_all := lw_g (lw_at lw_m3 237 rfl) rfl
theorem q764 : (Jvm.Cond.fieldLink "SixWhoTurnModel" (9 : Nat) "SixWhoTurnModel" "skills" "[I") ∈ lw_all := lw_g (lw_at lw_m3 238 rfl) rfl
theorem q765 : (Jvm.Cond.fieldLink "SixWhoTurnModel" (13 : Nat) "SixWhoTurnModel" "libre" "[I") ∈ lw_all := lw_g (lw_at lw_m3 239 rfl) rfl
theorem q766 : (Jvm.Cond.fieldLink "SixWhoTurnModel" (16 : Nat) "SixWhoTurnModel" "numbers" "[I") ∈ lw_all := lw_g (lw_at lw_m4 0 rfl) rfl
theorem q767 : (Jvm.Cond.fieldLink "SixWhoTurnModel" (19 : Nat) "SixWhoTurnModel" "next" "[I") ∈ lw_all := lw_g (lw_at lw_m4 1 rfl) rfl
theorem q768 : (Jvm.Cond.fieldLink "SixWhoTurnModel" (22 : Nat) "SixWhoTurnModel" "isTold" "[Z") ∈ lw_all := lw_g (lw_at lw_m4 2 rfl) rfl
theorem q769 : (Jvm.Cond.fieldLink "SixWhoTurnModel" (26 : Nat) "SixWhoTurnModel" "w" "[I") ∈ lw_all := lw_g (lw_at lw_m4 3 rfl) rfl
theorem q770 : (Jvm.Cond.fieldLink "SixWhoTurnModel" (29 : Nat) "SixWhoTurnModel" "aside" "[I") ∈ lw_all := lw_g (lw_at lw_m4 4 rfl) rfl
theorem q771 : (Jvm.Cond.fieldLink "SixWhoTurnModel" (32 : Nat) "SixWhoTurnModel" "feetX" "[I") ∈ lw_all := lw_g (lw_at lw_m4 5 rfl) rfl
theorem q772 : (Jvm.Cond.fieldLink "SixWhoTurnModel" (35 : Nat) "SixWhoTurnModel" "feetY" "[I") ∈ lw_all := lw_g (lw_at lw_m4 6 rfl) rfl
theorem q773 : (Jvm.Cond.fieldLink "SixWhoTurnModel" (38 : Nat) "SixWhoTurnModel" "text" "[B") ∈ lw_all := lw_g (lw_at lw_m4 7 rfl) rfl
theorem q774 : (Jvm.Cond.fieldLink "SixWhoTurnModel" (135 : Nat) "SixWhoTurnModel" "typed" "I") ∈ lw_all := lw_g (lw_at lw_m4 8 rfl) rfl
theorem q775 : (Jvm.Cond.fieldLink "SixWhoTurnModel" (200 : Nat) "SixWhoTurnModel" "rowFirst" "I") ∈ lw_all := lw_g (lw_at lw_m4 9 rfl) rfl
theorem q776 : (Jvm.Cond.fieldLink "SixWhoTurnModel" (132 : Nat) "SixWhoTurnModel" "rowMany" "I") ∈ lw_all := lw_g (lw_at lw_m4 10 rfl) rfl
theorem q777 : (Jvm.Cond.fieldLink "SixWhoTurnModel" (63 : Nat) "SixWhoTurnModel" "thrown" "I") ∈ lw_all := lw_g (lw_at lw_m4 11 rfl) rfl
theorem q778 : (Jvm.Cond.fieldLink "SixWhoTurnModel" (42 : Nat) "SixWhoTurnModel" "six" "[I") ∈ lw_all := lw_g (lw_at lw_m4 12 rfl) rfl
theorem q779 : (Jvm.Cond.fieldLink "SixWhoTurnModel" (45 : Nat) "SixWhoTurnModel" "counts" "[I") ∈ lw_all := lw_g (lw_at lw_m4 13 rfl) rfl
theorem q780 : (Jvm.Cond.fieldLink "SixWhoTurnModel" (48 : Nat) "SixWhoTurnModel" "odds" "[I") ∈ lw_all := lw_g (lw_at lw_m4 14 rfl) rfl
theorem q781 : (Jvm.Cond.fieldLink "SixWhoTurnModel" (52 : Nat) "SixWhoTurnModel" "table" "[J") ∈ lw_all := lw_g (lw_at lw_m4 15 rfl) rfl
theorem q782 : (Jvm.Cond.laysFinal "SixWhoTurnModel" "SixWhoTurnModel" "skills" "[I") ∈ lw_all := lw_g (lw_at lw_m4 16 rfl) rfl
theorem q783 : (Jvm.Cond.soleField "SixWhoTurnModel" "skills") ∈ lw_all := lw_g (lw_at lw_m4 17 rfl) rfl
theorem q784 : (Jvm.Cond.laysFinal "SixWhoTurnModel" "SixWhoTurnModel" "libre" "[I") ∈ lw_all := lw_g (lw_at lw_m4 18 rfl) rfl
theorem q785 : (Jvm.Cond.soleField "SixWhoTurnModel" "libre") ∈ lw_all := lw_g (lw_at lw_m4 19 rfl) rfl
theorem q786 : (Jvm.Cond.laysFinal "SixWhoTurnModel" "SixWhoTurnModel" "numbers" "[I") ∈ lw_all := lw_g (lw_at lw_m4 20 rfl) rfl
theorem q787 : (Jvm.Cond.soleField "SixWhoTurnModel" "numbers") ∈ lw_all := lw_g (lw_at lw_m4 21 rfl) rfl
theorem q788 : (Jvm.Cond.laysFinal "SixWhoTurnModel" "SixWhoTurnModel" "next" "[I") ∈ lw_all := lw_g (lw_at lw_m4 22 rfl) rfl
theorem q789 : (Jvm.Cond.soleField "SixWhoTurnModel" "next") ∈ lw_all := lw_g (lw_at lw_m4 23 rfl) rfl
theorem q790 : (Jvm.Cond.laysFinal "SixWhoTurnModel" "SixWhoTurnModel" "isTold" "[Z") ∈ lw_all := lw_g (lw_at lw_m4 24 rfl) rfl
theorem q791 : (Jvm.Cond.soleField "SixWhoTurnModel" "isTold") ∈ lw_all := lw_g (lw_at lw_m4 25 rfl) rfl
theorem q792 : (Jvm.Cond.laysFinal "SixWhoTurnModel" "SixWhoTurnModel" "w" "[I") ∈ lw_all := lw_g (lw_at lw_m4 26 rfl) rfl
theorem q793 : (Jvm.Cond.soleField "SixWhoTurnModel" "w") ∈ lw_all := lw_g (lw_at lw_m4 27 rfl) rfl
theorem q794 : (Jvm.Cond.laysFinal "SixWhoTurnModel" "SixWhoTurnModel" "aside" "[I") ∈ lw_all := lw_g (lw_at lw_m4 28 rfl) rfl
theorem q795 : (Jvm.Cond.soleField "SixWhoTurnModel" "aside") ∈ lw_all := lw_g (lw_at lw_m4 29 rfl) rfl
theorem q796 : (Jvm.Cond.laysFinal "SixWhoTurnModel" "SixWhoTurnModel" "feetX" "[I") ∈ lw_all := lw_g (lw_at lw_m4 30 rfl) rfl
theorem q797 : (Jvm.Cond.soleField "SixWhoTurnModel" "feetX") ∈ lw_all := lw_g (lw_at lw_m4 31 rfl) rfl
theorem q798 : (Jvm.Cond.laysFinal "SixWhoTurnModel" "SixWhoTurnModel" "feetY" "[I") ∈ lw_all := lw_g (lw_at lw_m4 32 rfl) rfl
theorem q799 : (Jvm.Cond.soleField "SixWhoTurnModel" "feetY") ∈ lw_all := lw_g (lw_at lw_m4 33 rfl) rfl
theorem q800 : (Jvm.Cond.laysFinal "SixWhoTurnModel" "SixWhoTurnModel" "text" "[B") ∈ lw_all := lw_g (lw_at lw_m4 34 rfl) rfl
theorem q801 : (Jvm.Cond.soleField "SixWhoTurnModel" "text") ∈ lw_all := lw_g (lw_at lw_m4 35 rfl) rfl
theorem q802 : (Jvm.Cond.lays "SixWhoTurnModel" "SixWhoTurnModel" "typed" "I") ∈ lw_all := lw_g (lw_at lw_m4 36 rfl) rfl
theorem q803 : (Jvm.Cond.soleField "SixWhoTurnModel" "typed") ∈ lw_all := lw_g (lw_at lw_m4 37 rfl) rfl
theorem q804 : (Jvm.Cond.lays "SixWhoTurnModel" "SixWhoTurnModel" "rowFirst" "I") ∈ lw_all := lw_g (lw_at lw_m4 38 rfl) rfl
theorem q805 : (Jvm.Cond.soleField "SixWhoTurnModel" "rowFirst") ∈ lw_all := lw_g (lw_at lw_m4 39 rfl) rfl
theorem q806 : (Jvm.Cond.lays "SixWhoTurnModel" "SixWhoTurnModel" "rowMany" "I") ∈ lw_all := lw_g (lw_at lw_m4 40 rfl) rfl
theorem q807 : (Jvm.Cond.soleField "SixWhoTurnModel" "rowMany") ∈ lw_all := lw_g (lw_at lw_m4 41 rfl) rfl
theorem q808 : (Jvm.Cond.lays "SixWhoTurnModel" "SixWhoTurnModel" "thrown" "I") ∈ lw_all := lw_g (lw_at lw_m4 42 rfl) rfl
theorem q809 : (Jvm.Cond.soleField "SixWhoTurnModel" "thrown") ∈ lw_all := lw_g (lw_at lw_m4 43 rfl) rfl
theorem q810 : (Jvm.Cond.laysFinal "SixWhoTurnModel" "SixWhoTurnModel" "six" "[I") ∈ lw_all := lw_g (lw_at lw_m4 44 rfl) rfl
theorem q811 : (Jvm.Cond.soleField "SixWhoTurnModel" "six") ∈ lw_all := lw_g (lw_at lw_m4 45 rfl) rfl
theorem q812 : (Jvm.Cond.laysFinal "SixWhoTurnModel" "SixWhoTurnModel" "counts" "[I") ∈ lw_all := lw_g (lw_at lw_m4 46 rfl) rfl
theorem q813 : (Jvm.Cond.soleField "SixWhoTurnModel" "counts") ∈ lw_all := lw_g (lw_at lw_m4 47 rfl) rfl
theorem q814 : (Jvm.Cond.laysFinal "SixWhoTurnModel" "SixWhoTurnModel" "odds" "[I") ∈ lw_all := lw_g (lw_at lw_m4 48 rfl) rfl
theorem q815 : (Jvm.Cond.soleField "SixWhoTurnModel" "odds") ∈ lw_all := lw_g (lw_at lw_m4 49 rfl) rfl
theorem q816 : (Jvm.Cond.laysFinal "SixWhoTurnModel" "SixWhoTurnModel" "table" "[J") ∈ lw_all := lw_g (lw_at lw_m4 50 rfl) rfl
theorem q817 : (Jvm.Cond.soleField "SixWhoTurnModel" "table") ∈ lw_all := lw_g (lw_at lw_m4 51 rfl) rfl
theorem q818 : (Jvm.Cond.superclass "SixWhoTurnModel" "java/lang/Object") ∈ lw_all := lw_g (lw_at lw_m4 52 rfl) rfl
theorem q821 : (Jvm.Cond.instanceMethod ({ cls := "SixWhoTurnModel", name := "thrown", desc := "()I" } : Jvm.MethodName)) ∈ lw_all := lw_g (lw_at lw_m4 55 rfl) rfl
theorem q822 : (Jvm.Cond.selects "SixWhoTurnModel" ({ cls := "SixWhoTurnModel", name := "thrown", desc := "()I" } : Jvm.MethodName) ({ cls := "SixWhoTurnModel", name := "thrown", desc := "()I" } : Jvm.MethodName)) ∈ lw_all := lw_g (lw_at lw_m4 56 rfl) rfl
theorem q823 : (Jvm.Cond.code ({ cls := "SixWhoTurnModel", name := "thrown", desc := "()I" } : Jvm.MethodName) prog_9_method_2_code (1 : Nat) (Option.some Jvm.ClassFile.FieldType.int)) ∈ lw_all := lw_g (lw_at lw_m4 57 rfl) rfl
theorem q825 : (Jvm.Cond.instanceMethod ({ cls := "SixWhoTurnModel", name := "skill", desc := "(IIII)I" } : Jvm.MethodName)) ∈ lw_all := lw_g (lw_at lw_m4 59 rfl) rfl
theorem q826 : (Jvm.Cond.selects "SixWhoTurnModel" ({ cls := "SixWhoTurnModel", name := "skill", desc := "(IIII)I" } : Jvm.MethodName) ({ cls := "SixWhoTurnModel", name := "skill", desc := "(IIII)I" } : Jvm.MethodName)) ∈ lw_all := lw_g (lw_at lw_m4 60 rfl) rfl
theorem q827 : (Jvm.Cond.code ({ cls := "SixWhoTurnModel", name := "skill", desc := "(IIII)I" } : Jvm.MethodName) prog_9_method_11_code (6 : Nat) (Option.some Jvm.ClassFile.FieldType.int)) ∈ lw_all := lw_g (lw_at lw_m4 61 rfl) rfl
theorem q828 : (Jvm.Cond.methodLink "SixWhoTurnModel" (71 : Nat) ({ cls := "SixWhoTurnModel", name := "isTeam", desc := "(I)Z" } : Jvm.MethodName)) ∈ lw_all := lw_g (lw_at lw_m4 62 rfl) rfl
theorem q829 : (Jvm.Cond.static ({ cls := "SixWhoTurnModel", name := "isTeam", desc := "(I)Z" } : Jvm.MethodName)) ∈ lw_all := lw_g (lw_at lw_m4 63 rfl) rfl
theorem q830 : (Jvm.Cond.code ({ cls := "SixWhoTurnModel", name := "isTeam", desc := "(I)Z" } : Jvm.MethodName) prog_9_method_4_code (1 : Nat) (Option.some Jvm.ClassFile.FieldType.boolean)) ∈ lw_all := lw_g (lw_at lw_m4 64 rfl) rfl
theorem q831 : (Jvm.Cond.methodLink "SixWhoTurnModel" (75 : Nat) ({ cls := "SixWhoTurnModel", name := "isPlayer", desc := "(I)Z" } : Jvm.MethodName)) ∈ lw_all := lw_g (lw_at lw_m4 65 rfl) rfl
theorem q832 : (Jvm.Cond.static ({ cls := "SixWhoTurnModel", name := "isPlayer", desc := "(I)Z" } : Jvm.MethodName)) ∈ lw_all := lw_g (lw_at lw_m4 66 rfl) rfl
theorem q833 : (Jvm.Cond.code ({ cls := "SixWhoTurnModel", name := "isPlayer", desc := "(I)Z" } : Jvm.MethodName) prog_9_method_5_code (1 : Nat) (Option.some Jvm.ClassFile.FieldType.boolean)) ∈ lw_all := lw_g (lw_at lw_m4 67 rfl) rfl
theorem q834 : (Jvm.Cond.methodLink "SixWhoTurnModel" (67 : Nat) ({ cls := "SixWhoTurnModel", name := "in", desc := "(III)Z" } : Jvm.MethodName)) ∈ lw_all := lw_g (lw_at lw_m4 68 rfl) rfl
theorem q835 : (Jvm.Cond.static ({ cls := "SixWhoTurnModel", name := "in", desc := "(III)Z" } : Jvm.MethodName)) ∈ lw_all := lw_g (lw_at lw_m4 69 rfl) rfl
theorem q836 : (Jvm.Cond.code ({ cls := "SixWhoTurnModel", name := "in", desc := "(III)Z" } : Jvm.MethodName) prog_9_method_3_code (3 : Nat) (Option.some Jvm.ClassFile.FieldType.boolean)) ∈ lw_all := lw_g (lw_at lw_m4 70 rfl) rfl
theorem q837 : (Jvm.Cond.methodLink "SixWhoTurnModel" (78 : Nat) ({ cls := "SixWhoTurnModel", name := "skillOf", desc := "(III)I" } : Jvm.MethodName)) ∈ lw_all := lw_g (lw_at lw_m4 71 rfl) rfl
theorem q838 : (Jvm.Cond.privateMethod ({ cls := "SixWhoTurnModel", name := "skillOf", desc := "(III)I" } : Jvm.MethodName)) ∈ lw_tbl := lw_at lw_m4 72 rfl
theorem q839 : (Jvm.Cond.instanceMethod ({ cls := "SixWhoTurnModel", name := "skillOf", desc := "(III)I" } : Jvm.MethodName)) ∈ lw_all := lw_g (lw_at lw_m4 73 rfl) rfl
theorem q840 : (Jvm.Cond.code ({ cls := "SixWhoTurnModel", name := "skillOf", desc := "(III)I" } : Jvm.MethodName) prog_9_method_10_code (4 : Nat) (Option.some Jvm.ClassFile.FieldType.int)) ∈ lw_all := lw_g (lw_at lw_m4 74 rfl) rfl
theorem q842 : (Jvm.Cond.instanceMethod ({ cls := "SixWhoTurnModel", name := "libre", desc := "(II)I" } : Jvm.MethodName)) ∈ lw_all := lw_g (lw_at lw_m4 76 rfl) rfl
theorem q843 : (Jvm.Cond.selects "SixWhoTurnModel" ({ cls := "SixWhoTurnModel", name := "libre", desc := "(II)I" } : Jvm.MethodName) ({ cls := "SixWhoTurnModel", name := "libre", desc := "(II)I" } : Jvm.MethodName)) ∈ lw_all := lw_g (lw_at lw_m4 77 rfl) rfl
theorem q844 : (Jvm.Cond.code ({ cls := "SixWhoTurnModel", name := "libre", desc := "(II)I" } : Jvm.MethodName) prog_9_method_12_code (4 : Nat) (Option.some Jvm.ClassFile.FieldType.int)) ∈ lw_all := lw_g (lw_at lw_m4 78 rfl) rfl
theorem q845 : (Jvm.Cond.methodLink "SixWhoTurnModel" (82 : Nat) ({ cls := "SixWhoTurnModel", name := "isOn", desc := "()Z" } : Jvm.MethodName)) ∈ lw_all := lw_g (lw_at lw_m4 79 rfl) rfl
theorem q846 : (Jvm.Cond.privateMethod ({ cls := "SixWhoTurnModel", name := "isOn", desc := "()Z" } : Jvm.MethodName)) ∈ lw_tbl := lw_at lw_m4 80 rfl
theorem q847 : (Jvm.Cond.instanceMethod ({ cls := "SixWhoTurnModel", name := "isOn", desc := "()Z" } : Jvm.MethodName)) ∈ lw_all := lw_g (lw_at lw_m4 81 rfl) rfl
theorem q848 : (Jvm.Cond.code ({ cls := "SixWhoTurnModel", name := "isOn", desc := "()Z" } : Jvm.MethodName) prog_9_method_8_code (1 : Nat) (Option.some Jvm.ClassFile.FieldType.boolean)) ∈ lw_all := lw_g (lw_at lw_m4 82 rfl) rfl
theorem q850 : (Jvm.Cond.instanceMethod ({ cls := "SixWhoTurnModel", name := "set", desc := "(II)I" } : Jvm.MethodName)) ∈ lw_all := lw_g (lw_at lw_m4 84 rfl) rfl
theorem q851 : (Jvm.Cond.selects "SixWhoTurnModel" ({ cls := "SixWhoTurnModel", name := "set", desc := "(II)I" } : Jvm.MethodName) ({ cls := "SixWhoTurnModel", name := "set", desc := "(II)I" } : Jvm.MethodName)) ∈ lw_all := lw_g (lw_at lw_m4 85 rfl) rfl
theorem q852 : (Jvm.Cond.code ({ cls := "SixWhoTurnModel", name := "set", desc := "(II)I" } : Jvm.MethodName) prog_9_method_13_code (4 : Nat) (Option.some Jvm.ClassFile.FieldType.int)) ∈ lw_all := lw_g (lw_at lw_m4 86 rfl) rfl
theorem q853 : (Jvm.Cond.fieldLink "SixWhoTurnModel" (86 : Nat) "SixWhoTurnModel" "LOW" "[I") ∈ lw_all := lw_g (lw_at lw_m4 87 rfl) rfl
theorem q854 : (Jvm.Cond.laysStatic "SixWhoTurnModel" "LOW" "[I") ∈ lw_tbl := lw_at lw_m4 88 rfl
theorem q855 : (Jvm.Cond.fieldLink "SixWhoTurnModel" (89 : Nat) "SixWhoTurnModel" "HIGH" "[I") ∈ lw_all := lw_g (lw_at lw_m4 89 rfl) rfl
theorem q856 : (Jvm.Cond.laysStatic "SixWhoTurnModel" "HIGH" "[I") ∈ lw_tbl := lw_at lw_m4 90 rfl
theorem q858 : (Jvm.Cond.instanceMethod ({ cls := "SixWhoTurnModel", name := "lineUp", desc := "(IIIIIII)Z" } : Jvm.MethodName)) ∈ lw_all := lw_g (lw_at lw_m4 92 rfl) rfl
theorem q859 : (Jvm.Cond.selects "SixWhoTurnModel" ({ cls := "SixWhoTurnModel", name := "lineUp", desc := "(IIIIIII)Z" } : Jvm.MethodName) ({ cls := "SixWhoTurnModel", name := "lineUp", desc := "(IIIIIII)Z" } : Jvm.MethodName)) ∈ lw_all := lw_g (lw_at lw_m4 93 rfl) rfl
theorem q860 : (Jvm.Cond.code ({ cls := "SixWhoTurnModel", name := "lineUp", desc := "(IIIIIII)Z" } : Jvm.MethodName) prog_9_method_14_code (10 : Nat) (Option.some Jvm.ClassFile.FieldType.boolean)) ∈ lw_all := lw_g (lw_at lw_m4 94 rfl) rfl
theorem q862 : (Jvm.Cond.instanceMethod ({ cls := "SixWhoTurnModel", name := "begin", desc := "(I)I" } : Jvm.MethodName)) ∈ lw_all := lw_g (lw_at lw_m4 96 rfl) rfl
theorem q863 : (Jvm.Cond.selects "SixWhoTurnModel" ({ cls := "SixWhoTurnModel", name := "begin", desc := "(I)I" } : Jvm.MethodName) ({ cls := "SixWhoTurnModel", name := "begin", desc := "(I)I" } : Jvm.MethodName)) ∈ lw_all := lw_g (lw_at lw_m4 97 rfl) rfl
theorem q864 : (Jvm.Cond.code ({ cls := "SixWhoTurnModel", name := "begin", desc := "(I)I" } : Jvm.MethodName) prog_9_method_16_code (5 : Nat) (Option.some Jvm.ClassFile.FieldType.int)) ∈ lw_all := lw_g (lw_at lw_m4 98 rfl) rfl
theorem q865 : (Jvm.Cond.methodLink "SixWhoTurnModel" (92 : Nat) ({ cls := "SixWhoTurnModel", name := "hasFree", desc := "(I)Z" } : Jvm.MethodName)) ∈ lw_all := lw_g (lw_at lw_m4 99 rfl) rfl
theorem q866 : (Jvm.Cond.privateMethod ({ cls := "SixWhoTurnModel", name := "hasFree", desc := "(I)Z" } : Jvm.MethodName)) ∈ lw_tbl := lw_at lw_m4 100 rfl
theorem q867 : (Jvm.Cond.instanceMethod ({ cls := "SixWhoTurnModel", name := "hasFree", desc := "(I)Z" } : Jvm.MethodName)) ∈ lw_all := lw_g (lw_at lw_m4 101 rfl) rfl
theorem q868 : (Jvm.Cond.code ({ cls := "SixWhoTurnModel", name := "hasFree", desc := "(I)Z" } : Jvm.MethodName) prog_9_method_15_code (3 : Nat) (Option.some Jvm.ClassFile.FieldType.boolean)) ∈ lw_all := lw_g (lw_at lw_m4 102 rfl) rfl
theorem q869 : (Jvm.Cond.methodLink "SixWhoTurnModel" (95 : Nat) ({ cls := "SixWhoTurnModel", name := "get", desc := "(II)I" } : Jvm.MethodName)) ∈ lw_all := lw_g (lw_at lw_m4 103 rfl) rfl
theorem q870 : (Jvm.Cond.privateMethod ({ cls := "SixWhoTurnModel", name := "get", desc := "(II)I" } : Jvm.MethodName)) ∈ lw_tbl := lw_at lw_m4 104 rfl
theorem q871 : (Jvm.Cond.instanceMethod ({ cls := "SixWhoTurnModel", name := "get", desc := "(II)I" } : Jvm.MethodName)) ∈ lw_all := lw_g (lw_at lw_m4 105 rfl) rfl
theorem q872 : (Jvm.Cond.code ({ cls := "SixWhoTurnModel", name := "get", desc := "(II)I" } : Jvm.MethodName) prog_9_method_6_code (3 : Nat) (Option.some Jvm.ClassFile.FieldType.int)) ∈ lw_all := lw_g (lw_at lw_m4 106 rfl) rfl
theorem q874 : (Jvm.Cond.instanceMethod ({ cls := "SixWhoTurnModel", name := "rally", desc := "(I)I" } : Jvm.MethodName)) ∈ lw_all := lw_g (lw_at lw_m4 108 rfl) rfl
theorem q875 : (Jvm.Cond.selects "SixWhoTurnModel" ({ cls := "SixWhoTurnModel", name := "rally", desc := "(I)I" } : Jvm.MethodName) ({ cls := "SixWhoTurnModel", name := "rally", desc := "(I)I" } : Jvm.MethodName)) ∈ lw_all := lw_g (lw_at lw_m4 109 rfl) rfl
theorem q876 : (Jvm.Cond.code ({ cls := "SixWhoTurnModel", name := "rally", desc := "(I)I" } : Jvm.MethodName) prog_9_method_22_code (2 : Nat) (Option.some Jvm.ClassFile.FieldType.int)) ∈ lw_all := lw_g (lw_at lw_m4 110 rfl) rfl
theorem q877 : (Jvm.Cond.methodLink "SixWhoTurnModel" (113 : Nat) ({ cls := "SixWhoTurnModel", name := "point", desc := "(I)I" } : Jvm.MethodName)) ∈ lw_all := lw_g (lw_at lw_m4 111 rfl) rfl
theorem q878 : (Jvm.Cond.privateMethod ({ cls := "SixWhoTurnModel", name := "point", desc := "(I)I" } : Jvm.MethodName)) ∈ lw_tbl := lw_at lw_m4 112 rfl
theorem q879 : (Jvm.Cond.instanceMethod ({ cls := "SixWhoTurnModel", name := "point", desc := "(I)I" } : Jvm.MethodName)) ∈ lw_all := lw_g (lw_at lw_m4 113 rfl) rfl
theorem q880 : (Jvm.Cond.code ({ cls := "SixWhoTurnModel", name := "point", desc := "(I)I" } : Jvm.MethodName) prog_9_method_21_code (4 : Nat) (Option.some Jvm.ClassFile.FieldType.int)) ∈ lw_all := lw_g (lw_at lw_m4 114 rfl) rfl
theorem q881 : (Jvm.Cond.methodLink "SixWhoTurnModel" (102 : Nat) ({ cls := "SixWhoTurnModel", name := "goal", desc := "()I" } : Jvm.MethodName)) ∈ lw_all := lw_g (lw_at lw_m4 115 rfl) rfl
theorem q882 : (Jvm.Cond.privateMethod ({ cls := "SixWhoTurnModel", name := "goal", desc := "()I" } : Jvm.MethodName)) ∈ lw_tbl := lw_at lw_m4 116 rfl
theorem q883 : (Jvm.Cond.instanceMethod ({ cls := "SixWhoTurnModel", name := "goal", desc := "()I" } : Jvm.MethodName)) ∈ lw_all := lw_g (lw_at lw_m4 117 rfl) rfl
theorem q884 : (Jvm.Cond.code ({ cls := "SixWhoTurnModel", name := "goal", desc := "()I" } : Jvm.MethodName) prog_9_method_19_code (1 : Nat) (Option.some Jvm.ClassFile.FieldType.int)) ∈ lw_all := lw_g (lw_at lw_m4 118 rfl) rfl
theorem q885 : (Jvm.Cond.methodLink "SixWhoTurnModel" (99 : Nat) ({ cls := "SixWhoTurnModel", name := "isLastSet", desc := "()Z" } : Jvm.MethodName)) ∈ lw_all := lw_g (lw_at lw_m4 119 rfl) rfl
theorem q886 : (Jvm.Cond.privateMethod ({ cls := "SixWhoTurnModel", name := "isLastSet", desc := "()Z" } : Jvm.MethodName)) ∈ lw_tbl := lw_at lw_m4 120 rfl
theorem q887 : (Jvm.Cond.instanceMethod ({ cls := "SixWhoTurnModel", name := "isLastSet", desc := "()Z" } : Jvm.MethodName)) ∈ lw_all := lw_g (lw_at lw_m4 121 rfl) rfl
theorem q888 : (Jvm.Cond.code ({ cls := "SixWhoTurnModel", name := "isLastSet", desc := "()Z" } : Jvm.MethodName) prog_9_method_18_code (1 : Nat) (Option.some Jvm.ClassFile.FieldType.boolean)) ∈ lw_all := lw_g (lw_at lw_m4 122 rfl) rfl
theorem q889 : (Jvm.Cond.methodLink "SixWhoTurnModel" (106 : Nat) ({ cls := "SixWhoTurnModel", name := "turn", desc := "(I)V" } : Jvm.MethodName)) ∈ lw_all := lw_g (lw_at lw_m4 123 rfl) rfl
theorem q890 : (Jvm.Cond.privateMethod ({ cls := "SixWhoTurnModel", name := "turn", desc := "(I)V" } : Jvm.MethodName)) ∈ lw_tbl := lw_at lw_m4 124 rfl
theorem q891 : (Jvm.Cond.instanceMethod ({ cls := "SixWhoTurnModel", name := "turn", desc := "(I)V" } : Jvm.MethodName)) ∈ lw_all := lw_g (lw_at lw_m4 125 rfl) rfl
theorem q892 : (Jvm.Cond.code ({ cls := "SixWhoTurnModel", name := "turn", desc := "(I)V" } : Jvm.MethodName) prog_9_method_17_code (4 : Nat) (Option.none : Option Jvm.ClassFile.FieldType)) ∈ lw_all := lw_g (lw_at lw_m4 126 rfl) rfl
theorem q893 : (Jvm.Cond.methodLink "SixWhoTurnModel" (110 : Nat) ({ cls := "SixWhoTurnModel", name := "wins", desc := "(III)Z" } : Jvm.MethodName)) ∈ lw_all := lw_g (lw_at lw_m4 127 rfl) rfl
theorem q894 : (Jvm.Cond.privateMethod ({ cls := "SixWhoTurnModel", name := "wins", desc := "(III)Z" } : Jvm.MethodName)) ∈ lw_tbl := lw_at lw_m4 128 rfl
theorem q895 : (Jvm.Cond.instanceMethod ({ cls := "SixWhoTurnModel", name := "wins", desc := "(III)Z" } : Jvm.MethodName)) ∈ lw_all := lw_g (lw_at lw_m4 129 rfl) rfl
theorem q896 : (Jvm.Cond.code ({ cls := "SixWhoTurnModel", name := "wins", desc := "(III)Z" } : Jvm.MethodName) prog_9_method_20_code (4 : Nat) (Option.some Jvm.ClassFile.FieldType.boolean)) ∈ lw_all := lw_g (lw_at lw_m4 130 rfl) rfl
theorem q898 : (Jvm.Cond.instanceMethod ({ cls := "SixWhoTurnModel", name := "may", desc := "(III)I" } : Jvm.MethodName)) ∈ lw_all := lw_g (lw_at lw_m4 132 rfl) rfl
theorem q899 : (Jvm.Cond.selects "SixWhoTurnModel" ({ cls := "SixWhoTurnModel", name := "may", desc := "(III)I" } : Jvm.MethodName) ({ cls := "SixWhoTurnModel", name := "may", desc := "(III)I" } : Jvm.MethodName)) ∈ lw_all := lw_g (lw_at lw_m4 133 rfl) rfl
theorem q900 : (Jvm.Cond.code ({ cls := "SixWhoTurnModel", name := "may", desc := "(III)I" } : Jvm.MethodName) prog_9_method_25_code (4 : Nat) (Option.some Jvm.ClassFile.FieldType.int)) ∈ lw_all := lw_g (lw_at lw_m4 134 rfl) rfl
theorem q901 : (Jvm.Cond.methodLink "SixWhoTurnModel" (120 : Nat) ({ cls := "SixWhoTurnModel", name := "mayNot", desc := "(III)I" } : Jvm.MethodName)) ∈ lw_all := lw_g (lw_at lw_m4 135 rfl) rfl
theorem q902 : (Jvm.Cond.privateMethod ({ cls := "SixWhoTurnModel", name := "mayNot", desc := "(III)I" } : Jvm.MethodName)) ∈ lw_tbl := lw_at lw_m4 136 rfl
theorem q903 : (Jvm.Cond.instanceMethod ({ cls := "SixWhoTurnModel", name := "mayNot", desc := "(III)I" } : Jvm.MethodName)) ∈ lw_all := lw_g (lw_at lw_m4 137 rfl) rfl
theorem q904 : (Jvm.Cond.code ({ cls := "SixWhoTurnModel", name := "mayNot", desc := "(III)I" } : Jvm.MethodName) prog_9_method_24_code (6 : Nat) (Option.some Jvm.ClassFile.FieldType.int)) ∈ lw_all := lw_g (lw_at lw_m4 138 rfl) rfl
theorem q905 : (Jvm.Cond.methodLink "SixWhoTurnModel" (117 : Nat) ({ cls := "SixWhoTurnModel", name := "placeOf", desc := "(II)I" } : Jvm.MethodName)) ∈ lw_all := lw_g (lw_at lw_m4 139 rfl) rfl
theorem q906 : (Jvm.Cond.privateMethod ({ cls := "SixWhoTurnModel", name := "placeOf", desc := "(II)I" } : Jvm.MethodName)) ∈ lw_tbl := lw_at lw_m4 140 rfl
theorem q907 : (Jvm.Cond.instanceMethod ({ cls := "SixWhoTurnModel", name := "placeOf", desc := "(II)I" } : Jvm.MethodName)) ∈ lw_all := lw_g (lw_at lw_m4 141 rfl) rfl
theorem q908 : (Jvm.Cond.code ({ cls := "SixWhoTurnModel", name := "placeOf", desc := "(II)I" } : Jvm.MethodName) prog_9_method_23_code (4 : Nat) (Option.some Jvm.ClassFile.FieldType.int)) ∈ lw_all := lw_g (lw_at lw_m4 142 rfl) rfl
theorem q910 : (Jvm.Cond.instanceMethod ({ cls := "SixWhoTurnModel", name := "change", desc := "(III)I" } : Jvm.MethodName)) ∈ lw_all := lw_g (lw_at lw_m4 144 rfl) rfl
theorem q911 : (Jvm.Cond.selects "SixWhoTurnModel" ({ cls := "SixWhoTurnModel", name := "change", desc := "(III)I" } : Jvm.MethodName) ({ cls := "SixWhoTurnModel", name := "change", desc := "(III)I" } : Jvm.MethodName)) ∈ lw_all := lw_g (lw_at lw_m4 145 rfl) rfl
theorem q912 : (Jvm.Cond.code ({ cls := "SixWhoTurnModel", name := "change", desc := "(III)I" } : Jvm.MethodName) prog_9_method_27_code (4 : Nat) (Option.some Jvm.ClassFile.FieldType.int)) ∈ lw_all := lw_g (lw_at lw_m4 146 rfl) rfl
theorem q913 : (Jvm.Cond.methodLink "SixWhoTurnModel" (123 : Nat) ({ cls := "SixWhoTurnModel", name := "doChange", desc := "(III)I" } : Jvm.MethodName)) ∈ lw_all := lw_g (lw_at lw_m4 147 rfl) rfl
theorem q914 : (Jvm.Cond.privateMethod ({ cls := "SixWhoTurnModel", name := "doChange", desc := "(III)I" } : Jvm.MethodName)) ∈ lw_tbl := lw_at lw_m4 148 rfl
theorem q915 : (Jvm.Cond.instanceMethod ({ cls := "SixWhoTurnModel", name := "doChange", desc := "(III)I" } : Jvm.MethodName)) ∈ lw_all := lw_g (lw_at lw_m4 149 rfl) rfl
theorem q916 : (Jvm.Cond.code ({ cls := "SixWhoTurnModel", name := "doChange", desc := "(III)I" } : Jvm.MethodName) prog_9_method_26_code (6 : Nat) (Option.some Jvm.ClassFile.FieldType.int)) ∈ lw_all := lw_g (lw_at lw_m4 150 rfl) rfl
theorem q918 : (Jvm.Cond.instanceMethod ({ cls := "SixWhoTurnModel", name := "free", desc := "(II)I" } : Jvm.MethodName)) ∈ lw_all := lw_g (lw_at lw_m4 152 rfl) rfl
theorem q919 : (Jvm.Cond.selects "SixWhoTurnModel" ({ cls := "SixWhoTurnModel", name := "free", desc := "(II)I" } : Jvm.MethodName) ({ cls := "SixWhoTurnModel", name := "free", desc := "(II)I" } : Jvm.MethodName)) ∈ lw_all := lw_g (lw_at lw_m4 153 rfl) rfl
theorem q920 : (Jvm.Cond.code ({ cls := "SixWhoTurnModel", name := "free", desc := "(II)I" } : Jvm.MethodName) prog_9_method_29_code (3 : Nat) (Option.some Jvm.ClassFile.FieldType.int)) ∈ lw_all := lw_g (lw_at lw_m4 154 rfl) rfl
theorem q921 : (Jvm.Cond.methodLink "SixWhoTurnModel" (126 : Nat) ({ cls := "SixWhoTurnModel", name := "doFree", desc := "(II)I" } : Jvm.MethodName)) ∈ lw_all := lw_g (lw_at lw_m4 155 rfl) rfl
theorem q922 : (Jvm.Cond.privateMethod ({ cls := "SixWhoTurnModel", name := "doFree", desc := "(II)I" } : Jvm.MethodName)) ∈ lw_tbl := lw_at lw_m4 156 rfl
theorem q923 : (Jvm.Cond.instanceMethod ({ cls := "SixWhoTurnModel", name := "doFree", desc := "(II)I" } : Jvm.MethodName)) ∈ lw_all := lw_g (lw_at lw_m4 157 rfl) rfl
theorem q924 : (Jvm.Cond.code ({ cls := "SixWhoTurnModel", name := "doFree", desc := "(II)I" } : Jvm.MethodName) prog_9_method_28_code (4 : Nat) (Option.some Jvm.ClassFile.FieldType.int)) ∈ lw_all := lw_g (lw_at lw_m4 158 rfl) rfl
theorem q926 : (Jvm.Cond.instanceMethod ({ cls := "SixWhoTurnModel", name := "pause", desc := "(I)I" } : Jvm.MethodName)) ∈ lw_all := lw_g (lw_at lw_m4 160 rfl) rfl
theorem q927 : (Jvm.Cond.selects "SixWhoTurnModel" ({ cls := "SixWhoTurnModel", name := "pause", desc := "(I)I" } : Jvm.MethodName) ({ cls := "SixWhoTurnModel", name := "pause", desc := "(I)I" } : Jvm.MethodName)) ∈ lw_all := lw_g (lw_at lw_m4 161 rfl) rfl
theorem q928 : (Jvm.Cond.code ({ cls := "SixWhoTurnModel", name := "pause", desc := "(I)I" } : Jvm.MethodName) prog_9_method_31_code (2 : Nat) (Option.some Jvm.ClassFile.FieldType.int)) ∈ lw_all := lw_g (lw_at lw_m4 162 rfl) rfl
theorem q929 : (Jvm.Cond.methodLink "SixWhoTurnModel" (129 : Nat) ({ cls := "SixWhoTurnModel", name := "doPause", desc := "(I)I" } : Jvm.MethodName)) ∈ lw_all := lw_g (lw_at lw_m4 163 rfl) rfl
theorem q930 : (Jvm.Cond.privateMethod ({ cls := "SixWhoTurnModel", name := "doPause", desc := "(I)I" } : Jvm.MethodName)) ∈ lw_tbl := lw_at lw_m4 164 rfl
theorem q931 : (Jvm.Cond.instanceMethod ({ cls := "SixWhoTurnModel", name := "doPause", desc := "(I)I" } : Jvm.MethodName)) ∈ lw_all := lw_g (lw_at lw_m4 165 rfl) rfl
theorem q932 : (Jvm.Cond.code ({ cls := "SixWhoTurnModel", name := "doPause", desc := "(I)I" } : Jvm.MethodName) prog_9_method_30_code (2 : Nat) (Option.some Jvm.ClassFile.FieldType.int)) ∈ lw_all := lw_g (lw_at lw_m4 166 rfl) rfl
theorem q934 : (Jvm.Cond.instanceMethod ({ cls := "SixWhoTurnModel", name := "wrong", desc := "(I)I" } : Jvm.MethodName)) ∈ lw_all := lw_g (lw_at lw_m4 168 rfl) rfl
theorem q935 : (Jvm.Cond.selects "SixWhoTurnModel" ({ cls := "SixWhoTurnModel", name := "wrong", desc := "(I)I" } : Jvm.MethodName) ({ cls := "SixWhoTurnModel", name := "wrong", desc := "(I)I" } : Jvm.MethodName)) ∈ lw_all := lw_g (lw_at lw_m4 169 rfl) rfl
theorem q936 : (Jvm.Cond.code ({ cls := "SixWhoTurnModel", name := "wrong", desc := "(I)I" } : Jvm.MethodName) prog_9_method_32_code (3 : Nat) (Option.some Jvm.ClassFile.FieldType.int)) ∈ lw_all := lw_g (lw_at lw_m4 170 rfl) rfl
theorem q938 : (Jvm.Cond.instanceMethod ({ cls := "SixWhoTurnModel", name := "at", desc := "(II)I" } : Jvm.MethodName)) ∈ lw_all := lw_g (lw_at lw_m4 172 rfl) rfl
theorem q939 : (Jvm.Cond.selects "SixWhoTurnModel" ({ cls := "SixWhoTurnModel", name := "at", desc := "(II)I" } : Jvm.MethodName) ({ cls := "SixWhoTurnModel", name := "at", desc := "(II)I" } : Jvm.MethodName)) ∈ lw_all := lw_g (lw_at lw_m4 173 rfl) rfl
theorem q940 : (Jvm.Cond.code ({ cls := "SixWhoTurnModel", name := "at", desc := "(II)I" } : Jvm.MethodName) prog_9_method_33_code (3 : Nat) (Option.some Jvm.ClassFile.FieldType.int)) ∈ lw_all := lw_g (lw_at lw_m4 174 rfl) rfl
theorem q942 : (Jvm.Cond.instanceMethod ({ cls := "SixWhoTurnModel", name := "of", desc := "(II)I" } : Jvm.MethodName)) ∈ lw_all := lw_g (lw_at lw_m4 176 rfl) rfl
theorem q943 : (Jvm.Cond.selects "SixWhoTurnModel" ({ cls := "SixWhoTurnModel", name := "of", desc := "(II)I" } : Jvm.MethodName) ({ cls := "SixWhoTurnModel", name := "of", desc := "(II)I" } : Jvm.MethodName)) ∈ lw_all := lw_g (lw_at lw_m4 177 rfl) rfl
theorem q944 : (Jvm.Cond.code ({ cls := "SixWhoTurnModel", name := "of", desc := "(II)I" } : Jvm.MethodName) prog_9_method_34_code (3 : Nat) (Option.some Jvm.ClassFile.FieldType.int)) ∈ lw_all := lw_g (lw_at lw_m4 178 rfl) rfl
theorem q946 : (Jvm.Cond.instanceMethod ({ cls := "SixWhoTurnModel", name := "count", desc := "(I)I" } : Jvm.MethodName)) ∈ lw_all := lw_g (lw_at lw_m4 180 rfl) rfl
theorem q947 : (Jvm.Cond.selects "SixWhoTurnModel" ({ cls := "SixWhoTurnModel", name := "count", desc := "(I)I" } : Jvm.MethodName) ({ cls := "SixWhoTurnModel", name := "count", desc := "(I)I" } : Jvm.MethodName)) ∈ lw_all := lw_g (lw_at lw_m4 181 rfl) rfl
theorem q948 : (Jvm.Cond.code ({ cls := "SixWhoTurnModel", name := "count", desc := "(I)I" } : Jvm.MethodName) prog_9_method_35_code (2 : Nat) (Option.some Jvm.ClassFile.FieldType.int)) ∈ lw_all := lw_g (lw_at lw_m4 182 rfl) rfl
theorem q950 : (Jvm.Cond.instanceMethod ({ cls := "SixWhoTurnModel", name := "served", desc := "(II)I" } : Jvm.MethodName)) ∈ lw_all := lw_g (lw_at lw_m4 184 rfl) rfl
theorem q951 : (Jvm.Cond.selects "SixWhoTurnModel" ({ cls := "SixWhoTurnModel", name := "served", desc := "(II)I" } : Jvm.MethodName) ({ cls := "SixWhoTurnModel", name := "served", desc := "(II)I" } : Jvm.MethodName)) ∈ lw_all := lw_g (lw_at lw_m4 185 rfl) rfl
theorem q952 : (Jvm.Cond.code ({ cls := "SixWhoTurnModel", name := "served", desc := "(II)I" } : Jvm.MethodName) prog_9_method_36_code (3 : Nat) (Option.some Jvm.ClassFile.FieldType.int)) ∈ lw_all := lw_g (lw_at lw_m4 186 rfl) rfl
theorem q954 : (Jvm.Cond.instanceMethod ({ cls := "SixWhoTurnModel", name := "feet", desc := "(IIII)Z" } : Jvm.MethodName)) ∈ lw_all := lw_g (lw_at lw_m4 188 rfl) rfl
theorem q955 : (Jvm.Cond.selects "SixWhoTurnModel" ({ cls := "SixWhoTurnModel", name := "feet", desc := "(IIII)Z" } : Jvm.MethodName) ({ cls := "SixWhoTurnModel", name := "feet", desc := "(IIII)Z" } : Jvm.MethodName)) ∈ lw_all := lw_g (lw_at lw_m4 189 rfl) rfl
theorem q956 : (Jvm.Cond.code ({ cls := "SixWhoTurnModel", name := "feet", desc := "(IIII)Z" } : Jvm.MethodName) prog_9_method_37_code (5 : Nat) (Option.some Jvm.ClassFile.FieldType.boolean)) ∈ lw_all := lw_g (lw_at lw_m4 190 rfl) rfl
theorem q958 : (Jvm.Cond.instanceMethod ({ cls := "SixWhoTurnModel", name := "overlap", desc := "(I)I" } : Jvm.MethodName)) ∈ lw_all := lw_g (lw_at lw_m4 192 rfl) rfl
theorem q959 : (Jvm.Cond.selects "SixWhoTurnModel" ({ cls := "SixWhoTurnModel", name := "overlap", desc := "(I)I" } : Jvm.MethodName) ({ cls := "SixWhoTurnModel", name := "overlap", desc := "(I)I" } : Jvm.MethodName)) ∈ lw_all := lw_g (lw_at lw_m4 193 rfl) rfl
theorem q960 : (Jvm.Cond.code ({ cls := "SixWhoTurnModel", name := "overlap", desc := "(I)I" } : Jvm.MethodName) prog_9_method_38_code (4 : Nat) (Option.some Jvm.ClassFile.FieldType.int)) ∈ lw_all := lw_g (lw_at lw_m4 194 rfl) rfl
theorem q961 : (Jvm.Cond.fieldLink "SixWhoTurnModel" (138 : Nat) "SixWhoTurnModel" "BEHIND" "[I") ∈ lw_all := lw_g (lw_at lw_m4 195 rfl) rfl
theorem q962 : (Jvm.Cond.laysStatic "SixWhoTurnModel" "BEHIND" "[I") ∈ lw_tbl := lw_at lw_m4 196 rfl
theorem q963 : (Jvm.Cond.fieldLink "SixWhoTurnModel" (141 : Nat) "SixWhoTurnModel" "AHEAD" "[I") ∈ lw_all := lw_g (lw_at lw_m4 197 rfl) rfl
theorem q964 : (Jvm.Cond.laysStatic "SixWhoTurnModel" "AHEAD" "[I") ∈ lw_tbl := lw_at lw_m4 198 rfl
theorem q966 : (Jvm.Cond.instanceMethod ({ cls := "SixWhoTurnModel", name := "sign", desc := "(I)I" } : Jvm.MethodName)) ∈ lw_all := lw_g (lw_at lw_m4 200 rfl) rfl
theorem q967 : (Jvm.Cond.selects "SixWhoTurnModel" ({ cls := "SixWhoTurnModel", name := "sign", desc := "(I)I" } : Jvm.MethodName) ({ cls := "SixWhoTurnModel", name := "sign", desc := "(I)I" } : Jvm.MethodName)) ∈ lw_all := lw_g (lw_at lw_m4 201 rfl) rfl
theorem q968 : (Jvm.Cond.code ({ cls := "SixWhoTurnModel", name := "sign", desc := "(I)I" } : Jvm.MethodName) prog_9_method_39_code (3 : Nat) (Option.some Jvm.ClassFile.FieldType.int)) ∈ lw_all := lw_g (lw_at lw_m4 202 rfl) rfl
theorem q970 : (Jvm.Cond.instanceMethod ({ cls := "SixWhoTurnModel", name := "end", desc := "(I)Z" } : Jvm.MethodName)) ∈ lw_all := lw_g (lw_at lw_m4 204 rfl) rfl
theorem q971 : (Jvm.Cond.selects "SixWhoTurnModel" ({ cls := "SixWhoTurnModel", name := "end", desc := "(I)Z" } : Jvm.MethodName) ({ cls := "SixWhoTurnModel", name := "end", desc := "(I)Z" } : Jvm.MethodName)) ∈ lw_all := lw_g (lw_at lw_m4 205 rfl) rfl
theorem q972 : (Jvm.Cond.code ({ cls := "SixWhoTurnModel", name := "end", desc := "(I)Z" } : Jvm.MethodName) prog_9_method_40_code (2 : Nat) (Option.some Jvm.ClassFile.FieldType.boolean)) ∈ lw_all := lw_g (lw_at lw_m4 206 rfl) rfl
theorem q974 : (Jvm.Cond.instanceMethod ({ cls := "SixWhoTurnModel", name := "sheet", desc := "()I" } : Jvm.MethodName)) ∈ lw_all := lw_g (lw_at lw_m4 208 rfl) rfl
theorem q975 : (Jvm.Cond.selects "SixWhoTurnModel" ({ cls := "SixWhoTurnModel", name := "sheet", desc := "()I" } : Jvm.MethodName) ({ cls := "SixWhoTurnModel", name := "sheet", desc := "()I" } : Jvm.MethodName)) ∈ lw_all := lw_g (lw_at lw_m4 209 rfl) rfl
theorem q976 : (Jvm.Cond.code ({ cls := "SixWhoTurnModel", name := "sheet", desc := "()I" } : Jvm.MethodName) prog_9_method_44_code (5 : Nat) (Option.some Jvm.ClassFile.FieldType.int)) ∈ lw_all := lw_g (lw_at lw_m4 210 rfl) rfl
theorem q977 : (Jvm.Cond.methodLink "SixWhoTurnModel" (147 : Nat) ({ cls := "java/lang/Math", name := "min", desc := "(II)I" } : Jvm.MethodName)) ∈ lw_all := lw_g (lw_at lw_m4 211 rfl) rfl
theorem q978 : (Jvm.Cond.methodLink "SixWhoTurnModel" (152 : Nat) ({ cls := "SixWhoTurnModel", name := "reads", desc := "(II)I" } : Jvm.MethodName)) ∈ lw_all := lw_g (lw_at lw_m4 212 rfl) rfl
theorem q979 : (Jvm.Cond.privateMethod ({ cls := "SixWhoTurnModel", name := "reads", desc := "(II)I" } : Jvm.MethodName)) ∈ lw_tbl := lw_at lw_m4 213 rfl
theorem q980 : (Jvm.Cond.instanceMethod ({ cls := "SixWhoTurnModel", name := "reads", desc := "(II)I" } : Jvm.MethodName)) ∈ lw_all := lw_g (lw_at lw_m4 214 rfl) rfl
theorem q981 : (Jvm.Cond.code ({ cls := "SixWhoTurnModel", name := "reads", desc := "(II)I" } : Jvm.MethodName) prog_9_method_42_code (6 : Nat) (Option.some Jvm.ClassFile.FieldType.int)) ∈ lw_all := lw_g (lw_at lw_m4 215 rfl) rfl
theorem q982 : (Jvm.Cond.methodLink "SixWhoTurnModel" (144 : Nat) ({ cls := "SixWhoTurnModel", name := "playerOf", desc := "(I)I" } : Jvm.MethodName)) ∈ lw_all := lw_g (lw_at lw_m4 216 rfl) rfl
theorem q983 : (Jvm.Cond.static ({ cls := "SixWhoTurnModel", name := "playerOf", desc := "(I)I" } : Jvm.MethodName)) ∈ lw_all := lw_g (lw_at lw_m4 217 rfl) rfl
theorem q984 : (Jvm.Cond.code ({ cls := "SixWhoTurnModel", name := "playerOf", desc := "(I)I" } : Jvm.MethodName) prog_9_method_41_code (1 : Nat) (Option.some Jvm.ClassFile.FieldType.int)) ∈ lw_all := lw_g (lw_at lw_m4 218 rfl) rfl
theorem q985 : (Jvm.Cond.methodLink "SixWhoTurnModel" (155 : Nat) ({ cls := "SixWhoTurnModel", name := "putAside", desc := "()V" } : Jvm.MethodName)) ∈ lw_all := lw_g (lw_at lw_m4 219 rfl) rfl
theorem q986 : (Jvm.Cond.privateMethod ({ cls := "SixWhoTurnModel", name := "putAside", desc := "()V" } : Jvm.MethodName)) ∈ lw_tbl := lw_at lw_m4 220 rfl
theorem q987 : (Jvm.Cond.instanceMethod ({ cls := "SixWhoTurnModel", name := "putAside", desc := "()V" } : Jvm.MethodName)) ∈ lw_all := lw_g (lw_at lw_m4 221 rfl) rfl
theorem q988 : (Jvm.Cond.code ({ cls := "SixWhoTurnModel", name := "putAside", desc := "()V" } : Jvm.MethodName) prog_9_method_45_code (2 : Nat) (Option.none : Option Jvm.ClassFile.FieldType)) ∈ lw_all := lw_g (lw_at lw_m4 222 rfl) rfl
theorem q989 : (Jvm.Cond.methodLink "SixWhoTurnModel" (158 : Nat) ({ cls := "SixWhoTurnModel", name := "doItem", desc := "(I)Z" } : Jvm.MethodName)) ∈ lw_all := lw_g (lw_at lw_m4 223 rfl) rfl
theorem q990 : (Jvm.Cond.privateMethod ({ cls := "SixWhoTurnModel", name := "doItem", desc := "(I)Z" } : Jvm.MethodName)) ∈ lw_tbl := lw_at lw_m4 224 rfl
theorem q991 : (Jvm.Cond.instanceMethod ({ cls := "SixWhoTurnModel", name := "doItem", desc := "(I)Z" } : Jvm.MethodName)) ∈ lw_all := lw_g (lw_at lw_m4 225 rfl) rfl
theorem q992 : (Jvm.Cond.code ({ cls := "SixWhoTurnModel", name := "doItem", desc := "(I)Z" } : Jvm.MethodName) prog_9_method_43_code (6 : Nat) (Option.some Jvm.ClassFile.FieldType.boolean)) ∈ lw_all := lw_g (lw_at lw_m4 226 rfl) rfl
theorem q993 : (Jvm.Cond.methodLink "SixWhoTurnModel" (161 : Nat) ({ cls := "SixWhoTurnModel", name := "putBack", desc := "()V" } : Jvm.MethodName)) ∈ lw_all := lw_g (lw_at lw_m4 227 rfl) rfl
theorem q994 : (Jvm.Cond.privateMethod ({ cls := "SixWhoTurnModel", name := "putBack", desc := "()V" } : Jvm.MethodName)) ∈ lw_tbl := lw_at lw_m4 228 rfl
theorem q995 : (Jvm.Cond.instanceMethod ({ cls := "SixWhoTurnModel", name := "putBack", desc := "()V" } : Jvm.MethodName)) ∈ lw_all := lw_g (lw_at lw_m4 229 rfl) rfl
theorem q996 : (Jvm.Cond.code ({ cls := "SixWhoTurnModel", name := "putBack", desc := "()V" } : Jvm.MethodName) prog_9_method_46_code (2 : Nat) (Option.none : Option Jvm.ClassFile.FieldType)) ∈ lw_all := lw_g (lw_at lw_m4 230 rfl) rfl
theorem q998 : (Jvm.Cond.instanceMethod ({ cls := "SixWhoTurnModel", name := "odds", desc := "(III)I" } : Jvm.MethodName)) ∈ lw_all := lw_g (lw_at lw_m4 232 rfl) rfl
theorem q999 : (Jvm.Cond.selects "SixWhoTurnModel" ({ cls := "SixWhoTurnModel", name := "odds", desc := "(III)I" } : Jvm.MethodName) ({ cls := "SixWhoTurnModel", name := "odds", desc := "(III)I" } : Jvm.MethodName)) ∈ lw_all := lw_g (lw_at lw_m4 233 rfl) rfl
theorem q1000 : (Jvm.Cond.code ({ cls := "SixWhoTurnModel", name := "odds", desc := "(III)I" } : Jvm.MethodName) prog_9_method_51_code (4 : Nat) (Option.some Jvm.ClassFile.FieldType.int)) ∈ lw_all := lw_g (lw_at lw_m4 234 rfl) rfl
theorem q1001 : (Jvm.Cond.methodLink "SixWhoTurnModel" (174 : Nat) ({ cls := "SixWhoTurnModel", name := "countNow", desc := "()V" } : Jvm.MethodName)) ∈ lw_all := lw_g (lw_at lw_m4 235 rfl) rfl
theorem q1002 : (Jvm.Cond.privateMethod ({ cls := "SixWhoTurnModel", name := "countNow", desc := "()V" } : Jvm.MethodName)) ∈ lw_tbl := lw_at lw_m4 236 rfl
theorem q1003 : (Jvm.Cond.instanceMethod ({ cls := "SixWhoTurnModel", name := "countNow", desc := "()V" } : Jvm.MethodName)) ∈ lw_all := lw_g (lw_at lw_m4 237 rfl) rfl
theorem q1004 : (Jvm.Cond.code ({ cls := "SixWhoTurnModel", name := "countNow", desc := "()V" } : Jvm.MethodName) prog_9_method_47_code (4 : Nat) (Option.none : Option Jvm.ClassFile.FieldType)) ∈ lw_all := lw_g (lw_at lw_m4 238 rfl) rfl
theorem q1005 : (Jvm.Cond.methodLink "SixWhoTurnModel" (177 : Nat) ({ cls := "SixWhoTurnModel", name := "oddsOf", desc := "(III)I" } : Jvm.MethodName)) ∈ lw_all := lw_g (lw_at lw_m4 239 rfl) rfl
theorem q1006 : (Jvm.Cond.privateMethod ({ cls := "SixWhoTurnModel", name := "oddsOf", desc := "(III)I" } : Jvm.MethodName)) ∈ lw_tbl := lw_at lw_m5 0 rfl
theorem q1007 : (Jvm.Cond.instanceMethod ({ cls := "SixWhoTurnModel", name := "oddsOf", desc := "(III)I" } : Jvm.MethodName)) ∈ lw_all := lw_g (lw_at lw_m5 1 rfl) rfl
theorem q1008 : (Jvm.Cond.code ({ cls := "SixWhoTurnModel", name := "oddsOf", desc := "(III)I" } : Jvm.MethodName) prog_9_method_50_code (7 : Nat) (Option.some Jvm.ClassFile.FieldType.int)) ∈ lw_all := lw_g (lw_at lw_m5 2 rfl) rfl
theorem q1009 : (Jvm.Cond.methodLink "SixWhoTurnModel" (164 : Nat) ({ cls := "SixWhoTurnModel", name := "later", desc := "(III)I" } : Jvm.MethodName)) ∈ lw_all := lw_g (lw_at lw_m5 3 rfl) rfl
theorem q1010 : (Jvm.Cond.privateMethod ({ cls := "SixWhoTurnModel", name := "later", desc := "(III)I" } : Jvm.MethodName)) ∈ lw_tbl := lw_at lw_m5 4 rfl
theorem q1011 : (Jvm.Cond.instanceMethod ({ cls := "SixWhoTurnModel", name := "later", desc := "(III)I" } : Jvm.MethodName)) ∈ lw_all := lw_g (lw_at lw_m5 5 rfl) rfl
theorem q1012 : (Jvm.Cond.code ({ cls := "SixWhoTurnModel", name := "later", desc := "(III)I" } : Jvm.MethodName) prog_9_method_48_code (4 : Nat) (Option.some Jvm.ClassFile.FieldType.int)) ∈ lw_all := lw_g (lw_at lw_m5 6 rfl) rfl
theorem q1013 : (Jvm.Cond.methodLink "SixWhoTurnModel" (167 : Nat) ({ cls := "SixWhoTurnModel", name := "sum", desc := "(IIIIII)I" } : Jvm.MethodName)) ∈ lw_all := lw_g (lw_at lw_m5 7 rfl) rfl
theorem q1014 : (Jvm.Cond.privateMethod ({ cls := "SixWhoTurnModel", name := "sum", desc := "(IIIIII)I" } : Jvm.MethodName)) ∈ lw_tbl := lw_at lw_m5 8 rfl
theorem q1015 : (Jvm.Cond.instanceMethod ({ cls := "SixWhoTurnModel", name := "sum", desc := "(IIIIII)I" } : Jvm.MethodName)) ∈ lw_all := lw_g (lw_at lw_m5 9 rfl) rfl
theorem q1016 : (Jvm.Cond.code ({ cls := "SixWhoTurnModel", name := "sum", desc := "(IIIIII)I" } : Jvm.MethodName) prog_9_method_49_code (7 : Nat) (Option.some Jvm.ClassFile.FieldType.int)) ∈ lw_all := lw_g (lw_at lw_m5 10 rfl) rfl
theorem q1017 : (Jvm.Cond.methodLink "SixWhoTurnModel" (171 : Nat) ({ cls := "java/lang/Math", name := "max", desc := "(II)I" } : Jvm.MethodName)) ∈ lw_all := lw_g (lw_at lw_m5 11 rfl) rfl
theorem q1019 : (Jvm.Cond.instanceMethod ({ cls := "SixWhoTurnModel", name := "chance", desc := "()I" } : Jvm.MethodName)) ∈ lw_all := lw_g (lw_at lw_m5 13 rfl) rfl
theorem q1020 : (Jvm.Cond.selects "SixWhoTurnModel" ({ cls := "SixWhoTurnModel", name := "chance", desc := "()I" } : Jvm.MethodName) ({ cls := "SixWhoTurnModel", name := "chance", desc := "()I" } : Jvm.MethodName)) ∈ lw_all := lw_g (lw_at lw_m5 14 rfl) rfl
theorem q1021 : (Jvm.Cond.code ({ cls := "SixWhoTurnModel", name := "chance", desc := "()I" } : Jvm.MethodName) prog_9_method_56_code (1 : Nat) (Option.some Jvm.ClassFile.FieldType.int)) ∈ lw_all := lw_g (lw_at lw_m5 15 rfl) rfl
theorem q1022 : (Jvm.Cond.methodLink "SixWhoTurnModel" (194 : Nat) ({ cls := "SixWhoTurnModel", name := "fill", desc := "(I)V" } : Jvm.MethodName)) ∈ lw_all := lw_g (lw_at lw_m5 16 rfl) rfl
theorem q1023 : (Jvm.Cond.privateMethod ({ cls := "SixWhoTurnModel", name := "fill", desc := "(I)V" } : Jvm.MethodName)) ∈ lw_tbl := lw_at lw_m5 17 rfl
theorem q1024 : (Jvm.Cond.instanceMethod ({ cls := "SixWhoTurnModel", name := "fill", desc := "(I)V" } : Jvm.MethodName)) ∈ lw_all := lw_g (lw_at lw_m5 18 rfl) rfl
theorem q1025 : (Jvm.Cond.code ({ cls := "SixWhoTurnModel", name := "fill", desc := "(I)V" } : Jvm.MethodName) prog_9_method_53_code (10 : Nat) (Option.none : Option Jvm.ClassFile.FieldType)) ∈ lw_all := lw_g (lw_at lw_m5 19 rfl) rfl
theorem q1026 : (Jvm.Cond.constantLong "SixWhoTurnModel" (180 : Nat) (1000000000 : Int64)) ∈ lw_all := lw_g (lw_at lw_m5 20 rfl) rfl
theorem q1027 : (Jvm.Cond.constantLong "SixWhoTurnModel" (182 : Nat) (-1 : Int64)) ∈ lw_all := lw_g (lw_at lw_m5 21 rfl) rfl
theorem q1028 : (Jvm.Cond.methodLink "SixWhoTurnModel" (184 : Nat) ({ cls := "SixWhoTurnModel", name := "cell", desc := "(IIIII)I" } : Jvm.MethodName)) ∈ lw_all := lw_g (lw_at lw_m5 22 rfl) rfl
theorem q1029 : (Jvm.Cond.static ({ cls := "SixWhoTurnModel", name := "cell", desc := "(IIIII)I" } : Jvm.MethodName)) ∈ lw_all := lw_g (lw_at lw_m5 23 rfl) rfl
theorem q1030 : (Jvm.Cond.code ({ cls := "SixWhoTurnModel", name := "cell", desc := "(IIIII)I" } : Jvm.MethodName) prog_9_method_52_code (5 : Nat) (Option.some Jvm.ClassFile.FieldType.int)) ∈ lw_all := lw_g (lw_at lw_m5 24 rfl) rfl
theorem q1031 : (Jvm.Cond.methodLink "SixWhoTurnModel" (188 : Nat) ({ cls := "SixWhoTurnModel", name := "mean", desc := "(IJJ)J" } : Jvm.MethodName)) ∈ lw_all := lw_g (lw_at lw_m5 25 rfl) rfl
theorem q1032 : (Jvm.Cond.static ({ cls := "SixWhoTurnModel", name := "mean", desc := "(IJJ)J" } : Jvm.MethodName)) ∈ lw_all := lw_g (lw_at lw_m5 26 rfl) rfl
theorem q1033 : (Jvm.Cond.code ({ cls := "SixWhoTurnModel", name := "mean", desc := "(IJJ)J" } : Jvm.MethodName) prog_9_method_54_code (5 : Nat) (Option.some Jvm.ClassFile.FieldType.long)) ∈ lw_all := lw_g (lw_at lw_m5 27 rfl) rfl
theorem q1034 : (Jvm.Cond.constantLong "SixWhoTurnModel" (192 : Nat) (1000 : Int64)) ∈ lw_all := lw_g (lw_at lw_m5 28 rfl) rfl
theorem q1035 : (Jvm.Cond.methodLink "SixWhoTurnModel" (197 : Nat) ({ cls := "SixWhoTurnModel", name := "now", desc := "()I" } : Jvm.MethodName)) ∈ lw_all := lw_g (lw_at lw_m5 29 rfl) rfl
theorem q1036 : (Jvm.Cond.privateMethod ({ cls := "SixWhoTurnModel", name := "now", desc := "()I" } : Jvm.MethodName)) ∈ lw_tbl := lw_at lw_m5 30 rfl
theorem q1037 : (Jvm.Cond.instanceMethod ({ cls := "SixWhoTurnModel", name := "now", desc := "()I" } : Jvm.MethodName)) ∈ lw_all := lw_g (lw_at lw_m5 31 rfl) rfl
theorem q1038 : (Jvm.Cond.code ({ cls := "SixWhoTurnModel", name := "now", desc := "()I" } : Jvm.MethodName) prog_9_method_55_code (1 : Nat) (Option.some Jvm.ClassFile.FieldType.int)) ∈ lw_all := lw_g (lw_at lw_m5 32 rfl) rfl
theorem q1040 : (Jvm.Cond.instanceMethod ({ cls := "SixWhoTurnModel", name := "weight", desc := "()I" } : Jvm.MethodName)) ∈ lw_all := lw_g (lw_at lw_m5 34 rfl) rfl
theorem q1041 : (Jvm.Cond.selects "SixWhoTurnModel" ({ cls := "SixWhoTurnModel", name := "weight", desc := "()I" } : Jvm.MethodName) ({ cls := "SixWhoTurnModel", name := "weight", desc := "()I" } : Jvm.MethodName)) ∈ lw_all := lw_g (lw_at lw_m5 35 rfl) rfl
theorem q1042 : (Jvm.Cond.code ({ cls := "SixWhoTurnModel", name := "weight", desc := "()I" } : Jvm.MethodName) prog_9_method_57_code (8 : Nat) (Option.some Jvm.ClassFile.FieldType.int)) ∈ lw_all := lw_g (lw_at lw_m5 36 rfl) rfl
theorem q1044 : (Jvm.Cond.instanceMethod ({ cls := "SixWhoTurnModel", name := "turn", desc := "(II)I" } : Jvm.MethodName)) ∈ lw_all := lw_g (lw_at lw_m5 38 rfl) rfl
theorem q1045 : (Jvm.Cond.selects "SixWhoTurnModel" ({ cls := "SixWhoTurnModel", name := "turn", desc := "(II)I" } : Jvm.MethodName) ({ cls := "SixWhoTurnModel", name := "turn", desc := "(II)I" } : Jvm.MethodName)) ∈ lw_all := lw_g (lw_at lw_m5 39 rfl) rfl
theorem q1046 : (Jvm.Cond.code ({ cls := "SixWhoTurnModel", name := "turn", desc := "(II)I" } : Jvm.MethodName) prog_9_method_58_code (9 : Nat) (Option.some Jvm.ClassFile.FieldType.int)) ∈ lw_all := lw_g (lw_at lw_m5 40 rfl) rfl
theorem q1048 : (Jvm.Cond.instanceMethod ({ cls := "SixWhoTurnModel", name := "advice", desc := "(I)I" } : Jvm.MethodName)) ∈ lw_all := lw_g (lw_at lw_m5 42 rfl) rfl
theorem q1049 : (Jvm.Cond.selects "SixWhoTurnModel" ({ cls := "SixWhoTurnModel", name := "advice", desc := "(I)I" } : Jvm.MethodName) ({ cls := "SixWhoTurnModel", name := "advice", desc := "(I)I" } : Jvm.MethodName)) ∈ lw_all := lw_g (lw_at lw_m5 43 rfl) rfl
theorem q1050 : (Jvm.Cond.code ({ cls := "SixWhoTurnModel", name := "advice", desc := "(I)I" } : Jvm.MethodName) prog_9_method_59_code (7 : Nat) (Option.some Jvm.ClassFile.FieldType.int)) ∈ lw_all := lw_g (lw_at lw_m5 44 rfl) rfl
theorem q1052 : (Jvm.Cond.instanceMethod ({ cls := "SixWhoTurnModel", name := "row", desc := "(I)I" } : Jvm.MethodName)) ∈ lw_all := lw_g (lw_at lw_m5 46 rfl) rfl
theorem q1053 : (Jvm.Cond.selects "SixWhoTurnModel" ({ cls := "SixWhoTurnModel", name := "row", desc := "(I)I" } : Jvm.MethodName) ({ cls := "SixWhoTurnModel", name := "row", desc := "(I)I" } : Jvm.MethodName)) ∈ lw_all := lw_g (lw_at lw_m5 47 rfl) rfl
theorem q1054 : (Jvm.Cond.code ({ cls := "SixWhoTurnModel", name := "row", desc := "(I)I" } : Jvm.MethodName) prog_9_method_60_code (2 : Nat) (Option.some Jvm.ClassFile.FieldType.int)) ∈ lw_all := lw_g (lw_at lw_m5 48 rfl) rfl
theorem q1058 : (Jvm.Cond.castable "SixWhoTurnModel" "java/lang/Object") ∈ lw_tbl := lw_at lw_m5 52 rfl
theorem in_X3 : ∀ w ∈ wsX30, w ∈ lw_all := lw_in wsX30 [782, 784, 786, 788, 790, 792, 794, 796, 798, 800, 802, 804, 806, 808, 810, 812, 814, 816] (by decide +kernel) (by decide +kernel)
