/-! SixWhoTurn -/
set_option maxRecDepth 100000
def RX1 : String := "SixWhoTurn"
def TX1 : u_T := fun k => match k with
  | 0 => ("SixWhoTurn", "sides", "[LSixWhoTurn$Side;", true)
  | 1 => ("SixWhoTurn", "kept", "[LSixWhoTurn$Side;", true)
  | 2 => ("SixWhoTurn", "skills", "[[[I", true)
  | 3 => ("SixWhoTurn", "numbers", "[I", true)
  | 4 => ("SixWhoTurn", "number", "I", false)
  | 5 => ("SixWhoTurn", "serving", "I", false)
  | 6 => ("SixWhoTurn", "rallies", "I", false)
  | 7 => ("SixWhoTurn", "run", "I", false)
  | 8 => ("SixWhoTurn", "winner", "I", false)
  | 9 => ("SixWhoTurn", "setWinner", "I", false)
  | 10 => ("SixWhoTurn", "isOn", "Z", false)
  | 11 => ("SixWhoTurn", "text", "[I", true)
  | 12 => ("SixWhoTurn", "signMany", "I", false)
  | 13 => ("SixWhoTurn", "at", "I", false)
  | 14 => ("SixWhoTurn", "end", "I", false)
  | 15 => ("SixWhoTurn", "read", "I", false)
  | 16 => ("SixWhoTurn", "keptServing", "I", false)
  | 17 => ("SixWhoTurn", "keptRallies", "I", false)
  | 18 => ("SixWhoTurn", "keptRun", "I", false)
  | 19 => ("SixWhoTurn", "keptWinner", "I", false)
  | 20 => ("SixWhoTurn", "keptSetWinner", "I", false)
  | 21 => ("SixWhoTurn", "chances", "[I", true)
  | 22 => ("SixWhoTurn", "table", "[I", true)
  | 23 => ("SixWhoTurn", "row", "[I", true)
  | _ => ("SixWhoTurn", "rowMany", "I", false)
def tyX1 : Nat → FieldType := fun k => match k with
  | 0 => .array (.object "SixWhoTurn$Side")
  | 1 => .array (.object "SixWhoTurn$Side")
  | 2 => .array (.array (.array .int))
  | 3 => .array .int
  | 4 => .int
  | 5 => .int
  | 6 => .int
  | 7 => .int
  | 8 => .int
  | 9 => .int
  | 10 => .boolean
  | 11 => .array .int
  | 12 => .int
  | 13 => .int
  | 14 => .int
  | 15 => .int
  | 16 => .int
  | 17 => .int
  | 18 => .int
  | 19 => .int
  | 20 => .int
  | 21 => .array .int
  | 22 => .array .int
  | 23 => .array .int
  | _ => .int
abbrev wsX10 : List Cond := u_ws RX1 TX1 25
set_option maxRecDepth 100000 in
theorem nmX1 : ∀ a, a < 25 → ∀ b, b < 25 → a ≠ b → (TX1 a).2.1 ≠ (TX1 b).2.1 := by decide +kernel
set_option maxRecDepth 100000 in
theorem tyX1_ok : ∀ k, k < 25 → parseFieldDescriptor (TX1 k).2.2.1 = some (tyX1 k) := by decide +kernel
abbrev cX1_init : ByteArray := prog_1_method_5_code
def yX1_init : MethodName := ⟨RX1, "<init>", "()V"⟩
def dkwX1_init_9 : List UInt8 := [167, 255, 232, 132, 3, 1, 167, 255, 204, 177]
abbrev dktX1_init_9 : List UInt8 := dkwX1_init_9 ++ []
def dkwX1_init_8 : List UInt8 := [21, 7, 21, 6, 162, 0, 23, 25, 5, 21, 7, 50, 58, 8, 25, 8, 16, 50, 184, 0, 62, 132, 7, 1]
abbrev dktX1_init_8 : List UInt8 := dkwX1_init_8 ++ dktX1_init_9
def dkwX1_init_7 : List UInt8 := [62, 29, 28, 162, 0, 53, 43, 29, 50, 58, 4, 25, 4, 58, 5, 25, 5, 190, 54, 6, 3, 54, 7]
abbrev dktX1_init_7 : List UInt8 := dkwX1_init_7 ++ dktX1_init_8
def dkwX1_init_6 : List UInt8 := [42, 18, 55, 188, 10, 181, 0, 56, 42, 4, 188, 10, 181, 0, 59, 42, 180, 0, 29, 76, 43, 190, 61, 3]
abbrev dktX1_init_6 : List UInt8 := dkwX1_init_6 ++ dktX1_init_7
def dkwX1_init_5 : List UInt8 := [181, 0, 43, 42, 2, 181, 0, 46, 42, 16, 100, 188, 10, 181, 0, 49, 42, 16, 72, 188, 10, 181, 0, 52]
abbrev dktX1_init_5 : List UInt8 := dkwX1_init_5 ++ dktX1_init_6
def dkwX1_init_4 : List UInt8 := [89, 7, 16, 6, 79, 89, 8, 5, 79, 181, 0, 32, 42, 2, 181, 0, 36, 42, 2, 181, 0, 40, 42, 2]
abbrev dktX1_init_4 : List UInt8 := dkwX1_init_4 ++ dktX1_init_5
def dkwX1_init_3 : List UInt8 := [42, 16, 6, 188, 10, 89, 3, 16, 25, 79, 89, 4, 16, 30, 79, 89, 5, 16, 15, 79, 89, 6, 5, 79]
abbrev dktX1_init_3 : List UInt8 := dkwX1_init_3 ++ dktX1_init_4
def dkwX1_init_2 : List UInt8 := [4, 187, 0, 17, 89, 183, 0, 19, 83, 181, 0, 24, 42, 5, 16, 12, 7, 197, 0, 27, 3, 181, 0, 29]
abbrev dktX1_init_2 : List UInt8 := dkwX1_init_2 ++ dktX1_init_3
def dkwX1_init_1 : List UInt8 := [89, 183, 0, 19, 83, 181, 0, 20, 42, 5, 189, 0, 17, 89, 3, 187, 0, 17, 89, 183, 0, 19, 83, 89]
abbrev dktX1_init_1 : List UInt8 := dkwX1_init_1 ++ dktX1_init_2
def dkwX1_init_0 : List UInt8 := [42, 183, 0, 11, 42, 5, 189, 0, 17, 89, 3, 187, 0, 17, 89, 183, 0, 19, 83, 89, 4, 187, 0, 17]
abbrev dktX1_init_0 : List UInt8 := dkwX1_init_0 ++ dktX1_init_1
theorem dksX1_init_0 : cX1_init.data.toList.drop 0 = dktX1_init_0 := by decide +kernel
theorem dksX1_init_1 : cX1_init.data.toList.drop 24 = dktX1_init_1 := dk_seg dksX1_init_0 24 rfl rfl
theorem dksX1_init_2 : cX1_init.data.toList.drop 48 = dktX1_init_2 := dk_seg dksX1_init_1 24 rfl rfl
theorem dksX1_init_3 : cX1_init.data.toList.drop 72 = dktX1_init_3 := dk_seg dksX1_init_2 24 rfl rfl
theorem dksX1_init_4 : cX1_init.data.toList.drop 96 = dktX1_init_4 := dk_seg dksX1_init_3 24 rfl rfl
theorem dksX1_init_5 : cX1_init.data.toList.drop 120 = dktX1_init_5 := dk_seg dksX1_init_4 24 rfl rfl
theorem dksX1_init_6 : cX1_init.data.toList.drop 144 = dktX1_init_6 := dk_seg dksX1_init_5 24 rfl rfl
theorem dksX1_init_7 : cX1_init.data.toList.drop 168 = dktX1_init_7 := dk_seg dksX1_init_6 24 rfl rfl
theorem dksX1_init_8 : cX1_init.data.toList.drop 191 = dktX1_init_8 := dk_seg dksX1_init_7 23 rfl rfl
theorem dksX1_init_9 : cX1_init.data.toList.drop 215 = dktX1_init_9 := dk_seg dksX1_init_8 24 rfl rfl
theorem dX1_init_0 : decode cX1_init 0 = .ok (.aload_n 0, 1) := dk_42 (dk_at dksX1_init_0 0 rfl rfl)
theorem dX1_init_1 : decode cX1_init 1 = .ok (.invokespecial 11, 3) := dk_183 0 11 (dk_at dksX1_init_0 1 rfl rfl)
theorem dX1_init_4 : decode cX1_init 4 = .ok (.aload_n 0, 1) := dk_42 (dk_at dksX1_init_0 4 rfl rfl)
theorem dX1_init_5 : decode cX1_init 5 = .ok (.iconst 2, 1) := dk_5 (dk_at dksX1_init_0 5 rfl rfl)
theorem dX1_init_6 : decode cX1_init 6 = .ok (.anewarray 17, 3) := dk_189 0 17 (dk_at dksX1_init_0 6 rfl rfl)
theorem dX1_init_9 : decode cX1_init 9 = .ok (.dup, 1) := dk_89 (dk_at dksX1_init_0 9 rfl rfl)
theorem dX1_init_10 : decode cX1_init 10 = .ok (.iconst 0, 1) := dk_3 (dk_at dksX1_init_0 10 rfl rfl)
theorem dX1_init_11 : decode cX1_init 11 = .ok (.new 17, 3) := dk_187 0 17 (dk_at dksX1_init_0 11 rfl rfl)
theorem dX1_init_14 : decode cX1_init 14 = .ok (.dup, 1) := dk_89 (dk_at dksX1_init_0 14 rfl rfl)
theorem dX1_init_15 : decode cX1_init 15 = .ok (.invokespecial 19, 3) := dk_183 0 19 (dk_at dksX1_init_0 15 rfl rfl)
theorem dX1_init_18 : decode cX1_init 18 = .ok (.aastore, 1) := dk_83 (dk_at dksX1_init_0 18 rfl rfl)
theorem dX1_init_19 : decode cX1_init 19 = .ok (.dup, 1) := dk_89 (dk_at dksX1_init_0 19 rfl rfl)
theorem dX1_init_20 : decode cX1_init 20 = .ok (.iconst 1, 1) := dk_4 (dk_at dksX1_init_0 20 rfl rfl)
theorem dX1_init_21 : decode cX1_init 21 = .ok (.new 17, 3) := dk_187 0 17 (dk_at dksX1_init_0 21 rfl rfl)
theorem dX1_init_24 : decode cX1_init 24 = .ok (.dup, 1) := dk_89 (dk_at dksX1_init_1 0 rfl rfl)
theorem dX1_init_25 : decode cX1_init 25 = .ok (.invokespecial 19, 3) := dk_183 0 19 (dk_at dksX1_init_1 1 rfl rfl)
theorem dX1_init_28 : decode cX1_init 28 = .ok (.aastore, 1) := dk_83 (dk_at dksX1_init_1 4 rfl rfl)
theorem dX1_init_29 : decode cX1_init 29 = .ok (.putfield 20, 3) := dk_181 0 20 (dk_at dksX1_init_1 5 rfl rfl)
theorem dX1_init_32 : decode cX1_init 32 = .ok (.aload_n 0, 1) := dk_42 (dk_at dksX1_init_1 8 rfl rfl)
theorem dX1_init_33 : decode cX1_init 33 = .ok (.iconst 2, 1) := dk_5 (dk_at dksX1_init_1 9 rfl rfl)
theorem dX1_init_34 : decode cX1_init 34 = .ok (.anewarray 17, 3) := dk_189 0 17 (dk_at dksX1_init_1 10 rfl rfl)
theorem dX1_init_37 : decode cX1_init 37 = .ok (.dup, 1) := dk_89 (dk_at dksX1_init_1 13 rfl rfl)
theorem dX1_init_38 : decode cX1_init 38 = .ok (.iconst 0, 1) := dk_3 (dk_at dksX1_init_1 14 rfl rfl)
theorem dX1_init_39 : decode cX1_init 39 = .ok (.new 17, 3) := dk_187 0 17 (dk_at dksX1_init_1 15 rfl rfl)
theorem dX1_init_42 : decode cX1_init 42 = .ok (.dup, 1) := dk_89 (dk_at dksX1_init_1 18 rfl rfl)
theorem dX1_init_43 : decode cX1_init 43 = .ok (.invokespecial 19, 3) := dk_183 0 19 (dk_at dksX1_init_1 19 rfl rfl)
theorem dX1_init_46 : decode cX1_init 46 = .ok (.aastore, 1) := dk_83 (dk_at dksX1_init_1 22 rfl rfl)
theorem dX1_init_47 : decode cX1_init 47 = .ok (.dup, 1) := dk_89 (dk_at dksX1_init_1 23 rfl rfl)
theorem dX1_init_48 : decode cX1_init 48 = .ok (.iconst 1, 1) := dk_4 (dk_at dksX1_init_2 0 rfl rfl)
theorem dX1_init_49 : decode cX1_init 49 = .ok (.new 17, 3) := dk_187 0 17 (dk_at dksX1_init_2 1 rfl rfl)
theorem dX1_init_52 : decode cX1_init 52 = .ok (.dup, 1) := dk_89 (dk_at dksX1_init_2 4 rfl rfl)
theorem dX1_init_53 : decode cX1_init 53 = .ok (.invokespecial 19, 3) := dk_183 0 19 (dk_at dksX1_init_2 5 rfl rfl)
theorem dX1_init_56 : decode cX1_init 56 = .ok (.aastore, 1) := dk_83 (dk_at dksX1_init_2 8 rfl rfl)
theorem dX1_init_57 : decode cX1_init 57 = .ok (.putfield 24, 3) := dk_181 0 24 (dk_at dksX1_init_2 9 rfl rfl)
theorem dX1_init_60 : decode cX1_init 60 = .ok (.aload_n 0, 1) := dk_42 (dk_at dksX1_init_2 12 rfl rfl)
theorem dX1_init_61 : decode cX1_init 61 = .ok (.iconst 2, 1) := dk_5 (dk_at dksX1_init_2 13 rfl rfl)
theorem dX1_init_62 : decode cX1_init 62 = .ok (.bipush 12, 2) := dk_16 12 (dk_at dksX1_init_2 14 rfl rfl)
theorem dX1_init_64 : decode cX1_init 64 = .ok (.iconst 4, 1) := dk_7 (dk_at dksX1_init_2 16 rfl rfl)
theorem dX1_init_65 : decode cX1_init 65 = .ok (.multianewarray 27 3, 4) := by decide +kernel
theorem dX1_init_69 : decode cX1_init 69 = .ok (.putfield 29, 3) := dk_181 0 29 (dk_at dksX1_init_2 21 rfl rfl)
theorem dX1_init_72 : decode cX1_init 72 = .ok (.aload_n 0, 1) := dk_42 (dk_at dksX1_init_3 0 rfl rfl)
theorem dX1_init_73 : decode cX1_init 73 = .ok (.bipush 6, 2) := dk_16 6 (dk_at dksX1_init_3 1 rfl rfl)
theorem dX1_init_75 : decode cX1_init 75 = .ok (.newarray .int, 2) := dk_188_10 (dk_at dksX1_init_3 3 rfl rfl)
theorem dX1_init_77 : decode cX1_init 77 = .ok (.dup, 1) := dk_89 (dk_at dksX1_init_3 5 rfl rfl)
theorem dX1_init_78 : decode cX1_init 78 = .ok (.iconst 0, 1) := dk_3 (dk_at dksX1_init_3 6 rfl rfl)
theorem dX1_init_79 : decode cX1_init 79 = .ok (.bipush 25, 2) := dk_16 25 (dk_at dksX1_init_3 7 rfl rfl)
theorem dX1_init_81 : decode cX1_init 81 = .ok (.iastore, 1) := dk_79 (dk_at dksX1_init_3 9 rfl rfl)
theorem dX1_init_82 : decode cX1_init 82 = .ok (.dup, 1) := dk_89 (dk_at dksX1_init_3 10 rfl rfl)
theorem dX1_init_83 : decode cX1_init 83 = .ok (.iconst 1, 1) := dk_4 (dk_at dksX1_init_3 11 rfl rfl)
theorem dX1_init_84 : decode cX1_init 84 = .ok (.bipush 30, 2) := dk_16 30 (dk_at dksX1_init_3 12 rfl rfl)
theorem dX1_init_86 : decode cX1_init 86 = .ok (.iastore, 1) := dk_79 (dk_at dksX1_init_3 14 rfl rfl)
theorem dX1_init_87 : decode cX1_init 87 = .ok (.dup, 1) := dk_89 (dk_at dksX1_init_3 15 rfl rfl)
theorem dX1_init_88 : decode cX1_init 88 = .ok (.iconst 2, 1) := dk_5 (dk_at dksX1_init_3 16 rfl rfl)
theorem dX1_init_89 : decode cX1_init 89 = .ok (.bipush 15, 2) := dk_16 15 (dk_at dksX1_init_3 17 rfl rfl)
theorem dX1_init_91 : decode cX1_init 91 = .ok (.iastore, 1) := dk_79 (dk_at dksX1_init_3 19 rfl rfl)
theorem dX1_init_92 : decode cX1_init 92 = .ok (.dup, 1) := dk_89 (dk_at dksX1_init_3 20 rfl rfl)
theorem dX1_init_93 : decode cX1_init 93 = .ok (.iconst 3, 1) := dk_6 (dk_at dksX1_init_3 21 rfl rfl)
theorem dX1_init_94 : decode cX1_init 94 = .ok (.iconst 2, 1) := dk_5 (dk_at dksX1_init_3 22 rfl rfl)
theorem dX1_init_95 : decode cX1_init 95 = .ok (.iastore, 1) := dk_79 (dk_at dksX1_init_3 23 rfl rfl)
theorem dX1_init_96 : decode cX1_init 96 = .ok (.dup, 1) := dk_89 (dk_at dksX1_init_4 0 rfl rfl)
theorem dX1_init_97 : decode cX1_init 97 = .ok (.iconst 4, 1) := dk_7 (dk_at dksX1_init_4 1 rfl rfl)
theorem dX1_init_98 : decode cX1_init 98 = .ok (.bipush 6, 2) := dk_16 6 (dk_at dksX1_init_4 2 rfl rfl)
theorem dX1_init_100 : decode cX1_init 100 = .ok (.iastore, 1) := dk_79 (dk_at dksX1_init_4 4 rfl rfl)
theorem dX1_init_101 : decode cX1_init 101 = .ok (.dup, 1) := dk_89 (dk_at dksX1_init_4 5 rfl rfl)
theorem dX1_init_102 : decode cX1_init 102 = .ok (.iconst 5, 1) := dk_8 (dk_at dksX1_init_4 6 rfl rfl)
theorem dX1_init_103 : decode cX1_init 103 = .ok (.iconst 2, 1) := dk_5 (dk_at dksX1_init_4 7 rfl rfl)
theorem dX1_init_104 : decode cX1_init 104 = .ok (.iastore, 1) := dk_79 (dk_at dksX1_init_4 8 rfl rfl)
theorem dX1_init_105 : decode cX1_init 105 = .ok (.putfield 32, 3) := dk_181 0 32 (dk_at dksX1_init_4 9 rfl rfl)
theorem dX1_init_108 : decode cX1_init 108 = .ok (.aload_n 0, 1) := dk_42 (dk_at dksX1_init_4 12 rfl rfl)
theorem dX1_init_109 : decode cX1_init 109 = .ok (.iconst (-1), 1) := dk_2 (dk_at dksX1_init_4 13 rfl rfl)
theorem dX1_init_110 : decode cX1_init 110 = .ok (.putfield 36, 3) := dk_181 0 36 (dk_at dksX1_init_4 14 rfl rfl)
theorem dX1_init_113 : decode cX1_init 113 = .ok (.aload_n 0, 1) := dk_42 (dk_at dksX1_init_4 17 rfl rfl)
theorem dX1_init_114 : decode cX1_init 114 = .ok (.iconst (-1), 1) := dk_2 (dk_at dksX1_init_4 18 rfl rfl)
theorem dX1_init_115 : decode cX1_init 115 = .ok (.putfield 40, 3) := dk_181 0 40 (dk_at dksX1_init_4 19 rfl rfl)
theorem dX1_init_118 : decode cX1_init 118 = .ok (.aload_n 0, 1) := dk_42 (dk_at dksX1_init_4 22 rfl rfl)
theorem dX1_init_119 : decode cX1_init 119 = .ok (.iconst (-1), 1) := dk_2 (dk_at dksX1_init_4 23 rfl rfl)
theorem dX1_init_120 : decode cX1_init 120 = .ok (.putfield 43, 3) := dk_181 0 43 (dk_at dksX1_init_5 0 rfl rfl)
theorem dX1_init_123 : decode cX1_init 123 = .ok (.aload_n 0, 1) := dk_42 (dk_at dksX1_init_5 3 rfl rfl)
theorem dX1_init_124 : decode cX1_init 124 = .ok (.iconst (-1), 1) := dk_2 (dk_at dksX1_init_5 4 rfl rfl)
theorem dX1_init_125 : decode cX1_init 125 = .ok (.putfield 46, 3) := dk_181 0 46 (dk_at dksX1_init_5 5 rfl rfl)
theorem dX1_init_128 : decode cX1_init 128 = .ok (.aload_n 0, 1) := dk_42 (dk_at dksX1_init_5 8 rfl rfl)
theorem dX1_init_129 : decode cX1_init 129 = .ok (.bipush 100, 2) := dk_16 100 (dk_at dksX1_init_5 9 rfl rfl)
theorem dX1_init_131 : decode cX1_init 131 = .ok (.newarray .int, 2) := dk_188_10 (dk_at dksX1_init_5 11 rfl rfl)
theorem dX1_init_133 : decode cX1_init 133 = .ok (.putfield 49, 3) := dk_181 0 49 (dk_at dksX1_init_5 13 rfl rfl)
theorem dX1_init_136 : decode cX1_init 136 = .ok (.aload_n 0, 1) := dk_42 (dk_at dksX1_init_5 16 rfl rfl)
theorem dX1_init_137 : decode cX1_init 137 = .ok (.bipush 72, 2) := dk_16 72 (dk_at dksX1_init_5 17 rfl rfl)
theorem dX1_init_139 : decode cX1_init 139 = .ok (.newarray .int, 2) := dk_188_10 (dk_at dksX1_init_5 19 rfl rfl)
theorem dX1_init_141 : decode cX1_init 141 = .ok (.putfield 52, 3) := dk_181 0 52 (dk_at dksX1_init_5 21 rfl rfl)
theorem dX1_init_144 : decode cX1_init 144 = .ok (.aload_n 0, 1) := dk_42 (dk_at dksX1_init_6 0 rfl rfl)
theorem dX1_init_145 : decode cX1_init 145 = .ok (.ldc 55, 2) := dk_18 55 (dk_at dksX1_init_6 1 rfl rfl)
theorem dX1_init_147 : decode cX1_init 147 = .ok (.newarray .int, 2) := dk_188_10 (dk_at dksX1_init_6 3 rfl rfl)
theorem dX1_init_149 : decode cX1_init 149 = .ok (.putfield 56, 3) := dk_181 0 56 (dk_at dksX1_init_6 5 rfl rfl)
theorem dX1_init_152 : decode cX1_init 152 = .ok (.aload_n 0, 1) := dk_42 (dk_at dksX1_init_6 8 rfl rfl)
theorem dX1_init_153 : decode cX1_init 153 = .ok (.iconst 1, 1) := dk_4 (dk_at dksX1_init_6 9 rfl rfl)
theorem dX1_init_154 : decode cX1_init 154 = .ok (.newarray .int, 2) := dk_188_10 (dk_at dksX1_init_6 10 rfl rfl)
theorem dX1_init_156 : decode cX1_init 156 = .ok (.putfield 59, 3) := dk_181 0 59 (dk_at dksX1_init_6 12 rfl rfl)
theorem dX1_init_159 : decode cX1_init 159 = .ok (.aload_n 0, 1) := dk_42 (dk_at dksX1_init_6 15 rfl rfl)
theorem dX1_init_160 : decode cX1_init 160 = .ok (.getfield 29, 3) := dk_180 0 29 (dk_at dksX1_init_6 16 rfl rfl)
theorem dX1_init_163 : decode cX1_init 163 = .ok (.astore_n 1, 1) := dk_76 (dk_at dksX1_init_6 19 rfl rfl)
theorem dX1_init_164 : decode cX1_init 164 = .ok (.aload_n 1, 1) := dk_43 (dk_at dksX1_init_6 20 rfl rfl)
theorem dX1_init_165 : decode cX1_init 165 = .ok (.arraylength, 1) := dk_190 (dk_at dksX1_init_6 21 rfl rfl)
theorem dX1_init_166 : decode cX1_init 166 = .ok (.istore_n 2, 1) := dk_61 (dk_at dksX1_init_6 22 rfl rfl)
theorem dX1_init_167 : decode cX1_init 167 = .ok (.iconst 0, 1) := dk_3 (dk_at dksX1_init_6 23 rfl rfl)
theorem dX1_init_168 : decode cX1_init 168 = .ok (.istore_n 3, 1) := dk_62 (dk_at dksX1_init_7 0 rfl rfl)
theorem dX1_init_169 : decode cX1_init 169 = .ok (.iload_n 3, 1) := dk_29 (dk_at dksX1_init_7 1 rfl rfl)
theorem dX1_init_170 : decode cX1_init 170 = .ok (.iload_n 2, 1) := dk_28 (dk_at dksX1_init_7 2 rfl rfl)
theorem dX1_init_171 : decode cX1_init 171 = .ok (.if_icmp .ge 53, 3) := dk_162 0 53 (dk_at dksX1_init_7 3 rfl rfl)
theorem dX1_init_174 : decode cX1_init 174 = .ok (.aload_n 1, 1) := dk_43 (dk_at dksX1_init_7 6 rfl rfl)
theorem dX1_init_175 : decode cX1_init 175 = .ok (.iload_n 3, 1) := dk_29 (dk_at dksX1_init_7 7 rfl rfl)
theorem dX1_init_176 : decode cX1_init 176 = .ok (.aaload, 1) := dk_50 (dk_at dksX1_init_7 8 rfl rfl)
theorem dX1_init_177 : decode cX1_init 177 = .ok (.astore 4, 2) := dk_58 4 (dk_at dksX1_init_7 9 rfl rfl)
theorem dX1_init_179 : decode cX1_init 179 = .ok (.aload 4, 2) := dk_25 4 (dk_at dksX1_init_7 11 rfl rfl)
theorem dX1_init_181 : decode cX1_init 181 = .ok (.astore 5, 2) := dk_58 5 (dk_at dksX1_init_7 13 rfl rfl)
theorem dX1_init_183 : decode cX1_init 183 = .ok (.aload 5, 2) := dk_25 5 (dk_at dksX1_init_7 15 rfl rfl)
theorem dX1_init_185 : decode cX1_init 185 = .ok (.arraylength, 1) := dk_190 (dk_at dksX1_init_7 17 rfl rfl)
theorem dX1_init_186 : decode cX1_init 186 = .ok (.istore 6, 2) := dk_54 6 (dk_at dksX1_init_7 18 rfl rfl)
theorem dX1_init_188 : decode cX1_init 188 = .ok (.iconst 0, 1) := dk_3 (dk_at dksX1_init_7 20 rfl rfl)
theorem dX1_init_189 : decode cX1_init 189 = .ok (.istore 7, 2) := dk_54 7 (dk_at dksX1_init_7 21 rfl rfl)
theorem dX1_init_191 : decode cX1_init 191 = .ok (.iload 7, 2) := dk_21 7 (dk_at dksX1_init_8 0 rfl rfl)
theorem dX1_init_193 : decode cX1_init 193 = .ok (.iload 6, 2) := dk_21 6 (dk_at dksX1_init_8 2 rfl rfl)
theorem dX1_init_195 : decode cX1_init 195 = .ok (.if_icmp .ge 23, 3) := dk_162 0 23 (dk_at dksX1_init_8 4 rfl rfl)
theorem dX1_init_198 : decode cX1_init 198 = .ok (.aload 5, 2) := dk_25 5 (dk_at dksX1_init_8 7 rfl rfl)
theorem dX1_init_200 : decode cX1_init 200 = .ok (.iload 7, 2) := dk_21 7 (dk_at dksX1_init_8 9 rfl rfl)
theorem dX1_init_202 : decode cX1_init 202 = .ok (.aaload, 1) := dk_50 (dk_at dksX1_init_8 11 rfl rfl)
theorem dX1_init_203 : decode cX1_init 203 = .ok (.astore 8, 2) := dk_58 8 (dk_at dksX1_init_8 12 rfl rfl)
theorem dX1_init_205 : decode cX1_init 205 = .ok (.aload 8, 2) := dk_25 8 (dk_at dksX1_init_8 14 rfl rfl)
theorem dX1_init_207 : decode cX1_init 207 = .ok (.bipush 50, 2) := dk_16 50 (dk_at dksX1_init_8 16 rfl rfl)
theorem dX1_init_209 : decode cX1_init 209 = .ok (.invokestatic 62, 3) := dk_184 0 62 (dk_at dksX1_init_8 18 rfl rfl)
theorem dX1_init_212 : decode cX1_init 212 = .ok (.iinc 7 1, 3) := dk_132 7 1 (dk_at dksX1_init_8 21 rfl rfl)
theorem dX1_init_215 : decode cX1_init 215 = .ok (.goto (-24), 3) := dk_167 255 232 (dk_at dksX1_init_9 0 rfl rfl)
theorem dX1_init_218 : decode cX1_init 218 = .ok (.iinc 3 1, 3) := dk_132 3 1 (dk_at dksX1_init_9 3 rfl rfl)
theorem dX1_init_221 : decode cX1_init 221 = .ok (.goto (-52), 3) := dk_167 255 204 (dk_at dksX1_init_9 6 rfl rfl)
theorem dX1_init_224 : decode cX1_init 224 = .ok (.return_, 1) := dk_177 (dk_at dksX1_init_9 9 rfl rfl)
abbrev cX1_skill : ByteArray := prog_1_method_6_code
def yX1_skill : MethodName := ⟨RX1, "skill", "(IIII)I"⟩
def dkwX1_skill_2 : List UInt8 := [28, 50, 29, 46, 54, 5, 42, 180, 0, 29, 27, 50, 28, 50, 29, 21, 4, 79, 21, 5, 172]
abbrev dktX1_skill_2 : List UInt8 := dkwX1_skill_2 ++ []
def dkwX1_skill_1 : List UInt8 := [153, 0, 16, 21, 4, 133, 9, 20, 0, 77, 184, 0, 5, 154, 0, 5, 2, 172, 42, 180, 0, 29, 27, 50]
abbrev dktX1_skill_1 : List UInt8 := dkwX1_skill_1 ++ dktX1_skill_2
def dkwX1_skill_0 : List UInt8 := [27, 184, 0, 68, 153, 0, 35, 28, 184, 0, 72, 153, 0, 28, 29, 133, 9, 20, 0, 75, 184, 0, 5]
abbrev dktX1_skill_0 : List UInt8 := dkwX1_skill_0 ++ dktX1_skill_1
theorem dksX1_skill_0 : cX1_skill.data.toList.drop 0 = dktX1_skill_0 := by decide +kernel
theorem dksX1_skill_1 : cX1_skill.data.toList.drop 23 = dktX1_skill_1 := dk_seg dksX1_skill_0 23 rfl rfl
theorem dksX1_skill_2 : cX1_skill.data.toList.drop 47 = dktX1_skill_2 := dk_seg dksX1_skill_1 24 rfl rfl
theorem dX1_skill_0 : decode cX1_skill 0 = .ok (.iload_n 1, 1) := dk_27 (dk_at dksX1_skill_0 0 rfl rfl)
theorem dX1_skill_1 : decode cX1_skill 1 = .ok (.invokestatic 68, 3) := dk_184 0 68 (dk_at dksX1_skill_0 1 rfl rfl)
theorem dX1_skill_4 : decode cX1_skill 4 = .ok (.ifCond .eq 35, 3) := dk_153 0 35 (dk_at dksX1_skill_0 4 rfl rfl)
theorem dX1_skill_7 : decode cX1_skill 7 = .ok (.iload_n 2, 1) := dk_28 (dk_at dksX1_skill_0 7 rfl rfl)
theorem dX1_skill_8 : decode cX1_skill 8 = .ok (.invokestatic 72, 3) := dk_184 0 72 (dk_at dksX1_skill_0 8 rfl rfl)
theorem dX1_skill_11 : decode cX1_skill 11 = .ok (.ifCond .eq 28, 3) := dk_153 0 28 (dk_at dksX1_skill_0 11 rfl rfl)
theorem dX1_skill_14 : decode cX1_skill 14 = .ok (.iload_n 3, 1) := dk_29 (dk_at dksX1_skill_0 14 rfl rfl)
theorem dX1_skill_15 : decode cX1_skill 15 = .ok (.i2l, 1) := dk_133 (dk_at dksX1_skill_0 15 rfl rfl)
theorem dX1_skill_16 : decode cX1_skill 16 = .ok (.lconst 0, 1) := dk_9 (dk_at dksX1_skill_0 16 rfl rfl)
theorem dX1_skill_17 : decode cX1_skill 17 = .ok (.ldc2_w 75, 3) := dk_20 0 75 (dk_at dksX1_skill_0 17 rfl rfl)
theorem dX1_skill_20 : decode cX1_skill 20 = .ok (.invokestatic 5, 3) := dk_184 0 5 (dk_at dksX1_skill_0 20 rfl rfl)
theorem dX1_skill_23 : decode cX1_skill 23 = .ok (.ifCond .eq 16, 3) := dk_153 0 16 (dk_at dksX1_skill_1 0 rfl rfl)
theorem dX1_skill_26 : decode cX1_skill 26 = .ok (.iload 4, 2) := dk_21 4 (dk_at dksX1_skill_1 3 rfl rfl)
theorem dX1_skill_28 : decode cX1_skill 28 = .ok (.i2l, 1) := dk_133 (dk_at dksX1_skill_1 5 rfl rfl)
theorem dX1_skill_29 : decode cX1_skill 29 = .ok (.lconst 0, 1) := dk_9 (dk_at dksX1_skill_1 6 rfl rfl)
theorem dX1_skill_30 : decode cX1_skill 30 = .ok (.ldc2_w 77, 3) := dk_20 0 77 (dk_at dksX1_skill_1 7 rfl rfl)
theorem dX1_skill_33 : decode cX1_skill 33 = .ok (.invokestatic 5, 3) := dk_184 0 5 (dk_at dksX1_skill_1 10 rfl rfl)
theorem dX1_skill_36 : decode cX1_skill 36 = .ok (.ifCond .ne 5, 3) := dk_154 0 5 (dk_at dksX1_skill_1 13 rfl rfl)
theorem dX1_skill_39 : decode cX1_skill 39 = .ok (.iconst (-1), 1) := dk_2 (dk_at dksX1_skill_1 16 rfl rfl)
theorem dX1_skill_40 : decode cX1_skill 40 = .ok (.ireturn, 1) := dk_172 (dk_at dksX1_skill_1 17 rfl rfl)
theorem dX1_skill_41 : decode cX1_skill 41 = .ok (.aload_n 0, 1) := dk_42 (dk_at dksX1_skill_1 18 rfl rfl)
theorem dX1_skill_42 : decode cX1_skill 42 = .ok (.getfield 29, 3) := dk_180 0 29 (dk_at dksX1_skill_1 19 rfl rfl)
theorem dX1_skill_45 : decode cX1_skill 45 = .ok (.iload_n 1, 1) := dk_27 (dk_at dksX1_skill_1 22 rfl rfl)
theorem dX1_skill_46 : decode cX1_skill 46 = .ok (.aaload, 1) := dk_50 (dk_at dksX1_skill_1 23 rfl rfl)
theorem dX1_skill_47 : decode cX1_skill 47 = .ok (.iload_n 2, 1) := dk_28 (dk_at dksX1_skill_2 0 rfl rfl)
theorem dX1_skill_48 : decode cX1_skill 48 = .ok (.aaload, 1) := dk_50 (dk_at dksX1_skill_2 1 rfl rfl)
theorem dX1_skill_49 : decode cX1_skill 49 = .ok (.iload_n 3, 1) := dk_29 (dk_at dksX1_skill_2 2 rfl rfl)
theorem dX1_skill_50 : decode cX1_skill 50 = .ok (.iaload, 1) := dk_46 (dk_at dksX1_skill_2 3 rfl rfl)
theorem dX1_skill_51 : decode cX1_skill 51 = .ok (.istore 5, 2) := dk_54 5 (dk_at dksX1_skill_2 4 rfl rfl)
theorem dX1_skill_53 : decode cX1_skill 53 = .ok (.aload_n 0, 1) := dk_42 (dk_at dksX1_skill_2 6 rfl rfl)
theorem dX1_skill_54 : decode cX1_skill 54 = .ok (.getfield 29, 3) := dk_180 0 29 (dk_at dksX1_skill_2 7 rfl rfl)
theorem dX1_skill_57 : decode cX1_skill 57 = .ok (.iload_n 1, 1) := dk_27 (dk_at dksX1_skill_2 10 rfl rfl)
theorem dX1_skill_58 : decode cX1_skill 58 = .ok (.aaload, 1) := dk_50 (dk_at dksX1_skill_2 11 rfl rfl)
theorem dX1_skill_59 : decode cX1_skill 59 = .ok (.iload_n 2, 1) := dk_28 (dk_at dksX1_skill_2 12 rfl rfl)
theorem dX1_skill_60 : decode cX1_skill 60 = .ok (.aaload, 1) := dk_50 (dk_at dksX1_skill_2 13 rfl rfl)
theorem dX1_skill_61 : decode cX1_skill 61 = .ok (.iload_n 3, 1) := dk_29 (dk_at dksX1_skill_2 14 rfl rfl)
theorem dX1_skill_62 : decode cX1_skill 62 = .ok (.iload 4, 2) := dk_21 4 (dk_at dksX1_skill_2 15 rfl rfl)
theorem dX1_skill_64 : decode cX1_skill 64 = .ok (.iastore, 1) := dk_79 (dk_at dksX1_skill_2 17 rfl rfl)
theorem dX1_skill_65 : decode cX1_skill 65 = .ok (.iload 5, 2) := dk_21 5 (dk_at dksX1_skill_2 18 rfl rfl)
theorem dX1_skill_67 : decode cX1_skill 67 = .ok (.ireturn, 1) := dk_172 (dk_at dksX1_skill_2 20 rfl rfl)
abbrev cX1_isTeam : ByteArray := prog_1_method_2_code
def yX1_isTeam : MethodName := ⟨RX1, "isTeam", "(I)Z"⟩
def dkwX1_isTeam_0 : List UInt8 := [26, 153, 0, 8, 26, 4, 160, 0, 7, 4, 167, 0, 4, 3, 172]
abbrev dktX1_isTeam_0 : List UInt8 := dkwX1_isTeam_0 ++ []
theorem dksX1_isTeam_0 : cX1_isTeam.data.toList.drop 0 = dktX1_isTeam_0 := by decide +kernel
theorem dX1_isTeam_0 : decode cX1_isTeam 0 = .ok (.iload_n 0, 1) := dk_26 (dk_at dksX1_isTeam_0 0 rfl rfl)
theorem dX1_isTeam_1 : decode cX1_isTeam 1 = .ok (.ifCond .eq 8, 3) := dk_153 0 8 (dk_at dksX1_isTeam_0 1 rfl rfl)
theorem dX1_isTeam_4 : decode cX1_isTeam 4 = .ok (.iload_n 0, 1) := dk_26 (dk_at dksX1_isTeam_0 4 rfl rfl)
theorem dX1_isTeam_5 : decode cX1_isTeam 5 = .ok (.iconst 1, 1) := dk_4 (dk_at dksX1_isTeam_0 5 rfl rfl)
theorem dX1_isTeam_6 : decode cX1_isTeam 6 = .ok (.if_icmp .ne 7, 3) := dk_160 0 7 (dk_at dksX1_isTeam_0 6 rfl rfl)
theorem dX1_isTeam_9 : decode cX1_isTeam 9 = .ok (.iconst 1, 1) := dk_4 (dk_at dksX1_isTeam_0 9 rfl rfl)
theorem dX1_isTeam_10 : decode cX1_isTeam 10 = .ok (.goto 4, 3) := dk_167 0 4 (dk_at dksX1_isTeam_0 10 rfl rfl)
theorem dX1_isTeam_13 : decode cX1_isTeam 13 = .ok (.iconst 0, 1) := dk_3 (dk_at dksX1_isTeam_0 13 rfl rfl)
theorem dX1_isTeam_14 : decode cX1_isTeam 14 = .ok (.ireturn, 1) := dk_172 (dk_at dksX1_isTeam_0 14 rfl rfl)
abbrev cX1_isPlayer : ByteArray := prog_1_method_3_code
def yX1_isPlayer : MethodName := ⟨RX1, "isPlayer", "(I)Z"⟩
def dkwX1_isPlayer_0 : List UInt8 := [26, 133, 9, 20, 0, 3, 184, 0, 5, 172]
abbrev dktX1_isPlayer_0 : List UInt8 := dkwX1_isPlayer_0 ++ []
theorem dksX1_isPlayer_0 : cX1_isPlayer.data.toList.drop 0 = dktX1_isPlayer_0 := by decide +kernel
theorem dX1_isPlayer_0 : decode cX1_isPlayer 0 = .ok (.iload_n 0, 1) := dk_26 (dk_at dksX1_isPlayer_0 0 rfl rfl)
theorem dX1_isPlayer_1 : decode cX1_isPlayer 1 = .ok (.i2l, 1) := dk_133 (dk_at dksX1_isPlayer_0 1 rfl rfl)
theorem dX1_isPlayer_2 : decode cX1_isPlayer 2 = .ok (.lconst 0, 1) := dk_9 (dk_at dksX1_isPlayer_0 2 rfl rfl)
theorem dX1_isPlayer_3 : decode cX1_isPlayer 3 = .ok (.ldc2_w 3, 3) := dk_20 0 3 (dk_at dksX1_isPlayer_0 3 rfl rfl)
theorem dX1_isPlayer_6 : decode cX1_isPlayer 6 = .ok (.invokestatic 5, 3) := dk_184 0 5 (dk_at dksX1_isPlayer_0 6 rfl rfl)
theorem dX1_isPlayer_9 : decode cX1_isPlayer 9 = .ok (.ireturn, 1) := dk_172 (dk_at dksX1_isPlayer_0 9 rfl rfl)
abbrev cX1_in : ByteArray := prog_1_method_1_code
def yX1_in : MethodName := ⟨RX1, "in", "(JJJ)Z"⟩
def dkwX1_in_0 : List UInt8 := [30, 32, 148, 155, 0, 14, 30, 22, 4, 148, 157, 0, 7, 4, 167, 0, 4, 3, 172]
abbrev dktX1_in_0 : List UInt8 := dkwX1_in_0 ++ []
theorem dksX1_in_0 : cX1_in.data.toList.drop 0 = dktX1_in_0 := by decide +kernel
theorem dX1_in_0 : decode cX1_in 0 = .ok (.lload_n 0, 1) := dk_30 (dk_at dksX1_in_0 0 rfl rfl)
theorem dX1_in_1 : decode cX1_in 1 = .ok (.lload_n 2, 1) := dk_32 (dk_at dksX1_in_0 1 rfl rfl)
theorem dX1_in_2 : decode cX1_in 2 = .ok (.lcmp, 1) := dk_148 (dk_at dksX1_in_0 2 rfl rfl)
theorem dX1_in_3 : decode cX1_in 3 = .ok (.ifCond .lt 14, 3) := dk_155 0 14 (dk_at dksX1_in_0 3 rfl rfl)
theorem dX1_in_6 : decode cX1_in 6 = .ok (.lload_n 0, 1) := dk_30 (dk_at dksX1_in_0 6 rfl rfl)
theorem dX1_in_7 : decode cX1_in 7 = .ok (.lload 4, 2) := dk_22 4 (dk_at dksX1_in_0 7 rfl rfl)
theorem dX1_in_9 : decode cX1_in 9 = .ok (.lcmp, 1) := dk_148 (dk_at dksX1_in_0 9 rfl rfl)
theorem dX1_in_10 : decode cX1_in 10 = .ok (.ifCond .gt 7, 3) := dk_157 0 7 (dk_at dksX1_in_0 10 rfl rfl)
theorem dX1_in_13 : decode cX1_in 13 = .ok (.iconst 1, 1) := dk_4 (dk_at dksX1_in_0 13 rfl rfl)
theorem dX1_in_14 : decode cX1_in 14 = .ok (.goto 4, 3) := dk_167 0 4 (dk_at dksX1_in_0 14 rfl rfl)
theorem dX1_in_17 : decode cX1_in 17 = .ok (.iconst 0, 1) := dk_3 (dk_at dksX1_in_0 17 rfl rfl)
theorem dX1_in_18 : decode cX1_in 18 = .ok (.ireturn, 1) := dk_172 (dk_at dksX1_in_0 18 rfl rfl)
abbrev cX1_libre : ByteArray := prog_1_method_7_code
def yX1_libre : MethodName := ⟨RX1, "libre", "(II)I"⟩
def dkwX1_libre_2 : List UInt8 := [50, 28, 181, 0, 85, 29, 172]
abbrev dktX1_libre_2 : List UInt8 := dkwX1_libre_2 ++ []
def dkwX1_libre_1 : List UInt8 := [180, 0, 81, 153, 0, 6, 16, 254, 172, 42, 180, 0, 20, 27, 50, 180, 0, 85, 62, 42, 180, 0, 20, 27]
abbrev dktX1_libre_1 : List UInt8 := dkwX1_libre_1 ++ dktX1_libre_2
def dkwX1_libre_0 : List UInt8 := [27, 184, 0, 68, 153, 0, 24, 28, 133, 20, 0, 79, 20, 0, 3, 184, 0, 5, 153, 0, 10, 42]
abbrev dktX1_libre_0 : List UInt8 := dkwX1_libre_0 ++ dktX1_libre_1
theorem dksX1_libre_0 : cX1_libre.data.toList.drop 0 = dktX1_libre_0 := by decide +kernel
theorem dksX1_libre_1 : cX1_libre.data.toList.drop 22 = dktX1_libre_1 := dk_seg dksX1_libre_0 22 rfl rfl
theorem dksX1_libre_2 : cX1_libre.data.toList.drop 46 = dktX1_libre_2 := dk_seg dksX1_libre_1 24 rfl rfl
theorem dX1_libre_0 : decode cX1_libre 0 = .ok (.iload_n 1, 1) := dk_27 (dk_at dksX1_libre_0 0 rfl rfl)
theorem dX1_libre_1 : decode cX1_libre 1 = .ok (.invokestatic 68, 3) := dk_184 0 68 (dk_at dksX1_libre_0 1 rfl rfl)
theorem dX1_libre_4 : decode cX1_libre 4 = .ok (.ifCond .eq 24, 3) := dk_153 0 24 (dk_at dksX1_libre_0 4 rfl rfl)
theorem dX1_libre_7 : decode cX1_libre 7 = .ok (.iload_n 2, 1) := dk_28 (dk_at dksX1_libre_0 7 rfl rfl)
theorem dX1_libre_8 : decode cX1_libre 8 = .ok (.i2l, 1) := dk_133 (dk_at dksX1_libre_0 8 rfl rfl)
theorem dX1_libre_9 : decode cX1_libre 9 = .ok (.ldc2_w 79, 3) := dk_20 0 79 (dk_at dksX1_libre_0 9 rfl rfl)
theorem dX1_libre_12 : decode cX1_libre 12 = .ok (.ldc2_w 3, 3) := dk_20 0 3 (dk_at dksX1_libre_0 12 rfl rfl)
theorem dX1_libre_15 : decode cX1_libre 15 = .ok (.invokestatic 5, 3) := dk_184 0 5 (dk_at dksX1_libre_0 15 rfl rfl)
theorem dX1_libre_18 : decode cX1_libre 18 = .ok (.ifCond .eq 10, 3) := dk_153 0 10 (dk_at dksX1_libre_0 18 rfl rfl)
theorem dX1_libre_21 : decode cX1_libre 21 = .ok (.aload_n 0, 1) := dk_42 (dk_at dksX1_libre_0 21 rfl rfl)
theorem dX1_libre_22 : decode cX1_libre 22 = .ok (.getfield 81, 3) := dk_180 0 81 (dk_at dksX1_libre_1 0 rfl rfl)
theorem dX1_libre_25 : decode cX1_libre 25 = .ok (.ifCond .eq 6, 3) := dk_153 0 6 (dk_at dksX1_libre_1 3 rfl rfl)
theorem dX1_libre_28 : decode cX1_libre 28 = .ok (.bipush (-2), 2) := dk_16 254 (dk_at dksX1_libre_1 6 rfl rfl)
theorem dX1_libre_30 : decode cX1_libre 30 = .ok (.ireturn, 1) := dk_172 (dk_at dksX1_libre_1 8 rfl rfl)
theorem dX1_libre_31 : decode cX1_libre 31 = .ok (.aload_n 0, 1) := dk_42 (dk_at dksX1_libre_1 9 rfl rfl)
theorem dX1_libre_32 : decode cX1_libre 32 = .ok (.getfield 20, 3) := dk_180 0 20 (dk_at dksX1_libre_1 10 rfl rfl)
theorem dX1_libre_35 : decode cX1_libre 35 = .ok (.iload_n 1, 1) := dk_27 (dk_at dksX1_libre_1 13 rfl rfl)
theorem dX1_libre_36 : decode cX1_libre 36 = .ok (.aaload, 1) := dk_50 (dk_at dksX1_libre_1 14 rfl rfl)
theorem dX1_libre_37 : decode cX1_libre 37 = .ok (.getfield 85, 3) := dk_180 0 85 (dk_at dksX1_libre_1 15 rfl rfl)
theorem dX1_libre_40 : decode cX1_libre 40 = .ok (.istore_n 3, 1) := dk_62 (dk_at dksX1_libre_1 18 rfl rfl)
theorem dX1_libre_41 : decode cX1_libre 41 = .ok (.aload_n 0, 1) := dk_42 (dk_at dksX1_libre_1 19 rfl rfl)
theorem dX1_libre_42 : decode cX1_libre 42 = .ok (.getfield 20, 3) := dk_180 0 20 (dk_at dksX1_libre_1 20 rfl rfl)
theorem dX1_libre_45 : decode cX1_libre 45 = .ok (.iload_n 1, 1) := dk_27 (dk_at dksX1_libre_1 23 rfl rfl)
theorem dX1_libre_46 : decode cX1_libre 46 = .ok (.aaload, 1) := dk_50 (dk_at dksX1_libre_2 0 rfl rfl)
theorem dX1_libre_47 : decode cX1_libre 47 = .ok (.iload_n 2, 1) := dk_28 (dk_at dksX1_libre_2 1 rfl rfl)
theorem dX1_libre_48 : decode cX1_libre 48 = .ok (.putfield 85, 3) := dk_181 0 85 (dk_at dksX1_libre_2 2 rfl rfl)
theorem dX1_libre_51 : decode cX1_libre 51 = .ok (.iload_n 3, 1) := dk_29 (dk_at dksX1_libre_2 5 rfl rfl)
theorem dX1_libre_52 : decode cX1_libre 52 = .ok (.ireturn, 1) := dk_172 (dk_at dksX1_libre_2 6 rfl rfl)
abbrev cX1_set : ByteArray := prog_1_method_8_code
def yX1_set : MethodName := ⟨RX1, "set", "(II)I"⟩
def dkwX1_set_3 : List UInt8 := [172, 42, 180, 0, 32, 27, 46, 62, 42, 180, 0, 32, 27, 28, 79, 29, 172]
abbrev dktX1_set_3 : List UInt8 := dkwX1_set_3 ++ []
def dkwX1_set_2 : List UInt8 := [180, 0, 32, 4, 46, 163, 0, 18, 27, 4, 160, 0, 15, 28, 42, 180, 0, 32, 3, 46, 162, 0, 5, 2]
abbrev dktX1_set_2 : List UInt8 := dkwX1_set_2 ++ dktX1_set_3
def dkwX1_set_1 : List UInt8 := [46, 133, 184, 0, 5, 153, 0, 10, 42, 180, 0, 36, 155, 0, 5, 2, 172, 27, 154, 0, 13, 28, 42]
abbrev dktX1_set_1 : List UInt8 := dkwX1_set_1 ++ dktX1_set_2
def dkwX1_set_0 : List UInt8 := [27, 133, 9, 20, 0, 9, 184, 0, 5, 153, 0, 30, 28, 133, 178, 0, 88, 27, 46, 133, 178, 0, 91, 27]
abbrev dktX1_set_0 : List UInt8 := dkwX1_set_0 ++ dktX1_set_1
theorem dksX1_set_0 : cX1_set.data.toList.drop 0 = dktX1_set_0 := by decide +kernel
theorem dksX1_set_1 : cX1_set.data.toList.drop 24 = dktX1_set_1 := dk_seg dksX1_set_0 24 rfl rfl
theorem dksX1_set_2 : cX1_set.data.toList.drop 47 = dktX1_set_2 := dk_seg dksX1_set_1 23 rfl rfl
theorem dksX1_set_3 : cX1_set.data.toList.drop 71 = dktX1_set_3 := dk_seg dksX1_set_2 24 rfl rfl
theorem dX1_set_0 : decode cX1_set 0 = .ok (.iload_n 1, 1) := dk_27 (dk_at dksX1_set_0 0 rfl rfl)
theorem dX1_set_1 : decode cX1_set 1 = .ok (.i2l, 1) := dk_133 (dk_at dksX1_set_0 1 rfl rfl)
theorem dX1_set_2 : decode cX1_set 2 = .ok (.lconst 0, 1) := dk_9 (dk_at dksX1_set_0 2 rfl rfl)
theorem dX1_set_3 : decode cX1_set 3 = .ok (.ldc2_w 9, 3) := dk_20 0 9 (dk_at dksX1_set_0 3 rfl rfl)
theorem dX1_set_6 : decode cX1_set 6 = .ok (.invokestatic 5, 3) := dk_184 0 5 (dk_at dksX1_set_0 6 rfl rfl)
theorem dX1_set_9 : decode cX1_set 9 = .ok (.ifCond .eq 30, 3) := dk_153 0 30 (dk_at dksX1_set_0 9 rfl rfl)
theorem dX1_set_12 : decode cX1_set 12 = .ok (.iload_n 2, 1) := dk_28 (dk_at dksX1_set_0 12 rfl rfl)
theorem dX1_set_13 : decode cX1_set 13 = .ok (.i2l, 1) := dk_133 (dk_at dksX1_set_0 13 rfl rfl)
theorem dX1_set_14 : decode cX1_set 14 = .ok (.getstatic 88, 3) := dk_178 0 88 (dk_at dksX1_set_0 14 rfl rfl)
theorem dX1_set_17 : decode cX1_set 17 = .ok (.iload_n 1, 1) := dk_27 (dk_at dksX1_set_0 17 rfl rfl)
theorem dX1_set_18 : decode cX1_set 18 = .ok (.iaload, 1) := dk_46 (dk_at dksX1_set_0 18 rfl rfl)
theorem dX1_set_19 : decode cX1_set 19 = .ok (.i2l, 1) := dk_133 (dk_at dksX1_set_0 19 rfl rfl)
theorem dX1_set_20 : decode cX1_set 20 = .ok (.getstatic 91, 3) := dk_178 0 91 (dk_at dksX1_set_0 20 rfl rfl)
theorem dX1_set_23 : decode cX1_set 23 = .ok (.iload_n 1, 1) := dk_27 (dk_at dksX1_set_0 23 rfl rfl)
theorem dX1_set_24 : decode cX1_set 24 = .ok (.iaload, 1) := dk_46 (dk_at dksX1_set_1 0 rfl rfl)
theorem dX1_set_25 : decode cX1_set 25 = .ok (.i2l, 1) := dk_133 (dk_at dksX1_set_1 1 rfl rfl)
theorem dX1_set_26 : decode cX1_set 26 = .ok (.invokestatic 5, 3) := dk_184 0 5 (dk_at dksX1_set_1 2 rfl rfl)
theorem dX1_set_29 : decode cX1_set 29 = .ok (.ifCond .eq 10, 3) := dk_153 0 10 (dk_at dksX1_set_1 5 rfl rfl)
theorem dX1_set_32 : decode cX1_set 32 = .ok (.aload_n 0, 1) := dk_42 (dk_at dksX1_set_1 8 rfl rfl)
theorem dX1_set_33 : decode cX1_set 33 = .ok (.getfield 36, 3) := dk_180 0 36 (dk_at dksX1_set_1 9 rfl rfl)
theorem dX1_set_36 : decode cX1_set 36 = .ok (.ifCond .lt 5, 3) := dk_155 0 5 (dk_at dksX1_set_1 12 rfl rfl)
theorem dX1_set_39 : decode cX1_set 39 = .ok (.iconst (-1), 1) := dk_2 (dk_at dksX1_set_1 15 rfl rfl)
theorem dX1_set_40 : decode cX1_set 40 = .ok (.ireturn, 1) := dk_172 (dk_at dksX1_set_1 16 rfl rfl)
theorem dX1_set_41 : decode cX1_set 41 = .ok (.iload_n 1, 1) := dk_27 (dk_at dksX1_set_1 17 rfl rfl)
theorem dX1_set_42 : decode cX1_set 42 = .ok (.ifCond .ne 13, 3) := dk_154 0 13 (dk_at dksX1_set_1 18 rfl rfl)
theorem dX1_set_45 : decode cX1_set 45 = .ok (.iload_n 2, 1) := dk_28 (dk_at dksX1_set_1 21 rfl rfl)
theorem dX1_set_46 : decode cX1_set 46 = .ok (.aload_n 0, 1) := dk_42 (dk_at dksX1_set_1 22 rfl rfl)
theorem dX1_set_47 : decode cX1_set 47 = .ok (.getfield 32, 3) := dk_180 0 32 (dk_at dksX1_set_2 0 rfl rfl)
theorem dX1_set_50 : decode cX1_set 50 = .ok (.iconst 1, 1) := dk_4 (dk_at dksX1_set_2 3 rfl rfl)
theorem dX1_set_51 : decode cX1_set 51 = .ok (.iaload, 1) := dk_46 (dk_at dksX1_set_2 4 rfl rfl)
theorem dX1_set_52 : decode cX1_set 52 = .ok (.if_icmp .gt 18, 3) := dk_163 0 18 (dk_at dksX1_set_2 5 rfl rfl)
theorem dX1_set_55 : decode cX1_set 55 = .ok (.iload_n 1, 1) := dk_27 (dk_at dksX1_set_2 8 rfl rfl)
theorem dX1_set_56 : decode cX1_set 56 = .ok (.iconst 1, 1) := dk_4 (dk_at dksX1_set_2 9 rfl rfl)
theorem dX1_set_57 : decode cX1_set 57 = .ok (.if_icmp .ne 15, 3) := dk_160 0 15 (dk_at dksX1_set_2 10 rfl rfl)
theorem dX1_set_60 : decode cX1_set 60 = .ok (.iload_n 2, 1) := dk_28 (dk_at dksX1_set_2 13 rfl rfl)
theorem dX1_set_61 : decode cX1_set 61 = .ok (.aload_n 0, 1) := dk_42 (dk_at dksX1_set_2 14 rfl rfl)
theorem dX1_set_62 : decode cX1_set 62 = .ok (.getfield 32, 3) := dk_180 0 32 (dk_at dksX1_set_2 15 rfl rfl)
theorem dX1_set_65 : decode cX1_set 65 = .ok (.iconst 0, 1) := dk_3 (dk_at dksX1_set_2 18 rfl rfl)
theorem dX1_set_66 : decode cX1_set 66 = .ok (.iaload, 1) := dk_46 (dk_at dksX1_set_2 19 rfl rfl)
theorem dX1_set_67 : decode cX1_set 67 = .ok (.if_icmp .ge 5, 3) := dk_162 0 5 (dk_at dksX1_set_2 20 rfl rfl)
theorem dX1_set_70 : decode cX1_set 70 = .ok (.iconst (-1), 1) := dk_2 (dk_at dksX1_set_2 23 rfl rfl)
theorem dX1_set_71 : decode cX1_set 71 = .ok (.ireturn, 1) := dk_172 (dk_at dksX1_set_3 0 rfl rfl)
theorem dX1_set_72 : decode cX1_set 72 = .ok (.aload_n 0, 1) := dk_42 (dk_at dksX1_set_3 1 rfl rfl)
theorem dX1_set_73 : decode cX1_set 73 = .ok (.getfield 32, 3) := dk_180 0 32 (dk_at dksX1_set_3 2 rfl rfl)
theorem dX1_set_76 : decode cX1_set 76 = .ok (.iload_n 1, 1) := dk_27 (dk_at dksX1_set_3 5 rfl rfl)
theorem dX1_set_77 : decode cX1_set 77 = .ok (.iaload, 1) := dk_46 (dk_at dksX1_set_3 6 rfl rfl)
theorem dX1_set_78 : decode cX1_set 78 = .ok (.istore_n 3, 1) := dk_62 (dk_at dksX1_set_3 7 rfl rfl)
theorem dX1_set_79 : decode cX1_set 79 = .ok (.aload_n 0, 1) := dk_42 (dk_at dksX1_set_3 8 rfl rfl)
theorem dX1_set_80 : decode cX1_set 80 = .ok (.getfield 32, 3) := dk_180 0 32 (dk_at dksX1_set_3 9 rfl rfl)
theorem dX1_set_83 : decode cX1_set 83 = .ok (.iload_n 1, 1) := dk_27 (dk_at dksX1_set_3 12 rfl rfl)
theorem dX1_set_84 : decode cX1_set 84 = .ok (.iload_n 2, 1) := dk_28 (dk_at dksX1_set_3 13 rfl rfl)
theorem dX1_set_85 : decode cX1_set 85 = .ok (.iastore, 1) := dk_79 (dk_at dksX1_set_3 14 rfl rfl)
theorem dX1_set_86 : decode cX1_set 86 = .ok (.iload_n 3, 1) := dk_29 (dk_at dksX1_set_3 15 rfl rfl)
theorem dX1_set_87 : decode cX1_set 87 = .ok (.ireturn, 1) := dk_172 (dk_at dksX1_set_3 16 rfl rfl)
abbrev cX1_lineUp : ByteArray := prog_1_method_9_code
def yX1_lineUp : MethodName := ⟨RX1, "lineUp", "(IIIIIII)Z"⟩
def dkwX1_lineUp_6 : List UInt8 := [50, 180, 0, 94, 3, 16, 6, 184, 0, 97, 42, 180, 0, 20, 27, 50, 4, 181, 0, 103, 4, 172]
abbrev dktX1_lineUp_6 : List UInt8 := dkwX1_lineUp_6 ++ []
def dkwX1_lineUp_5 : List UInt8 := [172, 21, 9, 4, 21, 13, 120, 128, 54, 9, 132, 12, 1, 167, 255, 195, 25, 8, 3, 42, 180, 0, 20, 27]
abbrev dktX1_lineUp_5 : List UInt8 := dkwX1_lineUp_5 ++ dktX1_lineUp_6
def dkwX1_lineUp_4 : List UInt8 := [42, 180, 0, 20, 27, 50, 180, 0, 85, 159, 0, 14, 21, 9, 21, 13, 122, 4, 126, 4, 160, 0, 5, 3]
abbrev dktX1_lineUp_4 : List UInt8 := dkwX1_lineUp_4 ++ dktX1_lineUp_5
def dkwX1_lineUp_3 : List UInt8 := [21, 12, 21, 11, 162, 0, 60, 25, 10, 21, 12, 46, 54, 13, 21, 13, 184, 0, 72, 153, 0, 28, 21, 13]
abbrev dktX1_lineUp_3 : List UInt8 := dkwX1_lineUp_3 ++ dktX1_lineUp_4
def dkwX1_lineUp_2 : List UInt8 := [42, 180, 0, 43, 155, 0, 5, 3, 172, 3, 54, 9, 25, 8, 58, 10, 25, 10, 190, 54, 11, 3, 54, 12]
abbrev dktX1_lineUp_2 : List UInt8 := dkwX1_lineUp_2 ++ dktX1_lineUp_3
def dkwX1_lineUp_1 : List UInt8 := [21, 6, 79, 89, 8, 21, 7, 79, 58, 8, 27, 184, 0, 68, 153, 0, 17, 42, 180, 0, 81, 154, 0, 10]
abbrev dktX1_lineUp_1 : List UInt8 := dkwX1_lineUp_1 ++ dktX1_lineUp_2
def dkwX1_lineUp_0 : List UInt8 := [16, 6, 188, 10, 89, 3, 28, 79, 89, 4, 29, 79, 89, 5, 21, 4, 79, 89, 6, 21, 5, 79, 89, 7]
abbrev dktX1_lineUp_0 : List UInt8 := dkwX1_lineUp_0 ++ dktX1_lineUp_1
theorem dksX1_lineUp_0 : cX1_lineUp.data.toList.drop 0 = dktX1_lineUp_0 := by decide +kernel
theorem dksX1_lineUp_1 : cX1_lineUp.data.toList.drop 24 = dktX1_lineUp_1 := dk_seg dksX1_lineUp_0 24 rfl rfl
theorem dksX1_lineUp_2 : cX1_lineUp.data.toList.drop 48 = dktX1_lineUp_2 := dk_seg dksX1_lineUp_1 24 rfl rfl
theorem dksX1_lineUp_3 : cX1_lineUp.data.toList.drop 72 = dktX1_lineUp_3 := dk_seg dksX1_lineUp_2 24 rfl rfl
theorem dksX1_lineUp_4 : cX1_lineUp.data.toList.drop 96 = dktX1_lineUp_4 := dk_seg dksX1_lineUp_3 24 rfl rfl
theorem dksX1_lineUp_5 : cX1_lineUp.data.toList.drop 120 = dktX1_lineUp_5 := dk_seg dksX1_lineUp_4 24 rfl rfl
theorem dksX1_lineUp_6 : cX1_lineUp.data.toList.drop 144 = dktX1_lineUp_6 := dk_seg dksX1_lineUp_5 24 rfl rfl
theorem dX1_lineUp_0 : decode cX1_lineUp 0 = .ok (.bipush 6, 2) := dk_16 6 (dk_at dksX1_lineUp_0 0 rfl rfl)
theorem dX1_lineUp_2 : decode cX1_lineUp 2 = .ok (.newarray .int, 2) := dk_188_10 (dk_at dksX1_lineUp_0 2 rfl rfl)
theorem dX1_lineUp_4 : decode cX1_lineUp 4 = .ok (.dup, 1) := dk_89 (dk_at dksX1_lineUp_0 4 rfl rfl)
theorem dX1_lineUp_5 : decode cX1_lineUp 5 = .ok (.iconst 0, 1) := dk_3 (dk_at dksX1_lineUp_0 5 rfl rfl)
theorem dX1_lineUp_6 : decode cX1_lineUp 6 = .ok (.iload_n 2, 1) := dk_28 (dk_at dksX1_lineUp_0 6 rfl rfl)
theorem dX1_lineUp_7 : decode cX1_lineUp 7 = .ok (.iastore, 1) := dk_79 (dk_at dksX1_lineUp_0 7 rfl rfl)
theorem dX1_lineUp_8 : decode cX1_lineUp 8 = .ok (.dup, 1) := dk_89 (dk_at dksX1_lineUp_0 8 rfl rfl)
theorem dX1_lineUp_9 : decode cX1_lineUp 9 = .ok (.iconst 1, 1) := dk_4 (dk_at dksX1_lineUp_0 9 rfl rfl)
theorem dX1_lineUp_10 : decode cX1_lineUp 10 = .ok (.iload_n 3, 1) := dk_29 (dk_at dksX1_lineUp_0 10 rfl rfl)
theorem dX1_lineUp_11 : decode cX1_lineUp 11 = .ok (.iastore, 1) := dk_79 (dk_at dksX1_lineUp_0 11 rfl rfl)
theorem dX1_lineUp_12 : decode cX1_lineUp 12 = .ok (.dup, 1) := dk_89 (dk_at dksX1_lineUp_0 12 rfl rfl)
theorem dX1_lineUp_13 : decode cX1_lineUp 13 = .ok (.iconst 2, 1) := dk_5 (dk_at dksX1_lineUp_0 13 rfl rfl)
theorem dX1_lineUp_14 : decode cX1_lineUp 14 = .ok (.iload 4, 2) := dk_21 4 (dk_at dksX1_lineUp_0 14 rfl rfl)
theorem dX1_lineUp_16 : decode cX1_lineUp 16 = .ok (.iastore, 1) := dk_79 (dk_at dksX1_lineUp_0 16 rfl rfl)
theorem dX1_lineUp_17 : decode cX1_lineUp 17 = .ok (.dup, 1) := dk_89 (dk_at dksX1_lineUp_0 17 rfl rfl)
theorem dX1_lineUp_18 : decode cX1_lineUp 18 = .ok (.iconst 3, 1) := dk_6 (dk_at dksX1_lineUp_0 18 rfl rfl)
theorem dX1_lineUp_19 : decode cX1_lineUp 19 = .ok (.iload 5, 2) := dk_21 5 (dk_at dksX1_lineUp_0 19 rfl rfl)
theorem dX1_lineUp_21 : decode cX1_lineUp 21 = .ok (.iastore, 1) := dk_79 (dk_at dksX1_lineUp_0 21 rfl rfl)
theorem dX1_lineUp_22 : decode cX1_lineUp 22 = .ok (.dup, 1) := dk_89 (dk_at dksX1_lineUp_0 22 rfl rfl)
theorem dX1_lineUp_23 : decode cX1_lineUp 23 = .ok (.iconst 4, 1) := dk_7 (dk_at dksX1_lineUp_0 23 rfl rfl)
theorem dX1_lineUp_24 : decode cX1_lineUp 24 = .ok (.iload 6, 2) := dk_21 6 (dk_at dksX1_lineUp_1 0 rfl rfl)
theorem dX1_lineUp_26 : decode cX1_lineUp 26 = .ok (.iastore, 1) := dk_79 (dk_at dksX1_lineUp_1 2 rfl rfl)
theorem dX1_lineUp_27 : decode cX1_lineUp 27 = .ok (.dup, 1) := dk_89 (dk_at dksX1_lineUp_1 3 rfl rfl)
theorem dX1_lineUp_28 : decode cX1_lineUp 28 = .ok (.iconst 5, 1) := dk_8 (dk_at dksX1_lineUp_1 4 rfl rfl)
theorem dX1_lineUp_29 : decode cX1_lineUp 29 = .ok (.iload 7, 2) := dk_21 7 (dk_at dksX1_lineUp_1 5 rfl rfl)
theorem dX1_lineUp_31 : decode cX1_lineUp 31 = .ok (.iastore, 1) := dk_79 (dk_at dksX1_lineUp_1 7 rfl rfl)
theorem dX1_lineUp_32 : decode cX1_lineUp 32 = .ok (.astore 8, 2) := dk_58 8 (dk_at dksX1_lineUp_1 8 rfl rfl)
theorem dX1_lineUp_34 : decode cX1_lineUp 34 = .ok (.iload_n 1, 1) := dk_27 (dk_at dksX1_lineUp_1 10 rfl rfl)
theorem dX1_lineUp_35 : decode cX1_lineUp 35 = .ok (.invokestatic 68, 3) := dk_184 0 68 (dk_at dksX1_lineUp_1 11 rfl rfl)
theorem dX1_lineUp_38 : decode cX1_lineUp 38 = .ok (.ifCond .eq 17, 3) := dk_153 0 17 (dk_at dksX1_lineUp_1 14 rfl rfl)
theorem dX1_lineUp_41 : decode cX1_lineUp 41 = .ok (.aload_n 0, 1) := dk_42 (dk_at dksX1_lineUp_1 17 rfl rfl)
theorem dX1_lineUp_42 : decode cX1_lineUp 42 = .ok (.getfield 81, 3) := dk_180 0 81 (dk_at dksX1_lineUp_1 18 rfl rfl)
theorem dX1_lineUp_45 : decode cX1_lineUp 45 = .ok (.ifCond .ne 10, 3) := dk_154 0 10 (dk_at dksX1_lineUp_1 21 rfl rfl)
theorem dX1_lineUp_48 : decode cX1_lineUp 48 = .ok (.aload_n 0, 1) := dk_42 (dk_at dksX1_lineUp_2 0 rfl rfl)
theorem dX1_lineUp_49 : decode cX1_lineUp 49 = .ok (.getfield 43, 3) := dk_180 0 43 (dk_at dksX1_lineUp_2 1 rfl rfl)
theorem dX1_lineUp_52 : decode cX1_lineUp 52 = .ok (.ifCond .lt 5, 3) := dk_155 0 5 (dk_at dksX1_lineUp_2 4 rfl rfl)
theorem dX1_lineUp_55 : decode cX1_lineUp 55 = .ok (.iconst 0, 1) := dk_3 (dk_at dksX1_lineUp_2 7 rfl rfl)
theorem dX1_lineUp_56 : decode cX1_lineUp 56 = .ok (.ireturn, 1) := dk_172 (dk_at dksX1_lineUp_2 8 rfl rfl)
theorem dX1_lineUp_57 : decode cX1_lineUp 57 = .ok (.iconst 0, 1) := dk_3 (dk_at dksX1_lineUp_2 9 rfl rfl)
theorem dX1_lineUp_58 : decode cX1_lineUp 58 = .ok (.istore 9, 2) := dk_54 9 (dk_at dksX1_lineUp_2 10 rfl rfl)
theorem dX1_lineUp_60 : decode cX1_lineUp 60 = .ok (.aload 8, 2) := dk_25 8 (dk_at dksX1_lineUp_2 12 rfl rfl)
theorem dX1_lineUp_62 : decode cX1_lineUp 62 = .ok (.astore 10, 2) := dk_58 10 (dk_at dksX1_lineUp_2 14 rfl rfl)
theorem dX1_lineUp_64 : decode cX1_lineUp 64 = .ok (.aload 10, 2) := dk_25 10 (dk_at dksX1_lineUp_2 16 rfl rfl)
theorem dX1_lineUp_66 : decode cX1_lineUp 66 = .ok (.arraylength, 1) := dk_190 (dk_at dksX1_lineUp_2 18 rfl rfl)
theorem dX1_lineUp_67 : decode cX1_lineUp 67 = .ok (.istore 11, 2) := dk_54 11 (dk_at dksX1_lineUp_2 19 rfl rfl)
theorem dX1_lineUp_69 : decode cX1_lineUp 69 = .ok (.iconst 0, 1) := dk_3 (dk_at dksX1_lineUp_2 21 rfl rfl)
theorem dX1_lineUp_70 : decode cX1_lineUp 70 = .ok (.istore 12, 2) := dk_54 12 (dk_at dksX1_lineUp_2 22 rfl rfl)
theorem dX1_lineUp_72 : decode cX1_lineUp 72 = .ok (.iload 12, 2) := dk_21 12 (dk_at dksX1_lineUp_3 0 rfl rfl)
theorem dX1_lineUp_74 : decode cX1_lineUp 74 = .ok (.iload 11, 2) := dk_21 11 (dk_at dksX1_lineUp_3 2 rfl rfl)
theorem dX1_lineUp_76 : decode cX1_lineUp 76 = .ok (.if_icmp .ge 60, 3) := dk_162 0 60 (dk_at dksX1_lineUp_3 4 rfl rfl)
theorem dX1_lineUp_79 : decode cX1_lineUp 79 = .ok (.aload 10, 2) := dk_25 10 (dk_at dksX1_lineUp_3 7 rfl rfl)
theorem dX1_lineUp_81 : decode cX1_lineUp 81 = .ok (.iload 12, 2) := dk_21 12 (dk_at dksX1_lineUp_3 9 rfl rfl)
theorem dX1_lineUp_83 : decode cX1_lineUp 83 = .ok (.iaload, 1) := dk_46 (dk_at dksX1_lineUp_3 11 rfl rfl)
theorem dX1_lineUp_84 : decode cX1_lineUp 84 = .ok (.istore 13, 2) := dk_54 13 (dk_at dksX1_lineUp_3 12 rfl rfl)
theorem dX1_lineUp_86 : decode cX1_lineUp 86 = .ok (.iload 13, 2) := dk_21 13 (dk_at dksX1_lineUp_3 14 rfl rfl)
theorem dX1_lineUp_88 : decode cX1_lineUp 88 = .ok (.invokestatic 72, 3) := dk_184 0 72 (dk_at dksX1_lineUp_3 16 rfl rfl)
theorem dX1_lineUp_91 : decode cX1_lineUp 91 = .ok (.ifCond .eq 28, 3) := dk_153 0 28 (dk_at dksX1_lineUp_3 19 rfl rfl)
theorem dX1_lineUp_94 : decode cX1_lineUp 94 = .ok (.iload 13, 2) := dk_21 13 (dk_at dksX1_lineUp_3 22 rfl rfl)
theorem dX1_lineUp_96 : decode cX1_lineUp 96 = .ok (.aload_n 0, 1) := dk_42 (dk_at dksX1_lineUp_4 0 rfl rfl)
theorem dX1_lineUp_97 : decode cX1_lineUp 97 = .ok (.getfield 20, 3) := dk_180 0 20 (dk_at dksX1_lineUp_4 1 rfl rfl)
theorem dX1_lineUp_100 : decode cX1_lineUp 100 = .ok (.iload_n 1, 1) := dk_27 (dk_at dksX1_lineUp_4 4 rfl rfl)
theorem dX1_lineUp_101 : decode cX1_lineUp 101 = .ok (.aaload, 1) := dk_50 (dk_at dksX1_lineUp_4 5 rfl rfl)
theorem dX1_lineUp_102 : decode cX1_lineUp 102 = .ok (.getfield 85, 3) := dk_180 0 85 (dk_at dksX1_lineUp_4 6 rfl rfl)
theorem dX1_lineUp_105 : decode cX1_lineUp 105 = .ok (.if_icmp .eq 14, 3) := dk_159 0 14 (dk_at dksX1_lineUp_4 9 rfl rfl)
theorem dX1_lineUp_108 : decode cX1_lineUp 108 = .ok (.iload 9, 2) := dk_21 9 (dk_at dksX1_lineUp_4 12 rfl rfl)
theorem dX1_lineUp_110 : decode cX1_lineUp 110 = .ok (.iload 13, 2) := dk_21 13 (dk_at dksX1_lineUp_4 14 rfl rfl)
theorem dX1_lineUp_112 : decode cX1_lineUp 112 = .ok (.ishr, 1) := dk_122 (dk_at dksX1_lineUp_4 16 rfl rfl)
theorem dX1_lineUp_113 : decode cX1_lineUp 113 = .ok (.iconst 1, 1) := dk_4 (dk_at dksX1_lineUp_4 17 rfl rfl)
theorem dX1_lineUp_114 : decode cX1_lineUp 114 = .ok (.iand, 1) := dk_126 (dk_at dksX1_lineUp_4 18 rfl rfl)
theorem dX1_lineUp_115 : decode cX1_lineUp 115 = .ok (.iconst 1, 1) := dk_4 (dk_at dksX1_lineUp_4 19 rfl rfl)
theorem dX1_lineUp_116 : decode cX1_lineUp 116 = .ok (.if_icmp .ne 5, 3) := dk_160 0 5 (dk_at dksX1_lineUp_4 20 rfl rfl)
theorem dX1_lineUp_119 : decode cX1_lineUp 119 = .ok (.iconst 0, 1) := dk_3 (dk_at dksX1_lineUp_4 23 rfl rfl)
theorem dX1_lineUp_120 : decode cX1_lineUp 120 = .ok (.ireturn, 1) := dk_172 (dk_at dksX1_lineUp_5 0 rfl rfl)
theorem dX1_lineUp_121 : decode cX1_lineUp 121 = .ok (.iload 9, 2) := dk_21 9 (dk_at dksX1_lineUp_5 1 rfl rfl)
theorem dX1_lineUp_123 : decode cX1_lineUp 123 = .ok (.iconst 1, 1) := dk_4 (dk_at dksX1_lineUp_5 3 rfl rfl)
theorem dX1_lineUp_124 : decode cX1_lineUp 124 = .ok (.iload 13, 2) := dk_21 13 (dk_at dksX1_lineUp_5 4 rfl rfl)
theorem dX1_lineUp_126 : decode cX1_lineUp 126 = .ok (.ishl, 1) := dk_120 (dk_at dksX1_lineUp_5 6 rfl rfl)
theorem dX1_lineUp_127 : decode cX1_lineUp 127 = .ok (.ior, 1) := dk_128 (dk_at dksX1_lineUp_5 7 rfl rfl)
theorem dX1_lineUp_128 : decode cX1_lineUp 128 = .ok (.istore 9, 2) := dk_54 9 (dk_at dksX1_lineUp_5 8 rfl rfl)
theorem dX1_lineUp_130 : decode cX1_lineUp 130 = .ok (.iinc 12 1, 3) := dk_132 12 1 (dk_at dksX1_lineUp_5 10 rfl rfl)
theorem dX1_lineUp_133 : decode cX1_lineUp 133 = .ok (.goto (-61), 3) := dk_167 255 195 (dk_at dksX1_lineUp_5 13 rfl rfl)
theorem dX1_lineUp_136 : decode cX1_lineUp 136 = .ok (.aload 8, 2) := dk_25 8 (dk_at dksX1_lineUp_5 16 rfl rfl)
theorem dX1_lineUp_138 : decode cX1_lineUp 138 = .ok (.iconst 0, 1) := dk_3 (dk_at dksX1_lineUp_5 18 rfl rfl)
theorem dX1_lineUp_139 : decode cX1_lineUp 139 = .ok (.aload_n 0, 1) := dk_42 (dk_at dksX1_lineUp_5 19 rfl rfl)
theorem dX1_lineUp_140 : decode cX1_lineUp 140 = .ok (.getfield 20, 3) := dk_180 0 20 (dk_at dksX1_lineUp_5 20 rfl rfl)
theorem dX1_lineUp_143 : decode cX1_lineUp 143 = .ok (.iload_n 1, 1) := dk_27 (dk_at dksX1_lineUp_5 23 rfl rfl)
theorem dX1_lineUp_144 : decode cX1_lineUp 144 = .ok (.aaload, 1) := dk_50 (dk_at dksX1_lineUp_6 0 rfl rfl)
theorem dX1_lineUp_145 : decode cX1_lineUp 145 = .ok (.getfield 94, 3) := dk_180 0 94 (dk_at dksX1_lineUp_6 1 rfl rfl)
theorem dX1_lineUp_148 : decode cX1_lineUp 148 = .ok (.iconst 0, 1) := dk_3 (dk_at dksX1_lineUp_6 4 rfl rfl)
theorem dX1_lineUp_149 : decode cX1_lineUp 149 = .ok (.bipush 6, 2) := dk_16 6 (dk_at dksX1_lineUp_6 5 rfl rfl)
theorem dX1_lineUp_151 : decode cX1_lineUp 151 = .ok (.invokestatic 97, 3) := dk_184 0 97 (dk_at dksX1_lineUp_6 7 rfl rfl)
theorem dX1_lineUp_154 : decode cX1_lineUp 154 = .ok (.aload_n 0, 1) := dk_42 (dk_at dksX1_lineUp_6 10 rfl rfl)
theorem dX1_lineUp_155 : decode cX1_lineUp 155 = .ok (.getfield 20, 3) := dk_180 0 20 (dk_at dksX1_lineUp_6 11 rfl rfl)
theorem dX1_lineUp_158 : decode cX1_lineUp 158 = .ok (.iload_n 1, 1) := dk_27 (dk_at dksX1_lineUp_6 14 rfl rfl)
theorem dX1_lineUp_159 : decode cX1_lineUp 159 = .ok (.aaload, 1) := dk_50 (dk_at dksX1_lineUp_6 15 rfl rfl)
theorem dX1_lineUp_160 : decode cX1_lineUp 160 = .ok (.iconst 1, 1) := dk_4 (dk_at dksX1_lineUp_6 16 rfl rfl)
theorem dX1_lineUp_161 : decode cX1_lineUp 161 = .ok (.putfield 103, 3) := dk_181 0 103 (dk_at dksX1_lineUp_6 17 rfl rfl)
theorem dX1_lineUp_164 : decode cX1_lineUp 164 = .ok (.iconst 1, 1) := dk_4 (dk_at dksX1_lineUp_6 20 rfl rfl)
theorem dX1_lineUp_165 : decode cX1_lineUp 165 = .ok (.ireturn, 1) := dk_172 (dk_at dksX1_lineUp_6 21 rfl rfl)
abbrev cX1_begin : ByteArray := prog_1_method_11_code
def yX1_begin : MethodName := ⟨RX1, "begin", "(I)I"⟩
def dkwX1_begin_5 : List UInt8 := [181, 0, 119, 42, 2, 181, 0, 46, 42, 180, 0, 36, 172]
abbrev dktX1_begin_5 : List UInt8 := dkwX1_begin_5 ++ []
def dkwX1_begin_4 : List UInt8 := [132, 4, 1, 167, 255, 236, 42, 4, 181, 0, 81, 42, 27, 181, 0, 40, 42, 3, 181, 0, 116, 42, 3]
abbrev dktX1_begin_4 : List UInt8 := dkwX1_begin_4 ++ dktX1_begin_5
def dkwX1_begin_3 : List UInt8 := [190, 62, 3, 54, 4, 21, 4, 29, 162, 0, 20, 44, 21, 4, 50, 58, 5, 25, 5, 182, 0, 113]
abbrev dktX1_begin_3 : List UInt8 := dkwX1_begin_3 ++ dktX1_begin_4
def dkwX1_begin_2 : List UInt8 := [182, 0, 110, 153, 0, 5, 2, 172, 42, 89, 180, 0, 36, 4, 96, 181, 0, 36, 42, 180, 0, 20, 77, 44]
abbrev dktX1_begin_2 : List UInt8 := dkwX1_begin_2 ++ dktX1_begin_3
def dkwX1_begin_1 : List UInt8 := [182, 0, 106, 153, 0, 27, 42, 180, 0, 20, 3, 50, 182, 0, 110, 154, 0, 15, 42, 180, 0, 20, 4, 50]
abbrev dktX1_begin_1 : List UInt8 := dkwX1_begin_1 ++ dktX1_begin_2
def dkwX1_begin_0 : List UInt8 := [27, 184, 0, 68, 153, 0, 48, 42, 180, 0, 81, 154, 0, 41, 42, 180, 0, 43, 156, 0, 34, 42]
abbrev dktX1_begin_0 : List UInt8 := dkwX1_begin_0 ++ dktX1_begin_1
theorem dksX1_begin_0 : cX1_begin.data.toList.drop 0 = dktX1_begin_0 := by decide +kernel
theorem dksX1_begin_1 : cX1_begin.data.toList.drop 22 = dktX1_begin_1 := dk_seg dksX1_begin_0 22 rfl rfl
theorem dksX1_begin_2 : cX1_begin.data.toList.drop 46 = dktX1_begin_2 := dk_seg dksX1_begin_1 24 rfl rfl
theorem dksX1_begin_3 : cX1_begin.data.toList.drop 70 = dktX1_begin_3 := dk_seg dksX1_begin_2 24 rfl rfl
theorem dksX1_begin_4 : cX1_begin.data.toList.drop 92 = dktX1_begin_4 := dk_seg dksX1_begin_3 22 rfl rfl
theorem dksX1_begin_5 : cX1_begin.data.toList.drop 115 = dktX1_begin_5 := dk_seg dksX1_begin_4 23 rfl rfl
theorem dX1_begin_0 : decode cX1_begin 0 = .ok (.iload_n 1, 1) := dk_27 (dk_at dksX1_begin_0 0 rfl rfl)
theorem dX1_begin_1 : decode cX1_begin 1 = .ok (.invokestatic 68, 3) := dk_184 0 68 (dk_at dksX1_begin_0 1 rfl rfl)
theorem dX1_begin_4 : decode cX1_begin 4 = .ok (.ifCond .eq 48, 3) := dk_153 0 48 (dk_at dksX1_begin_0 4 rfl rfl)
theorem dX1_begin_7 : decode cX1_begin 7 = .ok (.aload_n 0, 1) := dk_42 (dk_at dksX1_begin_0 7 rfl rfl)
theorem dX1_begin_8 : decode cX1_begin 8 = .ok (.getfield 81, 3) := dk_180 0 81 (dk_at dksX1_begin_0 8 rfl rfl)
theorem dX1_begin_11 : decode cX1_begin 11 = .ok (.ifCond .ne 41, 3) := dk_154 0 41 (dk_at dksX1_begin_0 11 rfl rfl)
theorem dX1_begin_14 : decode cX1_begin 14 = .ok (.aload_n 0, 1) := dk_42 (dk_at dksX1_begin_0 14 rfl rfl)
theorem dX1_begin_15 : decode cX1_begin 15 = .ok (.getfield 43, 3) := dk_180 0 43 (dk_at dksX1_begin_0 15 rfl rfl)
theorem dX1_begin_18 : decode cX1_begin 18 = .ok (.ifCond .ge 34, 3) := dk_156 0 34 (dk_at dksX1_begin_0 18 rfl rfl)
theorem dX1_begin_21 : decode cX1_begin 21 = .ok (.aload_n 0, 1) := dk_42 (dk_at dksX1_begin_0 21 rfl rfl)
theorem dX1_begin_22 : decode cX1_begin 22 = .ok (.invokevirtual 106, 3) := dk_182 0 106 (dk_at dksX1_begin_1 0 rfl rfl)
theorem dX1_begin_25 : decode cX1_begin 25 = .ok (.ifCond .eq 27, 3) := dk_153 0 27 (dk_at dksX1_begin_1 3 rfl rfl)
theorem dX1_begin_28 : decode cX1_begin 28 = .ok (.aload_n 0, 1) := dk_42 (dk_at dksX1_begin_1 6 rfl rfl)
theorem dX1_begin_29 : decode cX1_begin 29 = .ok (.getfield 20, 3) := dk_180 0 20 (dk_at dksX1_begin_1 7 rfl rfl)
theorem dX1_begin_32 : decode cX1_begin 32 = .ok (.iconst 0, 1) := dk_3 (dk_at dksX1_begin_1 10 rfl rfl)
theorem dX1_begin_33 : decode cX1_begin 33 = .ok (.aaload, 1) := dk_50 (dk_at dksX1_begin_1 11 rfl rfl)
theorem dX1_begin_34 : decode cX1_begin 34 = .ok (.invokevirtual 110, 3) := dk_182 0 110 (dk_at dksX1_begin_1 12 rfl rfl)
theorem dX1_begin_37 : decode cX1_begin 37 = .ok (.ifCond .ne 15, 3) := dk_154 0 15 (dk_at dksX1_begin_1 15 rfl rfl)
theorem dX1_begin_40 : decode cX1_begin 40 = .ok (.aload_n 0, 1) := dk_42 (dk_at dksX1_begin_1 18 rfl rfl)
theorem dX1_begin_41 : decode cX1_begin 41 = .ok (.getfield 20, 3) := dk_180 0 20 (dk_at dksX1_begin_1 19 rfl rfl)
theorem dX1_begin_44 : decode cX1_begin 44 = .ok (.iconst 1, 1) := dk_4 (dk_at dksX1_begin_1 22 rfl rfl)
theorem dX1_begin_45 : decode cX1_begin 45 = .ok (.aaload, 1) := dk_50 (dk_at dksX1_begin_1 23 rfl rfl)
theorem dX1_begin_46 : decode cX1_begin 46 = .ok (.invokevirtual 110, 3) := dk_182 0 110 (dk_at dksX1_begin_2 0 rfl rfl)
theorem dX1_begin_49 : decode cX1_begin 49 = .ok (.ifCond .eq 5, 3) := dk_153 0 5 (dk_at dksX1_begin_2 3 rfl rfl)
theorem dX1_begin_52 : decode cX1_begin 52 = .ok (.iconst (-1), 1) := dk_2 (dk_at dksX1_begin_2 6 rfl rfl)
theorem dX1_begin_53 : decode cX1_begin 53 = .ok (.ireturn, 1) := dk_172 (dk_at dksX1_begin_2 7 rfl rfl)
theorem dX1_begin_54 : decode cX1_begin 54 = .ok (.aload_n 0, 1) := dk_42 (dk_at dksX1_begin_2 8 rfl rfl)
theorem dX1_begin_55 : decode cX1_begin 55 = .ok (.dup, 1) := dk_89 (dk_at dksX1_begin_2 9 rfl rfl)
theorem dX1_begin_56 : decode cX1_begin 56 = .ok (.getfield 36, 3) := dk_180 0 36 (dk_at dksX1_begin_2 10 rfl rfl)
theorem dX1_begin_59 : decode cX1_begin 59 = .ok (.iconst 1, 1) := dk_4 (dk_at dksX1_begin_2 13 rfl rfl)
theorem dX1_begin_60 : decode cX1_begin 60 = .ok (.iadd, 1) := dk_96 (dk_at dksX1_begin_2 14 rfl rfl)
theorem dX1_begin_61 : decode cX1_begin 61 = .ok (.putfield 36, 3) := dk_181 0 36 (dk_at dksX1_begin_2 15 rfl rfl)
theorem dX1_begin_64 : decode cX1_begin 64 = .ok (.aload_n 0, 1) := dk_42 (dk_at dksX1_begin_2 18 rfl rfl)
theorem dX1_begin_65 : decode cX1_begin 65 = .ok (.getfield 20, 3) := dk_180 0 20 (dk_at dksX1_begin_2 19 rfl rfl)
theorem dX1_begin_68 : decode cX1_begin 68 = .ok (.astore_n 2, 1) := dk_77 (dk_at dksX1_begin_2 22 rfl rfl)
theorem dX1_begin_69 : decode cX1_begin 69 = .ok (.aload_n 2, 1) := dk_44 (dk_at dksX1_begin_2 23 rfl rfl)
theorem dX1_begin_70 : decode cX1_begin 70 = .ok (.arraylength, 1) := dk_190 (dk_at dksX1_begin_3 0 rfl rfl)
theorem dX1_begin_71 : decode cX1_begin 71 = .ok (.istore_n 3, 1) := dk_62 (dk_at dksX1_begin_3 1 rfl rfl)
theorem dX1_begin_72 : decode cX1_begin 72 = .ok (.iconst 0, 1) := dk_3 (dk_at dksX1_begin_3 2 rfl rfl)
theorem dX1_begin_73 : decode cX1_begin 73 = .ok (.istore 4, 2) := dk_54 4 (dk_at dksX1_begin_3 3 rfl rfl)
theorem dX1_begin_75 : decode cX1_begin 75 = .ok (.iload 4, 2) := dk_21 4 (dk_at dksX1_begin_3 5 rfl rfl)
theorem dX1_begin_77 : decode cX1_begin 77 = .ok (.iload_n 3, 1) := dk_29 (dk_at dksX1_begin_3 7 rfl rfl)
theorem dX1_begin_78 : decode cX1_begin 78 = .ok (.if_icmp .ge 20, 3) := dk_162 0 20 (dk_at dksX1_begin_3 8 rfl rfl)
theorem dX1_begin_81 : decode cX1_begin 81 = .ok (.aload_n 2, 1) := dk_44 (dk_at dksX1_begin_3 11 rfl rfl)
theorem dX1_begin_82 : decode cX1_begin 82 = .ok (.iload 4, 2) := dk_21 4 (dk_at dksX1_begin_3 12 rfl rfl)
theorem dX1_begin_84 : decode cX1_begin 84 = .ok (.aaload, 1) := dk_50 (dk_at dksX1_begin_3 14 rfl rfl)
theorem dX1_begin_85 : decode cX1_begin 85 = .ok (.astore 5, 2) := dk_58 5 (dk_at dksX1_begin_3 15 rfl rfl)
theorem dX1_begin_87 : decode cX1_begin 87 = .ok (.aload 5, 2) := dk_25 5 (dk_at dksX1_begin_3 17 rfl rfl)
theorem dX1_begin_89 : decode cX1_begin 89 = .ok (.invokevirtual 113, 3) := dk_182 0 113 (dk_at dksX1_begin_3 19 rfl rfl)
theorem dX1_begin_92 : decode cX1_begin 92 = .ok (.iinc 4 1, 3) := dk_132 4 1 (dk_at dksX1_begin_4 0 rfl rfl)
theorem dX1_begin_95 : decode cX1_begin 95 = .ok (.goto (-20), 3) := dk_167 255 236 (dk_at dksX1_begin_4 3 rfl rfl)
theorem dX1_begin_98 : decode cX1_begin 98 = .ok (.aload_n 0, 1) := dk_42 (dk_at dksX1_begin_4 6 rfl rfl)
theorem dX1_begin_99 : decode cX1_begin 99 = .ok (.iconst 1, 1) := dk_4 (dk_at dksX1_begin_4 7 rfl rfl)
theorem dX1_begin_100 : decode cX1_begin 100 = .ok (.putfield 81, 3) := dk_181 0 81 (dk_at dksX1_begin_4 8 rfl rfl)
theorem dX1_begin_103 : decode cX1_begin 103 = .ok (.aload_n 0, 1) := dk_42 (dk_at dksX1_begin_4 11 rfl rfl)
theorem dX1_begin_104 : decode cX1_begin 104 = .ok (.iload_n 1, 1) := dk_27 (dk_at dksX1_begin_4 12 rfl rfl)
theorem dX1_begin_105 : decode cX1_begin 105 = .ok (.putfield 40, 3) := dk_181 0 40 (dk_at dksX1_begin_4 13 rfl rfl)
theorem dX1_begin_108 : decode cX1_begin 108 = .ok (.aload_n 0, 1) := dk_42 (dk_at dksX1_begin_4 16 rfl rfl)
theorem dX1_begin_109 : decode cX1_begin 109 = .ok (.iconst 0, 1) := dk_3 (dk_at dksX1_begin_4 17 rfl rfl)
theorem dX1_begin_110 : decode cX1_begin 110 = .ok (.putfield 116, 3) := dk_181 0 116 (dk_at dksX1_begin_4 18 rfl rfl)
theorem dX1_begin_113 : decode cX1_begin 113 = .ok (.aload_n 0, 1) := dk_42 (dk_at dksX1_begin_4 21 rfl rfl)
theorem dX1_begin_114 : decode cX1_begin 114 = .ok (.iconst 0, 1) := dk_3 (dk_at dksX1_begin_4 22 rfl rfl)
theorem dX1_begin_115 : decode cX1_begin 115 = .ok (.putfield 119, 3) := dk_181 0 119 (dk_at dksX1_begin_5 0 rfl rfl)
theorem dX1_begin_118 : decode cX1_begin 118 = .ok (.aload_n 0, 1) := dk_42 (dk_at dksX1_begin_5 3 rfl rfl)
theorem dX1_begin_119 : decode cX1_begin 119 = .ok (.iconst (-1), 1) := dk_2 (dk_at dksX1_begin_5 4 rfl rfl)
theorem dX1_begin_120 : decode cX1_begin 120 = .ok (.putfield 46, 3) := dk_181 0 46 (dk_at dksX1_begin_5 5 rfl rfl)
theorem dX1_begin_123 : decode cX1_begin 123 = .ok (.aload_n 0, 1) := dk_42 (dk_at dksX1_begin_5 8 rfl rfl)
theorem dX1_begin_124 : decode cX1_begin 124 = .ok (.getfield 36, 3) := dk_180 0 36 (dk_at dksX1_begin_5 9 rfl rfl)
theorem dX1_begin_127 : decode cX1_begin 127 = .ok (.ireturn, 1) := dk_172 (dk_at dksX1_begin_5 12 rfl rfl)
abbrev cX1_areTold : ByteArray := prog_1_method_10_code
def yX1_areTold : MethodName := ⟨RX1, "areTold", "()Z"⟩
def dkwX1_areTold_1 : List UInt8 := [4, 167, 0, 4, 3, 172]
abbrev dktX1_areTold_1 : List UInt8 := dkwX1_areTold_1 ++ []
def dkwX1_areTold_0 : List UInt8 := [42, 180, 0, 20, 3, 50, 180, 0, 103, 153, 0, 19, 42, 180, 0, 20, 4, 50, 180, 0, 103, 153, 0, 7]
abbrev dktX1_areTold_0 : List UInt8 := dkwX1_areTold_0 ++ dktX1_areTold_1
theorem dksX1_areTold_0 : cX1_areTold.data.toList.drop 0 = dktX1_areTold_0 := by decide +kernel
theorem dksX1_areTold_1 : cX1_areTold.data.toList.drop 24 = dktX1_areTold_1 := dk_seg dksX1_areTold_0 24 rfl rfl
theorem dX1_areTold_0 : decode cX1_areTold 0 = .ok (.aload_n 0, 1) := dk_42 (dk_at dksX1_areTold_0 0 rfl rfl)
theorem dX1_areTold_1 : decode cX1_areTold 1 = .ok (.getfield 20, 3) := dk_180 0 20 (dk_at dksX1_areTold_0 1 rfl rfl)
theorem dX1_areTold_4 : decode cX1_areTold 4 = .ok (.iconst 0, 1) := dk_3 (dk_at dksX1_areTold_0 4 rfl rfl)
theorem dX1_areTold_5 : decode cX1_areTold 5 = .ok (.aaload, 1) := dk_50 (dk_at dksX1_areTold_0 5 rfl rfl)
theorem dX1_areTold_6 : decode cX1_areTold 6 = .ok (.getfield 103, 3) := dk_180 0 103 (dk_at dksX1_areTold_0 6 rfl rfl)
theorem dX1_areTold_9 : decode cX1_areTold 9 = .ok (.ifCond .eq 19, 3) := dk_153 0 19 (dk_at dksX1_areTold_0 9 rfl rfl)
theorem dX1_areTold_12 : decode cX1_areTold 12 = .ok (.aload_n 0, 1) := dk_42 (dk_at dksX1_areTold_0 12 rfl rfl)
theorem dX1_areTold_13 : decode cX1_areTold 13 = .ok (.getfield 20, 3) := dk_180 0 20 (dk_at dksX1_areTold_0 13 rfl rfl)
theorem dX1_areTold_16 : decode cX1_areTold 16 = .ok (.iconst 1, 1) := dk_4 (dk_at dksX1_areTold_0 16 rfl rfl)
theorem dX1_areTold_17 : decode cX1_areTold 17 = .ok (.aaload, 1) := dk_50 (dk_at dksX1_areTold_0 17 rfl rfl)
theorem dX1_areTold_18 : decode cX1_areTold 18 = .ok (.getfield 103, 3) := dk_180 0 103 (dk_at dksX1_areTold_0 18 rfl rfl)
theorem dX1_areTold_21 : decode cX1_areTold 21 = .ok (.ifCond .eq 7, 3) := dk_153 0 7 (dk_at dksX1_areTold_0 21 rfl rfl)
theorem dX1_areTold_24 : decode cX1_areTold 24 = .ok (.iconst 1, 1) := dk_4 (dk_at dksX1_areTold_1 0 rfl rfl)
theorem dX1_areTold_25 : decode cX1_areTold 25 = .ok (.goto 4, 3) := dk_167 0 4 (dk_at dksX1_areTold_1 1 rfl rfl)
theorem dX1_areTold_28 : decode cX1_areTold 28 = .ok (.iconst 0, 1) := dk_3 (dk_at dksX1_areTold_1 4 rfl rfl)
theorem dX1_areTold_29 : decode cX1_areTold 29 = .ok (.ireturn, 1) := dk_172 (dk_at dksX1_areTold_1 5 rfl rfl)
abbrev cX1_rally : ByteArray := prog_1_method_16_code
def yX1_rally : MethodName := ⟨RX1, "rally", "(I)I"⟩
def dkwX1_rally_2 : List UInt8 := [79, 42, 27, 182, 0, 148, 172]
abbrev dktX1_rally_2 : List UInt8 := dkwX1_rally_2 ++ []
def dkwX1_rally_1 : List UInt8 := [42, 180, 0, 20, 27, 50, 180, 0, 142, 42, 180, 0, 20, 27, 50, 180, 0, 145, 3, 46, 92, 46, 4, 96]
abbrev dktX1_rally_1 : List UInt8 := dkwX1_rally_1 ++ dktX1_rally_2
def dkwX1_rally_0 : List UInt8 := [27, 184, 0, 68, 153, 0, 10, 42, 180, 0, 81, 154, 0, 5, 2, 172, 42, 180, 0, 40, 27, 160, 0, 28]
abbrev dktX1_rally_0 : List UInt8 := dkwX1_rally_0 ++ dktX1_rally_1
theorem dksX1_rally_0 : cX1_rally.data.toList.drop 0 = dktX1_rally_0 := by decide +kernel
theorem dksX1_rally_1 : cX1_rally.data.toList.drop 24 = dktX1_rally_1 := dk_seg dksX1_rally_0 24 rfl rfl
theorem dksX1_rally_2 : cX1_rally.data.toList.drop 48 = dktX1_rally_2 := dk_seg dksX1_rally_1 24 rfl rfl
theorem dX1_rally_0 : decode cX1_rally 0 = .ok (.iload_n 1, 1) := dk_27 (dk_at dksX1_rally_0 0 rfl rfl)
theorem dX1_rally_1 : decode cX1_rally 1 = .ok (.invokestatic 68, 3) := dk_184 0 68 (dk_at dksX1_rally_0 1 rfl rfl)
theorem dX1_rally_4 : decode cX1_rally 4 = .ok (.ifCond .eq 10, 3) := dk_153 0 10 (dk_at dksX1_rally_0 4 rfl rfl)
theorem dX1_rally_7 : decode cX1_rally 7 = .ok (.aload_n 0, 1) := dk_42 (dk_at dksX1_rally_0 7 rfl rfl)
theorem dX1_rally_8 : decode cX1_rally 8 = .ok (.getfield 81, 3) := dk_180 0 81 (dk_at dksX1_rally_0 8 rfl rfl)
theorem dX1_rally_11 : decode cX1_rally 11 = .ok (.ifCond .ne 5, 3) := dk_154 0 5 (dk_at dksX1_rally_0 11 rfl rfl)
theorem dX1_rally_14 : decode cX1_rally 14 = .ok (.iconst (-1), 1) := dk_2 (dk_at dksX1_rally_0 14 rfl rfl)
theorem dX1_rally_15 : decode cX1_rally 15 = .ok (.ireturn, 1) := dk_172 (dk_at dksX1_rally_0 15 rfl rfl)
theorem dX1_rally_16 : decode cX1_rally 16 = .ok (.aload_n 0, 1) := dk_42 (dk_at dksX1_rally_0 16 rfl rfl)
theorem dX1_rally_17 : decode cX1_rally 17 = .ok (.getfield 40, 3) := dk_180 0 40 (dk_at dksX1_rally_0 17 rfl rfl)
theorem dX1_rally_20 : decode cX1_rally 20 = .ok (.iload_n 1, 1) := dk_27 (dk_at dksX1_rally_0 20 rfl rfl)
theorem dX1_rally_21 : decode cX1_rally 21 = .ok (.if_icmp .ne 28, 3) := dk_160 0 28 (dk_at dksX1_rally_0 21 rfl rfl)
theorem dX1_rally_24 : decode cX1_rally 24 = .ok (.aload_n 0, 1) := dk_42 (dk_at dksX1_rally_1 0 rfl rfl)
theorem dX1_rally_25 : decode cX1_rally 25 = .ok (.getfield 20, 3) := dk_180 0 20 (dk_at dksX1_rally_1 1 rfl rfl)
theorem dX1_rally_28 : decode cX1_rally 28 = .ok (.iload_n 1, 1) := dk_27 (dk_at dksX1_rally_1 4 rfl rfl)
theorem dX1_rally_29 : decode cX1_rally 29 = .ok (.aaload, 1) := dk_50 (dk_at dksX1_rally_1 5 rfl rfl)
theorem dX1_rally_30 : decode cX1_rally 30 = .ok (.getfield 142, 3) := dk_180 0 142 (dk_at dksX1_rally_1 6 rfl rfl)
theorem dX1_rally_33 : decode cX1_rally 33 = .ok (.aload_n 0, 1) := dk_42 (dk_at dksX1_rally_1 9 rfl rfl)
theorem dX1_rally_34 : decode cX1_rally 34 = .ok (.getfield 20, 3) := dk_180 0 20 (dk_at dksX1_rally_1 10 rfl rfl)
theorem dX1_rally_37 : decode cX1_rally 37 = .ok (.iload_n 1, 1) := dk_27 (dk_at dksX1_rally_1 13 rfl rfl)
theorem dX1_rally_38 : decode cX1_rally 38 = .ok (.aaload, 1) := dk_50 (dk_at dksX1_rally_1 14 rfl rfl)
theorem dX1_rally_39 : decode cX1_rally 39 = .ok (.getfield 145, 3) := dk_180 0 145 (dk_at dksX1_rally_1 15 rfl rfl)
theorem dX1_rally_42 : decode cX1_rally 42 = .ok (.iconst 0, 1) := dk_3 (dk_at dksX1_rally_1 18 rfl rfl)
theorem dX1_rally_43 : decode cX1_rally 43 = .ok (.iaload, 1) := dk_46 (dk_at dksX1_rally_1 19 rfl rfl)
theorem dX1_rally_44 : decode cX1_rally 44 = .ok (.dup2, 1) := dk_92 (dk_at dksX1_rally_1 20 rfl rfl)
theorem dX1_rally_45 : decode cX1_rally 45 = .ok (.iaload, 1) := dk_46 (dk_at dksX1_rally_1 21 rfl rfl)
theorem dX1_rally_46 : decode cX1_rally 46 = .ok (.iconst 1, 1) := dk_4 (dk_at dksX1_rally_1 22 rfl rfl)
theorem dX1_rally_47 : decode cX1_rally 47 = .ok (.iadd, 1) := dk_96 (dk_at dksX1_rally_1 23 rfl rfl)
theorem dX1_rally_48 : decode cX1_rally 48 = .ok (.iastore, 1) := dk_79 (dk_at dksX1_rally_2 0 rfl rfl)
theorem dX1_rally_49 : decode cX1_rally 49 = .ok (.aload_n 0, 1) := dk_42 (dk_at dksX1_rally_2 1 rfl rfl)
theorem dX1_rally_50 : decode cX1_rally 50 = .ok (.iload_n 1, 1) := dk_27 (dk_at dksX1_rally_2 2 rfl rfl)
theorem dX1_rally_51 : decode cX1_rally 51 = .ok (.invokevirtual 148, 3) := dk_182 0 148 (dk_at dksX1_rally_2 3 rfl rfl)
theorem dX1_rally_54 : decode cX1_rally 54 = .ok (.ireturn, 1) := dk_172 (dk_at dksX1_rally_2 6 rfl rfl)
abbrev cX1_won : ByteArray := prog_1_method_15_code
def yX1_won : MethodName := ⟨RX1, "won", "(I)I"⟩
def dkwX1_won_2 : List UInt8 := [42, 3, 181, 0, 119, 42, 27, 181, 0, 40, 42, 180, 0, 20, 27, 50, 182, 0, 136, 42, 182, 0, 139, 172]
abbrev dktX1_won_2 : List UInt8 := dkwX1_won_2 ++ []
def dkwX1_won_1 : List UInt8 := [181, 0, 116, 42, 180, 0, 40, 27, 160, 0, 16, 42, 89, 180, 0, 119, 4, 96, 181, 0, 119, 167, 0, 22]
abbrev dktX1_won_1 : List UInt8 := dkwX1_won_1 ++ dktX1_won_2
def dkwX1_won_0 : List UInt8 := [42, 180, 0, 20, 27, 50, 89, 180, 0, 129, 4, 96, 181, 0, 129, 42, 89, 180, 0, 116, 4, 96]
abbrev dktX1_won_0 : List UInt8 := dkwX1_won_0 ++ dktX1_won_1
theorem dksX1_won_0 : cX1_won.data.toList.drop 0 = dktX1_won_0 := by decide +kernel
theorem dksX1_won_1 : cX1_won.data.toList.drop 22 = dktX1_won_1 := dk_seg dksX1_won_0 22 rfl rfl
theorem dksX1_won_2 : cX1_won.data.toList.drop 46 = dktX1_won_2 := dk_seg dksX1_won_1 24 rfl rfl
theorem dX1_won_0 : decode cX1_won 0 = .ok (.aload_n 0, 1) := dk_42 (dk_at dksX1_won_0 0 rfl rfl)
theorem dX1_won_1 : decode cX1_won 1 = .ok (.getfield 20, 3) := dk_180 0 20 (dk_at dksX1_won_0 1 rfl rfl)
theorem dX1_won_4 : decode cX1_won 4 = .ok (.iload_n 1, 1) := dk_27 (dk_at dksX1_won_0 4 rfl rfl)
theorem dX1_won_5 : decode cX1_won 5 = .ok (.aaload, 1) := dk_50 (dk_at dksX1_won_0 5 rfl rfl)
theorem dX1_won_6 : decode cX1_won 6 = .ok (.dup, 1) := dk_89 (dk_at dksX1_won_0 6 rfl rfl)
theorem dX1_won_7 : decode cX1_won 7 = .ok (.getfield 129, 3) := dk_180 0 129 (dk_at dksX1_won_0 7 rfl rfl)
theorem dX1_won_10 : decode cX1_won 10 = .ok (.iconst 1, 1) := dk_4 (dk_at dksX1_won_0 10 rfl rfl)
theorem dX1_won_11 : decode cX1_won 11 = .ok (.iadd, 1) := dk_96 (dk_at dksX1_won_0 11 rfl rfl)
theorem dX1_won_12 : decode cX1_won 12 = .ok (.putfield 129, 3) := dk_181 0 129 (dk_at dksX1_won_0 12 rfl rfl)
theorem dX1_won_15 : decode cX1_won 15 = .ok (.aload_n 0, 1) := dk_42 (dk_at dksX1_won_0 15 rfl rfl)
theorem dX1_won_16 : decode cX1_won 16 = .ok (.dup, 1) := dk_89 (dk_at dksX1_won_0 16 rfl rfl)
theorem dX1_won_17 : decode cX1_won 17 = .ok (.getfield 116, 3) := dk_180 0 116 (dk_at dksX1_won_0 17 rfl rfl)
theorem dX1_won_20 : decode cX1_won 20 = .ok (.iconst 1, 1) := dk_4 (dk_at dksX1_won_0 20 rfl rfl)
theorem dX1_won_21 : decode cX1_won 21 = .ok (.iadd, 1) := dk_96 (dk_at dksX1_won_0 21 rfl rfl)
theorem dX1_won_22 : decode cX1_won 22 = .ok (.putfield 116, 3) := dk_181 0 116 (dk_at dksX1_won_1 0 rfl rfl)
theorem dX1_won_25 : decode cX1_won 25 = .ok (.aload_n 0, 1) := dk_42 (dk_at dksX1_won_1 3 rfl rfl)
theorem dX1_won_26 : decode cX1_won 26 = .ok (.getfield 40, 3) := dk_180 0 40 (dk_at dksX1_won_1 4 rfl rfl)
theorem dX1_won_29 : decode cX1_won 29 = .ok (.iload_n 1, 1) := dk_27 (dk_at dksX1_won_1 7 rfl rfl)
theorem dX1_won_30 : decode cX1_won 30 = .ok (.if_icmp .ne 16, 3) := dk_160 0 16 (dk_at dksX1_won_1 8 rfl rfl)
theorem dX1_won_33 : decode cX1_won 33 = .ok (.aload_n 0, 1) := dk_42 (dk_at dksX1_won_1 11 rfl rfl)
theorem dX1_won_34 : decode cX1_won 34 = .ok (.dup, 1) := dk_89 (dk_at dksX1_won_1 12 rfl rfl)
theorem dX1_won_35 : decode cX1_won 35 = .ok (.getfield 119, 3) := dk_180 0 119 (dk_at dksX1_won_1 13 rfl rfl)
theorem dX1_won_38 : decode cX1_won 38 = .ok (.iconst 1, 1) := dk_4 (dk_at dksX1_won_1 16 rfl rfl)
theorem dX1_won_39 : decode cX1_won 39 = .ok (.iadd, 1) := dk_96 (dk_at dksX1_won_1 17 rfl rfl)
theorem dX1_won_40 : decode cX1_won 40 = .ok (.putfield 119, 3) := dk_181 0 119 (dk_at dksX1_won_1 18 rfl rfl)
theorem dX1_won_43 : decode cX1_won 43 = .ok (.goto 22, 3) := dk_167 0 22 (dk_at dksX1_won_1 21 rfl rfl)
theorem dX1_won_46 : decode cX1_won 46 = .ok (.aload_n 0, 1) := dk_42 (dk_at dksX1_won_2 0 rfl rfl)
theorem dX1_won_47 : decode cX1_won 47 = .ok (.iconst 0, 1) := dk_3 (dk_at dksX1_won_2 1 rfl rfl)
theorem dX1_won_48 : decode cX1_won 48 = .ok (.putfield 119, 3) := dk_181 0 119 (dk_at dksX1_won_2 2 rfl rfl)
theorem dX1_won_51 : decode cX1_won 51 = .ok (.aload_n 0, 1) := dk_42 (dk_at dksX1_won_2 5 rfl rfl)
theorem dX1_won_52 : decode cX1_won 52 = .ok (.iload_n 1, 1) := dk_27 (dk_at dksX1_won_2 6 rfl rfl)
theorem dX1_won_53 : decode cX1_won 53 = .ok (.putfield 40, 3) := dk_181 0 40 (dk_at dksX1_won_2 7 rfl rfl)
theorem dX1_won_56 : decode cX1_won 56 = .ok (.aload_n 0, 1) := dk_42 (dk_at dksX1_won_2 10 rfl rfl)
theorem dX1_won_57 : decode cX1_won 57 = .ok (.getfield 20, 3) := dk_180 0 20 (dk_at dksX1_won_2 11 rfl rfl)
theorem dX1_won_60 : decode cX1_won 60 = .ok (.iload_n 1, 1) := dk_27 (dk_at dksX1_won_2 14 rfl rfl)
theorem dX1_won_61 : decode cX1_won 61 = .ok (.aaload, 1) := dk_50 (dk_at dksX1_won_2 15 rfl rfl)
theorem dX1_won_62 : decode cX1_won 62 = .ok (.invokevirtual 136, 3) := dk_182 0 136 (dk_at dksX1_won_2 16 rfl rfl)
theorem dX1_won_65 : decode cX1_won 65 = .ok (.aload_n 0, 1) := dk_42 (dk_at dksX1_won_2 19 rfl rfl)
theorem dX1_won_66 : decode cX1_won 66 = .ok (.invokevirtual 139, 3) := dk_182 0 139 (dk_at dksX1_won_2 20 rfl rfl)
theorem dX1_won_69 : decode cX1_won 69 = .ok (.ireturn, 1) := dk_172 (dk_at dksX1_won_2 23 rfl rfl)
abbrev cX1_ends : ByteArray := prog_1_method_14_code
def yX1_ends : MethodName := ⟨RX1, "ends", "()I"⟩
def dkwX1_ends_4 : List UInt8 := [181, 0, 43, 42, 180, 0, 43, 156, 0, 7, 4, 167, 0, 4, 5, 172, 132, 2, 1, 167, 255, 152, 3, 172]
abbrev dktX1_ends_4 : List UInt8 := dkwX1_ends_4 ++ []
def dkwX1_ends_3 : List UInt8 := [180, 0, 20, 28, 50, 180, 0, 122, 42, 180, 0, 32, 6, 46, 160, 0, 7, 28, 167, 0, 4, 2]
abbrev dktX1_ends_3 : List UInt8 := dkwX1_ends_3 ++ dktX1_ends_4
def dkwX1_ends_2 : List UInt8 := [42, 28, 181, 0, 46, 42, 180, 0, 20, 28, 50, 89, 180, 0, 122, 4, 96, 181, 0, 122, 42, 42]
abbrev dktX1_ends_2 : List UInt8 := dkwX1_ends_2 ++ dktX1_ends_3
def dkwX1_ends_1 : List UInt8 := [180, 0, 20, 4, 28, 100, 50, 180, 0, 129, 182, 0, 132, 154, 0, 6, 167, 0, 68, 42, 3, 181, 0, 81]
abbrev dktX1_ends_1 : List UInt8 := dkwX1_ends_1 ++ dktX1_ends_2
def dkwX1_ends_0 : List UInt8 := [42, 182, 0, 125, 60, 3, 61, 28, 5, 162, 0, 105, 42, 27, 42, 180, 0, 20, 28, 50, 180, 0, 129, 42]
abbrev dktX1_ends_0 : List UInt8 := dkwX1_ends_0 ++ dktX1_ends_1
theorem dksX1_ends_0 : cX1_ends.data.toList.drop 0 = dktX1_ends_0 := by decide +kernel
theorem dksX1_ends_1 : cX1_ends.data.toList.drop 24 = dktX1_ends_1 := dk_seg dksX1_ends_0 24 rfl rfl
theorem dksX1_ends_2 : cX1_ends.data.toList.drop 48 = dktX1_ends_2 := dk_seg dksX1_ends_1 24 rfl rfl
theorem dksX1_ends_3 : cX1_ends.data.toList.drop 70 = dktX1_ends_3 := dk_seg dksX1_ends_2 22 rfl rfl
theorem dksX1_ends_4 : cX1_ends.data.toList.drop 92 = dktX1_ends_4 := dk_seg dksX1_ends_3 22 rfl rfl
theorem dX1_ends_0 : decode cX1_ends 0 = .ok (.aload_n 0, 1) := dk_42 (dk_at dksX1_ends_0 0 rfl rfl)
theorem dX1_ends_1 : decode cX1_ends 1 = .ok (.invokevirtual 125, 3) := dk_182 0 125 (dk_at dksX1_ends_0 1 rfl rfl)
theorem dX1_ends_4 : decode cX1_ends 4 = .ok (.istore_n 1, 1) := dk_60 (dk_at dksX1_ends_0 4 rfl rfl)
theorem dX1_ends_5 : decode cX1_ends 5 = .ok (.iconst 0, 1) := dk_3 (dk_at dksX1_ends_0 5 rfl rfl)
theorem dX1_ends_6 : decode cX1_ends 6 = .ok (.istore_n 2, 1) := dk_61 (dk_at dksX1_ends_0 6 rfl rfl)
theorem dX1_ends_7 : decode cX1_ends 7 = .ok (.iload_n 2, 1) := dk_28 (dk_at dksX1_ends_0 7 rfl rfl)
theorem dX1_ends_8 : decode cX1_ends 8 = .ok (.iconst 2, 1) := dk_5 (dk_at dksX1_ends_0 8 rfl rfl)
theorem dX1_ends_9 : decode cX1_ends 9 = .ok (.if_icmp .ge 105, 3) := dk_162 0 105 (dk_at dksX1_ends_0 9 rfl rfl)
theorem dX1_ends_12 : decode cX1_ends 12 = .ok (.aload_n 0, 1) := dk_42 (dk_at dksX1_ends_0 12 rfl rfl)
theorem dX1_ends_13 : decode cX1_ends 13 = .ok (.iload_n 1, 1) := dk_27 (dk_at dksX1_ends_0 13 rfl rfl)
theorem dX1_ends_14 : decode cX1_ends 14 = .ok (.aload_n 0, 1) := dk_42 (dk_at dksX1_ends_0 14 rfl rfl)
theorem dX1_ends_15 : decode cX1_ends 15 = .ok (.getfield 20, 3) := dk_180 0 20 (dk_at dksX1_ends_0 15 rfl rfl)
theorem dX1_ends_18 : decode cX1_ends 18 = .ok (.iload_n 2, 1) := dk_28 (dk_at dksX1_ends_0 18 rfl rfl)
theorem dX1_ends_19 : decode cX1_ends 19 = .ok (.aaload, 1) := dk_50 (dk_at dksX1_ends_0 19 rfl rfl)
theorem dX1_ends_20 : decode cX1_ends 20 = .ok (.getfield 129, 3) := dk_180 0 129 (dk_at dksX1_ends_0 20 rfl rfl)
theorem dX1_ends_23 : decode cX1_ends 23 = .ok (.aload_n 0, 1) := dk_42 (dk_at dksX1_ends_0 23 rfl rfl)
theorem dX1_ends_24 : decode cX1_ends 24 = .ok (.getfield 20, 3) := dk_180 0 20 (dk_at dksX1_ends_1 0 rfl rfl)
theorem dX1_ends_27 : decode cX1_ends 27 = .ok (.iconst 1, 1) := dk_4 (dk_at dksX1_ends_1 3 rfl rfl)
theorem dX1_ends_28 : decode cX1_ends 28 = .ok (.iload_n 2, 1) := dk_28 (dk_at dksX1_ends_1 4 rfl rfl)
theorem dX1_ends_29 : decode cX1_ends 29 = .ok (.isub, 1) := dk_100 (dk_at dksX1_ends_1 5 rfl rfl)
theorem dX1_ends_30 : decode cX1_ends 30 = .ok (.aaload, 1) := dk_50 (dk_at dksX1_ends_1 6 rfl rfl)
theorem dX1_ends_31 : decode cX1_ends 31 = .ok (.getfield 129, 3) := dk_180 0 129 (dk_at dksX1_ends_1 7 rfl rfl)
theorem dX1_ends_34 : decode cX1_ends 34 = .ok (.invokevirtual 132, 3) := dk_182 0 132 (dk_at dksX1_ends_1 10 rfl rfl)
theorem dX1_ends_37 : decode cX1_ends 37 = .ok (.ifCond .ne 6, 3) := dk_154 0 6 (dk_at dksX1_ends_1 13 rfl rfl)
theorem dX1_ends_40 : decode cX1_ends 40 = .ok (.goto 68, 3) := dk_167 0 68 (dk_at dksX1_ends_1 16 rfl rfl)
theorem dX1_ends_43 : decode cX1_ends 43 = .ok (.aload_n 0, 1) := dk_42 (dk_at dksX1_ends_1 19 rfl rfl)
theorem dX1_ends_44 : decode cX1_ends 44 = .ok (.iconst 0, 1) := dk_3 (dk_at dksX1_ends_1 20 rfl rfl)
theorem dX1_ends_45 : decode cX1_ends 45 = .ok (.putfield 81, 3) := dk_181 0 81 (dk_at dksX1_ends_1 21 rfl rfl)
theorem dX1_ends_48 : decode cX1_ends 48 = .ok (.aload_n 0, 1) := dk_42 (dk_at dksX1_ends_2 0 rfl rfl)
theorem dX1_ends_49 : decode cX1_ends 49 = .ok (.iload_n 2, 1) := dk_28 (dk_at dksX1_ends_2 1 rfl rfl)
theorem dX1_ends_50 : decode cX1_ends 50 = .ok (.putfield 46, 3) := dk_181 0 46 (dk_at dksX1_ends_2 2 rfl rfl)
theorem dX1_ends_53 : decode cX1_ends 53 = .ok (.aload_n 0, 1) := dk_42 (dk_at dksX1_ends_2 5 rfl rfl)
theorem dX1_ends_54 : decode cX1_ends 54 = .ok (.getfield 20, 3) := dk_180 0 20 (dk_at dksX1_ends_2 6 rfl rfl)
theorem dX1_ends_57 : decode cX1_ends 57 = .ok (.iload_n 2, 1) := dk_28 (dk_at dksX1_ends_2 9 rfl rfl)
theorem dX1_ends_58 : decode cX1_ends 58 = .ok (.aaload, 1) := dk_50 (dk_at dksX1_ends_2 10 rfl rfl)
theorem dX1_ends_59 : decode cX1_ends 59 = .ok (.dup, 1) := dk_89 (dk_at dksX1_ends_2 11 rfl rfl)
theorem dX1_ends_60 : decode cX1_ends 60 = .ok (.getfield 122, 3) := dk_180 0 122 (dk_at dksX1_ends_2 12 rfl rfl)
theorem dX1_ends_63 : decode cX1_ends 63 = .ok (.iconst 1, 1) := dk_4 (dk_at dksX1_ends_2 15 rfl rfl)
theorem dX1_ends_64 : decode cX1_ends 64 = .ok (.iadd, 1) := dk_96 (dk_at dksX1_ends_2 16 rfl rfl)
theorem dX1_ends_65 : decode cX1_ends 65 = .ok (.putfield 122, 3) := dk_181 0 122 (dk_at dksX1_ends_2 17 rfl rfl)
theorem dX1_ends_68 : decode cX1_ends 68 = .ok (.aload_n 0, 1) := dk_42 (dk_at dksX1_ends_2 20 rfl rfl)
theorem dX1_ends_69 : decode cX1_ends 69 = .ok (.aload_n 0, 1) := dk_42 (dk_at dksX1_ends_2 21 rfl rfl)
theorem dX1_ends_70 : decode cX1_ends 70 = .ok (.getfield 20, 3) := dk_180 0 20 (dk_at dksX1_ends_3 0 rfl rfl)
theorem dX1_ends_73 : decode cX1_ends 73 = .ok (.iload_n 2, 1) := dk_28 (dk_at dksX1_ends_3 3 rfl rfl)
theorem dX1_ends_74 : decode cX1_ends 74 = .ok (.aaload, 1) := dk_50 (dk_at dksX1_ends_3 4 rfl rfl)
theorem dX1_ends_75 : decode cX1_ends 75 = .ok (.getfield 122, 3) := dk_180 0 122 (dk_at dksX1_ends_3 5 rfl rfl)
theorem dX1_ends_78 : decode cX1_ends 78 = .ok (.aload_n 0, 1) := dk_42 (dk_at dksX1_ends_3 8 rfl rfl)
theorem dX1_ends_79 : decode cX1_ends 79 = .ok (.getfield 32, 3) := dk_180 0 32 (dk_at dksX1_ends_3 9 rfl rfl)
theorem dX1_ends_82 : decode cX1_ends 82 = .ok (.iconst 3, 1) := dk_6 (dk_at dksX1_ends_3 12 rfl rfl)
theorem dX1_ends_83 : decode cX1_ends 83 = .ok (.iaload, 1) := dk_46 (dk_at dksX1_ends_3 13 rfl rfl)
theorem dX1_ends_84 : decode cX1_ends 84 = .ok (.if_icmp .ne 7, 3) := dk_160 0 7 (dk_at dksX1_ends_3 14 rfl rfl)
theorem dX1_ends_87 : decode cX1_ends 87 = .ok (.iload_n 2, 1) := dk_28 (dk_at dksX1_ends_3 17 rfl rfl)
theorem dX1_ends_88 : decode cX1_ends 88 = .ok (.goto 4, 3) := dk_167 0 4 (dk_at dksX1_ends_3 18 rfl rfl)
theorem dX1_ends_91 : decode cX1_ends 91 = .ok (.iconst (-1), 1) := dk_2 (dk_at dksX1_ends_3 21 rfl rfl)
theorem dX1_ends_92 : decode cX1_ends 92 = .ok (.putfield 43, 3) := dk_181 0 43 (dk_at dksX1_ends_4 0 rfl rfl)
theorem dX1_ends_95 : decode cX1_ends 95 = .ok (.aload_n 0, 1) := dk_42 (dk_at dksX1_ends_4 3 rfl rfl)
theorem dX1_ends_96 : decode cX1_ends 96 = .ok (.getfield 43, 3) := dk_180 0 43 (dk_at dksX1_ends_4 4 rfl rfl)
theorem dX1_ends_99 : decode cX1_ends 99 = .ok (.ifCond .ge 7, 3) := dk_156 0 7 (dk_at dksX1_ends_4 7 rfl rfl)
theorem dX1_ends_102 : decode cX1_ends 102 = .ok (.iconst 1, 1) := dk_4 (dk_at dksX1_ends_4 10 rfl rfl)
theorem dX1_ends_103 : decode cX1_ends 103 = .ok (.goto 4, 3) := dk_167 0 4 (dk_at dksX1_ends_4 11 rfl rfl)
theorem dX1_ends_106 : decode cX1_ends 106 = .ok (.iconst 2, 1) := dk_5 (dk_at dksX1_ends_4 14 rfl rfl)
theorem dX1_ends_107 : decode cX1_ends 107 = .ok (.ireturn, 1) := dk_172 (dk_at dksX1_ends_4 15 rfl rfl)
theorem dX1_ends_108 : decode cX1_ends 108 = .ok (.iinc 2 1, 3) := dk_132 2 1 (dk_at dksX1_ends_4 16 rfl rfl)
theorem dX1_ends_111 : decode cX1_ends 111 = .ok (.goto (-104), 3) := dk_167 255 152 (dk_at dksX1_ends_4 19 rfl rfl)
theorem dX1_ends_114 : decode cX1_ends 114 = .ok (.iconst 0, 1) := dk_3 (dk_at dksX1_ends_4 22 rfl rfl)
theorem dX1_ends_115 : decode cX1_ends 115 = .ok (.ireturn, 1) := dk_172 (dk_at dksX1_ends_4 23 rfl rfl)
abbrev cX1_goal : ByteArray := prog_1_method_12_code
def yX1_goal : MethodName := ⟨RX1, "goal", "()I"⟩
def dkwX1_goal_2 : List UInt8 := [160, 0, 12, 42, 180, 0, 32, 5, 46, 167, 0, 9, 42, 180, 0, 32, 3, 46, 172]
abbrev dktX1_goal_2 : List UInt8 := dkwX1_goal_2 ++ []
def dkwX1_goal_1 : List UInt8 := [46, 4, 100, 160, 0, 32, 42, 180, 0, 20, 4, 50, 180, 0, 122, 42, 180, 0, 32, 6, 46, 4, 100]
abbrev dktX1_goal_1 : List UInt8 := dkwX1_goal_1 ++ dktX1_goal_2
def dkwX1_goal_0 : List UInt8 := [42, 180, 0, 32, 6, 46, 4, 164, 0, 52, 42, 180, 0, 20, 3, 50, 180, 0, 122, 42, 180, 0, 32, 6]
abbrev dktX1_goal_0 : List UInt8 := dkwX1_goal_0 ++ dktX1_goal_1
theorem dksX1_goal_0 : cX1_goal.data.toList.drop 0 = dktX1_goal_0 := by decide +kernel
theorem dksX1_goal_1 : cX1_goal.data.toList.drop 24 = dktX1_goal_1 := dk_seg dksX1_goal_0 24 rfl rfl
theorem dksX1_goal_2 : cX1_goal.data.toList.drop 47 = dktX1_goal_2 := dk_seg dksX1_goal_1 23 rfl rfl
theorem dX1_goal_0 : decode cX1_goal 0 = .ok (.aload_n 0, 1) := dk_42 (dk_at dksX1_goal_0 0 rfl rfl)
theorem dX1_goal_1 : decode cX1_goal 1 = .ok (.getfield 32, 3) := dk_180 0 32 (dk_at dksX1_goal_0 1 rfl rfl)
theorem dX1_goal_4 : decode cX1_goal 4 = .ok (.iconst 3, 1) := dk_6 (dk_at dksX1_goal_0 4 rfl rfl)
theorem dX1_goal_5 : decode cX1_goal 5 = .ok (.iaload, 1) := dk_46 (dk_at dksX1_goal_0 5 rfl rfl)
theorem dX1_goal_6 : decode cX1_goal 6 = .ok (.iconst 1, 1) := dk_4 (dk_at dksX1_goal_0 6 rfl rfl)
theorem dX1_goal_7 : decode cX1_goal 7 = .ok (.if_icmp .le 52, 3) := dk_164 0 52 (dk_at dksX1_goal_0 7 rfl rfl)
theorem dX1_goal_10 : decode cX1_goal 10 = .ok (.aload_n 0, 1) := dk_42 (dk_at dksX1_goal_0 10 rfl rfl)
theorem dX1_goal_11 : decode cX1_goal 11 = .ok (.getfield 20, 3) := dk_180 0 20 (dk_at dksX1_goal_0 11 rfl rfl)
theorem dX1_goal_14 : decode cX1_goal 14 = .ok (.iconst 0, 1) := dk_3 (dk_at dksX1_goal_0 14 rfl rfl)
theorem dX1_goal_15 : decode cX1_goal 15 = .ok (.aaload, 1) := dk_50 (dk_at dksX1_goal_0 15 rfl rfl)
theorem dX1_goal_16 : decode cX1_goal 16 = .ok (.getfield 122, 3) := dk_180 0 122 (dk_at dksX1_goal_0 16 rfl rfl)
theorem dX1_goal_19 : decode cX1_goal 19 = .ok (.aload_n 0, 1) := dk_42 (dk_at dksX1_goal_0 19 rfl rfl)
theorem dX1_goal_20 : decode cX1_goal 20 = .ok (.getfield 32, 3) := dk_180 0 32 (dk_at dksX1_goal_0 20 rfl rfl)
theorem dX1_goal_23 : decode cX1_goal 23 = .ok (.iconst 3, 1) := dk_6 (dk_at dksX1_goal_0 23 rfl rfl)
theorem dX1_goal_24 : decode cX1_goal 24 = .ok (.iaload, 1) := dk_46 (dk_at dksX1_goal_1 0 rfl rfl)
theorem dX1_goal_25 : decode cX1_goal 25 = .ok (.iconst 1, 1) := dk_4 (dk_at dksX1_goal_1 1 rfl rfl)
theorem dX1_goal_26 : decode cX1_goal 26 = .ok (.isub, 1) := dk_100 (dk_at dksX1_goal_1 2 rfl rfl)
theorem dX1_goal_27 : decode cX1_goal 27 = .ok (.if_icmp .ne 32, 3) := dk_160 0 32 (dk_at dksX1_goal_1 3 rfl rfl)
theorem dX1_goal_30 : decode cX1_goal 30 = .ok (.aload_n 0, 1) := dk_42 (dk_at dksX1_goal_1 6 rfl rfl)
theorem dX1_goal_31 : decode cX1_goal 31 = .ok (.getfield 20, 3) := dk_180 0 20 (dk_at dksX1_goal_1 7 rfl rfl)
theorem dX1_goal_34 : decode cX1_goal 34 = .ok (.iconst 1, 1) := dk_4 (dk_at dksX1_goal_1 10 rfl rfl)
theorem dX1_goal_35 : decode cX1_goal 35 = .ok (.aaload, 1) := dk_50 (dk_at dksX1_goal_1 11 rfl rfl)
theorem dX1_goal_36 : decode cX1_goal 36 = .ok (.getfield 122, 3) := dk_180 0 122 (dk_at dksX1_goal_1 12 rfl rfl)
theorem dX1_goal_39 : decode cX1_goal 39 = .ok (.aload_n 0, 1) := dk_42 (dk_at dksX1_goal_1 15 rfl rfl)
theorem dX1_goal_40 : decode cX1_goal 40 = .ok (.getfield 32, 3) := dk_180 0 32 (dk_at dksX1_goal_1 16 rfl rfl)
theorem dX1_goal_43 : decode cX1_goal 43 = .ok (.iconst 3, 1) := dk_6 (dk_at dksX1_goal_1 19 rfl rfl)
theorem dX1_goal_44 : decode cX1_goal 44 = .ok (.iaload, 1) := dk_46 (dk_at dksX1_goal_1 20 rfl rfl)
theorem dX1_goal_45 : decode cX1_goal 45 = .ok (.iconst 1, 1) := dk_4 (dk_at dksX1_goal_1 21 rfl rfl)
theorem dX1_goal_46 : decode cX1_goal 46 = .ok (.isub, 1) := dk_100 (dk_at dksX1_goal_1 22 rfl rfl)
theorem dX1_goal_47 : decode cX1_goal 47 = .ok (.if_icmp .ne 12, 3) := dk_160 0 12 (dk_at dksX1_goal_2 0 rfl rfl)
theorem dX1_goal_50 : decode cX1_goal 50 = .ok (.aload_n 0, 1) := dk_42 (dk_at dksX1_goal_2 3 rfl rfl)
theorem dX1_goal_51 : decode cX1_goal 51 = .ok (.getfield 32, 3) := dk_180 0 32 (dk_at dksX1_goal_2 4 rfl rfl)
theorem dX1_goal_54 : decode cX1_goal 54 = .ok (.iconst 2, 1) := dk_5 (dk_at dksX1_goal_2 7 rfl rfl)
theorem dX1_goal_55 : decode cX1_goal 55 = .ok (.iaload, 1) := dk_46 (dk_at dksX1_goal_2 8 rfl rfl)
theorem dX1_goal_56 : decode cX1_goal 56 = .ok (.goto 9, 3) := dk_167 0 9 (dk_at dksX1_goal_2 9 rfl rfl)
theorem dX1_goal_59 : decode cX1_goal 59 = .ok (.aload_n 0, 1) := dk_42 (dk_at dksX1_goal_2 12 rfl rfl)
theorem dX1_goal_60 : decode cX1_goal 60 = .ok (.getfield 32, 3) := dk_180 0 32 (dk_at dksX1_goal_2 13 rfl rfl)
theorem dX1_goal_63 : decode cX1_goal 63 = .ok (.iconst 0, 1) := dk_3 (dk_at dksX1_goal_2 16 rfl rfl)
theorem dX1_goal_64 : decode cX1_goal 64 = .ok (.iaload, 1) := dk_46 (dk_at dksX1_goal_2 17 rfl rfl)
theorem dX1_goal_65 : decode cX1_goal 65 = .ok (.ireturn, 1) := dk_172 (dk_at dksX1_goal_2 18 rfl rfl)
abbrev cX1_wins : ByteArray := prog_1_method_13_code
def yX1_wins : MethodName := ⟨RX1, "wins", "(III)Z"⟩
def dkwX1_wins_1 : List UInt8 := [167, 0, 4, 3, 172]
abbrev dktX1_wins_1 : List UInt8 := dkwX1_wins_1 ++ []
def dkwX1_wins_0 : List UInt8 := [28, 27, 161, 0, 10, 28, 29, 100, 5, 162, 0, 13, 28, 42, 180, 0, 32, 4, 46, 161, 0, 7, 4]
abbrev dktX1_wins_0 : List UInt8 := dkwX1_wins_0 ++ dktX1_wins_1
theorem dksX1_wins_0 : cX1_wins.data.toList.drop 0 = dktX1_wins_0 := by decide +kernel
theorem dksX1_wins_1 : cX1_wins.data.toList.drop 23 = dktX1_wins_1 := dk_seg dksX1_wins_0 23 rfl rfl
theorem dX1_wins_0 : decode cX1_wins 0 = .ok (.iload_n 2, 1) := dk_28 (dk_at dksX1_wins_0 0 rfl rfl)
theorem dX1_wins_1 : decode cX1_wins 1 = .ok (.iload_n 1, 1) := dk_27 (dk_at dksX1_wins_0 1 rfl rfl)
theorem dX1_wins_2 : decode cX1_wins 2 = .ok (.if_icmp .lt 10, 3) := dk_161 0 10 (dk_at dksX1_wins_0 2 rfl rfl)
theorem dX1_wins_5 : decode cX1_wins 5 = .ok (.iload_n 2, 1) := dk_28 (dk_at dksX1_wins_0 5 rfl rfl)
theorem dX1_wins_6 : decode cX1_wins 6 = .ok (.iload_n 3, 1) := dk_29 (dk_at dksX1_wins_0 6 rfl rfl)
theorem dX1_wins_7 : decode cX1_wins 7 = .ok (.isub, 1) := dk_100 (dk_at dksX1_wins_0 7 rfl rfl)
theorem dX1_wins_8 : decode cX1_wins 8 = .ok (.iconst 2, 1) := dk_5 (dk_at dksX1_wins_0 8 rfl rfl)
theorem dX1_wins_9 : decode cX1_wins 9 = .ok (.if_icmp .ge 13, 3) := dk_162 0 13 (dk_at dksX1_wins_0 9 rfl rfl)
theorem dX1_wins_12 : decode cX1_wins 12 = .ok (.iload_n 2, 1) := dk_28 (dk_at dksX1_wins_0 12 rfl rfl)
theorem dX1_wins_13 : decode cX1_wins 13 = .ok (.aload_n 0, 1) := dk_42 (dk_at dksX1_wins_0 13 rfl rfl)
theorem dX1_wins_14 : decode cX1_wins 14 = .ok (.getfield 32, 3) := dk_180 0 32 (dk_at dksX1_wins_0 14 rfl rfl)
theorem dX1_wins_17 : decode cX1_wins 17 = .ok (.iconst 1, 1) := dk_4 (dk_at dksX1_wins_0 17 rfl rfl)
theorem dX1_wins_18 : decode cX1_wins 18 = .ok (.iaload, 1) := dk_46 (dk_at dksX1_wins_0 18 rfl rfl)
theorem dX1_wins_19 : decode cX1_wins 19 = .ok (.if_icmp .lt 7, 3) := dk_161 0 7 (dk_at dksX1_wins_0 19 rfl rfl)
theorem dX1_wins_22 : decode cX1_wins 22 = .ok (.iconst 1, 1) := dk_4 (dk_at dksX1_wins_0 22 rfl rfl)
theorem dX1_wins_23 : decode cX1_wins 23 = .ok (.goto 4, 3) := dk_167 0 4 (dk_at dksX1_wins_1 0 rfl rfl)
theorem dX1_wins_26 : decode cX1_wins 26 = .ok (.iconst 0, 1) := dk_3 (dk_at dksX1_wins_1 3 rfl rfl)
theorem dX1_wins_27 : decode cX1_wins 27 = .ok (.ireturn, 1) := dk_172 (dk_at dksX1_wins_1 4 rfl rfl)
abbrev cX1_may : ByteArray := prog_1_method_17_code
def yX1_may : MethodName := ⟨RX1, "may", "(III)I"⟩
def dkwX1_may_5 : List UInt8 := [182, 0, 161, 153, 0, 7, 3, 167, 0, 5, 16, 6, 172]
abbrev dktX1_may_5 : List UInt8 := dkwX1_may_5 ++ []
def dkwX1_may_4 : List UInt8 := [7, 172, 25, 4, 180, 0, 158, 42, 180, 0, 32, 7, 46, 161, 0, 5, 8, 172, 25, 4, 28, 29]
abbrev dktX1_may_4 : List UInt8 := dkwX1_may_4 ++ dktX1_may_5
def dkwX1_may_3 : List UInt8 := [182, 0, 152, 156, 0, 21, 29, 25, 4, 180, 0, 85, 159, 0, 12, 29, 25, 4, 180, 0, 155, 160, 0, 5]
abbrev dktX1_may_3 : List UInt8 := dkwX1_may_3 ++ dktX1_may_4
def dkwX1_may_2 : List UInt8 := [25, 4, 28, 182, 0, 152, 155, 0, 12, 28, 25, 4, 180, 0, 85, 160, 0, 5, 6, 172, 25, 4, 29]
abbrev dktX1_may_2 : List UInt8 := dkwX1_may_2 ++ dktX1_may_3
def dkwX1_may_1 : List UInt8 := [4, 172, 28, 184, 0, 72, 153, 0, 15, 29, 184, 0, 72, 153, 0, 8, 28, 29, 160, 0, 5, 5, 172]
abbrev dktX1_may_1 : List UInt8 := dkwX1_may_1 ++ dktX1_may_2
def dkwX1_may_0 : List UInt8 := [27, 184, 0, 68, 154, 0, 5, 2, 172, 42, 180, 0, 20, 27, 50, 58, 4, 42, 180, 0, 81, 154, 0, 5]
abbrev dktX1_may_0 : List UInt8 := dkwX1_may_0 ++ dktX1_may_1
theorem dksX1_may_0 : cX1_may.data.toList.drop 0 = dktX1_may_0 := by decide +kernel
theorem dksX1_may_1 : cX1_may.data.toList.drop 24 = dktX1_may_1 := dk_seg dksX1_may_0 24 rfl rfl
theorem dksX1_may_2 : cX1_may.data.toList.drop 47 = dktX1_may_2 := dk_seg dksX1_may_1 23 rfl rfl
theorem dksX1_may_3 : cX1_may.data.toList.drop 70 = dktX1_may_3 := dk_seg dksX1_may_2 23 rfl rfl
theorem dksX1_may_4 : cX1_may.data.toList.drop 94 = dktX1_may_4 := dk_seg dksX1_may_3 24 rfl rfl
theorem dksX1_may_5 : cX1_may.data.toList.drop 116 = dktX1_may_5 := dk_seg dksX1_may_4 22 rfl rfl
theorem dX1_may_0 : decode cX1_may 0 = .ok (.iload_n 1, 1) := dk_27 (dk_at dksX1_may_0 0 rfl rfl)
theorem dX1_may_1 : decode cX1_may 1 = .ok (.invokestatic 68, 3) := dk_184 0 68 (dk_at dksX1_may_0 1 rfl rfl)
theorem dX1_may_4 : decode cX1_may 4 = .ok (.ifCond .ne 5, 3) := dk_154 0 5 (dk_at dksX1_may_0 4 rfl rfl)
theorem dX1_may_7 : decode cX1_may 7 = .ok (.iconst (-1), 1) := dk_2 (dk_at dksX1_may_0 7 rfl rfl)
theorem dX1_may_8 : decode cX1_may 8 = .ok (.ireturn, 1) := dk_172 (dk_at dksX1_may_0 8 rfl rfl)
theorem dX1_may_9 : decode cX1_may 9 = .ok (.aload_n 0, 1) := dk_42 (dk_at dksX1_may_0 9 rfl rfl)
theorem dX1_may_10 : decode cX1_may 10 = .ok (.getfield 20, 3) := dk_180 0 20 (dk_at dksX1_may_0 10 rfl rfl)
theorem dX1_may_13 : decode cX1_may 13 = .ok (.iload_n 1, 1) := dk_27 (dk_at dksX1_may_0 13 rfl rfl)
theorem dX1_may_14 : decode cX1_may 14 = .ok (.aaload, 1) := dk_50 (dk_at dksX1_may_0 14 rfl rfl)
theorem dX1_may_15 : decode cX1_may 15 = .ok (.astore 4, 2) := dk_58 4 (dk_at dksX1_may_0 15 rfl rfl)
theorem dX1_may_17 : decode cX1_may 17 = .ok (.aload_n 0, 1) := dk_42 (dk_at dksX1_may_0 17 rfl rfl)
theorem dX1_may_18 : decode cX1_may 18 = .ok (.getfield 81, 3) := dk_180 0 81 (dk_at dksX1_may_0 18 rfl rfl)
theorem dX1_may_21 : decode cX1_may 21 = .ok (.ifCond .ne 5, 3) := dk_154 0 5 (dk_at dksX1_may_0 21 rfl rfl)
theorem dX1_may_24 : decode cX1_may 24 = .ok (.iconst 1, 1) := dk_4 (dk_at dksX1_may_1 0 rfl rfl)
theorem dX1_may_25 : decode cX1_may 25 = .ok (.ireturn, 1) := dk_172 (dk_at dksX1_may_1 1 rfl rfl)
theorem dX1_may_26 : decode cX1_may 26 = .ok (.iload_n 2, 1) := dk_28 (dk_at dksX1_may_1 2 rfl rfl)
theorem dX1_may_27 : decode cX1_may 27 = .ok (.invokestatic 72, 3) := dk_184 0 72 (dk_at dksX1_may_1 3 rfl rfl)
theorem dX1_may_30 : decode cX1_may 30 = .ok (.ifCond .eq 15, 3) := dk_153 0 15 (dk_at dksX1_may_1 6 rfl rfl)
theorem dX1_may_33 : decode cX1_may 33 = .ok (.iload_n 3, 1) := dk_29 (dk_at dksX1_may_1 9 rfl rfl)
theorem dX1_may_34 : decode cX1_may 34 = .ok (.invokestatic 72, 3) := dk_184 0 72 (dk_at dksX1_may_1 10 rfl rfl)
theorem dX1_may_37 : decode cX1_may 37 = .ok (.ifCond .eq 8, 3) := dk_153 0 8 (dk_at dksX1_may_1 13 rfl rfl)
theorem dX1_may_40 : decode cX1_may 40 = .ok (.iload_n 2, 1) := dk_28 (dk_at dksX1_may_1 16 rfl rfl)
theorem dX1_may_41 : decode cX1_may 41 = .ok (.iload_n 3, 1) := dk_29 (dk_at dksX1_may_1 17 rfl rfl)
theorem dX1_may_42 : decode cX1_may 42 = .ok (.if_icmp .ne 5, 3) := dk_160 0 5 (dk_at dksX1_may_1 18 rfl rfl)
theorem dX1_may_45 : decode cX1_may 45 = .ok (.iconst 2, 1) := dk_5 (dk_at dksX1_may_1 21 rfl rfl)
theorem dX1_may_46 : decode cX1_may 46 = .ok (.ireturn, 1) := dk_172 (dk_at dksX1_may_1 22 rfl rfl)
theorem dX1_may_47 : decode cX1_may 47 = .ok (.aload 4, 2) := dk_25 4 (dk_at dksX1_may_2 0 rfl rfl)
theorem dX1_may_49 : decode cX1_may 49 = .ok (.iload_n 2, 1) := dk_28 (dk_at dksX1_may_2 2 rfl rfl)
theorem dX1_may_50 : decode cX1_may 50 = .ok (.invokevirtual 152, 3) := dk_182 0 152 (dk_at dksX1_may_2 3 rfl rfl)
theorem dX1_may_53 : decode cX1_may 53 = .ok (.ifCond .lt 12, 3) := dk_155 0 12 (dk_at dksX1_may_2 6 rfl rfl)
theorem dX1_may_56 : decode cX1_may 56 = .ok (.iload_n 2, 1) := dk_28 (dk_at dksX1_may_2 9 rfl rfl)
theorem dX1_may_57 : decode cX1_may 57 = .ok (.aload 4, 2) := dk_25 4 (dk_at dksX1_may_2 10 rfl rfl)
theorem dX1_may_59 : decode cX1_may 59 = .ok (.getfield 85, 3) := dk_180 0 85 (dk_at dksX1_may_2 12 rfl rfl)
theorem dX1_may_62 : decode cX1_may 62 = .ok (.if_icmp .ne 5, 3) := dk_160 0 5 (dk_at dksX1_may_2 15 rfl rfl)
theorem dX1_may_65 : decode cX1_may 65 = .ok (.iconst 3, 1) := dk_6 (dk_at dksX1_may_2 18 rfl rfl)
theorem dX1_may_66 : decode cX1_may 66 = .ok (.ireturn, 1) := dk_172 (dk_at dksX1_may_2 19 rfl rfl)
theorem dX1_may_67 : decode cX1_may 67 = .ok (.aload 4, 2) := dk_25 4 (dk_at dksX1_may_2 20 rfl rfl)
theorem dX1_may_69 : decode cX1_may 69 = .ok (.iload_n 3, 1) := dk_29 (dk_at dksX1_may_2 22 rfl rfl)
theorem dX1_may_70 : decode cX1_may 70 = .ok (.invokevirtual 152, 3) := dk_182 0 152 (dk_at dksX1_may_3 0 rfl rfl)
theorem dX1_may_73 : decode cX1_may 73 = .ok (.ifCond .ge 21, 3) := dk_156 0 21 (dk_at dksX1_may_3 3 rfl rfl)
theorem dX1_may_76 : decode cX1_may 76 = .ok (.iload_n 3, 1) := dk_29 (dk_at dksX1_may_3 6 rfl rfl)
theorem dX1_may_77 : decode cX1_may 77 = .ok (.aload 4, 2) := dk_25 4 (dk_at dksX1_may_3 7 rfl rfl)
theorem dX1_may_79 : decode cX1_may 79 = .ok (.getfield 85, 3) := dk_180 0 85 (dk_at dksX1_may_3 9 rfl rfl)
theorem dX1_may_82 : decode cX1_may 82 = .ok (.if_icmp .eq 12, 3) := dk_159 0 12 (dk_at dksX1_may_3 12 rfl rfl)
theorem dX1_may_85 : decode cX1_may 85 = .ok (.iload_n 3, 1) := dk_29 (dk_at dksX1_may_3 15 rfl rfl)
theorem dX1_may_86 : decode cX1_may 86 = .ok (.aload 4, 2) := dk_25 4 (dk_at dksX1_may_3 16 rfl rfl)
theorem dX1_may_88 : decode cX1_may 88 = .ok (.getfield 155, 3) := dk_180 0 155 (dk_at dksX1_may_3 18 rfl rfl)
theorem dX1_may_91 : decode cX1_may 91 = .ok (.if_icmp .ne 5, 3) := dk_160 0 5 (dk_at dksX1_may_3 21 rfl rfl)
theorem dX1_may_94 : decode cX1_may 94 = .ok (.iconst 4, 1) := dk_7 (dk_at dksX1_may_4 0 rfl rfl)
theorem dX1_may_95 : decode cX1_may 95 = .ok (.ireturn, 1) := dk_172 (dk_at dksX1_may_4 1 rfl rfl)
theorem dX1_may_96 : decode cX1_may 96 = .ok (.aload 4, 2) := dk_25 4 (dk_at dksX1_may_4 2 rfl rfl)
theorem dX1_may_98 : decode cX1_may 98 = .ok (.getfield 158, 3) := dk_180 0 158 (dk_at dksX1_may_4 4 rfl rfl)
theorem dX1_may_101 : decode cX1_may 101 = .ok (.aload_n 0, 1) := dk_42 (dk_at dksX1_may_4 7 rfl rfl)
theorem dX1_may_102 : decode cX1_may 102 = .ok (.getfield 32, 3) := dk_180 0 32 (dk_at dksX1_may_4 8 rfl rfl)
theorem dX1_may_105 : decode cX1_may 105 = .ok (.iconst 4, 1) := dk_7 (dk_at dksX1_may_4 11 rfl rfl)
theorem dX1_may_106 : decode cX1_may 106 = .ok (.iaload, 1) := dk_46 (dk_at dksX1_may_4 12 rfl rfl)
theorem dX1_may_107 : decode cX1_may 107 = .ok (.if_icmp .lt 5, 3) := dk_161 0 5 (dk_at dksX1_may_4 13 rfl rfl)
theorem dX1_may_110 : decode cX1_may 110 = .ok (.iconst 5, 1) := dk_8 (dk_at dksX1_may_4 16 rfl rfl)
theorem dX1_may_111 : decode cX1_may 111 = .ok (.ireturn, 1) := dk_172 (dk_at dksX1_may_4 17 rfl rfl)
theorem dX1_may_112 : decode cX1_may 112 = .ok (.aload 4, 2) := dk_25 4 (dk_at dksX1_may_4 18 rfl rfl)
theorem dX1_may_114 : decode cX1_may 114 = .ok (.iload_n 2, 1) := dk_28 (dk_at dksX1_may_4 20 rfl rfl)
theorem dX1_may_115 : decode cX1_may 115 = .ok (.iload_n 3, 1) := dk_29 (dk_at dksX1_may_4 21 rfl rfl)
theorem dX1_may_116 : decode cX1_may 116 = .ok (.invokevirtual 161, 3) := dk_182 0 161 (dk_at dksX1_may_5 0 rfl rfl)
theorem dX1_may_119 : decode cX1_may 119 = .ok (.ifCond .eq 7, 3) := dk_153 0 7 (dk_at dksX1_may_5 3 rfl rfl)
theorem dX1_may_122 : decode cX1_may 122 = .ok (.iconst 0, 1) := dk_3 (dk_at dksX1_may_5 6 rfl rfl)
theorem dX1_may_123 : decode cX1_may 123 = .ok (.goto 5, 3) := dk_167 0 5 (dk_at dksX1_may_5 7 rfl rfl)
theorem dX1_may_126 : decode cX1_may 126 = .ok (.bipush 6, 2) := dk_16 6 (dk_at dksX1_may_5 10 rfl rfl)
theorem dX1_may_128 : decode cX1_may 128 = .ok (.ireturn, 1) := dk_172 (dk_at dksX1_may_5 12 rfl rfl)
abbrev cX1_change : ByteArray := prog_1_method_18_code
def yX1_change : MethodName := ⟨RX1, "change", "(III)I"⟩
def dkwX1_change_1 : List UInt8 := [2, 172]
abbrev dktX1_change_1 : List UInt8 := dkwX1_change_1 ++ []
def dkwX1_change_0 : List UInt8 := [42, 27, 28, 29, 182, 0, 165, 154, 0, 17, 42, 180, 0, 20, 27, 50, 28, 29, 182, 0, 169, 167, 0, 4]
abbrev dktX1_change_0 : List UInt8 := dkwX1_change_0 ++ dktX1_change_1
theorem dksX1_change_0 : cX1_change.data.toList.drop 0 = dktX1_change_0 := by decide +kernel
theorem dksX1_change_1 : cX1_change.data.toList.drop 24 = dktX1_change_1 := dk_seg dksX1_change_0 24 rfl rfl
theorem dX1_change_0 : decode cX1_change 0 = .ok (.aload_n 0, 1) := dk_42 (dk_at dksX1_change_0 0 rfl rfl)
theorem dX1_change_1 : decode cX1_change 1 = .ok (.iload_n 1, 1) := dk_27 (dk_at dksX1_change_0 1 rfl rfl)
theorem dX1_change_2 : decode cX1_change 2 = .ok (.iload_n 2, 1) := dk_28 (dk_at dksX1_change_0 2 rfl rfl)
theorem dX1_change_3 : decode cX1_change 3 = .ok (.iload_n 3, 1) := dk_29 (dk_at dksX1_change_0 3 rfl rfl)
theorem dX1_change_4 : decode cX1_change 4 = .ok (.invokevirtual 165, 3) := dk_182 0 165 (dk_at dksX1_change_0 4 rfl rfl)
theorem dX1_change_7 : decode cX1_change 7 = .ok (.ifCond .ne 17, 3) := dk_154 0 17 (dk_at dksX1_change_0 7 rfl rfl)
theorem dX1_change_10 : decode cX1_change 10 = .ok (.aload_n 0, 1) := dk_42 (dk_at dksX1_change_0 10 rfl rfl)
theorem dX1_change_11 : decode cX1_change 11 = .ok (.getfield 20, 3) := dk_180 0 20 (dk_at dksX1_change_0 11 rfl rfl)
theorem dX1_change_14 : decode cX1_change 14 = .ok (.iload_n 1, 1) := dk_27 (dk_at dksX1_change_0 14 rfl rfl)
theorem dX1_change_15 : decode cX1_change 15 = .ok (.aaload, 1) := dk_50 (dk_at dksX1_change_0 15 rfl rfl)
theorem dX1_change_16 : decode cX1_change 16 = .ok (.iload_n 2, 1) := dk_28 (dk_at dksX1_change_0 16 rfl rfl)
theorem dX1_change_17 : decode cX1_change 17 = .ok (.iload_n 3, 1) := dk_29 (dk_at dksX1_change_0 17 rfl rfl)
theorem dX1_change_18 : decode cX1_change 18 = .ok (.invokevirtual 169, 3) := dk_182 0 169 (dk_at dksX1_change_0 18 rfl rfl)
theorem dX1_change_21 : decode cX1_change 21 = .ok (.goto 4, 3) := dk_167 0 4 (dk_at dksX1_change_0 21 rfl rfl)
theorem dX1_change_24 : decode cX1_change 24 = .ok (.iconst (-1), 1) := dk_2 (dk_at dksX1_change_1 0 rfl rfl)
theorem dX1_change_25 : decode cX1_change 25 = .ok (.ireturn, 1) := dk_172 (dk_at dksX1_change_1 1 rfl rfl)
abbrev cX1_free : ByteArray := prog_1_method_19_code
def yX1_free : MethodName := ⟨RX1, "free", "(II)I"⟩
def dkwX1_free_6 : List UInt8 := [79, 45, 28, 181, 0, 155, 45, 42, 180, 0, 116, 181, 0, 173, 21, 4, 172]
abbrev dktX1_free_6 : List UInt8 := dkwX1_free_6 ++ []
def dkwX1_free_5 : List UInt8 := [167, 0, 4, 2, 54, 4, 21, 4, 7, 162, 0, 5, 2, 172, 45, 180, 0, 145, 21, 4, 45, 180, 0, 85]
abbrev dktX1_free_5 : List UInt8 := dkwX1_free_5 ++ dktX1_free_6
def dkwX1_free_4 : List UInt8 := [167, 0, 53, 28, 184, 0, 72, 153, 0, 19, 45, 180, 0, 155, 2, 160, 0, 11, 45, 28, 182, 0, 152]
abbrev dktX1_free_4 : List UInt8 := dkwX1_free_4 ++ dktX1_free_5
def dkwX1_free_3 : List UInt8 := [180, 0, 85, 182, 0, 152, 54, 4, 45, 180, 0, 145, 21, 4, 45, 180, 0, 155, 79, 45, 2, 181, 0, 155]
abbrev dktX1_free_3 : List UInt8 := dkwX1_free_3 ++ dktX1_free_4
def dkwX1_free_2 : List UInt8 := [180, 0, 20, 27, 50, 78, 28, 2, 160, 0, 42, 45, 180, 0, 155, 2, 160, 0, 5, 2, 172, 45, 45]
abbrev dktX1_free_2 : List UInt8 := dkwX1_free_2 ++ dktX1_free_3
def dkwX1_free_1 : List UInt8 := [159, 0, 19, 42, 180, 0, 20, 27, 50, 180, 0, 173, 42, 180, 0, 116, 160, 0, 5, 2, 172, 42]
abbrev dktX1_free_1 : List UInt8 := dkwX1_free_1 ++ dktX1_free_2
def dkwX1_free_0 : List UInt8 := [27, 184, 0, 68, 153, 0, 39, 42, 180, 0, 81, 153, 0, 32, 42, 180, 0, 20, 27, 50, 180, 0, 85, 2]
abbrev dktX1_free_0 : List UInt8 := dkwX1_free_0 ++ dktX1_free_1
theorem dksX1_free_0 : cX1_free.data.toList.drop 0 = dktX1_free_0 := by decide +kernel
theorem dksX1_free_1 : cX1_free.data.toList.drop 24 = dktX1_free_1 := dk_seg dksX1_free_0 24 rfl rfl
theorem dksX1_free_2 : cX1_free.data.toList.drop 46 = dktX1_free_2 := dk_seg dksX1_free_1 22 rfl rfl
theorem dksX1_free_3 : cX1_free.data.toList.drop 69 = dktX1_free_3 := dk_seg dksX1_free_2 23 rfl rfl
theorem dksX1_free_4 : cX1_free.data.toList.drop 93 = dktX1_free_4 := dk_seg dksX1_free_3 24 rfl rfl
theorem dksX1_free_5 : cX1_free.data.toList.drop 116 = dktX1_free_5 := dk_seg dksX1_free_4 23 rfl rfl
theorem dksX1_free_6 : cX1_free.data.toList.drop 140 = dktX1_free_6 := dk_seg dksX1_free_5 24 rfl rfl
theorem dX1_free_0 : decode cX1_free 0 = .ok (.iload_n 1, 1) := dk_27 (dk_at dksX1_free_0 0 rfl rfl)
theorem dX1_free_1 : decode cX1_free 1 = .ok (.invokestatic 68, 3) := dk_184 0 68 (dk_at dksX1_free_0 1 rfl rfl)
theorem dX1_free_4 : decode cX1_free 4 = .ok (.ifCond .eq 39, 3) := dk_153 0 39 (dk_at dksX1_free_0 4 rfl rfl)
theorem dX1_free_7 : decode cX1_free 7 = .ok (.aload_n 0, 1) := dk_42 (dk_at dksX1_free_0 7 rfl rfl)
theorem dX1_free_8 : decode cX1_free 8 = .ok (.getfield 81, 3) := dk_180 0 81 (dk_at dksX1_free_0 8 rfl rfl)
theorem dX1_free_11 : decode cX1_free 11 = .ok (.ifCond .eq 32, 3) := dk_153 0 32 (dk_at dksX1_free_0 11 rfl rfl)
theorem dX1_free_14 : decode cX1_free 14 = .ok (.aload_n 0, 1) := dk_42 (dk_at dksX1_free_0 14 rfl rfl)
theorem dX1_free_15 : decode cX1_free 15 = .ok (.getfield 20, 3) := dk_180 0 20 (dk_at dksX1_free_0 15 rfl rfl)
theorem dX1_free_18 : decode cX1_free 18 = .ok (.iload_n 1, 1) := dk_27 (dk_at dksX1_free_0 18 rfl rfl)
theorem dX1_free_19 : decode cX1_free 19 = .ok (.aaload, 1) := dk_50 (dk_at dksX1_free_0 19 rfl rfl)
theorem dX1_free_20 : decode cX1_free 20 = .ok (.getfield 85, 3) := dk_180 0 85 (dk_at dksX1_free_0 20 rfl rfl)
theorem dX1_free_23 : decode cX1_free 23 = .ok (.iconst (-1), 1) := dk_2 (dk_at dksX1_free_0 23 rfl rfl)
theorem dX1_free_24 : decode cX1_free 24 = .ok (.if_icmp .eq 19, 3) := dk_159 0 19 (dk_at dksX1_free_1 0 rfl rfl)
theorem dX1_free_27 : decode cX1_free 27 = .ok (.aload_n 0, 1) := dk_42 (dk_at dksX1_free_1 3 rfl rfl)
theorem dX1_free_28 : decode cX1_free 28 = .ok (.getfield 20, 3) := dk_180 0 20 (dk_at dksX1_free_1 4 rfl rfl)
theorem dX1_free_31 : decode cX1_free 31 = .ok (.iload_n 1, 1) := dk_27 (dk_at dksX1_free_1 7 rfl rfl)
theorem dX1_free_32 : decode cX1_free 32 = .ok (.aaload, 1) := dk_50 (dk_at dksX1_free_1 8 rfl rfl)
theorem dX1_free_33 : decode cX1_free 33 = .ok (.getfield 173, 3) := dk_180 0 173 (dk_at dksX1_free_1 9 rfl rfl)
theorem dX1_free_36 : decode cX1_free 36 = .ok (.aload_n 0, 1) := dk_42 (dk_at dksX1_free_1 12 rfl rfl)
theorem dX1_free_37 : decode cX1_free 37 = .ok (.getfield 116, 3) := dk_180 0 116 (dk_at dksX1_free_1 13 rfl rfl)
theorem dX1_free_40 : decode cX1_free 40 = .ok (.if_icmp .ne 5, 3) := dk_160 0 5 (dk_at dksX1_free_1 16 rfl rfl)
theorem dX1_free_43 : decode cX1_free 43 = .ok (.iconst (-1), 1) := dk_2 (dk_at dksX1_free_1 19 rfl rfl)
theorem dX1_free_44 : decode cX1_free 44 = .ok (.ireturn, 1) := dk_172 (dk_at dksX1_free_1 20 rfl rfl)
theorem dX1_free_45 : decode cX1_free 45 = .ok (.aload_n 0, 1) := dk_42 (dk_at dksX1_free_1 21 rfl rfl)
theorem dX1_free_46 : decode cX1_free 46 = .ok (.getfield 20, 3) := dk_180 0 20 (dk_at dksX1_free_2 0 rfl rfl)
theorem dX1_free_49 : decode cX1_free 49 = .ok (.iload_n 1, 1) := dk_27 (dk_at dksX1_free_2 3 rfl rfl)
theorem dX1_free_50 : decode cX1_free 50 = .ok (.aaload, 1) := dk_50 (dk_at dksX1_free_2 4 rfl rfl)
theorem dX1_free_51 : decode cX1_free 51 = .ok (.astore_n 3, 1) := dk_78 (dk_at dksX1_free_2 5 rfl rfl)
theorem dX1_free_52 : decode cX1_free 52 = .ok (.iload_n 2, 1) := dk_28 (dk_at dksX1_free_2 6 rfl rfl)
theorem dX1_free_53 : decode cX1_free 53 = .ok (.iconst (-1), 1) := dk_2 (dk_at dksX1_free_2 7 rfl rfl)
theorem dX1_free_54 : decode cX1_free 54 = .ok (.if_icmp .ne 42, 3) := dk_160 0 42 (dk_at dksX1_free_2 8 rfl rfl)
theorem dX1_free_57 : decode cX1_free 57 = .ok (.aload_n 3, 1) := dk_45 (dk_at dksX1_free_2 11 rfl rfl)
theorem dX1_free_58 : decode cX1_free 58 = .ok (.getfield 155, 3) := dk_180 0 155 (dk_at dksX1_free_2 12 rfl rfl)
theorem dX1_free_61 : decode cX1_free 61 = .ok (.iconst (-1), 1) := dk_2 (dk_at dksX1_free_2 15 rfl rfl)
theorem dX1_free_62 : decode cX1_free 62 = .ok (.if_icmp .ne 5, 3) := dk_160 0 5 (dk_at dksX1_free_2 16 rfl rfl)
theorem dX1_free_65 : decode cX1_free 65 = .ok (.iconst (-1), 1) := dk_2 (dk_at dksX1_free_2 19 rfl rfl)
theorem dX1_free_66 : decode cX1_free 66 = .ok (.ireturn, 1) := dk_172 (dk_at dksX1_free_2 20 rfl rfl)
theorem dX1_free_67 : decode cX1_free 67 = .ok (.aload_n 3, 1) := dk_45 (dk_at dksX1_free_2 21 rfl rfl)
theorem dX1_free_68 : decode cX1_free 68 = .ok (.aload_n 3, 1) := dk_45 (dk_at dksX1_free_2 22 rfl rfl)
theorem dX1_free_69 : decode cX1_free 69 = .ok (.getfield 85, 3) := dk_180 0 85 (dk_at dksX1_free_3 0 rfl rfl)
theorem dX1_free_72 : decode cX1_free 72 = .ok (.invokevirtual 152, 3) := dk_182 0 152 (dk_at dksX1_free_3 3 rfl rfl)
theorem dX1_free_75 : decode cX1_free 75 = .ok (.istore 4, 2) := dk_54 4 (dk_at dksX1_free_3 6 rfl rfl)
theorem dX1_free_77 : decode cX1_free 77 = .ok (.aload_n 3, 1) := dk_45 (dk_at dksX1_free_3 8 rfl rfl)
theorem dX1_free_78 : decode cX1_free 78 = .ok (.getfield 145, 3) := dk_180 0 145 (dk_at dksX1_free_3 9 rfl rfl)
theorem dX1_free_81 : decode cX1_free 81 = .ok (.iload 4, 2) := dk_21 4 (dk_at dksX1_free_3 12 rfl rfl)
theorem dX1_free_83 : decode cX1_free 83 = .ok (.aload_n 3, 1) := dk_45 (dk_at dksX1_free_3 14 rfl rfl)
theorem dX1_free_84 : decode cX1_free 84 = .ok (.getfield 155, 3) := dk_180 0 155 (dk_at dksX1_free_3 15 rfl rfl)
theorem dX1_free_87 : decode cX1_free 87 = .ok (.iastore, 1) := dk_79 (dk_at dksX1_free_3 18 rfl rfl)
theorem dX1_free_88 : decode cX1_free 88 = .ok (.aload_n 3, 1) := dk_45 (dk_at dksX1_free_3 19 rfl rfl)
theorem dX1_free_89 : decode cX1_free 89 = .ok (.iconst (-1), 1) := dk_2 (dk_at dksX1_free_3 20 rfl rfl)
theorem dX1_free_90 : decode cX1_free 90 = .ok (.putfield 155, 3) := dk_181 0 155 (dk_at dksX1_free_3 21 rfl rfl)
theorem dX1_free_93 : decode cX1_free 93 = .ok (.goto 53, 3) := dk_167 0 53 (dk_at dksX1_free_4 0 rfl rfl)
theorem dX1_free_96 : decode cX1_free 96 = .ok (.iload_n 2, 1) := dk_28 (dk_at dksX1_free_4 3 rfl rfl)
theorem dX1_free_97 : decode cX1_free 97 = .ok (.invokestatic 72, 3) := dk_184 0 72 (dk_at dksX1_free_4 4 rfl rfl)
theorem dX1_free_100 : decode cX1_free 100 = .ok (.ifCond .eq 19, 3) := dk_153 0 19 (dk_at dksX1_free_4 7 rfl rfl)
theorem dX1_free_103 : decode cX1_free 103 = .ok (.aload_n 3, 1) := dk_45 (dk_at dksX1_free_4 10 rfl rfl)
theorem dX1_free_104 : decode cX1_free 104 = .ok (.getfield 155, 3) := dk_180 0 155 (dk_at dksX1_free_4 11 rfl rfl)
theorem dX1_free_107 : decode cX1_free 107 = .ok (.iconst (-1), 1) := dk_2 (dk_at dksX1_free_4 14 rfl rfl)
theorem dX1_free_108 : decode cX1_free 108 = .ok (.if_icmp .ne 11, 3) := dk_160 0 11 (dk_at dksX1_free_4 15 rfl rfl)
theorem dX1_free_111 : decode cX1_free 111 = .ok (.aload_n 3, 1) := dk_45 (dk_at dksX1_free_4 18 rfl rfl)
theorem dX1_free_112 : decode cX1_free 112 = .ok (.iload_n 2, 1) := dk_28 (dk_at dksX1_free_4 19 rfl rfl)
theorem dX1_free_113 : decode cX1_free 113 = .ok (.invokevirtual 152, 3) := dk_182 0 152 (dk_at dksX1_free_4 20 rfl rfl)
theorem dX1_free_116 : decode cX1_free 116 = .ok (.goto 4, 3) := dk_167 0 4 (dk_at dksX1_free_5 0 rfl rfl)
theorem dX1_free_119 : decode cX1_free 119 = .ok (.iconst (-1), 1) := dk_2 (dk_at dksX1_free_5 3 rfl rfl)
theorem dX1_free_120 : decode cX1_free 120 = .ok (.istore 4, 2) := dk_54 4 (dk_at dksX1_free_5 4 rfl rfl)
theorem dX1_free_122 : decode cX1_free 122 = .ok (.iload 4, 2) := dk_21 4 (dk_at dksX1_free_5 6 rfl rfl)
theorem dX1_free_124 : decode cX1_free 124 = .ok (.iconst 4, 1) := dk_7 (dk_at dksX1_free_5 8 rfl rfl)
theorem dX1_free_125 : decode cX1_free 125 = .ok (.if_icmp .ge 5, 3) := dk_162 0 5 (dk_at dksX1_free_5 9 rfl rfl)
theorem dX1_free_128 : decode cX1_free 128 = .ok (.iconst (-1), 1) := dk_2 (dk_at dksX1_free_5 12 rfl rfl)
theorem dX1_free_129 : decode cX1_free 129 = .ok (.ireturn, 1) := dk_172 (dk_at dksX1_free_5 13 rfl rfl)
theorem dX1_free_130 : decode cX1_free 130 = .ok (.aload_n 3, 1) := dk_45 (dk_at dksX1_free_5 14 rfl rfl)
theorem dX1_free_131 : decode cX1_free 131 = .ok (.getfield 145, 3) := dk_180 0 145 (dk_at dksX1_free_5 15 rfl rfl)
theorem dX1_free_134 : decode cX1_free 134 = .ok (.iload 4, 2) := dk_21 4 (dk_at dksX1_free_5 18 rfl rfl)
theorem dX1_free_136 : decode cX1_free 136 = .ok (.aload_n 3, 1) := dk_45 (dk_at dksX1_free_5 20 rfl rfl)
theorem dX1_free_137 : decode cX1_free 137 = .ok (.getfield 85, 3) := dk_180 0 85 (dk_at dksX1_free_5 21 rfl rfl)
theorem dX1_free_140 : decode cX1_free 140 = .ok (.iastore, 1) := dk_79 (dk_at dksX1_free_6 0 rfl rfl)
theorem dX1_free_141 : decode cX1_free 141 = .ok (.aload_n 3, 1) := dk_45 (dk_at dksX1_free_6 1 rfl rfl)
theorem dX1_free_142 : decode cX1_free 142 = .ok (.iload_n 2, 1) := dk_28 (dk_at dksX1_free_6 2 rfl rfl)
theorem dX1_free_143 : decode cX1_free 143 = .ok (.putfield 155, 3) := dk_181 0 155 (dk_at dksX1_free_6 3 rfl rfl)
theorem dX1_free_146 : decode cX1_free 146 = .ok (.aload_n 3, 1) := dk_45 (dk_at dksX1_free_6 6 rfl rfl)
theorem dX1_free_147 : decode cX1_free 147 = .ok (.aload_n 0, 1) := dk_42 (dk_at dksX1_free_6 7 rfl rfl)
theorem dX1_free_148 : decode cX1_free 148 = .ok (.getfield 116, 3) := dk_180 0 116 (dk_at dksX1_free_6 8 rfl rfl)
theorem dX1_free_151 : decode cX1_free 151 = .ok (.putfield 173, 3) := dk_181 0 173 (dk_at dksX1_free_6 11 rfl rfl)
theorem dX1_free_154 : decode cX1_free 154 = .ok (.iload 4, 2) := dk_21 4 (dk_at dksX1_free_6 14 rfl rfl)
theorem dX1_free_156 : decode cX1_free 156 = .ok (.ireturn, 1) := dk_172 (dk_at dksX1_free_6 16 rfl rfl)
abbrev cX1_pause : ByteArray := prog_1_method_20_code
def yX1_pause : MethodName := ⟨RX1, "pause", "(I)I"⟩
def dkwX1_pause_2 : List UInt8 := [181, 0, 176, 42, 180, 0, 20, 27, 50, 180, 0, 176, 172]
abbrev dktX1_pause_2 : List UInt8 := dkwX1_pause_2 ++ []
def dkwX1_pause_1 : List UInt8 := [180, 0, 32, 8, 46, 161, 0, 5, 2, 172, 42, 180, 0, 20, 27, 50, 89, 180, 0, 176, 4, 96]
abbrev dktX1_pause_1 : List UInt8 := dkwX1_pause_1 ++ dktX1_pause_2
def dkwX1_pause_0 : List UInt8 := [27, 184, 0, 68, 153, 0, 28, 42, 180, 0, 81, 153, 0, 21, 42, 180, 0, 20, 27, 50, 180, 0, 176, 42]
abbrev dktX1_pause_0 : List UInt8 := dkwX1_pause_0 ++ dktX1_pause_1
theorem dksX1_pause_0 : cX1_pause.data.toList.drop 0 = dktX1_pause_0 := by decide +kernel
theorem dksX1_pause_1 : cX1_pause.data.toList.drop 24 = dktX1_pause_1 := dk_seg dksX1_pause_0 24 rfl rfl
theorem dksX1_pause_2 : cX1_pause.data.toList.drop 46 = dktX1_pause_2 := dk_seg dksX1_pause_1 22 rfl rfl
theorem dX1_pause_0 : decode cX1_pause 0 = .ok (.iload_n 1, 1) := dk_27 (dk_at dksX1_pause_0 0 rfl rfl)
theorem dX1_pause_1 : decode cX1_pause 1 = .ok (.invokestatic 68, 3) := dk_184 0 68 (dk_at dksX1_pause_0 1 rfl rfl)
theorem dX1_pause_4 : decode cX1_pause 4 = .ok (.ifCond .eq 28, 3) := dk_153 0 28 (dk_at dksX1_pause_0 4 rfl rfl)
theorem dX1_pause_7 : decode cX1_pause 7 = .ok (.aload_n 0, 1) := dk_42 (dk_at dksX1_pause_0 7 rfl rfl)
theorem dX1_pause_8 : decode cX1_pause 8 = .ok (.getfield 81, 3) := dk_180 0 81 (dk_at dksX1_pause_0 8 rfl rfl)
theorem dX1_pause_11 : decode cX1_pause 11 = .ok (.ifCond .eq 21, 3) := dk_153 0 21 (dk_at dksX1_pause_0 11 rfl rfl)
theorem dX1_pause_14 : decode cX1_pause 14 = .ok (.aload_n 0, 1) := dk_42 (dk_at dksX1_pause_0 14 rfl rfl)
theorem dX1_pause_15 : decode cX1_pause 15 = .ok (.getfield 20, 3) := dk_180 0 20 (dk_at dksX1_pause_0 15 rfl rfl)
theorem dX1_pause_18 : decode cX1_pause 18 = .ok (.iload_n 1, 1) := dk_27 (dk_at dksX1_pause_0 18 rfl rfl)
theorem dX1_pause_19 : decode cX1_pause 19 = .ok (.aaload, 1) := dk_50 (dk_at dksX1_pause_0 19 rfl rfl)
theorem dX1_pause_20 : decode cX1_pause 20 = .ok (.getfield 176, 3) := dk_180 0 176 (dk_at dksX1_pause_0 20 rfl rfl)
theorem dX1_pause_23 : decode cX1_pause 23 = .ok (.aload_n 0, 1) := dk_42 (dk_at dksX1_pause_0 23 rfl rfl)
theorem dX1_pause_24 : decode cX1_pause 24 = .ok (.getfield 32, 3) := dk_180 0 32 (dk_at dksX1_pause_1 0 rfl rfl)
theorem dX1_pause_27 : decode cX1_pause 27 = .ok (.iconst 5, 1) := dk_8 (dk_at dksX1_pause_1 3 rfl rfl)
theorem dX1_pause_28 : decode cX1_pause 28 = .ok (.iaload, 1) := dk_46 (dk_at dksX1_pause_1 4 rfl rfl)
theorem dX1_pause_29 : decode cX1_pause 29 = .ok (.if_icmp .lt 5, 3) := dk_161 0 5 (dk_at dksX1_pause_1 5 rfl rfl)
theorem dX1_pause_32 : decode cX1_pause 32 = .ok (.iconst (-1), 1) := dk_2 (dk_at dksX1_pause_1 8 rfl rfl)
theorem dX1_pause_33 : decode cX1_pause 33 = .ok (.ireturn, 1) := dk_172 (dk_at dksX1_pause_1 9 rfl rfl)
theorem dX1_pause_34 : decode cX1_pause 34 = .ok (.aload_n 0, 1) := dk_42 (dk_at dksX1_pause_1 10 rfl rfl)
theorem dX1_pause_35 : decode cX1_pause 35 = .ok (.getfield 20, 3) := dk_180 0 20 (dk_at dksX1_pause_1 11 rfl rfl)
theorem dX1_pause_38 : decode cX1_pause 38 = .ok (.iload_n 1, 1) := dk_27 (dk_at dksX1_pause_1 14 rfl rfl)
theorem dX1_pause_39 : decode cX1_pause 39 = .ok (.aaload, 1) := dk_50 (dk_at dksX1_pause_1 15 rfl rfl)
theorem dX1_pause_40 : decode cX1_pause 40 = .ok (.dup, 1) := dk_89 (dk_at dksX1_pause_1 16 rfl rfl)
theorem dX1_pause_41 : decode cX1_pause 41 = .ok (.getfield 176, 3) := dk_180 0 176 (dk_at dksX1_pause_1 17 rfl rfl)
theorem dX1_pause_44 : decode cX1_pause 44 = .ok (.iconst 1, 1) := dk_4 (dk_at dksX1_pause_1 20 rfl rfl)
theorem dX1_pause_45 : decode cX1_pause 45 = .ok (.iadd, 1) := dk_96 (dk_at dksX1_pause_1 21 rfl rfl)
theorem dX1_pause_46 : decode cX1_pause 46 = .ok (.putfield 176, 3) := dk_181 0 176 (dk_at dksX1_pause_2 0 rfl rfl)
theorem dX1_pause_49 : decode cX1_pause 49 = .ok (.aload_n 0, 1) := dk_42 (dk_at dksX1_pause_2 3 rfl rfl)
theorem dX1_pause_50 : decode cX1_pause 50 = .ok (.getfield 20, 3) := dk_180 0 20 (dk_at dksX1_pause_2 4 rfl rfl)
theorem dX1_pause_53 : decode cX1_pause 53 = .ok (.iload_n 1, 1) := dk_27 (dk_at dksX1_pause_2 7 rfl rfl)
theorem dX1_pause_54 : decode cX1_pause 54 = .ok (.aaload, 1) := dk_50 (dk_at dksX1_pause_2 8 rfl rfl)
theorem dX1_pause_55 : decode cX1_pause 55 = .ok (.getfield 176, 3) := dk_180 0 176 (dk_at dksX1_pause_2 9 rfl rfl)
theorem dX1_pause_58 : decode cX1_pause 58 = .ok (.ireturn, 1) := dk_172 (dk_at dksX1_pause_2 12 rfl rfl)
abbrev cX1_wrong : ByteArray := prog_1_method_21_code
def yX1_wrong : MethodName := ⟨RX1, "wrong", "(I)I"⟩
def dkwX1_wrong_2 : List UInt8 := [182, 0, 148, 172]
abbrev dktX1_wrong_2 : List UInt8 := dkwX1_wrong_2 ++ []
def dkwX1_wrong_1 : List UInt8 := [180, 0, 20, 42, 180, 0, 40, 50, 89, 180, 0, 129, 27, 100, 181, 0, 129, 42, 4, 42, 180, 0, 40, 100]
abbrev dktX1_wrong_1 : List UInt8 := dkwX1_wrong_1 ++ dktX1_wrong_2
def dkwX1_wrong_0 : List UInt8 := [42, 180, 0, 81, 153, 0, 17, 27, 133, 9, 42, 180, 0, 119, 133, 184, 0, 5, 154, 0, 5, 2, 172, 42]
abbrev dktX1_wrong_0 : List UInt8 := dkwX1_wrong_0 ++ dktX1_wrong_1
theorem dksX1_wrong_0 : cX1_wrong.data.toList.drop 0 = dktX1_wrong_0 := by decide +kernel
theorem dksX1_wrong_1 : cX1_wrong.data.toList.drop 24 = dktX1_wrong_1 := dk_seg dksX1_wrong_0 24 rfl rfl
theorem dksX1_wrong_2 : cX1_wrong.data.toList.drop 48 = dktX1_wrong_2 := dk_seg dksX1_wrong_1 24 rfl rfl
theorem dX1_wrong_0 : decode cX1_wrong 0 = .ok (.aload_n 0, 1) := dk_42 (dk_at dksX1_wrong_0 0 rfl rfl)
theorem dX1_wrong_1 : decode cX1_wrong 1 = .ok (.getfield 81, 3) := dk_180 0 81 (dk_at dksX1_wrong_0 1 rfl rfl)
theorem dX1_wrong_4 : decode cX1_wrong 4 = .ok (.ifCond .eq 17, 3) := dk_153 0 17 (dk_at dksX1_wrong_0 4 rfl rfl)
theorem dX1_wrong_7 : decode cX1_wrong 7 = .ok (.iload_n 1, 1) := dk_27 (dk_at dksX1_wrong_0 7 rfl rfl)
theorem dX1_wrong_8 : decode cX1_wrong 8 = .ok (.i2l, 1) := dk_133 (dk_at dksX1_wrong_0 8 rfl rfl)
theorem dX1_wrong_9 : decode cX1_wrong 9 = .ok (.lconst 0, 1) := dk_9 (dk_at dksX1_wrong_0 9 rfl rfl)
theorem dX1_wrong_10 : decode cX1_wrong 10 = .ok (.aload_n 0, 1) := dk_42 (dk_at dksX1_wrong_0 10 rfl rfl)
theorem dX1_wrong_11 : decode cX1_wrong 11 = .ok (.getfield 119, 3) := dk_180 0 119 (dk_at dksX1_wrong_0 11 rfl rfl)
theorem dX1_wrong_14 : decode cX1_wrong 14 = .ok (.i2l, 1) := dk_133 (dk_at dksX1_wrong_0 14 rfl rfl)
theorem dX1_wrong_15 : decode cX1_wrong 15 = .ok (.invokestatic 5, 3) := dk_184 0 5 (dk_at dksX1_wrong_0 15 rfl rfl)
theorem dX1_wrong_18 : decode cX1_wrong 18 = .ok (.ifCond .ne 5, 3) := dk_154 0 5 (dk_at dksX1_wrong_0 18 rfl rfl)
theorem dX1_wrong_21 : decode cX1_wrong 21 = .ok (.iconst (-1), 1) := dk_2 (dk_at dksX1_wrong_0 21 rfl rfl)
theorem dX1_wrong_22 : decode cX1_wrong 22 = .ok (.ireturn, 1) := dk_172 (dk_at dksX1_wrong_0 22 rfl rfl)
theorem dX1_wrong_23 : decode cX1_wrong 23 = .ok (.aload_n 0, 1) := dk_42 (dk_at dksX1_wrong_0 23 rfl rfl)
theorem dX1_wrong_24 : decode cX1_wrong 24 = .ok (.getfield 20, 3) := dk_180 0 20 (dk_at dksX1_wrong_1 0 rfl rfl)
theorem dX1_wrong_27 : decode cX1_wrong 27 = .ok (.aload_n 0, 1) := dk_42 (dk_at dksX1_wrong_1 3 rfl rfl)
theorem dX1_wrong_28 : decode cX1_wrong 28 = .ok (.getfield 40, 3) := dk_180 0 40 (dk_at dksX1_wrong_1 4 rfl rfl)
theorem dX1_wrong_31 : decode cX1_wrong 31 = .ok (.aaload, 1) := dk_50 (dk_at dksX1_wrong_1 7 rfl rfl)
theorem dX1_wrong_32 : decode cX1_wrong 32 = .ok (.dup, 1) := dk_89 (dk_at dksX1_wrong_1 8 rfl rfl)
theorem dX1_wrong_33 : decode cX1_wrong 33 = .ok (.getfield 129, 3) := dk_180 0 129 (dk_at dksX1_wrong_1 9 rfl rfl)
theorem dX1_wrong_36 : decode cX1_wrong 36 = .ok (.iload_n 1, 1) := dk_27 (dk_at dksX1_wrong_1 12 rfl rfl)
theorem dX1_wrong_37 : decode cX1_wrong 37 = .ok (.isub, 1) := dk_100 (dk_at dksX1_wrong_1 13 rfl rfl)
theorem dX1_wrong_38 : decode cX1_wrong 38 = .ok (.putfield 129, 3) := dk_181 0 129 (dk_at dksX1_wrong_1 14 rfl rfl)
theorem dX1_wrong_41 : decode cX1_wrong 41 = .ok (.aload_n 0, 1) := dk_42 (dk_at dksX1_wrong_1 17 rfl rfl)
theorem dX1_wrong_42 : decode cX1_wrong 42 = .ok (.iconst 1, 1) := dk_4 (dk_at dksX1_wrong_1 18 rfl rfl)
theorem dX1_wrong_43 : decode cX1_wrong 43 = .ok (.aload_n 0, 1) := dk_42 (dk_at dksX1_wrong_1 19 rfl rfl)
theorem dX1_wrong_44 : decode cX1_wrong 44 = .ok (.getfield 40, 3) := dk_180 0 40 (dk_at dksX1_wrong_1 20 rfl rfl)
theorem dX1_wrong_47 : decode cX1_wrong 47 = .ok (.isub, 1) := dk_100 (dk_at dksX1_wrong_1 23 rfl rfl)
theorem dX1_wrong_48 : decode cX1_wrong 48 = .ok (.invokevirtual 148, 3) := dk_182 0 148 (dk_at dksX1_wrong_2 0 rfl rfl)
theorem dX1_wrong_51 : decode cX1_wrong 51 = .ok (.ireturn, 1) := dk_172 (dk_at dksX1_wrong_2 3 rfl rfl)
abbrev cX1_at : ByteArray := prog_1_method_22_code
def yX1_at : MethodName := ⟨RX1, "at", "(II)I"⟩
def dkwX1_at_1 : List UInt8 := [180, 0, 20, 27, 50, 180, 0, 145, 28, 46, 167, 0, 4, 2, 172]
abbrev dktX1_at_1 : List UInt8 := dkwX1_at_1 ++ []
def dkwX1_at_0 : List UInt8 := [27, 184, 0, 68, 153, 0, 31, 28, 184, 0, 179, 153, 0, 24, 42, 180, 0, 36, 155, 0, 17, 42]
abbrev dktX1_at_0 : List UInt8 := dkwX1_at_0 ++ dktX1_at_1
theorem dksX1_at_0 : cX1_at.data.toList.drop 0 = dktX1_at_0 := by decide +kernel
theorem dksX1_at_1 : cX1_at.data.toList.drop 22 = dktX1_at_1 := dk_seg dksX1_at_0 22 rfl rfl
theorem dX1_at_0 : decode cX1_at 0 = .ok (.iload_n 1, 1) := dk_27 (dk_at dksX1_at_0 0 rfl rfl)
theorem dX1_at_1 : decode cX1_at 1 = .ok (.invokestatic 68, 3) := dk_184 0 68 (dk_at dksX1_at_0 1 rfl rfl)
theorem dX1_at_4 : decode cX1_at 4 = .ok (.ifCond .eq 31, 3) := dk_153 0 31 (dk_at dksX1_at_0 4 rfl rfl)
theorem dX1_at_7 : decode cX1_at 7 = .ok (.iload_n 2, 1) := dk_28 (dk_at dksX1_at_0 7 rfl rfl)
theorem dX1_at_8 : decode cX1_at 8 = .ok (.invokestatic 179, 3) := dk_184 0 179 (dk_at dksX1_at_0 8 rfl rfl)
theorem dX1_at_11 : decode cX1_at 11 = .ok (.ifCond .eq 24, 3) := dk_153 0 24 (dk_at dksX1_at_0 11 rfl rfl)
theorem dX1_at_14 : decode cX1_at 14 = .ok (.aload_n 0, 1) := dk_42 (dk_at dksX1_at_0 14 rfl rfl)
theorem dX1_at_15 : decode cX1_at 15 = .ok (.getfield 36, 3) := dk_180 0 36 (dk_at dksX1_at_0 15 rfl rfl)
theorem dX1_at_18 : decode cX1_at 18 = .ok (.ifCond .lt 17, 3) := dk_155 0 17 (dk_at dksX1_at_0 18 rfl rfl)
theorem dX1_at_21 : decode cX1_at 21 = .ok (.aload_n 0, 1) := dk_42 (dk_at dksX1_at_0 21 rfl rfl)
theorem dX1_at_22 : decode cX1_at 22 = .ok (.getfield 20, 3) := dk_180 0 20 (dk_at dksX1_at_1 0 rfl rfl)
theorem dX1_at_25 : decode cX1_at 25 = .ok (.iload_n 1, 1) := dk_27 (dk_at dksX1_at_1 3 rfl rfl)
theorem dX1_at_26 : decode cX1_at 26 = .ok (.aaload, 1) := dk_50 (dk_at dksX1_at_1 4 rfl rfl)
theorem dX1_at_27 : decode cX1_at 27 = .ok (.getfield 145, 3) := dk_180 0 145 (dk_at dksX1_at_1 5 rfl rfl)
theorem dX1_at_30 : decode cX1_at 30 = .ok (.iload_n 2, 1) := dk_28 (dk_at dksX1_at_1 8 rfl rfl)
theorem dX1_at_31 : decode cX1_at 31 = .ok (.iaload, 1) := dk_46 (dk_at dksX1_at_1 9 rfl rfl)
theorem dX1_at_32 : decode cX1_at 32 = .ok (.goto 4, 3) := dk_167 0 4 (dk_at dksX1_at_1 10 rfl rfl)
theorem dX1_at_35 : decode cX1_at 35 = .ok (.iconst (-1), 1) := dk_2 (dk_at dksX1_at_1 13 rfl rfl)
theorem dX1_at_36 : decode cX1_at 36 = .ok (.ireturn, 1) := dk_172 (dk_at dksX1_at_1 14 rfl rfl)
abbrev cX1_isPlace : ByteArray := prog_1_method_4_code
def yX1_isPlace : MethodName := ⟨RX1, "isPlace", "(I)Z"⟩
def dkwX1_isPlace_0 : List UInt8 := [26, 133, 9, 20, 0, 9, 184, 0, 5, 172]
abbrev dktX1_isPlace_0 : List UInt8 := dkwX1_isPlace_0 ++ []
theorem dksX1_isPlace_0 : cX1_isPlace.data.toList.drop 0 = dktX1_isPlace_0 := by decide +kernel
theorem dX1_isPlace_0 : decode cX1_isPlace 0 = .ok (.iload_n 0, 1) := dk_26 (dk_at dksX1_isPlace_0 0 rfl rfl)
theorem dX1_isPlace_1 : decode cX1_isPlace 1 = .ok (.i2l, 1) := dk_133 (dk_at dksX1_isPlace_0 1 rfl rfl)
theorem dX1_isPlace_2 : decode cX1_isPlace 2 = .ok (.lconst 0, 1) := dk_9 (dk_at dksX1_isPlace_0 2 rfl rfl)
theorem dX1_isPlace_3 : decode cX1_isPlace 3 = .ok (.ldc2_w 9, 3) := dk_20 0 9 (dk_at dksX1_isPlace_0 3 rfl rfl)
theorem dX1_isPlace_6 : decode cX1_isPlace 6 = .ok (.invokestatic 5, 3) := dk_184 0 5 (dk_at dksX1_isPlace_0 6 rfl rfl)
theorem dX1_isPlace_9 : decode cX1_isPlace 9 = .ok (.ireturn, 1) := dk_172 (dk_at dksX1_isPlace_0 9 rfl rfl)
abbrev cX1_of : ByteArray := prog_1_method_23_code
def yX1_of : MethodName := ⟨RX1, "of", "(II)I"⟩
def dkwX1_of_4 : List UInt8 := [172]
abbrev dktX1_of_4 : List UInt8 := dkwX1_of_4 ++ []
def dkwX1_of_3 : List UInt8 := [172, 42, 180, 0, 40, 27, 160, 0, 10, 42, 180, 0, 119, 167, 0, 4, 3, 172, 45, 180, 0, 182, 172, 2]
abbrev dktX1_of_3 : List UInt8 := dkwX1_of_3 ++ dktX1_of_4
def dkwX1_of_2 : List UInt8 := [45, 180, 0, 129, 172, 45, 180, 0, 122, 172, 45, 180, 0, 158, 172, 45, 180, 0, 176, 172, 45, 180, 0, 155]
abbrev dktX1_of_2 : List UInt8 := dkwX1_of_2 ++ dktX1_of_3
def dkwX1_of_1 : List UInt8 := [170, 0, 0, 0, 0, 0, 90, 0, 0, 0, 0, 0, 0, 0, 6, 0, 0, 0, 43, 0, 0, 0, 48, 0, 0, 0, 53, 0, 0, 0, 58, 0, 0, 0, 63, 0, 0, 0, 68, 0, 0, 0, 85]
abbrev dktX1_of_1 : List UInt8 := dkwX1_of_1 ++ dktX1_of_2
def dkwX1_of_0 : List UInt8 := [27, 184, 0, 68, 154, 0, 5, 2, 172, 42, 180, 0, 20, 27, 50, 78, 28]
abbrev dktX1_of_0 : List UInt8 := dkwX1_of_0 ++ dktX1_of_1
theorem dksX1_of_0 : cX1_of.data.toList.drop 0 = dktX1_of_0 := by decide +kernel
theorem dksX1_of_1 : cX1_of.data.toList.drop 17 = dktX1_of_1 := dk_seg dksX1_of_0 17 rfl rfl
theorem dksX1_of_2 : cX1_of.data.toList.drop 60 = dktX1_of_2 := dk_seg dksX1_of_1 43 rfl rfl
theorem dksX1_of_3 : cX1_of.data.toList.drop 84 = dktX1_of_3 := dk_seg dksX1_of_2 24 rfl rfl
theorem dksX1_of_4 : cX1_of.data.toList.drop 108 = dktX1_of_4 := dk_seg dksX1_of_3 24 rfl rfl
theorem dX1_of_0 : decode cX1_of 0 = .ok (.iload_n 1, 1) := dk_27 (dk_at dksX1_of_0 0 rfl rfl)
theorem dX1_of_1 : decode cX1_of 1 = .ok (.invokestatic 68, 3) := dk_184 0 68 (dk_at dksX1_of_0 1 rfl rfl)
theorem dX1_of_4 : decode cX1_of 4 = .ok (.ifCond .ne 5, 3) := dk_154 0 5 (dk_at dksX1_of_0 4 rfl rfl)
theorem dX1_of_7 : decode cX1_of 7 = .ok (.iconst (-1), 1) := dk_2 (dk_at dksX1_of_0 7 rfl rfl)
theorem dX1_of_8 : decode cX1_of 8 = .ok (.ireturn, 1) := dk_172 (dk_at dksX1_of_0 8 rfl rfl)
theorem dX1_of_9 : decode cX1_of 9 = .ok (.aload_n 0, 1) := dk_42 (dk_at dksX1_of_0 9 rfl rfl)
theorem dX1_of_10 : decode cX1_of 10 = .ok (.getfield 20, 3) := dk_180 0 20 (dk_at dksX1_of_0 10 rfl rfl)
theorem dX1_of_13 : decode cX1_of 13 = .ok (.iload_n 1, 1) := dk_27 (dk_at dksX1_of_0 13 rfl rfl)
theorem dX1_of_14 : decode cX1_of 14 = .ok (.aaload, 1) := dk_50 (dk_at dksX1_of_0 14 rfl rfl)
theorem dX1_of_15 : decode cX1_of 15 = .ok (.astore_n 3, 1) := dk_78 (dk_at dksX1_of_0 15 rfl rfl)
theorem dX1_of_16 : decode cX1_of 16 = .ok (.iload_n 2, 1) := dk_28 (dk_at dksX1_of_0 16 rfl rfl)
theorem dX1_of_17 : decode cX1_of 17 = .ok (.tableswitch 90 0 6 #[43, 48, 53, 58, 63, 68, 85], 43) := by decide +kernel
theorem dX1_of_60 : decode cX1_of 60 = .ok (.aload_n 3, 1) := dk_45 (dk_at dksX1_of_2 0 rfl rfl)
theorem dX1_of_61 : decode cX1_of 61 = .ok (.getfield 129, 3) := dk_180 0 129 (dk_at dksX1_of_2 1 rfl rfl)
theorem dX1_of_64 : decode cX1_of 64 = .ok (.ireturn, 1) := dk_172 (dk_at dksX1_of_2 4 rfl rfl)
theorem dX1_of_65 : decode cX1_of 65 = .ok (.aload_n 3, 1) := dk_45 (dk_at dksX1_of_2 5 rfl rfl)
theorem dX1_of_66 : decode cX1_of 66 = .ok (.getfield 122, 3) := dk_180 0 122 (dk_at dksX1_of_2 6 rfl rfl)
theorem dX1_of_69 : decode cX1_of 69 = .ok (.ireturn, 1) := dk_172 (dk_at dksX1_of_2 9 rfl rfl)
theorem dX1_of_70 : decode cX1_of 70 = .ok (.aload_n 3, 1) := dk_45 (dk_at dksX1_of_2 10 rfl rfl)
theorem dX1_of_71 : decode cX1_of 71 = .ok (.getfield 158, 3) := dk_180 0 158 (dk_at dksX1_of_2 11 rfl rfl)
theorem dX1_of_74 : decode cX1_of 74 = .ok (.ireturn, 1) := dk_172 (dk_at dksX1_of_2 14 rfl rfl)
theorem dX1_of_75 : decode cX1_of 75 = .ok (.aload_n 3, 1) := dk_45 (dk_at dksX1_of_2 15 rfl rfl)
theorem dX1_of_76 : decode cX1_of 76 = .ok (.getfield 176, 3) := dk_180 0 176 (dk_at dksX1_of_2 16 rfl rfl)
theorem dX1_of_79 : decode cX1_of 79 = .ok (.ireturn, 1) := dk_172 (dk_at dksX1_of_2 19 rfl rfl)
theorem dX1_of_80 : decode cX1_of 80 = .ok (.aload_n 3, 1) := dk_45 (dk_at dksX1_of_2 20 rfl rfl)
theorem dX1_of_81 : decode cX1_of 81 = .ok (.getfield 155, 3) := dk_180 0 155 (dk_at dksX1_of_2 21 rfl rfl)
theorem dX1_of_84 : decode cX1_of 84 = .ok (.ireturn, 1) := dk_172 (dk_at dksX1_of_3 0 rfl rfl)
theorem dX1_of_85 : decode cX1_of 85 = .ok (.aload_n 0, 1) := dk_42 (dk_at dksX1_of_3 1 rfl rfl)
theorem dX1_of_86 : decode cX1_of 86 = .ok (.getfield 40, 3) := dk_180 0 40 (dk_at dksX1_of_3 2 rfl rfl)
theorem dX1_of_89 : decode cX1_of 89 = .ok (.iload_n 1, 1) := dk_27 (dk_at dksX1_of_3 5 rfl rfl)
theorem dX1_of_90 : decode cX1_of 90 = .ok (.if_icmp .ne 10, 3) := dk_160 0 10 (dk_at dksX1_of_3 6 rfl rfl)
theorem dX1_of_93 : decode cX1_of 93 = .ok (.aload_n 0, 1) := dk_42 (dk_at dksX1_of_3 9 rfl rfl)
theorem dX1_of_94 : decode cX1_of 94 = .ok (.getfield 119, 3) := dk_180 0 119 (dk_at dksX1_of_3 10 rfl rfl)
theorem dX1_of_97 : decode cX1_of 97 = .ok (.goto 4, 3) := dk_167 0 4 (dk_at dksX1_of_3 13 rfl rfl)
theorem dX1_of_100 : decode cX1_of 100 = .ok (.iconst 0, 1) := dk_3 (dk_at dksX1_of_3 16 rfl rfl)
theorem dX1_of_101 : decode cX1_of 101 = .ok (.ireturn, 1) := dk_172 (dk_at dksX1_of_3 17 rfl rfl)
theorem dX1_of_102 : decode cX1_of 102 = .ok (.aload_n 3, 1) := dk_45 (dk_at dksX1_of_3 18 rfl rfl)
theorem dX1_of_103 : decode cX1_of 103 = .ok (.getfield 182, 3) := dk_180 0 182 (dk_at dksX1_of_3 19 rfl rfl)
theorem dX1_of_106 : decode cX1_of 106 = .ok (.ireturn, 1) := dk_172 (dk_at dksX1_of_3 22 rfl rfl)
theorem dX1_of_107 : decode cX1_of 107 = .ok (.iconst (-1), 1) := dk_2 (dk_at dksX1_of_3 23 rfl rfl)
theorem dX1_of_108 : decode cX1_of 108 = .ok (.ireturn, 1) := dk_172 (dk_at dksX1_of_4 0 rfl rfl)
abbrev cX1_count : ByteArray := prog_1_method_24_code
def yX1_count : MethodName := ⟨RX1, "count", "(I)I"⟩
def dkwX1_count_4 : List UInt8 := [180, 0, 185, 172, 42, 180, 0, 188, 172, 42, 180, 0, 46, 172, 2, 172]
abbrev dktX1_count_4 : List UInt8 := dkwX1_count_4 ++ []
def dkwX1_count_3 : List UInt8 := [153, 0, 10, 42, 180, 0, 40, 167, 0, 4, 2, 172, 42, 180, 0, 116, 172, 42, 180, 0, 43, 172, 42]
abbrev dktX1_count_3 : List UInt8 := dkwX1_count_3 ++ dktX1_count_4
def dkwX1_count_2 : List UInt8 := [42, 180, 0, 36, 172, 42, 180, 0, 81, 153, 0, 7, 4, 167, 0, 4, 3, 172, 42, 180, 0, 81]
abbrev dktX1_count_2 : List UInt8 := dkwX1_count_2 ++ dktX1_count_3
def dkwX1_count_1 : List UInt8 := [170, 0, 0, 0, 0, 0, 106, 0, 0, 0, 0, 0, 0, 0, 7, 0, 0, 0, 47, 0, 0, 0, 52, 0, 0, 0, 65, 0, 0, 0, 81, 0, 0, 0, 86, 0, 0, 0, 91, 0, 0, 0, 96, 0, 0, 0, 101]
abbrev dktX1_count_1 : List UInt8 := dkwX1_count_1 ++ dktX1_count_2
def dkwX1_count_0 : List UInt8 := [27]
abbrev dktX1_count_0 : List UInt8 := dkwX1_count_0 ++ dktX1_count_1
theorem dksX1_count_0 : cX1_count.data.toList.drop 0 = dktX1_count_0 := by decide +kernel
theorem dksX1_count_1 : cX1_count.data.toList.drop 1 = dktX1_count_1 := dk_seg dksX1_count_0 1 rfl rfl
theorem dksX1_count_2 : cX1_count.data.toList.drop 48 = dktX1_count_2 := dk_seg dksX1_count_1 47 rfl rfl
theorem dksX1_count_3 : cX1_count.data.toList.drop 70 = dktX1_count_3 := dk_seg dksX1_count_2 22 rfl rfl
theorem dksX1_count_4 : cX1_count.data.toList.drop 93 = dktX1_count_4 := dk_seg dksX1_count_3 23 rfl rfl
theorem dX1_count_0 : decode cX1_count 0 = .ok (.iload_n 1, 1) := dk_27 (dk_at dksX1_count_0 0 rfl rfl)
theorem dX1_count_1 : decode cX1_count 1 = .ok (.tableswitch 106 0 7 #[47, 52, 65, 81, 86, 91, 96, 101], 47) := by decide +kernel
theorem dX1_count_48 : decode cX1_count 48 = .ok (.aload_n 0, 1) := dk_42 (dk_at dksX1_count_2 0 rfl rfl)
theorem dX1_count_49 : decode cX1_count 49 = .ok (.getfield 36, 3) := dk_180 0 36 (dk_at dksX1_count_2 1 rfl rfl)
theorem dX1_count_52 : decode cX1_count 52 = .ok (.ireturn, 1) := dk_172 (dk_at dksX1_count_2 4 rfl rfl)
theorem dX1_count_53 : decode cX1_count 53 = .ok (.aload_n 0, 1) := dk_42 (dk_at dksX1_count_2 5 rfl rfl)
theorem dX1_count_54 : decode cX1_count 54 = .ok (.getfield 81, 3) := dk_180 0 81 (dk_at dksX1_count_2 6 rfl rfl)
theorem dX1_count_57 : decode cX1_count 57 = .ok (.ifCond .eq 7, 3) := dk_153 0 7 (dk_at dksX1_count_2 9 rfl rfl)
theorem dX1_count_60 : decode cX1_count 60 = .ok (.iconst 1, 1) := dk_4 (dk_at dksX1_count_2 12 rfl rfl)
theorem dX1_count_61 : decode cX1_count 61 = .ok (.goto 4, 3) := dk_167 0 4 (dk_at dksX1_count_2 13 rfl rfl)
theorem dX1_count_64 : decode cX1_count 64 = .ok (.iconst 0, 1) := dk_3 (dk_at dksX1_count_2 16 rfl rfl)
theorem dX1_count_65 : decode cX1_count 65 = .ok (.ireturn, 1) := dk_172 (dk_at dksX1_count_2 17 rfl rfl)
theorem dX1_count_66 : decode cX1_count 66 = .ok (.aload_n 0, 1) := dk_42 (dk_at dksX1_count_2 18 rfl rfl)
theorem dX1_count_67 : decode cX1_count 67 = .ok (.getfield 81, 3) := dk_180 0 81 (dk_at dksX1_count_2 19 rfl rfl)
theorem dX1_count_70 : decode cX1_count 70 = .ok (.ifCond .eq 10, 3) := dk_153 0 10 (dk_at dksX1_count_3 0 rfl rfl)
theorem dX1_count_73 : decode cX1_count 73 = .ok (.aload_n 0, 1) := dk_42 (dk_at dksX1_count_3 3 rfl rfl)
theorem dX1_count_74 : decode cX1_count 74 = .ok (.getfield 40, 3) := dk_180 0 40 (dk_at dksX1_count_3 4 rfl rfl)
theorem dX1_count_77 : decode cX1_count 77 = .ok (.goto 4, 3) := dk_167 0 4 (dk_at dksX1_count_3 7 rfl rfl)
theorem dX1_count_80 : decode cX1_count 80 = .ok (.iconst (-1), 1) := dk_2 (dk_at dksX1_count_3 10 rfl rfl)
theorem dX1_count_81 : decode cX1_count 81 = .ok (.ireturn, 1) := dk_172 (dk_at dksX1_count_3 11 rfl rfl)
theorem dX1_count_82 : decode cX1_count 82 = .ok (.aload_n 0, 1) := dk_42 (dk_at dksX1_count_3 12 rfl rfl)
theorem dX1_count_83 : decode cX1_count 83 = .ok (.getfield 116, 3) := dk_180 0 116 (dk_at dksX1_count_3 13 rfl rfl)
theorem dX1_count_86 : decode cX1_count 86 = .ok (.ireturn, 1) := dk_172 (dk_at dksX1_count_3 16 rfl rfl)
theorem dX1_count_87 : decode cX1_count 87 = .ok (.aload_n 0, 1) := dk_42 (dk_at dksX1_count_3 17 rfl rfl)
theorem dX1_count_88 : decode cX1_count 88 = .ok (.getfield 43, 3) := dk_180 0 43 (dk_at dksX1_count_3 18 rfl rfl)
theorem dX1_count_91 : decode cX1_count 91 = .ok (.ireturn, 1) := dk_172 (dk_at dksX1_count_3 21 rfl rfl)
theorem dX1_count_92 : decode cX1_count 92 = .ok (.aload_n 0, 1) := dk_42 (dk_at dksX1_count_3 22 rfl rfl)
theorem dX1_count_93 : decode cX1_count 93 = .ok (.getfield 185, 3) := dk_180 0 185 (dk_at dksX1_count_4 0 rfl rfl)
theorem dX1_count_96 : decode cX1_count 96 = .ok (.ireturn, 1) := dk_172 (dk_at dksX1_count_4 3 rfl rfl)
theorem dX1_count_97 : decode cX1_count 97 = .ok (.aload_n 0, 1) := dk_42 (dk_at dksX1_count_4 4 rfl rfl)
theorem dX1_count_98 : decode cX1_count 98 = .ok (.getfield 188, 3) := dk_180 0 188 (dk_at dksX1_count_4 5 rfl rfl)
theorem dX1_count_101 : decode cX1_count 101 = .ok (.ireturn, 1) := dk_172 (dk_at dksX1_count_4 8 rfl rfl)
theorem dX1_count_102 : decode cX1_count 102 = .ok (.aload_n 0, 1) := dk_42 (dk_at dksX1_count_4 9 rfl rfl)
theorem dX1_count_103 : decode cX1_count 103 = .ok (.getfield 46, 3) := dk_180 0 46 (dk_at dksX1_count_4 10 rfl rfl)
theorem dX1_count_106 : decode cX1_count 106 = .ok (.ireturn, 1) := dk_172 (dk_at dksX1_count_4 13 rfl rfl)
theorem dX1_count_107 : decode cX1_count 107 = .ok (.iconst (-1), 1) := dk_2 (dk_at dksX1_count_4 14 rfl rfl)
theorem dX1_count_108 : decode cX1_count 108 = .ok (.ireturn, 1) := dk_172 (dk_at dksX1_count_4 15 rfl rfl)
abbrev cX1_served : ByteArray := prog_1_method_25_code
def yX1_served : MethodName := ⟨RX1, "served", "(II)I"⟩
def dkwX1_served_1 : List UInt8 := [46, 167, 0, 4, 2, 172]
abbrev dktX1_served_1 : List UInt8 := dkwX1_served_1 ++ []
def dkwX1_served_0 : List UInt8 := [27, 184, 0, 68, 153, 0, 24, 28, 184, 0, 72, 153, 0, 17, 42, 180, 0, 20, 27, 50, 180, 0, 142, 28]
abbrev dktX1_served_0 : List UInt8 := dkwX1_served_0 ++ dktX1_served_1
theorem dksX1_served_0 : cX1_served.data.toList.drop 0 = dktX1_served_0 := by decide +kernel
theorem dksX1_served_1 : cX1_served.data.toList.drop 24 = dktX1_served_1 := dk_seg dksX1_served_0 24 rfl rfl
theorem dX1_served_0 : decode cX1_served 0 = .ok (.iload_n 1, 1) := dk_27 (dk_at dksX1_served_0 0 rfl rfl)
theorem dX1_served_1 : decode cX1_served 1 = .ok (.invokestatic 68, 3) := dk_184 0 68 (dk_at dksX1_served_0 1 rfl rfl)
theorem dX1_served_4 : decode cX1_served 4 = .ok (.ifCond .eq 24, 3) := dk_153 0 24 (dk_at dksX1_served_0 4 rfl rfl)
theorem dX1_served_7 : decode cX1_served 7 = .ok (.iload_n 2, 1) := dk_28 (dk_at dksX1_served_0 7 rfl rfl)
theorem dX1_served_8 : decode cX1_served 8 = .ok (.invokestatic 72, 3) := dk_184 0 72 (dk_at dksX1_served_0 8 rfl rfl)
theorem dX1_served_11 : decode cX1_served 11 = .ok (.ifCond .eq 17, 3) := dk_153 0 17 (dk_at dksX1_served_0 11 rfl rfl)
theorem dX1_served_14 : decode cX1_served 14 = .ok (.aload_n 0, 1) := dk_42 (dk_at dksX1_served_0 14 rfl rfl)
theorem dX1_served_15 : decode cX1_served 15 = .ok (.getfield 20, 3) := dk_180 0 20 (dk_at dksX1_served_0 15 rfl rfl)
theorem dX1_served_18 : decode cX1_served 18 = .ok (.iload_n 1, 1) := dk_27 (dk_at dksX1_served_0 18 rfl rfl)
theorem dX1_served_19 : decode cX1_served 19 = .ok (.aaload, 1) := dk_50 (dk_at dksX1_served_0 19 rfl rfl)
theorem dX1_served_20 : decode cX1_served 20 = .ok (.getfield 142, 3) := dk_180 0 142 (dk_at dksX1_served_0 20 rfl rfl)
theorem dX1_served_23 : decode cX1_served 23 = .ok (.iload_n 2, 1) := dk_28 (dk_at dksX1_served_0 23 rfl rfl)
theorem dX1_served_24 : decode cX1_served 24 = .ok (.iaload, 1) := dk_46 (dk_at dksX1_served_1 0 rfl rfl)
theorem dX1_served_25 : decode cX1_served 25 = .ok (.goto 4, 3) := dk_167 0 4 (dk_at dksX1_served_1 1 rfl rfl)
theorem dX1_served_28 : decode cX1_served 28 = .ok (.iconst (-1), 1) := dk_2 (dk_at dksX1_served_1 4 rfl rfl)
theorem dX1_served_29 : decode cX1_served 29 = .ok (.ireturn, 1) := dk_172 (dk_at dksX1_served_1 5 rfl rfl)
abbrev cX1_feet : ByteArray := prog_1_method_26_code
def yX1_feet : MethodName := ⟨RX1, "feet", "(IIII)Z"⟩
def dkwX1_feet_3 : List UInt8 := [21, 4, 79, 4, 172]
abbrev dktX1_feet_3 : List UInt8 := dkwX1_feet_3 ++ []
def dkwX1_feet_2 : List UInt8 := [172, 42, 180, 0, 20, 27, 50, 180, 0, 193, 28, 29, 79, 42, 180, 0, 20, 27, 50, 180, 0, 196, 28]
abbrev dktX1_feet_2 : List UInt8 := dkwX1_feet_2 ++ dktX1_feet_3
def dkwX1_feet_1 : List UInt8 := [153, 0, 23, 21, 4, 133, 9, 20, 0, 191, 184, 0, 5, 153, 0, 10, 42, 180, 0, 81, 154, 0, 5, 3]
abbrev dktX1_feet_1 : List UInt8 := dkwX1_feet_1 ++ dktX1_feet_2
def dkwX1_feet_0 : List UInt8 := [27, 184, 0, 68, 153, 0, 42, 28, 184, 0, 179, 153, 0, 35, 29, 133, 9, 20, 0, 191, 184, 0, 5]
abbrev dktX1_feet_0 : List UInt8 := dkwX1_feet_0 ++ dktX1_feet_1
theorem dksX1_feet_0 : cX1_feet.data.toList.drop 0 = dktX1_feet_0 := by decide +kernel
theorem dksX1_feet_1 : cX1_feet.data.toList.drop 23 = dktX1_feet_1 := dk_seg dksX1_feet_0 23 rfl rfl
theorem dksX1_feet_2 : cX1_feet.data.toList.drop 47 = dktX1_feet_2 := dk_seg dksX1_feet_1 24 rfl rfl
theorem dksX1_feet_3 : cX1_feet.data.toList.drop 70 = dktX1_feet_3 := dk_seg dksX1_feet_2 23 rfl rfl
theorem dX1_feet_0 : decode cX1_feet 0 = .ok (.iload_n 1, 1) := dk_27 (dk_at dksX1_feet_0 0 rfl rfl)
theorem dX1_feet_1 : decode cX1_feet 1 = .ok (.invokestatic 68, 3) := dk_184 0 68 (dk_at dksX1_feet_0 1 rfl rfl)
theorem dX1_feet_4 : decode cX1_feet 4 = .ok (.ifCond .eq 42, 3) := dk_153 0 42 (dk_at dksX1_feet_0 4 rfl rfl)
theorem dX1_feet_7 : decode cX1_feet 7 = .ok (.iload_n 2, 1) := dk_28 (dk_at dksX1_feet_0 7 rfl rfl)
theorem dX1_feet_8 : decode cX1_feet 8 = .ok (.invokestatic 179, 3) := dk_184 0 179 (dk_at dksX1_feet_0 8 rfl rfl)
theorem dX1_feet_11 : decode cX1_feet 11 = .ok (.ifCond .eq 35, 3) := dk_153 0 35 (dk_at dksX1_feet_0 11 rfl rfl)
theorem dX1_feet_14 : decode cX1_feet 14 = .ok (.iload_n 3, 1) := dk_29 (dk_at dksX1_feet_0 14 rfl rfl)
theorem dX1_feet_15 : decode cX1_feet 15 = .ok (.i2l, 1) := dk_133 (dk_at dksX1_feet_0 15 rfl rfl)
theorem dX1_feet_16 : decode cX1_feet 16 = .ok (.lconst 0, 1) := dk_9 (dk_at dksX1_feet_0 16 rfl rfl)
theorem dX1_feet_17 : decode cX1_feet 17 = .ok (.ldc2_w 191, 3) := dk_20 0 191 (dk_at dksX1_feet_0 17 rfl rfl)
theorem dX1_feet_20 : decode cX1_feet 20 = .ok (.invokestatic 5, 3) := dk_184 0 5 (dk_at dksX1_feet_0 20 rfl rfl)
theorem dX1_feet_23 : decode cX1_feet 23 = .ok (.ifCond .eq 23, 3) := dk_153 0 23 (dk_at dksX1_feet_1 0 rfl rfl)
theorem dX1_feet_26 : decode cX1_feet 26 = .ok (.iload 4, 2) := dk_21 4 (dk_at dksX1_feet_1 3 rfl rfl)
theorem dX1_feet_28 : decode cX1_feet 28 = .ok (.i2l, 1) := dk_133 (dk_at dksX1_feet_1 5 rfl rfl)
theorem dX1_feet_29 : decode cX1_feet 29 = .ok (.lconst 0, 1) := dk_9 (dk_at dksX1_feet_1 6 rfl rfl)
theorem dX1_feet_30 : decode cX1_feet 30 = .ok (.ldc2_w 191, 3) := dk_20 0 191 (dk_at dksX1_feet_1 7 rfl rfl)
theorem dX1_feet_33 : decode cX1_feet 33 = .ok (.invokestatic 5, 3) := dk_184 0 5 (dk_at dksX1_feet_1 10 rfl rfl)
theorem dX1_feet_36 : decode cX1_feet 36 = .ok (.ifCond .eq 10, 3) := dk_153 0 10 (dk_at dksX1_feet_1 13 rfl rfl)
theorem dX1_feet_39 : decode cX1_feet 39 = .ok (.aload_n 0, 1) := dk_42 (dk_at dksX1_feet_1 16 rfl rfl)
theorem dX1_feet_40 : decode cX1_feet 40 = .ok (.getfield 81, 3) := dk_180 0 81 (dk_at dksX1_feet_1 17 rfl rfl)
theorem dX1_feet_43 : decode cX1_feet 43 = .ok (.ifCond .ne 5, 3) := dk_154 0 5 (dk_at dksX1_feet_1 20 rfl rfl)
theorem dX1_feet_46 : decode cX1_feet 46 = .ok (.iconst 0, 1) := dk_3 (dk_at dksX1_feet_1 23 rfl rfl)
theorem dX1_feet_47 : decode cX1_feet 47 = .ok (.ireturn, 1) := dk_172 (dk_at dksX1_feet_2 0 rfl rfl)
theorem dX1_feet_48 : decode cX1_feet 48 = .ok (.aload_n 0, 1) := dk_42 (dk_at dksX1_feet_2 1 rfl rfl)
theorem dX1_feet_49 : decode cX1_feet 49 = .ok (.getfield 20, 3) := dk_180 0 20 (dk_at dksX1_feet_2 2 rfl rfl)
theorem dX1_feet_52 : decode cX1_feet 52 = .ok (.iload_n 1, 1) := dk_27 (dk_at dksX1_feet_2 5 rfl rfl)
theorem dX1_feet_53 : decode cX1_feet 53 = .ok (.aaload, 1) := dk_50 (dk_at dksX1_feet_2 6 rfl rfl)
theorem dX1_feet_54 : decode cX1_feet 54 = .ok (.getfield 193, 3) := dk_180 0 193 (dk_at dksX1_feet_2 7 rfl rfl)
theorem dX1_feet_57 : decode cX1_feet 57 = .ok (.iload_n 2, 1) := dk_28 (dk_at dksX1_feet_2 10 rfl rfl)
theorem dX1_feet_58 : decode cX1_feet 58 = .ok (.iload_n 3, 1) := dk_29 (dk_at dksX1_feet_2 11 rfl rfl)
theorem dX1_feet_59 : decode cX1_feet 59 = .ok (.iastore, 1) := dk_79 (dk_at dksX1_feet_2 12 rfl rfl)
theorem dX1_feet_60 : decode cX1_feet 60 = .ok (.aload_n 0, 1) := dk_42 (dk_at dksX1_feet_2 13 rfl rfl)
theorem dX1_feet_61 : decode cX1_feet 61 = .ok (.getfield 20, 3) := dk_180 0 20 (dk_at dksX1_feet_2 14 rfl rfl)
theorem dX1_feet_64 : decode cX1_feet 64 = .ok (.iload_n 1, 1) := dk_27 (dk_at dksX1_feet_2 17 rfl rfl)
theorem dX1_feet_65 : decode cX1_feet 65 = .ok (.aaload, 1) := dk_50 (dk_at dksX1_feet_2 18 rfl rfl)
theorem dX1_feet_66 : decode cX1_feet 66 = .ok (.getfield 196, 3) := dk_180 0 196 (dk_at dksX1_feet_2 19 rfl rfl)
theorem dX1_feet_69 : decode cX1_feet 69 = .ok (.iload_n 2, 1) := dk_28 (dk_at dksX1_feet_2 22 rfl rfl)
theorem dX1_feet_70 : decode cX1_feet 70 = .ok (.iload 4, 2) := dk_21 4 (dk_at dksX1_feet_3 0 rfl rfl)
theorem dX1_feet_72 : decode cX1_feet 72 = .ok (.iastore, 1) := dk_79 (dk_at dksX1_feet_3 2 rfl rfl)
theorem dX1_feet_73 : decode cX1_feet 73 = .ok (.iconst 1, 1) := dk_4 (dk_at dksX1_feet_3 3 rfl rfl)
theorem dX1_feet_74 : decode cX1_feet 74 = .ok (.ireturn, 1) := dk_172 (dk_at dksX1_feet_3 4 rfl rfl)
abbrev cX1_overlap : ByteArray := prog_1_method_27_code
def yX1_overlap : MethodName := ⟨RX1, "overlap", "(I)I"⟩
def dkwX1_overlap_2 : List UInt8 := [167, 0, 4, 28, 172]
abbrev dktX1_overlap_2 : List UInt8 := dkwX1_overlap_2 ++ []
def dkwX1_overlap_1 : List UInt8 := [180, 0, 40, 27, 160, 0, 7, 4, 167, 0, 4, 3, 182, 0, 199, 61, 28, 156, 0, 8, 16, 254]
abbrev dktX1_overlap_1 : List UInt8 := dkwX1_overlap_1 ++ dktX1_overlap_2
def dkwX1_overlap_0 : List UInt8 := [27, 184, 0, 68, 153, 0, 10, 42, 180, 0, 81, 154, 0, 5, 2, 172, 42, 180, 0, 20, 27, 50, 42]
abbrev dktX1_overlap_0 : List UInt8 := dkwX1_overlap_0 ++ dktX1_overlap_1
theorem dksX1_overlap_0 : cX1_overlap.data.toList.drop 0 = dktX1_overlap_0 := by decide +kernel
theorem dksX1_overlap_1 : cX1_overlap.data.toList.drop 23 = dktX1_overlap_1 := dk_seg dksX1_overlap_0 23 rfl rfl
theorem dksX1_overlap_2 : cX1_overlap.data.toList.drop 45 = dktX1_overlap_2 := dk_seg dksX1_overlap_1 22 rfl rfl
theorem dX1_overlap_0 : decode cX1_overlap 0 = .ok (.iload_n 1, 1) := dk_27 (dk_at dksX1_overlap_0 0 rfl rfl)
theorem dX1_overlap_1 : decode cX1_overlap 1 = .ok (.invokestatic 68, 3) := dk_184 0 68 (dk_at dksX1_overlap_0 1 rfl rfl)
theorem dX1_overlap_4 : decode cX1_overlap 4 = .ok (.ifCond .eq 10, 3) := dk_153 0 10 (dk_at dksX1_overlap_0 4 rfl rfl)
theorem dX1_overlap_7 : decode cX1_overlap 7 = .ok (.aload_n 0, 1) := dk_42 (dk_at dksX1_overlap_0 7 rfl rfl)
theorem dX1_overlap_8 : decode cX1_overlap 8 = .ok (.getfield 81, 3) := dk_180 0 81 (dk_at dksX1_overlap_0 8 rfl rfl)
theorem dX1_overlap_11 : decode cX1_overlap 11 = .ok (.ifCond .ne 5, 3) := dk_154 0 5 (dk_at dksX1_overlap_0 11 rfl rfl)
theorem dX1_overlap_14 : decode cX1_overlap 14 = .ok (.iconst (-1), 1) := dk_2 (dk_at dksX1_overlap_0 14 rfl rfl)
theorem dX1_overlap_15 : decode cX1_overlap 15 = .ok (.ireturn, 1) := dk_172 (dk_at dksX1_overlap_0 15 rfl rfl)
theorem dX1_overlap_16 : decode cX1_overlap 16 = .ok (.aload_n 0, 1) := dk_42 (dk_at dksX1_overlap_0 16 rfl rfl)
theorem dX1_overlap_17 : decode cX1_overlap 17 = .ok (.getfield 20, 3) := dk_180 0 20 (dk_at dksX1_overlap_0 17 rfl rfl)
theorem dX1_overlap_20 : decode cX1_overlap 20 = .ok (.iload_n 1, 1) := dk_27 (dk_at dksX1_overlap_0 20 rfl rfl)
theorem dX1_overlap_21 : decode cX1_overlap 21 = .ok (.aaload, 1) := dk_50 (dk_at dksX1_overlap_0 21 rfl rfl)
theorem dX1_overlap_22 : decode cX1_overlap 22 = .ok (.aload_n 0, 1) := dk_42 (dk_at dksX1_overlap_0 22 rfl rfl)
theorem dX1_overlap_23 : decode cX1_overlap 23 = .ok (.getfield 40, 3) := dk_180 0 40 (dk_at dksX1_overlap_1 0 rfl rfl)
theorem dX1_overlap_26 : decode cX1_overlap 26 = .ok (.iload_n 1, 1) := dk_27 (dk_at dksX1_overlap_1 3 rfl rfl)
theorem dX1_overlap_27 : decode cX1_overlap 27 = .ok (.if_icmp .ne 7, 3) := dk_160 0 7 (dk_at dksX1_overlap_1 4 rfl rfl)
theorem dX1_overlap_30 : decode cX1_overlap 30 = .ok (.iconst 1, 1) := dk_4 (dk_at dksX1_overlap_1 7 rfl rfl)
theorem dX1_overlap_31 : decode cX1_overlap 31 = .ok (.goto 4, 3) := dk_167 0 4 (dk_at dksX1_overlap_1 8 rfl rfl)
theorem dX1_overlap_34 : decode cX1_overlap 34 = .ok (.iconst 0, 1) := dk_3 (dk_at dksX1_overlap_1 11 rfl rfl)
theorem dX1_overlap_35 : decode cX1_overlap 35 = .ok (.invokevirtual 199, 3) := dk_182 0 199 (dk_at dksX1_overlap_1 12 rfl rfl)
theorem dX1_overlap_38 : decode cX1_overlap 38 = .ok (.istore_n 2, 1) := dk_61 (dk_at dksX1_overlap_1 15 rfl rfl)
theorem dX1_overlap_39 : decode cX1_overlap 39 = .ok (.iload_n 2, 1) := dk_28 (dk_at dksX1_overlap_1 16 rfl rfl)
theorem dX1_overlap_40 : decode cX1_overlap 40 = .ok (.ifCond .ge 8, 3) := dk_156 0 8 (dk_at dksX1_overlap_1 17 rfl rfl)
theorem dX1_overlap_43 : decode cX1_overlap 43 = .ok (.bipush (-2), 2) := dk_16 254 (dk_at dksX1_overlap_1 20 rfl rfl)
theorem dX1_overlap_45 : decode cX1_overlap 45 = .ok (.goto 4, 3) := dk_167 0 4 (dk_at dksX1_overlap_2 0 rfl rfl)
theorem dX1_overlap_48 : decode cX1_overlap 48 = .ok (.iload_n 2, 1) := dk_28 (dk_at dksX1_overlap_2 3 rfl rfl)
theorem dX1_overlap_49 : decode cX1_overlap 49 = .ok (.ireturn, 1) := dk_172 (dk_at dksX1_overlap_2 4 rfl rfl)
abbrev cX1_sign : ByteArray := prog_1_method_28_code
def yX1_sign : MethodName := ⟨RX1, "sign", "(I)I"⟩
def dkwX1_sign_2 : List UInt8 := [167, 255, 224, 42, 89, 180, 0, 188, 7, 96, 181, 0, 188, 42, 180, 0, 188, 172]
abbrev dktX1_sign_2 : List UInt8 := dkwX1_sign_2 ++ []
def dkwX1_sign_1 : List UInt8 := [180, 0, 188, 28, 96, 27, 16, 24, 16, 8, 28, 104, 100, 122, 17, 0, 255, 126, 79, 132, 2, 1]
abbrev dktX1_sign_1 : List UInt8 := dkwX1_sign_1 ++ dktX1_sign_2
def dkwX1_sign_0 : List UInt8 := [42, 180, 0, 188, 16, 96, 164, 0, 5, 2, 172, 3, 61, 28, 7, 162, 0, 33, 42, 180, 0, 49, 42]
abbrev dktX1_sign_0 : List UInt8 := dkwX1_sign_0 ++ dktX1_sign_1
theorem dksX1_sign_0 : cX1_sign.data.toList.drop 0 = dktX1_sign_0 := by decide +kernel
theorem dksX1_sign_1 : cX1_sign.data.toList.drop 23 = dktX1_sign_1 := dk_seg dksX1_sign_0 23 rfl rfl
theorem dksX1_sign_2 : cX1_sign.data.toList.drop 45 = dktX1_sign_2 := dk_seg dksX1_sign_1 22 rfl rfl
theorem dX1_sign_0 : decode cX1_sign 0 = .ok (.aload_n 0, 1) := dk_42 (dk_at dksX1_sign_0 0 rfl rfl)
theorem dX1_sign_1 : decode cX1_sign 1 = .ok (.getfield 188, 3) := dk_180 0 188 (dk_at dksX1_sign_0 1 rfl rfl)
theorem dX1_sign_4 : decode cX1_sign 4 = .ok (.bipush 96, 2) := dk_16 96 (dk_at dksX1_sign_0 4 rfl rfl)
theorem dX1_sign_6 : decode cX1_sign 6 = .ok (.if_icmp .le 5, 3) := dk_164 0 5 (dk_at dksX1_sign_0 6 rfl rfl)
theorem dX1_sign_9 : decode cX1_sign 9 = .ok (.iconst (-1), 1) := dk_2 (dk_at dksX1_sign_0 9 rfl rfl)
theorem dX1_sign_10 : decode cX1_sign 10 = .ok (.ireturn, 1) := dk_172 (dk_at dksX1_sign_0 10 rfl rfl)
theorem dX1_sign_11 : decode cX1_sign 11 = .ok (.iconst 0, 1) := dk_3 (dk_at dksX1_sign_0 11 rfl rfl)
theorem dX1_sign_12 : decode cX1_sign 12 = .ok (.istore_n 2, 1) := dk_61 (dk_at dksX1_sign_0 12 rfl rfl)
theorem dX1_sign_13 : decode cX1_sign 13 = .ok (.iload_n 2, 1) := dk_28 (dk_at dksX1_sign_0 13 rfl rfl)
theorem dX1_sign_14 : decode cX1_sign 14 = .ok (.iconst 4, 1) := dk_7 (dk_at dksX1_sign_0 14 rfl rfl)
theorem dX1_sign_15 : decode cX1_sign 15 = .ok (.if_icmp .ge 33, 3) := dk_162 0 33 (dk_at dksX1_sign_0 15 rfl rfl)
theorem dX1_sign_18 : decode cX1_sign 18 = .ok (.aload_n 0, 1) := dk_42 (dk_at dksX1_sign_0 18 rfl rfl)
theorem dX1_sign_19 : decode cX1_sign 19 = .ok (.getfield 49, 3) := dk_180 0 49 (dk_at dksX1_sign_0 19 rfl rfl)
theorem dX1_sign_22 : decode cX1_sign 22 = .ok (.aload_n 0, 1) := dk_42 (dk_at dksX1_sign_0 22 rfl rfl)
theorem dX1_sign_23 : decode cX1_sign 23 = .ok (.getfield 188, 3) := dk_180 0 188 (dk_at dksX1_sign_1 0 rfl rfl)
theorem dX1_sign_26 : decode cX1_sign 26 = .ok (.iload_n 2, 1) := dk_28 (dk_at dksX1_sign_1 3 rfl rfl)
theorem dX1_sign_27 : decode cX1_sign 27 = .ok (.iadd, 1) := dk_96 (dk_at dksX1_sign_1 4 rfl rfl)
theorem dX1_sign_28 : decode cX1_sign 28 = .ok (.iload_n 1, 1) := dk_27 (dk_at dksX1_sign_1 5 rfl rfl)
theorem dX1_sign_29 : decode cX1_sign 29 = .ok (.bipush 24, 2) := dk_16 24 (dk_at dksX1_sign_1 6 rfl rfl)
theorem dX1_sign_31 : decode cX1_sign 31 = .ok (.bipush 8, 2) := dk_16 8 (dk_at dksX1_sign_1 8 rfl rfl)
theorem dX1_sign_33 : decode cX1_sign 33 = .ok (.iload_n 2, 1) := dk_28 (dk_at dksX1_sign_1 10 rfl rfl)
theorem dX1_sign_34 : decode cX1_sign 34 = .ok (.imul, 1) := dk_104 (dk_at dksX1_sign_1 11 rfl rfl)
theorem dX1_sign_35 : decode cX1_sign 35 = .ok (.isub, 1) := dk_100 (dk_at dksX1_sign_1 12 rfl rfl)
theorem dX1_sign_36 : decode cX1_sign 36 = .ok (.ishr, 1) := dk_122 (dk_at dksX1_sign_1 13 rfl rfl)
theorem dX1_sign_37 : decode cX1_sign 37 = .ok (.sipush 255, 3) := dk_17 0 255 (dk_at dksX1_sign_1 14 rfl rfl)
theorem dX1_sign_40 : decode cX1_sign 40 = .ok (.iand, 1) := dk_126 (dk_at dksX1_sign_1 17 rfl rfl)
theorem dX1_sign_41 : decode cX1_sign 41 = .ok (.iastore, 1) := dk_79 (dk_at dksX1_sign_1 18 rfl rfl)
theorem dX1_sign_42 : decode cX1_sign 42 = .ok (.iinc 2 1, 3) := dk_132 2 1 (dk_at dksX1_sign_1 19 rfl rfl)
theorem dX1_sign_45 : decode cX1_sign 45 = .ok (.goto (-32), 3) := dk_167 255 224 (dk_at dksX1_sign_2 0 rfl rfl)
theorem dX1_sign_48 : decode cX1_sign 48 = .ok (.aload_n 0, 1) := dk_42 (dk_at dksX1_sign_2 3 rfl rfl)
theorem dX1_sign_49 : decode cX1_sign 49 = .ok (.dup, 1) := dk_89 (dk_at dksX1_sign_2 4 rfl rfl)
theorem dX1_sign_50 : decode cX1_sign 50 = .ok (.getfield 188, 3) := dk_180 0 188 (dk_at dksX1_sign_2 5 rfl rfl)
theorem dX1_sign_53 : decode cX1_sign 53 = .ok (.iconst 4, 1) := dk_7 (dk_at dksX1_sign_2 8 rfl rfl)
theorem dX1_sign_54 : decode cX1_sign 54 = .ok (.iadd, 1) := dk_96 (dk_at dksX1_sign_2 9 rfl rfl)
theorem dX1_sign_55 : decode cX1_sign 55 = .ok (.putfield 188, 3) := dk_181 0 188 (dk_at dksX1_sign_2 10 rfl rfl)
theorem dX1_sign_58 : decode cX1_sign 58 = .ok (.aload_n 0, 1) := dk_42 (dk_at dksX1_sign_2 13 rfl rfl)
theorem dX1_sign_59 : decode cX1_sign 59 = .ok (.getfield 188, 3) := dk_180 0 188 (dk_at dksX1_sign_2 14 rfl rfl)
theorem dX1_sign_62 : decode cX1_sign 62 = .ok (.ireturn, 1) := dk_172 (dk_at dksX1_sign_2 17 rfl rfl)
abbrev cX1_end : ByteArray := prog_1_method_29_code
def yX1_end : MethodName := ⟨RX1, "end", "(I)Z"⟩
def dkwX1_end_0 : List UInt8 := [27, 133, 9, 42, 180, 0, 188, 133, 184, 0, 5, 154, 0, 5, 3, 172, 42, 27, 181, 0, 188, 4, 172]
abbrev dktX1_end_0 : List UInt8 := dkwX1_end_0 ++ []
theorem dksX1_end_0 : cX1_end.data.toList.drop 0 = dktX1_end_0 := by decide +kernel
theorem dX1_end_0 : decode cX1_end 0 = .ok (.iload_n 1, 1) := dk_27 (dk_at dksX1_end_0 0 rfl rfl)
theorem dX1_end_1 : decode cX1_end 1 = .ok (.i2l, 1) := dk_133 (dk_at dksX1_end_0 1 rfl rfl)
theorem dX1_end_2 : decode cX1_end 2 = .ok (.lconst 0, 1) := dk_9 (dk_at dksX1_end_0 2 rfl rfl)
theorem dX1_end_3 : decode cX1_end 3 = .ok (.aload_n 0, 1) := dk_42 (dk_at dksX1_end_0 3 rfl rfl)
theorem dX1_end_4 : decode cX1_end 4 = .ok (.getfield 188, 3) := dk_180 0 188 (dk_at dksX1_end_0 4 rfl rfl)
theorem dX1_end_7 : decode cX1_end 7 = .ok (.i2l, 1) := dk_133 (dk_at dksX1_end_0 7 rfl rfl)
theorem dX1_end_8 : decode cX1_end 8 = .ok (.invokestatic 5, 3) := dk_184 0 5 (dk_at dksX1_end_0 8 rfl rfl)
theorem dX1_end_11 : decode cX1_end 11 = .ok (.ifCond .ne 5, 3) := dk_154 0 5 (dk_at dksX1_end_0 11 rfl rfl)
theorem dX1_end_14 : decode cX1_end 14 = .ok (.iconst 0, 1) := dk_3 (dk_at dksX1_end_0 14 rfl rfl)
theorem dX1_end_15 : decode cX1_end 15 = .ok (.ireturn, 1) := dk_172 (dk_at dksX1_end_0 15 rfl rfl)
theorem dX1_end_16 : decode cX1_end 16 = .ok (.aload_n 0, 1) := dk_42 (dk_at dksX1_end_0 16 rfl rfl)
theorem dX1_end_17 : decode cX1_end 17 = .ok (.iload_n 1, 1) := dk_27 (dk_at dksX1_end_0 17 rfl rfl)
theorem dX1_end_18 : decode cX1_end 18 = .ok (.putfield 188, 3) := dk_181 0 188 (dk_at dksX1_end_0 18 rfl rfl)
theorem dX1_end_21 : decode cX1_end 21 = .ok (.iconst 1, 1) := dk_4 (dk_at dksX1_end_0 21 rfl rfl)
theorem dX1_end_22 : decode cX1_end 22 = .ok (.ireturn, 1) := dk_172 (dk_at dksX1_end_0 22 rfl rfl)
abbrev cX1_sheet : ByteArray := prog_1_method_37_code
def yX1_sheet : MethodName := ⟨RX1, "sheet", "()I"⟩
def dkwX1_sheet_6 : List UInt8 := [25, 4, 180, 1, 1, 58, 4, 167, 255, 219, 42, 180, 0, 250, 172]
abbrev dktX1_sheet_6 : List UInt8 := dkwX1_sheet_6 ++ []
def dkwX1_sheet_5 : List UInt8 := [182, 1, 35, 153, 0, 6, 167, 0, 17, 42, 182, 1, 38, 17, 252, 23, 25, 4, 180, 0, 245, 100, 172]
abbrev dktX1_sheet_5 : List UInt8 := dkwX1_sheet_5 ++ dktX1_sheet_6
def dkwX1_sheet_4 : List UInt8 := [154, 0, 10, 2, 42, 180, 0, 203, 100, 172, 42, 182, 1, 32, 44, 58, 4, 25, 4, 198, 0, 38, 25, 4]
abbrev dktX1_sheet_4 : List UInt8 := dkwX1_sheet_4 ++ dktX1_sheet_5
def dkwX1_sheet_3 : List UInt8 := [16, 80, 164, 0, 19, 29, 154, 0, 12, 42, 180, 0, 203, 16, 80, 160, 0, 6, 16, 175, 172, 29]
abbrev dktX1_sheet_3 : List UInt8 := dkwX1_sheet_3 ++ dktX1_sheet_4
def dkwX1_sheet_2 : List UInt8 := [180, 0, 206, 160, 0, 18, 44, 199, 0, 10, 42, 180, 0, 206, 154, 0, 7, 4, 167, 0, 4, 3, 62, 27]
abbrev dktX1_sheet_2 : List UInt8 := dkwX1_sheet_2 ++ dktX1_sheet_3
def dkwX1_sheet_1 : List UInt8 := [181, 0, 203, 42, 27, 16, 80, 184, 1, 24, 181, 0, 206, 42, 182, 1, 29, 77, 42, 180, 0, 203, 42]
abbrev dktX1_sheet_1 : List UInt8 := dkwX1_sheet_1 ++ dktX1_sheet_2
def dkwX1_sheet_0 : List UInt8 := [42, 180, 0, 188, 60, 42, 3, 181, 0, 188, 42, 180, 0, 81, 154, 0, 6, 16, 156, 172, 42, 3]
abbrev dktX1_sheet_0 : List UInt8 := dkwX1_sheet_0 ++ dktX1_sheet_1
theorem dksX1_sheet_0 : cX1_sheet.data.toList.drop 0 = dktX1_sheet_0 := by decide +kernel
theorem dksX1_sheet_1 : cX1_sheet.data.toList.drop 22 = dktX1_sheet_1 := dk_seg dksX1_sheet_0 22 rfl rfl
theorem dksX1_sheet_2 : cX1_sheet.data.toList.drop 45 = dktX1_sheet_2 := dk_seg dksX1_sheet_1 23 rfl rfl
theorem dksX1_sheet_3 : cX1_sheet.data.toList.drop 69 = dktX1_sheet_3 := dk_seg dksX1_sheet_2 24 rfl rfl
theorem dksX1_sheet_4 : cX1_sheet.data.toList.drop 91 = dktX1_sheet_4 := dk_seg dksX1_sheet_3 22 rfl rfl
theorem dksX1_sheet_5 : cX1_sheet.data.toList.drop 115 = dktX1_sheet_5 := dk_seg dksX1_sheet_4 24 rfl rfl
theorem dksX1_sheet_6 : cX1_sheet.data.toList.drop 138 = dktX1_sheet_6 := dk_seg dksX1_sheet_5 23 rfl rfl
theorem dX1_sheet_0 : decode cX1_sheet 0 = .ok (.aload_n 0, 1) := dk_42 (dk_at dksX1_sheet_0 0 rfl rfl)
theorem dX1_sheet_1 : decode cX1_sheet 1 = .ok (.getfield 188, 3) := dk_180 0 188 (dk_at dksX1_sheet_0 1 rfl rfl)
theorem dX1_sheet_4 : decode cX1_sheet 4 = .ok (.istore_n 1, 1) := dk_60 (dk_at dksX1_sheet_0 4 rfl rfl)
theorem dX1_sheet_5 : decode cX1_sheet 5 = .ok (.aload_n 0, 1) := dk_42 (dk_at dksX1_sheet_0 5 rfl rfl)
theorem dX1_sheet_6 : decode cX1_sheet 6 = .ok (.iconst 0, 1) := dk_3 (dk_at dksX1_sheet_0 6 rfl rfl)
theorem dX1_sheet_7 : decode cX1_sheet 7 = .ok (.putfield 188, 3) := dk_181 0 188 (dk_at dksX1_sheet_0 7 rfl rfl)
theorem dX1_sheet_10 : decode cX1_sheet 10 = .ok (.aload_n 0, 1) := dk_42 (dk_at dksX1_sheet_0 10 rfl rfl)
theorem dX1_sheet_11 : decode cX1_sheet 11 = .ok (.getfield 81, 3) := dk_180 0 81 (dk_at dksX1_sheet_0 11 rfl rfl)
theorem dX1_sheet_14 : decode cX1_sheet 14 = .ok (.ifCond .ne 6, 3) := dk_154 0 6 (dk_at dksX1_sheet_0 14 rfl rfl)
theorem dX1_sheet_17 : decode cX1_sheet 17 = .ok (.bipush (-100), 2) := dk_16 156 (dk_at dksX1_sheet_0 17 rfl rfl)
theorem dX1_sheet_19 : decode cX1_sheet 19 = .ok (.ireturn, 1) := dk_172 (dk_at dksX1_sheet_0 19 rfl rfl)
theorem dX1_sheet_20 : decode cX1_sheet 20 = .ok (.aload_n 0, 1) := dk_42 (dk_at dksX1_sheet_0 20 rfl rfl)
theorem dX1_sheet_21 : decode cX1_sheet 21 = .ok (.iconst 0, 1) := dk_3 (dk_at dksX1_sheet_0 21 rfl rfl)
theorem dX1_sheet_22 : decode cX1_sheet 22 = .ok (.putfield 203, 3) := dk_181 0 203 (dk_at dksX1_sheet_1 0 rfl rfl)
theorem dX1_sheet_25 : decode cX1_sheet 25 = .ok (.aload_n 0, 1) := dk_42 (dk_at dksX1_sheet_1 3 rfl rfl)
theorem dX1_sheet_26 : decode cX1_sheet 26 = .ok (.iload_n 1, 1) := dk_27 (dk_at dksX1_sheet_1 4 rfl rfl)
theorem dX1_sheet_27 : decode cX1_sheet 27 = .ok (.bipush 80, 2) := dk_16 80 (dk_at dksX1_sheet_1 5 rfl rfl)
theorem dX1_sheet_29 : decode cX1_sheet 29 = .ok (.invokestatic 280, 3) := dk_184 1 24 (dk_at dksX1_sheet_1 7 rfl rfl)
theorem dX1_sheet_32 : decode cX1_sheet 32 = .ok (.putfield 206, 3) := dk_181 0 206 (dk_at dksX1_sheet_1 10 rfl rfl)
theorem dX1_sheet_35 : decode cX1_sheet 35 = .ok (.aload_n 0, 1) := dk_42 (dk_at dksX1_sheet_1 13 rfl rfl)
theorem dX1_sheet_36 : decode cX1_sheet 36 = .ok (.invokevirtual 285, 3) := dk_182 1 29 (dk_at dksX1_sheet_1 14 rfl rfl)
theorem dX1_sheet_39 : decode cX1_sheet 39 = .ok (.astore_n 2, 1) := dk_77 (dk_at dksX1_sheet_1 17 rfl rfl)
theorem dX1_sheet_40 : decode cX1_sheet 40 = .ok (.aload_n 0, 1) := dk_42 (dk_at dksX1_sheet_1 18 rfl rfl)
theorem dX1_sheet_41 : decode cX1_sheet 41 = .ok (.getfield 203, 3) := dk_180 0 203 (dk_at dksX1_sheet_1 19 rfl rfl)
theorem dX1_sheet_44 : decode cX1_sheet 44 = .ok (.aload_n 0, 1) := dk_42 (dk_at dksX1_sheet_1 22 rfl rfl)
theorem dX1_sheet_45 : decode cX1_sheet 45 = .ok (.getfield 206, 3) := dk_180 0 206 (dk_at dksX1_sheet_2 0 rfl rfl)
theorem dX1_sheet_48 : decode cX1_sheet 48 = .ok (.if_icmp .ne 18, 3) := dk_160 0 18 (dk_at dksX1_sheet_2 3 rfl rfl)
theorem dX1_sheet_51 : decode cX1_sheet 51 = .ok (.aload_n 2, 1) := dk_44 (dk_at dksX1_sheet_2 6 rfl rfl)
theorem dX1_sheet_52 : decode cX1_sheet 52 = .ok (.ifnonnull 10, 3) := dk_199 0 10 (dk_at dksX1_sheet_2 7 rfl rfl)
theorem dX1_sheet_55 : decode cX1_sheet 55 = .ok (.aload_n 0, 1) := dk_42 (dk_at dksX1_sheet_2 10 rfl rfl)
theorem dX1_sheet_56 : decode cX1_sheet 56 = .ok (.getfield 206, 3) := dk_180 0 206 (dk_at dksX1_sheet_2 11 rfl rfl)
theorem dX1_sheet_59 : decode cX1_sheet 59 = .ok (.ifCond .ne 7, 3) := dk_154 0 7 (dk_at dksX1_sheet_2 14 rfl rfl)
theorem dX1_sheet_62 : decode cX1_sheet 62 = .ok (.iconst 1, 1) := dk_4 (dk_at dksX1_sheet_2 17 rfl rfl)
theorem dX1_sheet_63 : decode cX1_sheet 63 = .ok (.goto 4, 3) := dk_167 0 4 (dk_at dksX1_sheet_2 18 rfl rfl)
theorem dX1_sheet_66 : decode cX1_sheet 66 = .ok (.iconst 0, 1) := dk_3 (dk_at dksX1_sheet_2 21 rfl rfl)
theorem dX1_sheet_67 : decode cX1_sheet 67 = .ok (.istore_n 3, 1) := dk_62 (dk_at dksX1_sheet_2 22 rfl rfl)
theorem dX1_sheet_68 : decode cX1_sheet 68 = .ok (.iload_n 1, 1) := dk_27 (dk_at dksX1_sheet_2 23 rfl rfl)
theorem dX1_sheet_69 : decode cX1_sheet 69 = .ok (.bipush 80, 2) := dk_16 80 (dk_at dksX1_sheet_3 0 rfl rfl)
theorem dX1_sheet_71 : decode cX1_sheet 71 = .ok (.if_icmp .le 19, 3) := dk_164 0 19 (dk_at dksX1_sheet_3 2 rfl rfl)
theorem dX1_sheet_74 : decode cX1_sheet 74 = .ok (.iload_n 3, 1) := dk_29 (dk_at dksX1_sheet_3 5 rfl rfl)
theorem dX1_sheet_75 : decode cX1_sheet 75 = .ok (.ifCond .ne 12, 3) := dk_154 0 12 (dk_at dksX1_sheet_3 6 rfl rfl)
theorem dX1_sheet_78 : decode cX1_sheet 78 = .ok (.aload_n 0, 1) := dk_42 (dk_at dksX1_sheet_3 9 rfl rfl)
theorem dX1_sheet_79 : decode cX1_sheet 79 = .ok (.getfield 203, 3) := dk_180 0 203 (dk_at dksX1_sheet_3 10 rfl rfl)
theorem dX1_sheet_82 : decode cX1_sheet 82 = .ok (.bipush 80, 2) := dk_16 80 (dk_at dksX1_sheet_3 13 rfl rfl)
theorem dX1_sheet_84 : decode cX1_sheet 84 = .ok (.if_icmp .ne 6, 3) := dk_160 0 6 (dk_at dksX1_sheet_3 15 rfl rfl)
theorem dX1_sheet_87 : decode cX1_sheet 87 = .ok (.bipush (-81), 2) := dk_16 175 (dk_at dksX1_sheet_3 18 rfl rfl)
theorem dX1_sheet_89 : decode cX1_sheet 89 = .ok (.ireturn, 1) := dk_172 (dk_at dksX1_sheet_3 20 rfl rfl)
theorem dX1_sheet_90 : decode cX1_sheet 90 = .ok (.iload_n 3, 1) := dk_29 (dk_at dksX1_sheet_3 21 rfl rfl)
theorem dX1_sheet_91 : decode cX1_sheet 91 = .ok (.ifCond .ne 10, 3) := dk_154 0 10 (dk_at dksX1_sheet_4 0 rfl rfl)
theorem dX1_sheet_94 : decode cX1_sheet 94 = .ok (.iconst (-1), 1) := dk_2 (dk_at dksX1_sheet_4 3 rfl rfl)
theorem dX1_sheet_95 : decode cX1_sheet 95 = .ok (.aload_n 0, 1) := dk_42 (dk_at dksX1_sheet_4 4 rfl rfl)
theorem dX1_sheet_96 : decode cX1_sheet 96 = .ok (.getfield 203, 3) := dk_180 0 203 (dk_at dksX1_sheet_4 5 rfl rfl)
theorem dX1_sheet_99 : decode cX1_sheet 99 = .ok (.isub, 1) := dk_100 (dk_at dksX1_sheet_4 8 rfl rfl)
theorem dX1_sheet_100 : decode cX1_sheet 100 = .ok (.ireturn, 1) := dk_172 (dk_at dksX1_sheet_4 9 rfl rfl)
theorem dX1_sheet_101 : decode cX1_sheet 101 = .ok (.aload_n 0, 1) := dk_42 (dk_at dksX1_sheet_4 10 rfl rfl)
theorem dX1_sheet_102 : decode cX1_sheet 102 = .ok (.invokevirtual 288, 3) := dk_182 1 32 (dk_at dksX1_sheet_4 11 rfl rfl)
theorem dX1_sheet_105 : decode cX1_sheet 105 = .ok (.aload_n 2, 1) := dk_44 (dk_at dksX1_sheet_4 14 rfl rfl)
theorem dX1_sheet_106 : decode cX1_sheet 106 = .ok (.astore 4, 2) := dk_58 4 (dk_at dksX1_sheet_4 15 rfl rfl)
theorem dX1_sheet_108 : decode cX1_sheet 108 = .ok (.aload 4, 2) := dk_25 4 (dk_at dksX1_sheet_4 17 rfl rfl)
theorem dX1_sheet_110 : decode cX1_sheet 110 = .ok (.ifnull 38, 3) := dk_198 0 38 (dk_at dksX1_sheet_4 19 rfl rfl)
theorem dX1_sheet_113 : decode cX1_sheet 113 = .ok (.aload 4, 2) := dk_25 4 (dk_at dksX1_sheet_4 22 rfl rfl)
theorem dX1_sheet_115 : decode cX1_sheet 115 = .ok (.invokevirtual 291, 3) := dk_182 1 35 (dk_at dksX1_sheet_5 0 rfl rfl)
theorem dX1_sheet_118 : decode cX1_sheet 118 = .ok (.ifCond .eq 6, 3) := dk_153 0 6 (dk_at dksX1_sheet_5 3 rfl rfl)
theorem dX1_sheet_121 : decode cX1_sheet 121 = .ok (.goto 17, 3) := dk_167 0 17 (dk_at dksX1_sheet_5 6 rfl rfl)
theorem dX1_sheet_124 : decode cX1_sheet 124 = .ok (.aload_n 0, 1) := dk_42 (dk_at dksX1_sheet_5 9 rfl rfl)
theorem dX1_sheet_125 : decode cX1_sheet 125 = .ok (.invokevirtual 294, 3) := dk_182 1 38 (dk_at dksX1_sheet_5 10 rfl rfl)
theorem dX1_sheet_128 : decode cX1_sheet 128 = .ok (.sipush (-1001), 3) := dk_17 252 23 (dk_at dksX1_sheet_5 13 rfl rfl)
theorem dX1_sheet_131 : decode cX1_sheet 131 = .ok (.aload 4, 2) := dk_25 4 (dk_at dksX1_sheet_5 16 rfl rfl)
theorem dX1_sheet_133 : decode cX1_sheet 133 = .ok (.getfield 245, 3) := dk_180 0 245 (dk_at dksX1_sheet_5 18 rfl rfl)
theorem dX1_sheet_136 : decode cX1_sheet 136 = .ok (.isub, 1) := dk_100 (dk_at dksX1_sheet_5 21 rfl rfl)
theorem dX1_sheet_137 : decode cX1_sheet 137 = .ok (.ireturn, 1) := dk_172 (dk_at dksX1_sheet_5 22 rfl rfl)
theorem dX1_sheet_138 : decode cX1_sheet 138 = .ok (.aload 4, 2) := dk_25 4 (dk_at dksX1_sheet_6 0 rfl rfl)
theorem dX1_sheet_140 : decode cX1_sheet 140 = .ok (.getfield 257, 3) := dk_180 1 1 (dk_at dksX1_sheet_6 2 rfl rfl)
theorem dX1_sheet_143 : decode cX1_sheet 143 = .ok (.astore 4, 2) := dk_58 4 (dk_at dksX1_sheet_6 5 rfl rfl)
theorem dX1_sheet_145 : decode cX1_sheet 145 = .ok (.goto (-37), 3) := dk_167 255 219 (dk_at dksX1_sheet_6 7 rfl rfl)
theorem dX1_sheet_148 : decode cX1_sheet 148 = .ok (.aload_n 0, 1) := dk_42 (dk_at dksX1_sheet_6 10 rfl rfl)
theorem dX1_sheet_149 : decode cX1_sheet 149 = .ok (.getfield 250, 3) := dk_180 0 250 (dk_at dksX1_sheet_6 11 rfl rfl)
theorem dX1_sheet_152 : decode cX1_sheet 152 = .ok (.ireturn, 1) := dk_172 (dk_at dksX1_sheet_6 14 rfl rfl)
abbrev cX1_items : ByteArray := prog_1_method_34_code
def yX1_items : MethodName := ⟨RX1, "items", "()LSixWhoTurn$Item;"⟩
def dkwX1_items_2 : List UInt8 := [89, 180, 0, 250, 4, 96, 181, 0, 250, 167, 255, 208, 43, 176]
abbrev dktX1_items_2 : List UInt8 := dkwX1_items_2 ++ []
def dkwX1_items_1 : List UInt8 := [78, 45, 199, 0, 5, 1, 176, 44, 199, 0, 8, 45, 76, 167, 0, 8, 44, 45, 181, 1, 1, 45, 77, 42]
abbrev dktX1_items_1 : List UInt8 := dkwX1_items_1 ++ dktX1_items_2
def dkwX1_items_0 : List UInt8 := [1, 76, 1, 77, 42, 3, 181, 0, 250, 42, 180, 0, 203, 42, 180, 0, 206, 162, 0, 43, 42, 182, 0, 253]
abbrev dktX1_items_0 : List UInt8 := dkwX1_items_0 ++ dktX1_items_1
theorem dksX1_items_0 : cX1_items.data.toList.drop 0 = dktX1_items_0 := by decide +kernel
theorem dksX1_items_1 : cX1_items.data.toList.drop 24 = dktX1_items_1 := dk_seg dksX1_items_0 24 rfl rfl
theorem dksX1_items_2 : cX1_items.data.toList.drop 48 = dktX1_items_2 := dk_seg dksX1_items_1 24 rfl rfl
theorem dX1_items_0 : decode cX1_items 0 = .ok (.aconst_null, 1) := dk_1 (dk_at dksX1_items_0 0 rfl rfl)
theorem dX1_items_1 : decode cX1_items 1 = .ok (.astore_n 1, 1) := dk_76 (dk_at dksX1_items_0 1 rfl rfl)
theorem dX1_items_2 : decode cX1_items 2 = .ok (.aconst_null, 1) := dk_1 (dk_at dksX1_items_0 2 rfl rfl)
theorem dX1_items_3 : decode cX1_items 3 = .ok (.astore_n 2, 1) := dk_77 (dk_at dksX1_items_0 3 rfl rfl)
theorem dX1_items_4 : decode cX1_items 4 = .ok (.aload_n 0, 1) := dk_42 (dk_at dksX1_items_0 4 rfl rfl)
theorem dX1_items_5 : decode cX1_items 5 = .ok (.iconst 0, 1) := dk_3 (dk_at dksX1_items_0 5 rfl rfl)
theorem dX1_items_6 : decode cX1_items 6 = .ok (.putfield 250, 3) := dk_181 0 250 (dk_at dksX1_items_0 6 rfl rfl)
theorem dX1_items_9 : decode cX1_items 9 = .ok (.aload_n 0, 1) := dk_42 (dk_at dksX1_items_0 9 rfl rfl)
theorem dX1_items_10 : decode cX1_items 10 = .ok (.getfield 203, 3) := dk_180 0 203 (dk_at dksX1_items_0 10 rfl rfl)
theorem dX1_items_13 : decode cX1_items 13 = .ok (.aload_n 0, 1) := dk_42 (dk_at dksX1_items_0 13 rfl rfl)
theorem dX1_items_14 : decode cX1_items 14 = .ok (.getfield 206, 3) := dk_180 0 206 (dk_at dksX1_items_0 14 rfl rfl)
theorem dX1_items_17 : decode cX1_items 17 = .ok (.if_icmp .ge 43, 3) := dk_162 0 43 (dk_at dksX1_items_0 17 rfl rfl)
theorem dX1_items_20 : decode cX1_items 20 = .ok (.aload_n 0, 1) := dk_42 (dk_at dksX1_items_0 20 rfl rfl)
theorem dX1_items_21 : decode cX1_items 21 = .ok (.invokevirtual 253, 3) := dk_182 0 253 (dk_at dksX1_items_0 21 rfl rfl)
theorem dX1_items_24 : decode cX1_items 24 = .ok (.astore_n 3, 1) := dk_78 (dk_at dksX1_items_1 0 rfl rfl)
theorem dX1_items_25 : decode cX1_items 25 = .ok (.aload_n 3, 1) := dk_45 (dk_at dksX1_items_1 1 rfl rfl)
theorem dX1_items_26 : decode cX1_items 26 = .ok (.ifnonnull 5, 3) := dk_199 0 5 (dk_at dksX1_items_1 2 rfl rfl)
theorem dX1_items_29 : decode cX1_items 29 = .ok (.aconst_null, 1) := dk_1 (dk_at dksX1_items_1 5 rfl rfl)
theorem dX1_items_30 : decode cX1_items 30 = .ok (.areturn, 1) := dk_176 (dk_at dksX1_items_1 6 rfl rfl)
theorem dX1_items_31 : decode cX1_items 31 = .ok (.aload_n 2, 1) := dk_44 (dk_at dksX1_items_1 7 rfl rfl)
theorem dX1_items_32 : decode cX1_items 32 = .ok (.ifnonnull 8, 3) := dk_199 0 8 (dk_at dksX1_items_1 8 rfl rfl)
theorem dX1_items_35 : decode cX1_items 35 = .ok (.aload_n 3, 1) := dk_45 (dk_at dksX1_items_1 11 rfl rfl)
theorem dX1_items_36 : decode cX1_items 36 = .ok (.astore_n 1, 1) := dk_76 (dk_at dksX1_items_1 12 rfl rfl)
theorem dX1_items_37 : decode cX1_items 37 = .ok (.goto 8, 3) := dk_167 0 8 (dk_at dksX1_items_1 13 rfl rfl)
theorem dX1_items_40 : decode cX1_items 40 = .ok (.aload_n 2, 1) := dk_44 (dk_at dksX1_items_1 16 rfl rfl)
theorem dX1_items_41 : decode cX1_items 41 = .ok (.aload_n 3, 1) := dk_45 (dk_at dksX1_items_1 17 rfl rfl)
theorem dX1_items_42 : decode cX1_items 42 = .ok (.putfield 257, 3) := dk_181 1 1 (dk_at dksX1_items_1 18 rfl rfl)
theorem dX1_items_45 : decode cX1_items 45 = .ok (.aload_n 3, 1) := dk_45 (dk_at dksX1_items_1 21 rfl rfl)
theorem dX1_items_46 : decode cX1_items 46 = .ok (.astore_n 2, 1) := dk_77 (dk_at dksX1_items_1 22 rfl rfl)
theorem dX1_items_47 : decode cX1_items 47 = .ok (.aload_n 0, 1) := dk_42 (dk_at dksX1_items_1 23 rfl rfl)
theorem dX1_items_48 : decode cX1_items 48 = .ok (.dup, 1) := dk_89 (dk_at dksX1_items_2 0 rfl rfl)
theorem dX1_items_49 : decode cX1_items 49 = .ok (.getfield 250, 3) := dk_180 0 250 (dk_at dksX1_items_2 1 rfl rfl)
theorem dX1_items_52 : decode cX1_items 52 = .ok (.iconst 1, 1) := dk_4 (dk_at dksX1_items_2 4 rfl rfl)
theorem dX1_items_53 : decode cX1_items 53 = .ok (.iadd, 1) := dk_96 (dk_at dksX1_items_2 5 rfl rfl)
theorem dX1_items_54 : decode cX1_items 54 = .ok (.putfield 250, 3) := dk_181 0 250 (dk_at dksX1_items_2 6 rfl rfl)
theorem dX1_items_57 : decode cX1_items 57 = .ok (.goto (-48), 3) := dk_167 255 208 (dk_at dksX1_items_2 9 rfl rfl)
theorem dX1_items_60 : decode cX1_items 60 = .ok (.aload_n 1, 1) := dk_43 (dk_at dksX1_items_2 12 rfl rfl)
theorem dX1_items_61 : decode cX1_items 61 = .ok (.areturn, 1) := dk_176 (dk_at dksX1_items_2 13 rfl rfl)
abbrev cX1_item : ByteArray := prog_1_method_33_code
def yX1_item : MethodName := ⟨RX1, "item", "()LSixWhoTurn$Item;"⟩
def dkwX1_item_3 : List UInt8 := [153, 0, 11, 42, 4, 182, 0, 241, 167, 0, 4, 1, 77, 44, 198, 0, 8, 44, 27, 181, 0, 245, 44, 176]
abbrev dktX1_item_3 : List UInt8 := dkwX1_item_3 ++ []
def dkwX1_item_2 : List UInt8 := [42, 16, 97, 182, 0, 216, 153, 0, 11, 42, 3, 182, 0, 241, 167, 0, 21, 42, 16, 98, 182, 0, 216]
abbrev dktX1_item_2 : List UInt8 := dkwX1_item_2 ++ dktX1_item_3
def dkwX1_item_1 : List UInt8 := [167, 0, 59, 42, 16, 66, 182, 0, 216, 153, 0, 15, 187, 0, 238, 89, 42, 4, 183, 0, 240, 167, 0, 38]
abbrev dktX1_item_1 : List UInt8 := dkwX1_item_1 ++ dktX1_item_2
def dkwX1_item_0 : List UInt8 := [42, 180, 0, 203, 60, 42, 16, 65, 182, 0, 216, 153, 0, 15, 187, 0, 238, 89, 42, 3, 183, 0, 240]
abbrev dktX1_item_0 : List UInt8 := dkwX1_item_0 ++ dktX1_item_1
theorem dksX1_item_0 : cX1_item.data.toList.drop 0 = dktX1_item_0 := by decide +kernel
theorem dksX1_item_1 : cX1_item.data.toList.drop 23 = dktX1_item_1 := dk_seg dksX1_item_0 23 rfl rfl
theorem dksX1_item_2 : cX1_item.data.toList.drop 47 = dktX1_item_2 := dk_seg dksX1_item_1 24 rfl rfl
theorem dksX1_item_3 : cX1_item.data.toList.drop 70 = dktX1_item_3 := dk_seg dksX1_item_2 23 rfl rfl
theorem dX1_item_0 : decode cX1_item 0 = .ok (.aload_n 0, 1) := dk_42 (dk_at dksX1_item_0 0 rfl rfl)
theorem dX1_item_1 : decode cX1_item 1 = .ok (.getfield 203, 3) := dk_180 0 203 (dk_at dksX1_item_0 1 rfl rfl)
theorem dX1_item_4 : decode cX1_item 4 = .ok (.istore_n 1, 1) := dk_60 (dk_at dksX1_item_0 4 rfl rfl)
theorem dX1_item_5 : decode cX1_item 5 = .ok (.aload_n 0, 1) := dk_42 (dk_at dksX1_item_0 5 rfl rfl)
theorem dX1_item_6 : decode cX1_item 6 = .ok (.bipush 65, 2) := dk_16 65 (dk_at dksX1_item_0 6 rfl rfl)
theorem dX1_item_8 : decode cX1_item 8 = .ok (.invokevirtual 216, 3) := dk_182 0 216 (dk_at dksX1_item_0 8 rfl rfl)
theorem dX1_item_11 : decode cX1_item 11 = .ok (.ifCond .eq 15, 3) := dk_153 0 15 (dk_at dksX1_item_0 11 rfl rfl)
theorem dX1_item_14 : decode cX1_item 14 = .ok (.new 238, 3) := dk_187 0 238 (dk_at dksX1_item_0 14 rfl rfl)
theorem dX1_item_17 : decode cX1_item 17 = .ok (.dup, 1) := dk_89 (dk_at dksX1_item_0 17 rfl rfl)
theorem dX1_item_18 : decode cX1_item 18 = .ok (.aload_n 0, 1) := dk_42 (dk_at dksX1_item_0 18 rfl rfl)
theorem dX1_item_19 : decode cX1_item 19 = .ok (.iconst 0, 1) := dk_3 (dk_at dksX1_item_0 19 rfl rfl)
theorem dX1_item_20 : decode cX1_item 20 = .ok (.invokespecial 240, 3) := dk_183 0 240 (dk_at dksX1_item_0 20 rfl rfl)
theorem dX1_item_23 : decode cX1_item 23 = .ok (.goto 59, 3) := dk_167 0 59 (dk_at dksX1_item_1 0 rfl rfl)
theorem dX1_item_26 : decode cX1_item 26 = .ok (.aload_n 0, 1) := dk_42 (dk_at dksX1_item_1 3 rfl rfl)
theorem dX1_item_27 : decode cX1_item 27 = .ok (.bipush 66, 2) := dk_16 66 (dk_at dksX1_item_1 4 rfl rfl)
theorem dX1_item_29 : decode cX1_item 29 = .ok (.invokevirtual 216, 3) := dk_182 0 216 (dk_at dksX1_item_1 6 rfl rfl)
theorem dX1_item_32 : decode cX1_item 32 = .ok (.ifCond .eq 15, 3) := dk_153 0 15 (dk_at dksX1_item_1 9 rfl rfl)
theorem dX1_item_35 : decode cX1_item 35 = .ok (.new 238, 3) := dk_187 0 238 (dk_at dksX1_item_1 12 rfl rfl)
theorem dX1_item_38 : decode cX1_item 38 = .ok (.dup, 1) := dk_89 (dk_at dksX1_item_1 15 rfl rfl)
theorem dX1_item_39 : decode cX1_item 39 = .ok (.aload_n 0, 1) := dk_42 (dk_at dksX1_item_1 16 rfl rfl)
theorem dX1_item_40 : decode cX1_item 40 = .ok (.iconst 1, 1) := dk_4 (dk_at dksX1_item_1 17 rfl rfl)
theorem dX1_item_41 : decode cX1_item 41 = .ok (.invokespecial 240, 3) := dk_183 0 240 (dk_at dksX1_item_1 18 rfl rfl)
theorem dX1_item_44 : decode cX1_item 44 = .ok (.goto 38, 3) := dk_167 0 38 (dk_at dksX1_item_1 21 rfl rfl)
theorem dX1_item_47 : decode cX1_item 47 = .ok (.aload_n 0, 1) := dk_42 (dk_at dksX1_item_2 0 rfl rfl)
theorem dX1_item_48 : decode cX1_item 48 = .ok (.bipush 97, 2) := dk_16 97 (dk_at dksX1_item_2 1 rfl rfl)
theorem dX1_item_50 : decode cX1_item 50 = .ok (.invokevirtual 216, 3) := dk_182 0 216 (dk_at dksX1_item_2 3 rfl rfl)
theorem dX1_item_53 : decode cX1_item 53 = .ok (.ifCond .eq 11, 3) := dk_153 0 11 (dk_at dksX1_item_2 6 rfl rfl)
theorem dX1_item_56 : decode cX1_item 56 = .ok (.aload_n 0, 1) := dk_42 (dk_at dksX1_item_2 9 rfl rfl)
theorem dX1_item_57 : decode cX1_item 57 = .ok (.iconst 0, 1) := dk_3 (dk_at dksX1_item_2 10 rfl rfl)
theorem dX1_item_58 : decode cX1_item 58 = .ok (.invokevirtual 241, 3) := dk_182 0 241 (dk_at dksX1_item_2 11 rfl rfl)
theorem dX1_item_61 : decode cX1_item 61 = .ok (.goto 21, 3) := dk_167 0 21 (dk_at dksX1_item_2 14 rfl rfl)
theorem dX1_item_64 : decode cX1_item 64 = .ok (.aload_n 0, 1) := dk_42 (dk_at dksX1_item_2 17 rfl rfl)
theorem dX1_item_65 : decode cX1_item 65 = .ok (.bipush 98, 2) := dk_16 98 (dk_at dksX1_item_2 18 rfl rfl)
theorem dX1_item_67 : decode cX1_item 67 = .ok (.invokevirtual 216, 3) := dk_182 0 216 (dk_at dksX1_item_2 20 rfl rfl)
theorem dX1_item_70 : decode cX1_item 70 = .ok (.ifCond .eq 11, 3) := dk_153 0 11 (dk_at dksX1_item_3 0 rfl rfl)
theorem dX1_item_73 : decode cX1_item 73 = .ok (.aload_n 0, 1) := dk_42 (dk_at dksX1_item_3 3 rfl rfl)
theorem dX1_item_74 : decode cX1_item 74 = .ok (.iconst 1, 1) := dk_4 (dk_at dksX1_item_3 4 rfl rfl)
theorem dX1_item_75 : decode cX1_item 75 = .ok (.invokevirtual 241, 3) := dk_182 0 241 (dk_at dksX1_item_3 5 rfl rfl)
theorem dX1_item_78 : decode cX1_item 78 = .ok (.goto 4, 3) := dk_167 0 4 (dk_at dksX1_item_3 8 rfl rfl)
theorem dX1_item_81 : decode cX1_item 81 = .ok (.aconst_null, 1) := dk_1 (dk_at dksX1_item_3 11 rfl rfl)
theorem dX1_item_82 : decode cX1_item 82 = .ok (.astore_n 2, 1) := dk_77 (dk_at dksX1_item_3 12 rfl rfl)
theorem dX1_item_83 : decode cX1_item 83 = .ok (.aload_n 2, 1) := dk_44 (dk_at dksX1_item_3 13 rfl rfl)
theorem dX1_item_84 : decode cX1_item 84 = .ok (.ifnull 8, 3) := dk_198 0 8 (dk_at dksX1_item_3 14 rfl rfl)
theorem dX1_item_87 : decode cX1_item 87 = .ok (.aload_n 2, 1) := dk_44 (dk_at dksX1_item_3 17 rfl rfl)
theorem dX1_item_88 : decode cX1_item 88 = .ok (.iload_n 1, 1) := dk_27 (dk_at dksX1_item_3 18 rfl rfl)
theorem dX1_item_89 : decode cX1_item 89 = .ok (.putfield 245, 3) := dk_181 0 245 (dk_at dksX1_item_3 19 rfl rfl)
theorem dX1_item_92 : decode cX1_item 92 = .ok (.aload_n 2, 1) := dk_44 (dk_at dksX1_item_3 22 rfl rfl)
theorem dX1_item_93 : decode cX1_item 93 = .ok (.areturn, 1) := dk_176 (dk_at dksX1_item_3 23 rfl rfl)
abbrev cX1_takes : ByteArray := prog_1_method_30_code
def yX1_takes : MethodName := ⟨RX1, "takes", "(C)Z"⟩
def dkwX1_takes_2 : List UInt8 := [28, 172]
abbrev dktX1_takes_2 : List UInt8 := dkwX1_takes_2 ++ []
def dkwX1_takes_1 : List UInt8 := [4, 167, 0, 4, 3, 61, 42, 89, 180, 0, 203, 28, 153, 0, 7, 4, 167, 0, 4, 3, 96, 181, 0, 203]
abbrev dktX1_takes_1 : List UInt8 := dkwX1_takes_1 ++ dktX1_takes_2
def dkwX1_takes_0 : List UInt8 := [42, 180, 0, 203, 42, 180, 0, 206, 162, 0, 20, 42, 180, 0, 49, 42, 180, 0, 203, 46, 27, 160, 0, 7]
abbrev dktX1_takes_0 : List UInt8 := dkwX1_takes_0 ++ dktX1_takes_1
theorem dksX1_takes_0 : cX1_takes.data.toList.drop 0 = dktX1_takes_0 := by decide +kernel
theorem dksX1_takes_1 : cX1_takes.data.toList.drop 24 = dktX1_takes_1 := dk_seg dksX1_takes_0 24 rfl rfl
theorem dksX1_takes_2 : cX1_takes.data.toList.drop 48 = dktX1_takes_2 := dk_seg dksX1_takes_1 24 rfl rfl
theorem dX1_takes_0 : decode cX1_takes 0 = .ok (.aload_n 0, 1) := dk_42 (dk_at dksX1_takes_0 0 rfl rfl)
theorem dX1_takes_1 : decode cX1_takes 1 = .ok (.getfield 203, 3) := dk_180 0 203 (dk_at dksX1_takes_0 1 rfl rfl)
theorem dX1_takes_4 : decode cX1_takes 4 = .ok (.aload_n 0, 1) := dk_42 (dk_at dksX1_takes_0 4 rfl rfl)
theorem dX1_takes_5 : decode cX1_takes 5 = .ok (.getfield 206, 3) := dk_180 0 206 (dk_at dksX1_takes_0 5 rfl rfl)
theorem dX1_takes_8 : decode cX1_takes 8 = .ok (.if_icmp .ge 20, 3) := dk_162 0 20 (dk_at dksX1_takes_0 8 rfl rfl)
theorem dX1_takes_11 : decode cX1_takes 11 = .ok (.aload_n 0, 1) := dk_42 (dk_at dksX1_takes_0 11 rfl rfl)
theorem dX1_takes_12 : decode cX1_takes 12 = .ok (.getfield 49, 3) := dk_180 0 49 (dk_at dksX1_takes_0 12 rfl rfl)
theorem dX1_takes_15 : decode cX1_takes 15 = .ok (.aload_n 0, 1) := dk_42 (dk_at dksX1_takes_0 15 rfl rfl)
theorem dX1_takes_16 : decode cX1_takes 16 = .ok (.getfield 203, 3) := dk_180 0 203 (dk_at dksX1_takes_0 16 rfl rfl)
theorem dX1_takes_19 : decode cX1_takes 19 = .ok (.iaload, 1) := dk_46 (dk_at dksX1_takes_0 19 rfl rfl)
theorem dX1_takes_20 : decode cX1_takes 20 = .ok (.iload_n 1, 1) := dk_27 (dk_at dksX1_takes_0 20 rfl rfl)
theorem dX1_takes_21 : decode cX1_takes 21 = .ok (.if_icmp .ne 7, 3) := dk_160 0 7 (dk_at dksX1_takes_0 21 rfl rfl)
theorem dX1_takes_24 : decode cX1_takes 24 = .ok (.iconst 1, 1) := dk_4 (dk_at dksX1_takes_1 0 rfl rfl)
theorem dX1_takes_25 : decode cX1_takes 25 = .ok (.goto 4, 3) := dk_167 0 4 (dk_at dksX1_takes_1 1 rfl rfl)
theorem dX1_takes_28 : decode cX1_takes 28 = .ok (.iconst 0, 1) := dk_3 (dk_at dksX1_takes_1 4 rfl rfl)
theorem dX1_takes_29 : decode cX1_takes 29 = .ok (.istore_n 2, 1) := dk_61 (dk_at dksX1_takes_1 5 rfl rfl)
theorem dX1_takes_30 : decode cX1_takes 30 = .ok (.aload_n 0, 1) := dk_42 (dk_at dksX1_takes_1 6 rfl rfl)
theorem dX1_takes_31 : decode cX1_takes 31 = .ok (.dup, 1) := dk_89 (dk_at dksX1_takes_1 7 rfl rfl)
theorem dX1_takes_32 : decode cX1_takes 32 = .ok (.getfield 203, 3) := dk_180 0 203 (dk_at dksX1_takes_1 8 rfl rfl)
theorem dX1_takes_35 : decode cX1_takes 35 = .ok (.iload_n 2, 1) := dk_28 (dk_at dksX1_takes_1 11 rfl rfl)
theorem dX1_takes_36 : decode cX1_takes 36 = .ok (.ifCond .eq 7, 3) := dk_153 0 7 (dk_at dksX1_takes_1 12 rfl rfl)
theorem dX1_takes_39 : decode cX1_takes 39 = .ok (.iconst 1, 1) := dk_4 (dk_at dksX1_takes_1 15 rfl rfl)
theorem dX1_takes_40 : decode cX1_takes 40 = .ok (.goto 4, 3) := dk_167 0 4 (dk_at dksX1_takes_1 16 rfl rfl)
theorem dX1_takes_43 : decode cX1_takes 43 = .ok (.iconst 0, 1) := dk_3 (dk_at dksX1_takes_1 19 rfl rfl)
theorem dX1_takes_44 : decode cX1_takes 44 = .ok (.iadd, 1) := dk_96 (dk_at dksX1_takes_1 20 rfl rfl)
theorem dX1_takes_45 : decode cX1_takes 45 = .ok (.putfield 203, 3) := dk_181 0 203 (dk_at dksX1_takes_1 21 rfl rfl)
theorem dX1_takes_48 : decode cX1_takes 48 = .ok (.iload_n 2, 1) := dk_28 (dk_at dksX1_takes_2 0 rfl rfl)
theorem dX1_takes_49 : decode cX1_takes 49 = .ok (.ireturn, 1) := dk_172 (dk_at dksX1_takes_2 1 rfl rfl)
abbrev cX1_act : ByteArray := prog_1_method_32_code
def yX1_act : MethodName := ⟨RX1, "act", "(I)LSixWhoTurn$Item;"⟩
def dkwX1_act_4 : List UInt8 := [156, 0, 7, 1, 167, 0, 14, 187, 0, 233, 89, 42, 27, 28, 29, 183, 0, 235, 176]
abbrev dktX1_act_4 : List UInt8 := dkwX1_act_4 ++ []
def dkwX1_act_3 : List UInt8 := [183, 0, 227, 176, 42, 182, 0, 230, 61, 28, 156, 0, 7, 2, 167, 0, 7, 42, 182, 0, 230, 62, 29]
abbrev dktX1_act_3 : List UInt8 := dkwX1_act_3 ++ dktX1_act_4
def dkwX1_act_2 : List UInt8 := [153, 0, 27, 42, 182, 0, 230, 61, 28, 156, 0, 7, 1, 167, 0, 13, 187, 0, 225, 89, 42, 27, 28]
abbrev dktX1_act_2 : List UInt8 := dkwX1_act_2 ++ dktX1_act_3
def dkwX1_act_1 : List UInt8 := [182, 0, 216, 153, 0, 14, 187, 0, 225, 89, 42, 27, 2, 183, 0, 227, 176, 42, 16, 42, 182, 0, 216]
abbrev dktX1_act_1 : List UInt8 := dkwX1_act_1 ++ dktX1_act_2
def dkwX1_act_0 : List UInt8 := [42, 16, 33, 182, 0, 216, 153, 0, 13, 187, 0, 220, 89, 42, 27, 183, 0, 222, 176, 42, 16, 45]
abbrev dktX1_act_0 : List UInt8 := dkwX1_act_0 ++ dktX1_act_1
theorem dksX1_act_0 : cX1_act.data.toList.drop 0 = dktX1_act_0 := by decide +kernel
theorem dksX1_act_1 : cX1_act.data.toList.drop 22 = dktX1_act_1 := dk_seg dksX1_act_0 22 rfl rfl
theorem dksX1_act_2 : cX1_act.data.toList.drop 45 = dktX1_act_2 := dk_seg dksX1_act_1 23 rfl rfl
theorem dksX1_act_3 : cX1_act.data.toList.drop 68 = dktX1_act_3 := dk_seg dksX1_act_2 23 rfl rfl
theorem dksX1_act_4 : cX1_act.data.toList.drop 91 = dktX1_act_4 := dk_seg dksX1_act_3 23 rfl rfl
theorem dX1_act_0 : decode cX1_act 0 = .ok (.aload_n 0, 1) := dk_42 (dk_at dksX1_act_0 0 rfl rfl)
theorem dX1_act_1 : decode cX1_act 1 = .ok (.bipush 33, 2) := dk_16 33 (dk_at dksX1_act_0 1 rfl rfl)
theorem dX1_act_3 : decode cX1_act 3 = .ok (.invokevirtual 216, 3) := dk_182 0 216 (dk_at dksX1_act_0 3 rfl rfl)
theorem dX1_act_6 : decode cX1_act 6 = .ok (.ifCond .eq 13, 3) := dk_153 0 13 (dk_at dksX1_act_0 6 rfl rfl)
theorem dX1_act_9 : decode cX1_act 9 = .ok (.new 220, 3) := dk_187 0 220 (dk_at dksX1_act_0 9 rfl rfl)
theorem dX1_act_12 : decode cX1_act 12 = .ok (.dup, 1) := dk_89 (dk_at dksX1_act_0 12 rfl rfl)
theorem dX1_act_13 : decode cX1_act 13 = .ok (.aload_n 0, 1) := dk_42 (dk_at dksX1_act_0 13 rfl rfl)
theorem dX1_act_14 : decode cX1_act 14 = .ok (.iload_n 1, 1) := dk_27 (dk_at dksX1_act_0 14 rfl rfl)
theorem dX1_act_15 : decode cX1_act 15 = .ok (.invokespecial 222, 3) := dk_183 0 222 (dk_at dksX1_act_0 15 rfl rfl)
theorem dX1_act_18 : decode cX1_act 18 = .ok (.areturn, 1) := dk_176 (dk_at dksX1_act_0 18 rfl rfl)
theorem dX1_act_19 : decode cX1_act 19 = .ok (.aload_n 0, 1) := dk_42 (dk_at dksX1_act_0 19 rfl rfl)
theorem dX1_act_20 : decode cX1_act 20 = .ok (.bipush 45, 2) := dk_16 45 (dk_at dksX1_act_0 20 rfl rfl)
theorem dX1_act_22 : decode cX1_act 22 = .ok (.invokevirtual 216, 3) := dk_182 0 216 (dk_at dksX1_act_1 0 rfl rfl)
theorem dX1_act_25 : decode cX1_act 25 = .ok (.ifCond .eq 14, 3) := dk_153 0 14 (dk_at dksX1_act_1 3 rfl rfl)
theorem dX1_act_28 : decode cX1_act 28 = .ok (.new 225, 3) := dk_187 0 225 (dk_at dksX1_act_1 6 rfl rfl)
theorem dX1_act_31 : decode cX1_act 31 = .ok (.dup, 1) := dk_89 (dk_at dksX1_act_1 9 rfl rfl)
theorem dX1_act_32 : decode cX1_act 32 = .ok (.aload_n 0, 1) := dk_42 (dk_at dksX1_act_1 10 rfl rfl)
theorem dX1_act_33 : decode cX1_act 33 = .ok (.iload_n 1, 1) := dk_27 (dk_at dksX1_act_1 11 rfl rfl)
theorem dX1_act_34 : decode cX1_act 34 = .ok (.iconst (-1), 1) := dk_2 (dk_at dksX1_act_1 12 rfl rfl)
theorem dX1_act_35 : decode cX1_act 35 = .ok (.invokespecial 227, 3) := dk_183 0 227 (dk_at dksX1_act_1 13 rfl rfl)
theorem dX1_act_38 : decode cX1_act 38 = .ok (.areturn, 1) := dk_176 (dk_at dksX1_act_1 16 rfl rfl)
theorem dX1_act_39 : decode cX1_act 39 = .ok (.aload_n 0, 1) := dk_42 (dk_at dksX1_act_1 17 rfl rfl)
theorem dX1_act_40 : decode cX1_act 40 = .ok (.bipush 42, 2) := dk_16 42 (dk_at dksX1_act_1 18 rfl rfl)
theorem dX1_act_42 : decode cX1_act 42 = .ok (.invokevirtual 216, 3) := dk_182 0 216 (dk_at dksX1_act_1 20 rfl rfl)
theorem dX1_act_45 : decode cX1_act 45 = .ok (.ifCond .eq 27, 3) := dk_153 0 27 (dk_at dksX1_act_2 0 rfl rfl)
theorem dX1_act_48 : decode cX1_act 48 = .ok (.aload_n 0, 1) := dk_42 (dk_at dksX1_act_2 3 rfl rfl)
theorem dX1_act_49 : decode cX1_act 49 = .ok (.invokevirtual 230, 3) := dk_182 0 230 (dk_at dksX1_act_2 4 rfl rfl)
theorem dX1_act_52 : decode cX1_act 52 = .ok (.istore_n 2, 1) := dk_61 (dk_at dksX1_act_2 7 rfl rfl)
theorem dX1_act_53 : decode cX1_act 53 = .ok (.iload_n 2, 1) := dk_28 (dk_at dksX1_act_2 8 rfl rfl)
theorem dX1_act_54 : decode cX1_act 54 = .ok (.ifCond .ge 7, 3) := dk_156 0 7 (dk_at dksX1_act_2 9 rfl rfl)
theorem dX1_act_57 : decode cX1_act 57 = .ok (.aconst_null, 1) := dk_1 (dk_at dksX1_act_2 12 rfl rfl)
theorem dX1_act_58 : decode cX1_act 58 = .ok (.goto 13, 3) := dk_167 0 13 (dk_at dksX1_act_2 13 rfl rfl)
theorem dX1_act_61 : decode cX1_act 61 = .ok (.new 225, 3) := dk_187 0 225 (dk_at dksX1_act_2 16 rfl rfl)
theorem dX1_act_64 : decode cX1_act 64 = .ok (.dup, 1) := dk_89 (dk_at dksX1_act_2 19 rfl rfl)
theorem dX1_act_65 : decode cX1_act 65 = .ok (.aload_n 0, 1) := dk_42 (dk_at dksX1_act_2 20 rfl rfl)
theorem dX1_act_66 : decode cX1_act 66 = .ok (.iload_n 1, 1) := dk_27 (dk_at dksX1_act_2 21 rfl rfl)
theorem dX1_act_67 : decode cX1_act 67 = .ok (.iload_n 2, 1) := dk_28 (dk_at dksX1_act_2 22 rfl rfl)
theorem dX1_act_68 : decode cX1_act 68 = .ok (.invokespecial 227, 3) := dk_183 0 227 (dk_at dksX1_act_3 0 rfl rfl)
theorem dX1_act_71 : decode cX1_act 71 = .ok (.areturn, 1) := dk_176 (dk_at dksX1_act_3 3 rfl rfl)
theorem dX1_act_72 : decode cX1_act 72 = .ok (.aload_n 0, 1) := dk_42 (dk_at dksX1_act_3 4 rfl rfl)
theorem dX1_act_73 : decode cX1_act 73 = .ok (.invokevirtual 230, 3) := dk_182 0 230 (dk_at dksX1_act_3 5 rfl rfl)
theorem dX1_act_76 : decode cX1_act 76 = .ok (.istore_n 2, 1) := dk_61 (dk_at dksX1_act_3 8 rfl rfl)
theorem dX1_act_77 : decode cX1_act 77 = .ok (.iload_n 2, 1) := dk_28 (dk_at dksX1_act_3 9 rfl rfl)
theorem dX1_act_78 : decode cX1_act 78 = .ok (.ifCond .ge 7, 3) := dk_156 0 7 (dk_at dksX1_act_3 10 rfl rfl)
theorem dX1_act_81 : decode cX1_act 81 = .ok (.iconst (-1), 1) := dk_2 (dk_at dksX1_act_3 13 rfl rfl)
theorem dX1_act_82 : decode cX1_act 82 = .ok (.goto 7, 3) := dk_167 0 7 (dk_at dksX1_act_3 14 rfl rfl)
theorem dX1_act_85 : decode cX1_act 85 = .ok (.aload_n 0, 1) := dk_42 (dk_at dksX1_act_3 17 rfl rfl)
theorem dX1_act_86 : decode cX1_act 86 = .ok (.invokevirtual 230, 3) := dk_182 0 230 (dk_at dksX1_act_3 18 rfl rfl)
theorem dX1_act_89 : decode cX1_act 89 = .ok (.istore_n 3, 1) := dk_62 (dk_at dksX1_act_3 21 rfl rfl)
theorem dX1_act_90 : decode cX1_act 90 = .ok (.iload_n 3, 1) := dk_29 (dk_at dksX1_act_3 22 rfl rfl)
theorem dX1_act_91 : decode cX1_act 91 = .ok (.ifCond .ge 7, 3) := dk_156 0 7 (dk_at dksX1_act_4 0 rfl rfl)
theorem dX1_act_94 : decode cX1_act 94 = .ok (.aconst_null, 1) := dk_1 (dk_at dksX1_act_4 3 rfl rfl)
theorem dX1_act_95 : decode cX1_act 95 = .ok (.goto 14, 3) := dk_167 0 14 (dk_at dksX1_act_4 4 rfl rfl)
theorem dX1_act_98 : decode cX1_act 98 = .ok (.new 233, 3) := dk_187 0 233 (dk_at dksX1_act_4 7 rfl rfl)
theorem dX1_act_101 : decode cX1_act 101 = .ok (.dup, 1) := dk_89 (dk_at dksX1_act_4 10 rfl rfl)
theorem dX1_act_102 : decode cX1_act 102 = .ok (.aload_n 0, 1) := dk_42 (dk_at dksX1_act_4 11 rfl rfl)
theorem dX1_act_103 : decode cX1_act 103 = .ok (.iload_n 1, 1) := dk_27 (dk_at dksX1_act_4 12 rfl rfl)
theorem dX1_act_104 : decode cX1_act 104 = .ok (.iload_n 2, 1) := dk_28 (dk_at dksX1_act_4 13 rfl rfl)
theorem dX1_act_105 : decode cX1_act 105 = .ok (.iload_n 3, 1) := dk_29 (dk_at dksX1_act_4 14 rfl rfl)
theorem dX1_act_106 : decode cX1_act 106 = .ok (.invokespecial 235, 3) := dk_183 0 235 (dk_at dksX1_act_4 15 rfl rfl)
theorem dX1_act_109 : decode cX1_act 109 = .ok (.areturn, 1) := dk_176 (dk_at dksX1_act_4 18 rfl rfl)
abbrev cX1_player : ByteArray := prog_1_method_31_code
def yX1_player : MethodName := ⟨RX1, "player", "()I"⟩
def dkwX1_player_2 : List UInt8 := [27, 155, 0, 7, 4, 167, 0, 4, 3, 96, 181, 0, 203, 27, 172]
abbrev dktX1_player_2 : List UInt8 := dkwX1_player_2 ++ []
def dkwX1_player_1 : List UInt8 := [18, 209, 42, 180, 0, 49, 42, 180, 0, 203, 46, 182, 0, 211, 167, 0, 4, 2, 60, 42, 89, 180, 0, 203]
abbrev dktX1_player_1 : List UInt8 := dkwX1_player_1 ++ dktX1_player_2
def dkwX1_player_0 : List UInt8 := [42, 180, 0, 203, 42, 180, 0, 206, 162, 0, 32, 42, 180, 0, 49, 42, 180, 0, 203, 46, 158, 0, 20]
abbrev dktX1_player_0 : List UInt8 := dkwX1_player_0 ++ dktX1_player_1
theorem dksX1_player_0 : cX1_player.data.toList.drop 0 = dktX1_player_0 := by decide +kernel
theorem dksX1_player_1 : cX1_player.data.toList.drop 23 = dktX1_player_1 := dk_seg dksX1_player_0 23 rfl rfl
theorem dksX1_player_2 : cX1_player.data.toList.drop 47 = dktX1_player_2 := dk_seg dksX1_player_1 24 rfl rfl
theorem dX1_player_0 : decode cX1_player 0 = .ok (.aload_n 0, 1) := dk_42 (dk_at dksX1_player_0 0 rfl rfl)
theorem dX1_player_1 : decode cX1_player 1 = .ok (.getfield 203, 3) := dk_180 0 203 (dk_at dksX1_player_0 1 rfl rfl)
theorem dX1_player_4 : decode cX1_player 4 = .ok (.aload_n 0, 1) := dk_42 (dk_at dksX1_player_0 4 rfl rfl)
theorem dX1_player_5 : decode cX1_player 5 = .ok (.getfield 206, 3) := dk_180 0 206 (dk_at dksX1_player_0 5 rfl rfl)
theorem dX1_player_8 : decode cX1_player 8 = .ok (.if_icmp .ge 32, 3) := dk_162 0 32 (dk_at dksX1_player_0 8 rfl rfl)
theorem dX1_player_11 : decode cX1_player 11 = .ok (.aload_n 0, 1) := dk_42 (dk_at dksX1_player_0 11 rfl rfl)
theorem dX1_player_12 : decode cX1_player 12 = .ok (.getfield 49, 3) := dk_180 0 49 (dk_at dksX1_player_0 12 rfl rfl)
theorem dX1_player_15 : decode cX1_player 15 = .ok (.aload_n 0, 1) := dk_42 (dk_at dksX1_player_0 15 rfl rfl)
theorem dX1_player_16 : decode cX1_player 16 = .ok (.getfield 203, 3) := dk_180 0 203 (dk_at dksX1_player_0 16 rfl rfl)
theorem dX1_player_19 : decode cX1_player 19 = .ok (.iaload, 1) := dk_46 (dk_at dksX1_player_0 19 rfl rfl)
theorem dX1_player_20 : decode cX1_player 20 = .ok (.ifCond .le 20, 3) := dk_158 0 20 (dk_at dksX1_player_0 20 rfl rfl)
theorem dX1_player_23 : decode cX1_player 23 = .ok (.ldc 209, 2) := dk_18 209 (dk_at dksX1_player_1 0 rfl rfl)
theorem dX1_player_25 : decode cX1_player 25 = .ok (.aload_n 0, 1) := dk_42 (dk_at dksX1_player_1 2 rfl rfl)
theorem dX1_player_26 : decode cX1_player 26 = .ok (.getfield 49, 3) := dk_180 0 49 (dk_at dksX1_player_1 3 rfl rfl)
theorem dX1_player_29 : decode cX1_player 29 = .ok (.aload_n 0, 1) := dk_42 (dk_at dksX1_player_1 6 rfl rfl)
theorem dX1_player_30 : decode cX1_player 30 = .ok (.getfield 203, 3) := dk_180 0 203 (dk_at dksX1_player_1 7 rfl rfl)
theorem dX1_player_33 : decode cX1_player 33 = .ok (.iaload, 1) := dk_46 (dk_at dksX1_player_1 10 rfl rfl)
theorem dX1_player_34 : decode cX1_player 34 = .ok (.invokevirtual 211, 3) := dk_182 0 211 (dk_at dksX1_player_1 11 rfl rfl)
theorem dX1_player_37 : decode cX1_player 37 = .ok (.goto 4, 3) := dk_167 0 4 (dk_at dksX1_player_1 14 rfl rfl)
theorem dX1_player_40 : decode cX1_player 40 = .ok (.iconst (-1), 1) := dk_2 (dk_at dksX1_player_1 17 rfl rfl)
theorem dX1_player_41 : decode cX1_player 41 = .ok (.istore_n 1, 1) := dk_60 (dk_at dksX1_player_1 18 rfl rfl)
theorem dX1_player_42 : decode cX1_player 42 = .ok (.aload_n 0, 1) := dk_42 (dk_at dksX1_player_1 19 rfl rfl)
theorem dX1_player_43 : decode cX1_player 43 = .ok (.dup, 1) := dk_89 (dk_at dksX1_player_1 20 rfl rfl)
theorem dX1_player_44 : decode cX1_player 44 = .ok (.getfield 203, 3) := dk_180 0 203 (dk_at dksX1_player_1 21 rfl rfl)
theorem dX1_player_47 : decode cX1_player 47 = .ok (.iload_n 1, 1) := dk_27 (dk_at dksX1_player_2 0 rfl rfl)
theorem dX1_player_48 : decode cX1_player 48 = .ok (.ifCond .lt 7, 3) := dk_155 0 7 (dk_at dksX1_player_2 1 rfl rfl)
theorem dX1_player_51 : decode cX1_player 51 = .ok (.iconst 1, 1) := dk_4 (dk_at dksX1_player_2 4 rfl rfl)
theorem dX1_player_52 : decode cX1_player 52 = .ok (.goto 4, 3) := dk_167 0 4 (dk_at dksX1_player_2 5 rfl rfl)
theorem dX1_player_55 : decode cX1_player 55 = .ok (.iconst 0, 1) := dk_3 (dk_at dksX1_player_2 8 rfl rfl)
theorem dX1_player_56 : decode cX1_player 56 = .ok (.iadd, 1) := dk_96 (dk_at dksX1_player_2 9 rfl rfl)
theorem dX1_player_57 : decode cX1_player 57 = .ok (.putfield 203, 3) := dk_181 0 203 (dk_at dksX1_player_2 10 rfl rfl)
theorem dX1_player_60 : decode cX1_player 60 = .ok (.iload_n 1, 1) := dk_27 (dk_at dksX1_player_2 13 rfl rfl)
theorem dX1_player_61 : decode cX1_player 61 = .ok (.ireturn, 1) := dk_172 (dk_at dksX1_player_2 14 rfl rfl)
abbrev cX1_keeps : ByteArray := prog_1_method_35_code
def yX1_keeps : MethodName := ⟨RX1, "keeps", "()V"⟩
def dkwX1_keeps_2 : List UInt8 := [180, 0, 119, 181, 1, 15, 42, 42, 180, 0, 43, 181, 1, 18, 42, 42, 180, 0, 46, 181, 1, 21, 177]
abbrev dktX1_keeps_2 : List UInt8 := dkwX1_keeps_2 ++ []
def dkwX1_keeps_1 : List UInt8 := [132, 1, 1, 167, 255, 233, 42, 42, 180, 0, 40, 181, 1, 9, 42, 42, 180, 0, 116, 181, 1, 12, 42, 42]
abbrev dktX1_keeps_1 : List UInt8 := dkwX1_keeps_1 ++ dktX1_keeps_2
def dkwX1_keeps_0 : List UInt8 := [3, 60, 27, 5, 162, 0, 24, 42, 180, 0, 24, 27, 50, 42, 180, 0, 20, 27, 50, 182, 1, 5]
abbrev dktX1_keeps_0 : List UInt8 := dkwX1_keeps_0 ++ dktX1_keeps_1
theorem dksX1_keeps_0 : cX1_keeps.data.toList.drop 0 = dktX1_keeps_0 := by decide +kernel
theorem dksX1_keeps_1 : cX1_keeps.data.toList.drop 22 = dktX1_keeps_1 := dk_seg dksX1_keeps_0 22 rfl rfl
theorem dksX1_keeps_2 : cX1_keeps.data.toList.drop 46 = dktX1_keeps_2 := dk_seg dksX1_keeps_1 24 rfl rfl
theorem dX1_keeps_0 : decode cX1_keeps 0 = .ok (.iconst 0, 1) := dk_3 (dk_at dksX1_keeps_0 0 rfl rfl)
theorem dX1_keeps_1 : decode cX1_keeps 1 = .ok (.istore_n 1, 1) := dk_60 (dk_at dksX1_keeps_0 1 rfl rfl)
theorem dX1_keeps_2 : decode cX1_keeps 2 = .ok (.iload_n 1, 1) := dk_27 (dk_at dksX1_keeps_0 2 rfl rfl)
theorem dX1_keeps_3 : decode cX1_keeps 3 = .ok (.iconst 2, 1) := dk_5 (dk_at dksX1_keeps_0 3 rfl rfl)
theorem dX1_keeps_4 : decode cX1_keeps 4 = .ok (.if_icmp .ge 24, 3) := dk_162 0 24 (dk_at dksX1_keeps_0 4 rfl rfl)
theorem dX1_keeps_7 : decode cX1_keeps 7 = .ok (.aload_n 0, 1) := dk_42 (dk_at dksX1_keeps_0 7 rfl rfl)
theorem dX1_keeps_8 : decode cX1_keeps 8 = .ok (.getfield 24, 3) := dk_180 0 24 (dk_at dksX1_keeps_0 8 rfl rfl)
theorem dX1_keeps_11 : decode cX1_keeps 11 = .ok (.iload_n 1, 1) := dk_27 (dk_at dksX1_keeps_0 11 rfl rfl)
theorem dX1_keeps_12 : decode cX1_keeps 12 = .ok (.aaload, 1) := dk_50 (dk_at dksX1_keeps_0 12 rfl rfl)
theorem dX1_keeps_13 : decode cX1_keeps 13 = .ok (.aload_n 0, 1) := dk_42 (dk_at dksX1_keeps_0 13 rfl rfl)
theorem dX1_keeps_14 : decode cX1_keeps 14 = .ok (.getfield 20, 3) := dk_180 0 20 (dk_at dksX1_keeps_0 14 rfl rfl)
theorem dX1_keeps_17 : decode cX1_keeps 17 = .ok (.iload_n 1, 1) := dk_27 (dk_at dksX1_keeps_0 17 rfl rfl)
theorem dX1_keeps_18 : decode cX1_keeps 18 = .ok (.aaload, 1) := dk_50 (dk_at dksX1_keeps_0 18 rfl rfl)
theorem dX1_keeps_19 : decode cX1_keeps 19 = .ok (.invokevirtual 261, 3) := dk_182 1 5 (dk_at dksX1_keeps_0 19 rfl rfl)
theorem dX1_keeps_22 : decode cX1_keeps 22 = .ok (.iinc 1 1, 3) := dk_132 1 1 (dk_at dksX1_keeps_1 0 rfl rfl)
theorem dX1_keeps_25 : decode cX1_keeps 25 = .ok (.goto (-23), 3) := dk_167 255 233 (dk_at dksX1_keeps_1 3 rfl rfl)
theorem dX1_keeps_28 : decode cX1_keeps 28 = .ok (.aload_n 0, 1) := dk_42 (dk_at dksX1_keeps_1 6 rfl rfl)
theorem dX1_keeps_29 : decode cX1_keeps 29 = .ok (.aload_n 0, 1) := dk_42 (dk_at dksX1_keeps_1 7 rfl rfl)
theorem dX1_keeps_30 : decode cX1_keeps 30 = .ok (.getfield 40, 3) := dk_180 0 40 (dk_at dksX1_keeps_1 8 rfl rfl)
theorem dX1_keeps_33 : decode cX1_keeps 33 = .ok (.putfield 265, 3) := dk_181 1 9 (dk_at dksX1_keeps_1 11 rfl rfl)
theorem dX1_keeps_36 : decode cX1_keeps 36 = .ok (.aload_n 0, 1) := dk_42 (dk_at dksX1_keeps_1 14 rfl rfl)
theorem dX1_keeps_37 : decode cX1_keeps 37 = .ok (.aload_n 0, 1) := dk_42 (dk_at dksX1_keeps_1 15 rfl rfl)
theorem dX1_keeps_38 : decode cX1_keeps 38 = .ok (.getfield 116, 3) := dk_180 0 116 (dk_at dksX1_keeps_1 16 rfl rfl)
theorem dX1_keeps_41 : decode cX1_keeps 41 = .ok (.putfield 268, 3) := dk_181 1 12 (dk_at dksX1_keeps_1 19 rfl rfl)
theorem dX1_keeps_44 : decode cX1_keeps 44 = .ok (.aload_n 0, 1) := dk_42 (dk_at dksX1_keeps_1 22 rfl rfl)
theorem dX1_keeps_45 : decode cX1_keeps 45 = .ok (.aload_n 0, 1) := dk_42 (dk_at dksX1_keeps_1 23 rfl rfl)
theorem dX1_keeps_46 : decode cX1_keeps 46 = .ok (.getfield 119, 3) := dk_180 0 119 (dk_at dksX1_keeps_2 0 rfl rfl)
theorem dX1_keeps_49 : decode cX1_keeps 49 = .ok (.putfield 271, 3) := dk_181 1 15 (dk_at dksX1_keeps_2 3 rfl rfl)
theorem dX1_keeps_52 : decode cX1_keeps 52 = .ok (.aload_n 0, 1) := dk_42 (dk_at dksX1_keeps_2 6 rfl rfl)
theorem dX1_keeps_53 : decode cX1_keeps 53 = .ok (.aload_n 0, 1) := dk_42 (dk_at dksX1_keeps_2 7 rfl rfl)
theorem dX1_keeps_54 : decode cX1_keeps 54 = .ok (.getfield 43, 3) := dk_180 0 43 (dk_at dksX1_keeps_2 8 rfl rfl)
theorem dX1_keeps_57 : decode cX1_keeps 57 = .ok (.putfield 274, 3) := dk_181 1 18 (dk_at dksX1_keeps_2 11 rfl rfl)
theorem dX1_keeps_60 : decode cX1_keeps 60 = .ok (.aload_n 0, 1) := dk_42 (dk_at dksX1_keeps_2 14 rfl rfl)
theorem dX1_keeps_61 : decode cX1_keeps 61 = .ok (.aload_n 0, 1) := dk_42 (dk_at dksX1_keeps_2 15 rfl rfl)
theorem dX1_keeps_62 : decode cX1_keeps 62 = .ok (.getfield 46, 3) := dk_180 0 46 (dk_at dksX1_keeps_2 16 rfl rfl)
theorem dX1_keeps_65 : decode cX1_keeps 65 = .ok (.putfield 277, 3) := dk_181 1 21 (dk_at dksX1_keeps_2 19 rfl rfl)
theorem dX1_keeps_68 : decode cX1_keeps 68 = .ok (.return_, 1) := dk_177 (dk_at dksX1_keeps_2 22 rfl rfl)
abbrev cX1_putsBack : ByteArray := prog_1_method_36_code
def yX1_putsBack : MethodName := ⟨RX1, "putsBack", "()V"⟩
def dkwX1_putsBack_3 : List UInt8 := [181, 0, 81, 177]
abbrev dktX1_putsBack_3 : List UInt8 := dkwX1_putsBack_3 ++ []
def dkwX1_putsBack_2 : List UInt8 := [180, 1, 15, 181, 0, 119, 42, 42, 180, 1, 18, 181, 0, 43, 42, 42, 180, 1, 21, 181, 0, 46, 42, 4]
abbrev dktX1_putsBack_2 : List UInt8 := dkwX1_putsBack_2 ++ dktX1_putsBack_3
def dkwX1_putsBack_1 : List UInt8 := [132, 1, 1, 167, 255, 233, 42, 42, 180, 1, 9, 181, 0, 40, 42, 42, 180, 1, 12, 181, 0, 116, 42, 42]
abbrev dktX1_putsBack_1 : List UInt8 := dkwX1_putsBack_1 ++ dktX1_putsBack_2
def dkwX1_putsBack_0 : List UInt8 := [3, 60, 27, 5, 162, 0, 24, 42, 180, 0, 20, 27, 50, 42, 180, 0, 24, 27, 50, 182, 1, 5]
abbrev dktX1_putsBack_0 : List UInt8 := dkwX1_putsBack_0 ++ dktX1_putsBack_1
theorem dksX1_putsBack_0 : cX1_putsBack.data.toList.drop 0 = dktX1_putsBack_0 := by decide +kernel
theorem dksX1_putsBack_1 : cX1_putsBack.data.toList.drop 22 = dktX1_putsBack_1 := dk_seg dksX1_putsBack_0 22 rfl rfl
theorem dksX1_putsBack_2 : cX1_putsBack.data.toList.drop 46 = dktX1_putsBack_2 := dk_seg dksX1_putsBack_1 24 rfl rfl
theorem dksX1_putsBack_3 : cX1_putsBack.data.toList.drop 70 = dktX1_putsBack_3 := dk_seg dksX1_putsBack_2 24 rfl rfl
theorem dX1_putsBack_0 : decode cX1_putsBack 0 = .ok (.iconst 0, 1) := dk_3 (dk_at dksX1_putsBack_0 0 rfl rfl)
theorem dX1_putsBack_1 : decode cX1_putsBack 1 = .ok (.istore_n 1, 1) := dk_60 (dk_at dksX1_putsBack_0 1 rfl rfl)
theorem dX1_putsBack_2 : decode cX1_putsBack 2 = .ok (.iload_n 1, 1) := dk_27 (dk_at dksX1_putsBack_0 2 rfl rfl)
theorem dX1_putsBack_3 : decode cX1_putsBack 3 = .ok (.iconst 2, 1) := dk_5 (dk_at dksX1_putsBack_0 3 rfl rfl)
theorem dX1_putsBack_4 : decode cX1_putsBack 4 = .ok (.if_icmp .ge 24, 3) := dk_162 0 24 (dk_at dksX1_putsBack_0 4 rfl rfl)
theorem dX1_putsBack_7 : decode cX1_putsBack 7 = .ok (.aload_n 0, 1) := dk_42 (dk_at dksX1_putsBack_0 7 rfl rfl)
theorem dX1_putsBack_8 : decode cX1_putsBack 8 = .ok (.getfield 20, 3) := dk_180 0 20 (dk_at dksX1_putsBack_0 8 rfl rfl)
theorem dX1_putsBack_11 : decode cX1_putsBack 11 = .ok (.iload_n 1, 1) := dk_27 (dk_at dksX1_putsBack_0 11 rfl rfl)
theorem dX1_putsBack_12 : decode cX1_putsBack 12 = .ok (.aaload, 1) := dk_50 (dk_at dksX1_putsBack_0 12 rfl rfl)
theorem dX1_putsBack_13 : decode cX1_putsBack 13 = .ok (.aload_n 0, 1) := dk_42 (dk_at dksX1_putsBack_0 13 rfl rfl)
theorem dX1_putsBack_14 : decode cX1_putsBack 14 = .ok (.getfield 24, 3) := dk_180 0 24 (dk_at dksX1_putsBack_0 14 rfl rfl)
theorem dX1_putsBack_17 : decode cX1_putsBack 17 = .ok (.iload_n 1, 1) := dk_27 (dk_at dksX1_putsBack_0 17 rfl rfl)
theorem dX1_putsBack_18 : decode cX1_putsBack 18 = .ok (.aaload, 1) := dk_50 (dk_at dksX1_putsBack_0 18 rfl rfl)
theorem dX1_putsBack_19 : decode cX1_putsBack 19 = .ok (.invokevirtual 261, 3) := dk_182 1 5 (dk_at dksX1_putsBack_0 19 rfl rfl)
theorem dX1_putsBack_22 : decode cX1_putsBack 22 = .ok (.iinc 1 1, 3) := dk_132 1 1 (dk_at dksX1_putsBack_1 0 rfl rfl)
theorem dX1_putsBack_25 : decode cX1_putsBack 25 = .ok (.goto (-23), 3) := dk_167 255 233 (dk_at dksX1_putsBack_1 3 rfl rfl)
theorem dX1_putsBack_28 : decode cX1_putsBack 28 = .ok (.aload_n 0, 1) := dk_42 (dk_at dksX1_putsBack_1 6 rfl rfl)
theorem dX1_putsBack_29 : decode cX1_putsBack 29 = .ok (.aload_n 0, 1) := dk_42 (dk_at dksX1_putsBack_1 7 rfl rfl)
theorem dX1_putsBack_30 : decode cX1_putsBack 30 = .ok (.getfield 265, 3) := dk_180 1 9 (dk_at dksX1_putsBack_1 8 rfl rfl)
theorem dX1_putsBack_33 : decode cX1_putsBack 33 = .ok (.putfield 40, 3) := dk_181 0 40 (dk_at dksX1_putsBack_1 11 rfl rfl)
theorem dX1_putsBack_36 : decode cX1_putsBack 36 = .ok (.aload_n 0, 1) := dk_42 (dk_at dksX1_putsBack_1 14 rfl rfl)
theorem dX1_putsBack_37 : decode cX1_putsBack 37 = .ok (.aload_n 0, 1) := dk_42 (dk_at dksX1_putsBack_1 15 rfl rfl)
theorem dX1_putsBack_38 : decode cX1_putsBack 38 = .ok (.getfield 268, 3) := dk_180 1 12 (dk_at dksX1_putsBack_1 16 rfl rfl)
theorem dX1_putsBack_41 : decode cX1_putsBack 41 = .ok (.putfield 116, 3) := dk_181 0 116 (dk_at dksX1_putsBack_1 19 rfl rfl)
theorem dX1_putsBack_44 : decode cX1_putsBack 44 = .ok (.aload_n 0, 1) := dk_42 (dk_at dksX1_putsBack_1 22 rfl rfl)
theorem dX1_putsBack_45 : decode cX1_putsBack 45 = .ok (.aload_n 0, 1) := dk_42 (dk_at dksX1_putsBack_1 23 rfl rfl)
theorem dX1_putsBack_46 : decode cX1_putsBack 46 = .ok (.getfield 271, 3) := dk_180 1 15 (dk_at dksX1_putsBack_2 0 rfl rfl)
theorem dX1_putsBack_49 : decode cX1_putsBack 49 = .ok (.putfield 119, 3) := dk_181 0 119 (dk_at dksX1_putsBack_2 3 rfl rfl)
theorem dX1_putsBack_52 : decode cX1_putsBack 52 = .ok (.aload_n 0, 1) := dk_42 (dk_at dksX1_putsBack_2 6 rfl rfl)
theorem dX1_putsBack_53 : decode cX1_putsBack 53 = .ok (.aload_n 0, 1) := dk_42 (dk_at dksX1_putsBack_2 7 rfl rfl)
theorem dX1_putsBack_54 : decode cX1_putsBack 54 = .ok (.getfield 274, 3) := dk_180 1 18 (dk_at dksX1_putsBack_2 8 rfl rfl)
theorem dX1_putsBack_57 : decode cX1_putsBack 57 = .ok (.putfield 43, 3) := dk_181 0 43 (dk_at dksX1_putsBack_2 11 rfl rfl)
theorem dX1_putsBack_60 : decode cX1_putsBack 60 = .ok (.aload_n 0, 1) := dk_42 (dk_at dksX1_putsBack_2 14 rfl rfl)
theorem dX1_putsBack_61 : decode cX1_putsBack 61 = .ok (.aload_n 0, 1) := dk_42 (dk_at dksX1_putsBack_2 15 rfl rfl)
theorem dX1_putsBack_62 : decode cX1_putsBack 62 = .ok (.getfield 277, 3) := dk_180 1 21 (dk_at dksX1_putsBack_2 16 rfl rfl)
theorem dX1_putsBack_65 : decode cX1_putsBack 65 = .ok (.putfield 46, 3) := dk_181 0 46 (dk_at dksX1_putsBack_2 19 rfl rfl)
theorem dX1_putsBack_68 : decode cX1_putsBack 68 = .ok (.aload_n 0, 1) := dk_42 (dk_at dksX1_putsBack_2 22 rfl rfl)
theorem dX1_putsBack_69 : decode cX1_putsBack 69 = .ok (.iconst 1, 1) := dk_4 (dk_at dksX1_putsBack_2 23 rfl rfl)
theorem dX1_putsBack_70 : decode cX1_putsBack 70 = .ok (.putfield 81, 3) := dk_181 0 81 (dk_at dksX1_putsBack_3 0 rfl rfl)
theorem dX1_putsBack_73 : decode cX1_putsBack 73 = .ok (.return_, 1) := dk_177 (dk_at dksX1_putsBack_3 3 rfl rfl)
abbrev cX1_odds : ByteArray := prog_1_method_46_code
def yX1_odds : MethodName := ⟨RX1, "odds", "(III)I"⟩
def dkwX1_odds_2 : List UInt8 := [167, 0, 4, 28, 29, 154, 0, 7, 28, 167, 0, 4, 27, 182, 1, 53, 167, 0, 4, 2, 172]
abbrev dktX1_odds_2 : List UInt8 := dkwX1_odds_2 ++ []
def dkwX1_odds_1 : List UInt8 := [20, 0, 9, 184, 0, 5, 153, 0, 36, 29, 184, 0, 68, 153, 0, 29, 42, 29, 29, 154, 0, 7, 27]
abbrev dktX1_odds_1 : List UInt8 := dkwX1_odds_1 ++ dktX1_odds_2
def dkwX1_odds_0 : List UInt8 := [42, 180, 0, 81, 153, 0, 60, 27, 133, 9, 20, 0, 9, 184, 0, 5, 153, 0, 48, 28, 133, 9]
abbrev dktX1_odds_0 : List UInt8 := dkwX1_odds_0 ++ dktX1_odds_1
theorem dksX1_odds_0 : cX1_odds.data.toList.drop 0 = dktX1_odds_0 := by decide +kernel
theorem dksX1_odds_1 : cX1_odds.data.toList.drop 22 = dktX1_odds_1 := dk_seg dksX1_odds_0 22 rfl rfl
theorem dksX1_odds_2 : cX1_odds.data.toList.drop 45 = dktX1_odds_2 := dk_seg dksX1_odds_1 23 rfl rfl
theorem dX1_odds_0 : decode cX1_odds 0 = .ok (.aload_n 0, 1) := dk_42 (dk_at dksX1_odds_0 0 rfl rfl)
theorem dX1_odds_1 : decode cX1_odds 1 = .ok (.getfield 81, 3) := dk_180 0 81 (dk_at dksX1_odds_0 1 rfl rfl)
theorem dX1_odds_4 : decode cX1_odds 4 = .ok (.ifCond .eq 60, 3) := dk_153 0 60 (dk_at dksX1_odds_0 4 rfl rfl)
theorem dX1_odds_7 : decode cX1_odds 7 = .ok (.iload_n 1, 1) := dk_27 (dk_at dksX1_odds_0 7 rfl rfl)
theorem dX1_odds_8 : decode cX1_odds 8 = .ok (.i2l, 1) := dk_133 (dk_at dksX1_odds_0 8 rfl rfl)
theorem dX1_odds_9 : decode cX1_odds 9 = .ok (.lconst 0, 1) := dk_9 (dk_at dksX1_odds_0 9 rfl rfl)
theorem dX1_odds_10 : decode cX1_odds 10 = .ok (.ldc2_w 9, 3) := dk_20 0 9 (dk_at dksX1_odds_0 10 rfl rfl)
theorem dX1_odds_13 : decode cX1_odds 13 = .ok (.invokestatic 5, 3) := dk_184 0 5 (dk_at dksX1_odds_0 13 rfl rfl)
theorem dX1_odds_16 : decode cX1_odds 16 = .ok (.ifCond .eq 48, 3) := dk_153 0 48 (dk_at dksX1_odds_0 16 rfl rfl)
theorem dX1_odds_19 : decode cX1_odds 19 = .ok (.iload_n 2, 1) := dk_28 (dk_at dksX1_odds_0 19 rfl rfl)
theorem dX1_odds_20 : decode cX1_odds 20 = .ok (.i2l, 1) := dk_133 (dk_at dksX1_odds_0 20 rfl rfl)
theorem dX1_odds_21 : decode cX1_odds 21 = .ok (.lconst 0, 1) := dk_9 (dk_at dksX1_odds_0 21 rfl rfl)
theorem dX1_odds_22 : decode cX1_odds 22 = .ok (.ldc2_w 9, 3) := dk_20 0 9 (dk_at dksX1_odds_1 0 rfl rfl)
theorem dX1_odds_25 : decode cX1_odds 25 = .ok (.invokestatic 5, 3) := dk_184 0 5 (dk_at dksX1_odds_1 3 rfl rfl)
theorem dX1_odds_28 : decode cX1_odds 28 = .ok (.ifCond .eq 36, 3) := dk_153 0 36 (dk_at dksX1_odds_1 6 rfl rfl)
theorem dX1_odds_31 : decode cX1_odds 31 = .ok (.iload_n 3, 1) := dk_29 (dk_at dksX1_odds_1 9 rfl rfl)
theorem dX1_odds_32 : decode cX1_odds 32 = .ok (.invokestatic 68, 3) := dk_184 0 68 (dk_at dksX1_odds_1 10 rfl rfl)
theorem dX1_odds_35 : decode cX1_odds 35 = .ok (.ifCond .eq 29, 3) := dk_153 0 29 (dk_at dksX1_odds_1 13 rfl rfl)
theorem dX1_odds_38 : decode cX1_odds 38 = .ok (.aload_n 0, 1) := dk_42 (dk_at dksX1_odds_1 16 rfl rfl)
theorem dX1_odds_39 : decode cX1_odds 39 = .ok (.iload_n 3, 1) := dk_29 (dk_at dksX1_odds_1 17 rfl rfl)
theorem dX1_odds_40 : decode cX1_odds 40 = .ok (.iload_n 3, 1) := dk_29 (dk_at dksX1_odds_1 18 rfl rfl)
theorem dX1_odds_41 : decode cX1_odds 41 = .ok (.ifCond .ne 7, 3) := dk_154 0 7 (dk_at dksX1_odds_1 19 rfl rfl)
theorem dX1_odds_44 : decode cX1_odds 44 = .ok (.iload_n 1, 1) := dk_27 (dk_at dksX1_odds_1 22 rfl rfl)
theorem dX1_odds_45 : decode cX1_odds 45 = .ok (.goto 4, 3) := dk_167 0 4 (dk_at dksX1_odds_2 0 rfl rfl)
theorem dX1_odds_48 : decode cX1_odds 48 = .ok (.iload_n 2, 1) := dk_28 (dk_at dksX1_odds_2 3 rfl rfl)
theorem dX1_odds_49 : decode cX1_odds 49 = .ok (.iload_n 3, 1) := dk_29 (dk_at dksX1_odds_2 4 rfl rfl)
theorem dX1_odds_50 : decode cX1_odds 50 = .ok (.ifCond .ne 7, 3) := dk_154 0 7 (dk_at dksX1_odds_2 5 rfl rfl)
theorem dX1_odds_53 : decode cX1_odds 53 = .ok (.iload_n 2, 1) := dk_28 (dk_at dksX1_odds_2 8 rfl rfl)
theorem dX1_odds_54 : decode cX1_odds 54 = .ok (.goto 4, 3) := dk_167 0 4 (dk_at dksX1_odds_2 9 rfl rfl)
theorem dX1_odds_57 : decode cX1_odds 57 = .ok (.iload_n 1, 1) := dk_27 (dk_at dksX1_odds_2 12 rfl rfl)
theorem dX1_odds_58 : decode cX1_odds 58 = .ok (.invokevirtual 309, 3) := dk_182 1 53 (dk_at dksX1_odds_2 13 rfl rfl)
theorem dX1_odds_61 : decode cX1_odds 61 = .ok (.goto 4, 3) := dk_167 0 4 (dk_at dksX1_odds_2 16 rfl rfl)
theorem dX1_odds_64 : decode cX1_odds 64 = .ok (.iconst (-1), 1) := dk_2 (dk_at dksX1_odds_2 19 rfl rfl)
theorem dX1_odds_65 : decode cX1_odds 65 = .ok (.ireturn, 1) := dk_172 (dk_at dksX1_odds_2 20 rfl rfl)
abbrev cX1_oddsOf : ByteArray := prog_1_method_39_code
def yX1_oddsOf : MethodName := ⟨RX1, "oddsOf", "(III)I"⟩
def dkwX1_oddsOf_3 : List UInt8 := [184, 1, 24, 184, 1, 47, 172]
abbrev dktX1_oddsOf_3 : List UInt8 := dkwX1_oddsOf_3 ++ []
def dkwX1_oddsOf_2 : List UInt8 := [42, 4, 27, 100, 29, 5, 4, 5, 6, 182, 1, 43, 100, 54, 4, 16, 50, 17, 3, 182, 21, 4]
abbrev dktX1_oddsOf_2 : List UInt8 := dkwX1_oddsOf_2 ++ dktX1_oddsOf_3
def dkwX1_oddsOf_1 : List UInt8 := [42, 4, 27, 100, 29, 4, 3, 7, 8, 182, 1, 43, 100, 42, 27, 28, 6, 4, 5, 6, 182, 1, 43, 96]
abbrev dktX1_oddsOf_1 : List UInt8 := dkwX1_oddsOf_1 ++ dktX1_oddsOf_2
def dkwX1_oddsOf_0 : List UInt8 := [17, 1, 124, 42, 180, 0, 29, 27, 50, 42, 180, 0, 20, 27, 50, 3, 28, 182, 1, 41, 50, 3, 46, 96]
abbrev dktX1_oddsOf_0 : List UInt8 := dkwX1_oddsOf_0 ++ dktX1_oddsOf_1
theorem dksX1_oddsOf_0 : cX1_oddsOf.data.toList.drop 0 = dktX1_oddsOf_0 := by decide +kernel
theorem dksX1_oddsOf_1 : cX1_oddsOf.data.toList.drop 24 = dktX1_oddsOf_1 := dk_seg dksX1_oddsOf_0 24 rfl rfl
theorem dksX1_oddsOf_2 : cX1_oddsOf.data.toList.drop 48 = dktX1_oddsOf_2 := dk_seg dksX1_oddsOf_1 24 rfl rfl
theorem dksX1_oddsOf_3 : cX1_oddsOf.data.toList.drop 70 = dktX1_oddsOf_3 := dk_seg dksX1_oddsOf_2 22 rfl rfl
theorem dX1_oddsOf_0 : decode cX1_oddsOf 0 = .ok (.sipush 380, 3) := dk_17 1 124 (dk_at dksX1_oddsOf_0 0 rfl rfl)
theorem dX1_oddsOf_3 : decode cX1_oddsOf 3 = .ok (.aload_n 0, 1) := dk_42 (dk_at dksX1_oddsOf_0 3 rfl rfl)
theorem dX1_oddsOf_4 : decode cX1_oddsOf 4 = .ok (.getfield 29, 3) := dk_180 0 29 (dk_at dksX1_oddsOf_0 4 rfl rfl)
theorem dX1_oddsOf_7 : decode cX1_oddsOf 7 = .ok (.iload_n 1, 1) := dk_27 (dk_at dksX1_oddsOf_0 7 rfl rfl)
theorem dX1_oddsOf_8 : decode cX1_oddsOf 8 = .ok (.aaload, 1) := dk_50 (dk_at dksX1_oddsOf_0 8 rfl rfl)
theorem dX1_oddsOf_9 : decode cX1_oddsOf 9 = .ok (.aload_n 0, 1) := dk_42 (dk_at dksX1_oddsOf_0 9 rfl rfl)
theorem dX1_oddsOf_10 : decode cX1_oddsOf 10 = .ok (.getfield 20, 3) := dk_180 0 20 (dk_at dksX1_oddsOf_0 10 rfl rfl)
theorem dX1_oddsOf_13 : decode cX1_oddsOf 13 = .ok (.iload_n 1, 1) := dk_27 (dk_at dksX1_oddsOf_0 13 rfl rfl)
theorem dX1_oddsOf_14 : decode cX1_oddsOf 14 = .ok (.aaload, 1) := dk_50 (dk_at dksX1_oddsOf_0 14 rfl rfl)
theorem dX1_oddsOf_15 : decode cX1_oddsOf 15 = .ok (.iconst 0, 1) := dk_3 (dk_at dksX1_oddsOf_0 15 rfl rfl)
theorem dX1_oddsOf_16 : decode cX1_oddsOf 16 = .ok (.iload_n 2, 1) := dk_28 (dk_at dksX1_oddsOf_0 16 rfl rfl)
theorem dX1_oddsOf_17 : decode cX1_oddsOf 17 = .ok (.invokevirtual 297, 3) := dk_182 1 41 (dk_at dksX1_oddsOf_0 17 rfl rfl)
theorem dX1_oddsOf_20 : decode cX1_oddsOf 20 = .ok (.aaload, 1) := dk_50 (dk_at dksX1_oddsOf_0 20 rfl rfl)
theorem dX1_oddsOf_21 : decode cX1_oddsOf 21 = .ok (.iconst 0, 1) := dk_3 (dk_at dksX1_oddsOf_0 21 rfl rfl)
theorem dX1_oddsOf_22 : decode cX1_oddsOf 22 = .ok (.iaload, 1) := dk_46 (dk_at dksX1_oddsOf_0 22 rfl rfl)
theorem dX1_oddsOf_23 : decode cX1_oddsOf 23 = .ok (.iadd, 1) := dk_96 (dk_at dksX1_oddsOf_0 23 rfl rfl)
theorem dX1_oddsOf_24 : decode cX1_oddsOf 24 = .ok (.aload_n 0, 1) := dk_42 (dk_at dksX1_oddsOf_1 0 rfl rfl)
theorem dX1_oddsOf_25 : decode cX1_oddsOf 25 = .ok (.iconst 1, 1) := dk_4 (dk_at dksX1_oddsOf_1 1 rfl rfl)
theorem dX1_oddsOf_26 : decode cX1_oddsOf 26 = .ok (.iload_n 1, 1) := dk_27 (dk_at dksX1_oddsOf_1 2 rfl rfl)
theorem dX1_oddsOf_27 : decode cX1_oddsOf 27 = .ok (.isub, 1) := dk_100 (dk_at dksX1_oddsOf_1 3 rfl rfl)
theorem dX1_oddsOf_28 : decode cX1_oddsOf 28 = .ok (.iload_n 3, 1) := dk_29 (dk_at dksX1_oddsOf_1 4 rfl rfl)
theorem dX1_oddsOf_29 : decode cX1_oddsOf 29 = .ok (.iconst 1, 1) := dk_4 (dk_at dksX1_oddsOf_1 5 rfl rfl)
theorem dX1_oddsOf_30 : decode cX1_oddsOf 30 = .ok (.iconst 0, 1) := dk_3 (dk_at dksX1_oddsOf_1 6 rfl rfl)
theorem dX1_oddsOf_31 : decode cX1_oddsOf 31 = .ok (.iconst 4, 1) := dk_7 (dk_at dksX1_oddsOf_1 7 rfl rfl)
theorem dX1_oddsOf_32 : decode cX1_oddsOf 32 = .ok (.iconst 5, 1) := dk_8 (dk_at dksX1_oddsOf_1 8 rfl rfl)
theorem dX1_oddsOf_33 : decode cX1_oddsOf 33 = .ok (.invokevirtual 299, 3) := dk_182 1 43 (dk_at dksX1_oddsOf_1 9 rfl rfl)
theorem dX1_oddsOf_36 : decode cX1_oddsOf 36 = .ok (.isub, 1) := dk_100 (dk_at dksX1_oddsOf_1 12 rfl rfl)
theorem dX1_oddsOf_37 : decode cX1_oddsOf 37 = .ok (.aload_n 0, 1) := dk_42 (dk_at dksX1_oddsOf_1 13 rfl rfl)
theorem dX1_oddsOf_38 : decode cX1_oddsOf 38 = .ok (.iload_n 1, 1) := dk_27 (dk_at dksX1_oddsOf_1 14 rfl rfl)
theorem dX1_oddsOf_39 : decode cX1_oddsOf 39 = .ok (.iload_n 2, 1) := dk_28 (dk_at dksX1_oddsOf_1 15 rfl rfl)
theorem dX1_oddsOf_40 : decode cX1_oddsOf 40 = .ok (.iconst 3, 1) := dk_6 (dk_at dksX1_oddsOf_1 16 rfl rfl)
theorem dX1_oddsOf_41 : decode cX1_oddsOf 41 = .ok (.iconst 1, 1) := dk_4 (dk_at dksX1_oddsOf_1 17 rfl rfl)
theorem dX1_oddsOf_42 : decode cX1_oddsOf 42 = .ok (.iconst 2, 1) := dk_5 (dk_at dksX1_oddsOf_1 18 rfl rfl)
theorem dX1_oddsOf_43 : decode cX1_oddsOf 43 = .ok (.iconst 3, 1) := dk_6 (dk_at dksX1_oddsOf_1 19 rfl rfl)
theorem dX1_oddsOf_44 : decode cX1_oddsOf 44 = .ok (.invokevirtual 299, 3) := dk_182 1 43 (dk_at dksX1_oddsOf_1 20 rfl rfl)
theorem dX1_oddsOf_47 : decode cX1_oddsOf 47 = .ok (.iadd, 1) := dk_96 (dk_at dksX1_oddsOf_1 23 rfl rfl)
theorem dX1_oddsOf_48 : decode cX1_oddsOf 48 = .ok (.aload_n 0, 1) := dk_42 (dk_at dksX1_oddsOf_2 0 rfl rfl)
theorem dX1_oddsOf_49 : decode cX1_oddsOf 49 = .ok (.iconst 1, 1) := dk_4 (dk_at dksX1_oddsOf_2 1 rfl rfl)
theorem dX1_oddsOf_50 : decode cX1_oddsOf 50 = .ok (.iload_n 1, 1) := dk_27 (dk_at dksX1_oddsOf_2 2 rfl rfl)
theorem dX1_oddsOf_51 : decode cX1_oddsOf 51 = .ok (.isub, 1) := dk_100 (dk_at dksX1_oddsOf_2 3 rfl rfl)
theorem dX1_oddsOf_52 : decode cX1_oddsOf 52 = .ok (.iload_n 3, 1) := dk_29 (dk_at dksX1_oddsOf_2 4 rfl rfl)
theorem dX1_oddsOf_53 : decode cX1_oddsOf 53 = .ok (.iconst 2, 1) := dk_5 (dk_at dksX1_oddsOf_2 5 rfl rfl)
theorem dX1_oddsOf_54 : decode cX1_oddsOf 54 = .ok (.iconst 1, 1) := dk_4 (dk_at dksX1_oddsOf_2 6 rfl rfl)
theorem dX1_oddsOf_55 : decode cX1_oddsOf 55 = .ok (.iconst 2, 1) := dk_5 (dk_at dksX1_oddsOf_2 7 rfl rfl)
theorem dX1_oddsOf_56 : decode cX1_oddsOf 56 = .ok (.iconst 3, 1) := dk_6 (dk_at dksX1_oddsOf_2 8 rfl rfl)
theorem dX1_oddsOf_57 : decode cX1_oddsOf 57 = .ok (.invokevirtual 299, 3) := dk_182 1 43 (dk_at dksX1_oddsOf_2 9 rfl rfl)
theorem dX1_oddsOf_60 : decode cX1_oddsOf 60 = .ok (.isub, 1) := dk_100 (dk_at dksX1_oddsOf_2 12 rfl rfl)
theorem dX1_oddsOf_61 : decode cX1_oddsOf 61 = .ok (.istore 4, 2) := dk_54 4 (dk_at dksX1_oddsOf_2 13 rfl rfl)
theorem dX1_oddsOf_63 : decode cX1_oddsOf 63 = .ok (.bipush 50, 2) := dk_16 50 (dk_at dksX1_oddsOf_2 15 rfl rfl)
theorem dX1_oddsOf_65 : decode cX1_oddsOf 65 = .ok (.sipush 950, 3) := dk_17 3 182 (dk_at dksX1_oddsOf_2 17 rfl rfl)
theorem dX1_oddsOf_68 : decode cX1_oddsOf 68 = .ok (.iload 4, 2) := dk_21 4 (dk_at dksX1_oddsOf_2 20 rfl rfl)
theorem dX1_oddsOf_70 : decode cX1_oddsOf 70 = .ok (.invokestatic 280, 3) := dk_184 1 24 (dk_at dksX1_oddsOf_3 0 rfl rfl)
theorem dX1_oddsOf_73 : decode cX1_oddsOf 73 = .ok (.invokestatic 303, 3) := dk_184 1 47 (dk_at dksX1_oddsOf_3 3 rfl rfl)
theorem dX1_oddsOf_76 : decode cX1_oddsOf 76 = .ok (.ireturn, 1) := dk_172 (dk_at dksX1_oddsOf_3 6 rfl rfl)
abbrev cX1_third : ByteArray := prog_1_method_38_code
def yX1_third : MethodName := ⟨RX1, "third", "(IIIIII)I"⟩
def dkwX1_third_2 : List UInt8 := [21, 6, 28, 182, 1, 41, 50, 29, 46, 96, 6, 108, 172]
abbrev dktX1_third_2 : List UInt8 := dkwX1_third_2 ++ []
def dkwX1_third_1 : List UInt8 := [182, 1, 41, 50, 29, 46, 25, 8, 25, 7, 21, 5, 28, 182, 1, 41, 50, 29, 46, 96, 25, 8, 25, 7]
abbrev dktX1_third_1 : List UInt8 := dkwX1_third_1 ++ dktX1_third_2
def dkwX1_third_0 : List UInt8 := [42, 180, 0, 20, 27, 50, 58, 7, 42, 180, 0, 29, 27, 50, 58, 8, 25, 8, 25, 7, 21, 4, 28]
abbrev dktX1_third_0 : List UInt8 := dkwX1_third_0 ++ dktX1_third_1
theorem dksX1_third_0 : cX1_third.data.toList.drop 0 = dktX1_third_0 := by decide +kernel
theorem dksX1_third_1 : cX1_third.data.toList.drop 23 = dktX1_third_1 := dk_seg dksX1_third_0 23 rfl rfl
theorem dksX1_third_2 : cX1_third.data.toList.drop 47 = dktX1_third_2 := dk_seg dksX1_third_1 24 rfl rfl
theorem dX1_third_0 : decode cX1_third 0 = .ok (.aload_n 0, 1) := dk_42 (dk_at dksX1_third_0 0 rfl rfl)
theorem dX1_third_1 : decode cX1_third 1 = .ok (.getfield 20, 3) := dk_180 0 20 (dk_at dksX1_third_0 1 rfl rfl)
theorem dX1_third_4 : decode cX1_third 4 = .ok (.iload_n 1, 1) := dk_27 (dk_at dksX1_third_0 4 rfl rfl)
theorem dX1_third_5 : decode cX1_third 5 = .ok (.aaload, 1) := dk_50 (dk_at dksX1_third_0 5 rfl rfl)
theorem dX1_third_6 : decode cX1_third 6 = .ok (.astore 7, 2) := dk_58 7 (dk_at dksX1_third_0 6 rfl rfl)
theorem dX1_third_8 : decode cX1_third 8 = .ok (.aload_n 0, 1) := dk_42 (dk_at dksX1_third_0 8 rfl rfl)
theorem dX1_third_9 : decode cX1_third 9 = .ok (.getfield 29, 3) := dk_180 0 29 (dk_at dksX1_third_0 9 rfl rfl)
theorem dX1_third_12 : decode cX1_third 12 = .ok (.iload_n 1, 1) := dk_27 (dk_at dksX1_third_0 12 rfl rfl)
theorem dX1_third_13 : decode cX1_third 13 = .ok (.aaload, 1) := dk_50 (dk_at dksX1_third_0 13 rfl rfl)
theorem dX1_third_14 : decode cX1_third 14 = .ok (.astore 8, 2) := dk_58 8 (dk_at dksX1_third_0 14 rfl rfl)
theorem dX1_third_16 : decode cX1_third 16 = .ok (.aload 8, 2) := dk_25 8 (dk_at dksX1_third_0 16 rfl rfl)
theorem dX1_third_18 : decode cX1_third 18 = .ok (.aload 7, 2) := dk_25 7 (dk_at dksX1_third_0 18 rfl rfl)
theorem dX1_third_20 : decode cX1_third 20 = .ok (.iload 4, 2) := dk_21 4 (dk_at dksX1_third_0 20 rfl rfl)
theorem dX1_third_22 : decode cX1_third 22 = .ok (.iload_n 2, 1) := dk_28 (dk_at dksX1_third_0 22 rfl rfl)
theorem dX1_third_23 : decode cX1_third 23 = .ok (.invokevirtual 297, 3) := dk_182 1 41 (dk_at dksX1_third_1 0 rfl rfl)
theorem dX1_third_26 : decode cX1_third 26 = .ok (.aaload, 1) := dk_50 (dk_at dksX1_third_1 3 rfl rfl)
theorem dX1_third_27 : decode cX1_third 27 = .ok (.iload_n 3, 1) := dk_29 (dk_at dksX1_third_1 4 rfl rfl)
theorem dX1_third_28 : decode cX1_third 28 = .ok (.iaload, 1) := dk_46 (dk_at dksX1_third_1 5 rfl rfl)
theorem dX1_third_29 : decode cX1_third 29 = .ok (.aload 8, 2) := dk_25 8 (dk_at dksX1_third_1 6 rfl rfl)
theorem dX1_third_31 : decode cX1_third 31 = .ok (.aload 7, 2) := dk_25 7 (dk_at dksX1_third_1 8 rfl rfl)
theorem dX1_third_33 : decode cX1_third 33 = .ok (.iload 5, 2) := dk_21 5 (dk_at dksX1_third_1 10 rfl rfl)
theorem dX1_third_35 : decode cX1_third 35 = .ok (.iload_n 2, 1) := dk_28 (dk_at dksX1_third_1 12 rfl rfl)
theorem dX1_third_36 : decode cX1_third 36 = .ok (.invokevirtual 297, 3) := dk_182 1 41 (dk_at dksX1_third_1 13 rfl rfl)
theorem dX1_third_39 : decode cX1_third 39 = .ok (.aaload, 1) := dk_50 (dk_at dksX1_third_1 16 rfl rfl)
theorem dX1_third_40 : decode cX1_third 40 = .ok (.iload_n 3, 1) := dk_29 (dk_at dksX1_third_1 17 rfl rfl)
theorem dX1_third_41 : decode cX1_third 41 = .ok (.iaload, 1) := dk_46 (dk_at dksX1_third_1 18 rfl rfl)
theorem dX1_third_42 : decode cX1_third 42 = .ok (.iadd, 1) := dk_96 (dk_at dksX1_third_1 19 rfl rfl)
theorem dX1_third_43 : decode cX1_third 43 = .ok (.aload 8, 2) := dk_25 8 (dk_at dksX1_third_1 20 rfl rfl)
theorem dX1_third_45 : decode cX1_third 45 = .ok (.aload 7, 2) := dk_25 7 (dk_at dksX1_third_1 22 rfl rfl)
theorem dX1_third_47 : decode cX1_third 47 = .ok (.iload 6, 2) := dk_21 6 (dk_at dksX1_third_2 0 rfl rfl)
theorem dX1_third_49 : decode cX1_third 49 = .ok (.iload_n 2, 1) := dk_28 (dk_at dksX1_third_2 2 rfl rfl)
theorem dX1_third_50 : decode cX1_third 50 = .ok (.invokevirtual 297, 3) := dk_182 1 41 (dk_at dksX1_third_2 3 rfl rfl)
theorem dX1_third_53 : decode cX1_third 53 = .ok (.aaload, 1) := dk_50 (dk_at dksX1_third_2 6 rfl rfl)
theorem dX1_third_54 : decode cX1_third 54 = .ok (.iload_n 3, 1) := dk_29 (dk_at dksX1_third_2 7 rfl rfl)
theorem dX1_third_55 : decode cX1_third 55 = .ok (.iaload, 1) := dk_46 (dk_at dksX1_third_2 8 rfl rfl)
theorem dX1_third_56 : decode cX1_third 56 = .ok (.iadd, 1) := dk_96 (dk_at dksX1_third_2 9 rfl rfl)
theorem dX1_third_57 : decode cX1_third 57 = .ok (.iconst 3, 1) := dk_6 (dk_at dksX1_third_2 10 rfl rfl)
theorem dX1_third_58 : decode cX1_third 58 = .ok (.idiv, 1) := dk_108 (dk_at dksX1_third_2 11 rfl rfl)
theorem dX1_third_59 : decode cX1_third 59 = .ok (.ireturn, 1) := dk_172 (dk_at dksX1_third_2 12 rfl rfl)
abbrev cX1_chance : ByteArray := prog_1_method_48_code
def yX1_chance : MethodName := ⟨RX1, "chance", "()I"⟩
def dkwX1_chance_0 : List UInt8 := [42, 180, 0, 81, 154, 0, 5, 2, 172, 42, 42, 182, 0, 125, 182, 1, 71, 42, 182, 1, 75, 172]
abbrev dktX1_chance_0 : List UInt8 := dkwX1_chance_0 ++ []
theorem dksX1_chance_0 : cX1_chance.data.toList.drop 0 = dktX1_chance_0 := by decide +kernel
theorem dX1_chance_0 : decode cX1_chance 0 = .ok (.aload_n 0, 1) := dk_42 (dk_at dksX1_chance_0 0 rfl rfl)
theorem dX1_chance_1 : decode cX1_chance 1 = .ok (.getfield 81, 3) := dk_180 0 81 (dk_at dksX1_chance_0 1 rfl rfl)
theorem dX1_chance_4 : decode cX1_chance 4 = .ok (.ifCond .ne 5, 3) := dk_154 0 5 (dk_at dksX1_chance_0 4 rfl rfl)
theorem dX1_chance_7 : decode cX1_chance 7 = .ok (.iconst (-1), 1) := dk_2 (dk_at dksX1_chance_0 7 rfl rfl)
theorem dX1_chance_8 : decode cX1_chance 8 = .ok (.ireturn, 1) := dk_172 (dk_at dksX1_chance_0 8 rfl rfl)
theorem dX1_chance_9 : decode cX1_chance 9 = .ok (.aload_n 0, 1) := dk_42 (dk_at dksX1_chance_0 9 rfl rfl)
theorem dX1_chance_10 : decode cX1_chance 10 = .ok (.aload_n 0, 1) := dk_42 (dk_at dksX1_chance_0 10 rfl rfl)
theorem dX1_chance_11 : decode cX1_chance 11 = .ok (.invokevirtual 125, 3) := dk_182 0 125 (dk_at dksX1_chance_0 11 rfl rfl)
theorem dX1_chance_14 : decode cX1_chance 14 = .ok (.invokevirtual 327, 3) := dk_182 1 71 (dk_at dksX1_chance_0 14 rfl rfl)
theorem dX1_chance_17 : decode cX1_chance 17 = .ok (.aload_n 0, 1) := dk_42 (dk_at dksX1_chance_0 17 rfl rfl)
theorem dX1_chance_18 : decode cX1_chance 18 = .ok (.invokevirtual 331, 3) := dk_182 1 75 (dk_at dksX1_chance_0 18 rfl rfl)
theorem dX1_chance_21 : decode cX1_chance 21 = .ok (.ireturn, 1) := dk_172 (dk_at dksX1_chance_0 21 rfl rfl)
abbrev cX1_fills : ByteArray := prog_1_method_44_code
def yX1_fills : MethodName := ⟨RX1, "fills", "(I)V"⟩
def dkwX1_fills_5 : List UInt8 := [132, 4, 1, 167, 255, 163, 132, 3, 255, 167, 255, 144, 177]
abbrev dktX1_fills_5 : List UInt8 := dkwX1_fills_5 ++ []
def dkwX1_fills_4 : List UInt8 := [153, 0, 7, 3, 167, 0, 13, 42, 21, 4, 21, 5, 21, 6, 182, 1, 63, 79, 132, 6, 1, 167, 255, 188]
abbrev dktX1_fills_4 : List UInt8 := dkwX1_fills_4 ++ dktX1_fills_5
def dkwX1_fills_3 : List UInt8 := [21, 5, 182, 0, 132, 153, 0, 9, 19, 1, 62, 167, 0, 29, 42, 27, 21, 5, 21, 4, 182, 0, 132]
abbrev dktX1_fills_3 : List UInt8 := dkwX1_fills_3 ++ dktX1_fills_4
def dkwX1_fills_2 : List UInt8 := [21, 6, 16, 72, 162, 0, 67, 42, 180, 0, 56, 21, 4, 21, 5, 21, 6, 184, 1, 56, 42, 27, 21, 4]
abbrev dktX1_fills_2 : List UInt8 := dkwX1_fills_2 ++ dktX1_fills_3
def dkwX1_fills_1 : List UInt8 := [184, 1, 47, 54, 4, 21, 4, 28, 29, 184, 1, 24, 163, 0, 89, 29, 21, 4, 100, 54, 5, 3, 54, 6]
abbrev dktX1_fills_1 : List UInt8 := dkwX1_fills_1 ++ dktX1_fills_2
def dkwX1_fills_0 : List UInt8 := [42, 182, 1, 59, 42, 180, 0, 32, 4, 46, 61, 5, 28, 104, 62, 29, 155, 0, 114, 3, 29, 28, 100]
abbrev dktX1_fills_0 : List UInt8 := dkwX1_fills_0 ++ dktX1_fills_1
theorem dksX1_fills_0 : cX1_fills.data.toList.drop 0 = dktX1_fills_0 := by decide +kernel
theorem dksX1_fills_1 : cX1_fills.data.toList.drop 23 = dktX1_fills_1 := dk_seg dksX1_fills_0 23 rfl rfl
theorem dksX1_fills_2 : cX1_fills.data.toList.drop 47 = dktX1_fills_2 := dk_seg dksX1_fills_1 24 rfl rfl
theorem dksX1_fills_3 : cX1_fills.data.toList.drop 71 = dktX1_fills_3 := dk_seg dksX1_fills_2 24 rfl rfl
theorem dksX1_fills_4 : cX1_fills.data.toList.drop 94 = dktX1_fills_4 := dk_seg dksX1_fills_3 23 rfl rfl
theorem dksX1_fills_5 : cX1_fills.data.toList.drop 118 = dktX1_fills_5 := dk_seg dksX1_fills_4 24 rfl rfl
theorem dX1_fills_0 : decode cX1_fills 0 = .ok (.aload_n 0, 1) := dk_42 (dk_at dksX1_fills_0 0 rfl rfl)
theorem dX1_fills_1 : decode cX1_fills 1 = .ok (.invokevirtual 315, 3) := dk_182 1 59 (dk_at dksX1_fills_0 1 rfl rfl)
theorem dX1_fills_4 : decode cX1_fills 4 = .ok (.aload_n 0, 1) := dk_42 (dk_at dksX1_fills_0 4 rfl rfl)
theorem dX1_fills_5 : decode cX1_fills 5 = .ok (.getfield 32, 3) := dk_180 0 32 (dk_at dksX1_fills_0 5 rfl rfl)
theorem dX1_fills_8 : decode cX1_fills 8 = .ok (.iconst 1, 1) := dk_4 (dk_at dksX1_fills_0 8 rfl rfl)
theorem dX1_fills_9 : decode cX1_fills 9 = .ok (.iaload, 1) := dk_46 (dk_at dksX1_fills_0 9 rfl rfl)
theorem dX1_fills_10 : decode cX1_fills 10 = .ok (.istore_n 2, 1) := dk_61 (dk_at dksX1_fills_0 10 rfl rfl)
theorem dX1_fills_11 : decode cX1_fills 11 = .ok (.iconst 2, 1) := dk_5 (dk_at dksX1_fills_0 11 rfl rfl)
theorem dX1_fills_12 : decode cX1_fills 12 = .ok (.iload_n 2, 1) := dk_28 (dk_at dksX1_fills_0 12 rfl rfl)
theorem dX1_fills_13 : decode cX1_fills 13 = .ok (.imul, 1) := dk_104 (dk_at dksX1_fills_0 13 rfl rfl)
theorem dX1_fills_14 : decode cX1_fills 14 = .ok (.istore_n 3, 1) := dk_62 (dk_at dksX1_fills_0 14 rfl rfl)
theorem dX1_fills_15 : decode cX1_fills 15 = .ok (.iload_n 3, 1) := dk_29 (dk_at dksX1_fills_0 15 rfl rfl)
theorem dX1_fills_16 : decode cX1_fills 16 = .ok (.ifCond .lt 114, 3) := dk_155 0 114 (dk_at dksX1_fills_0 16 rfl rfl)
theorem dX1_fills_19 : decode cX1_fills 19 = .ok (.iconst 0, 1) := dk_3 (dk_at dksX1_fills_0 19 rfl rfl)
theorem dX1_fills_20 : decode cX1_fills 20 = .ok (.iload_n 3, 1) := dk_29 (dk_at dksX1_fills_0 20 rfl rfl)
theorem dX1_fills_21 : decode cX1_fills 21 = .ok (.iload_n 2, 1) := dk_28 (dk_at dksX1_fills_0 21 rfl rfl)
theorem dX1_fills_22 : decode cX1_fills 22 = .ok (.isub, 1) := dk_100 (dk_at dksX1_fills_0 22 rfl rfl)
theorem dX1_fills_23 : decode cX1_fills 23 = .ok (.invokestatic 303, 3) := dk_184 1 47 (dk_at dksX1_fills_1 0 rfl rfl)
theorem dX1_fills_26 : decode cX1_fills 26 = .ok (.istore 4, 2) := dk_54 4 (dk_at dksX1_fills_1 3 rfl rfl)
theorem dX1_fills_28 : decode cX1_fills 28 = .ok (.iload 4, 2) := dk_21 4 (dk_at dksX1_fills_1 5 rfl rfl)
theorem dX1_fills_30 : decode cX1_fills 30 = .ok (.iload_n 2, 1) := dk_28 (dk_at dksX1_fills_1 7 rfl rfl)
theorem dX1_fills_31 : decode cX1_fills 31 = .ok (.iload_n 3, 1) := dk_29 (dk_at dksX1_fills_1 8 rfl rfl)
theorem dX1_fills_32 : decode cX1_fills 32 = .ok (.invokestatic 280, 3) := dk_184 1 24 (dk_at dksX1_fills_1 9 rfl rfl)
theorem dX1_fills_35 : decode cX1_fills 35 = .ok (.if_icmp .gt 89, 3) := dk_163 0 89 (dk_at dksX1_fills_1 12 rfl rfl)
theorem dX1_fills_38 : decode cX1_fills 38 = .ok (.iload_n 3, 1) := dk_29 (dk_at dksX1_fills_1 15 rfl rfl)
theorem dX1_fills_39 : decode cX1_fills 39 = .ok (.iload 4, 2) := dk_21 4 (dk_at dksX1_fills_1 16 rfl rfl)
theorem dX1_fills_41 : decode cX1_fills 41 = .ok (.isub, 1) := dk_100 (dk_at dksX1_fills_1 18 rfl rfl)
theorem dX1_fills_42 : decode cX1_fills 42 = .ok (.istore 5, 2) := dk_54 5 (dk_at dksX1_fills_1 19 rfl rfl)
theorem dX1_fills_44 : decode cX1_fills 44 = .ok (.iconst 0, 1) := dk_3 (dk_at dksX1_fills_1 21 rfl rfl)
theorem dX1_fills_45 : decode cX1_fills 45 = .ok (.istore 6, 2) := dk_54 6 (dk_at dksX1_fills_1 22 rfl rfl)
theorem dX1_fills_47 : decode cX1_fills 47 = .ok (.iload 6, 2) := dk_21 6 (dk_at dksX1_fills_2 0 rfl rfl)
theorem dX1_fills_49 : decode cX1_fills 49 = .ok (.bipush 72, 2) := dk_16 72 (dk_at dksX1_fills_2 2 rfl rfl)
theorem dX1_fills_51 : decode cX1_fills 51 = .ok (.if_icmp .ge 67, 3) := dk_162 0 67 (dk_at dksX1_fills_2 4 rfl rfl)
theorem dX1_fills_54 : decode cX1_fills 54 = .ok (.aload_n 0, 1) := dk_42 (dk_at dksX1_fills_2 7 rfl rfl)
theorem dX1_fills_55 : decode cX1_fills 55 = .ok (.getfield 56, 3) := dk_180 0 56 (dk_at dksX1_fills_2 8 rfl rfl)
theorem dX1_fills_58 : decode cX1_fills 58 = .ok (.iload 4, 2) := dk_21 4 (dk_at dksX1_fills_2 11 rfl rfl)
theorem dX1_fills_60 : decode cX1_fills 60 = .ok (.iload 5, 2) := dk_21 5 (dk_at dksX1_fills_2 13 rfl rfl)
theorem dX1_fills_62 : decode cX1_fills 62 = .ok (.iload 6, 2) := dk_21 6 (dk_at dksX1_fills_2 15 rfl rfl)
theorem dX1_fills_64 : decode cX1_fills 64 = .ok (.invokestatic 312, 3) := dk_184 1 56 (dk_at dksX1_fills_2 17 rfl rfl)
theorem dX1_fills_67 : decode cX1_fills 67 = .ok (.aload_n 0, 1) := dk_42 (dk_at dksX1_fills_2 20 rfl rfl)
theorem dX1_fills_68 : decode cX1_fills 68 = .ok (.iload_n 1, 1) := dk_27 (dk_at dksX1_fills_2 21 rfl rfl)
theorem dX1_fills_69 : decode cX1_fills 69 = .ok (.iload 4, 2) := dk_21 4 (dk_at dksX1_fills_2 22 rfl rfl)
theorem dX1_fills_71 : decode cX1_fills 71 = .ok (.iload 5, 2) := dk_21 5 (dk_at dksX1_fills_3 0 rfl rfl)
theorem dX1_fills_73 : decode cX1_fills 73 = .ok (.invokevirtual 132, 3) := dk_182 0 132 (dk_at dksX1_fills_3 2 rfl rfl)
theorem dX1_fills_76 : decode cX1_fills 76 = .ok (.ifCond .eq 9, 3) := dk_153 0 9 (dk_at dksX1_fills_3 5 rfl rfl)
theorem dX1_fills_79 : decode cX1_fills 79 = .ok (.ldc_w 318, 3) := dk_19 1 62 (dk_at dksX1_fills_3 8 rfl rfl)
theorem dX1_fills_82 : decode cX1_fills 82 = .ok (.goto 29, 3) := dk_167 0 29 (dk_at dksX1_fills_3 11 rfl rfl)
theorem dX1_fills_85 : decode cX1_fills 85 = .ok (.aload_n 0, 1) := dk_42 (dk_at dksX1_fills_3 14 rfl rfl)
theorem dX1_fills_86 : decode cX1_fills 86 = .ok (.iload_n 1, 1) := dk_27 (dk_at dksX1_fills_3 15 rfl rfl)
theorem dX1_fills_87 : decode cX1_fills 87 = .ok (.iload 5, 2) := dk_21 5 (dk_at dksX1_fills_3 16 rfl rfl)
theorem dX1_fills_89 : decode cX1_fills 89 = .ok (.iload 4, 2) := dk_21 4 (dk_at dksX1_fills_3 18 rfl rfl)
theorem dX1_fills_91 : decode cX1_fills 91 = .ok (.invokevirtual 132, 3) := dk_182 0 132 (dk_at dksX1_fills_3 20 rfl rfl)
theorem dX1_fills_94 : decode cX1_fills 94 = .ok (.ifCond .eq 7, 3) := dk_153 0 7 (dk_at dksX1_fills_4 0 rfl rfl)
theorem dX1_fills_97 : decode cX1_fills 97 = .ok (.iconst 0, 1) := dk_3 (dk_at dksX1_fills_4 3 rfl rfl)
theorem dX1_fills_98 : decode cX1_fills 98 = .ok (.goto 13, 3) := dk_167 0 13 (dk_at dksX1_fills_4 4 rfl rfl)
theorem dX1_fills_101 : decode cX1_fills 101 = .ok (.aload_n 0, 1) := dk_42 (dk_at dksX1_fills_4 7 rfl rfl)
theorem dX1_fills_102 : decode cX1_fills 102 = .ok (.iload 4, 2) := dk_21 4 (dk_at dksX1_fills_4 8 rfl rfl)
theorem dX1_fills_104 : decode cX1_fills 104 = .ok (.iload 5, 2) := dk_21 5 (dk_at dksX1_fills_4 10 rfl rfl)
theorem dX1_fills_106 : decode cX1_fills 106 = .ok (.iload 6, 2) := dk_21 6 (dk_at dksX1_fills_4 12 rfl rfl)
theorem dX1_fills_108 : decode cX1_fills 108 = .ok (.invokevirtual 319, 3) := dk_182 1 63 (dk_at dksX1_fills_4 14 rfl rfl)
theorem dX1_fills_111 : decode cX1_fills 111 = .ok (.iastore, 1) := dk_79 (dk_at dksX1_fills_4 17 rfl rfl)
theorem dX1_fills_112 : decode cX1_fills 112 = .ok (.iinc 6 1, 3) := dk_132 6 1 (dk_at dksX1_fills_4 18 rfl rfl)
theorem dX1_fills_115 : decode cX1_fills 115 = .ok (.goto (-68), 3) := dk_167 255 188 (dk_at dksX1_fills_4 21 rfl rfl)
theorem dX1_fills_118 : decode cX1_fills 118 = .ok (.iinc 4 1, 3) := dk_132 4 1 (dk_at dksX1_fills_5 0 rfl rfl)
theorem dX1_fills_121 : decode cX1_fills 121 = .ok (.goto (-93), 3) := dk_167 255 163 (dk_at dksX1_fills_5 3 rfl rfl)
theorem dX1_fills_124 : decode cX1_fills 124 = .ok (.iinc 3 (-1), 3) := dk_132 3 255 (dk_at dksX1_fills_5 6 rfl rfl)
theorem dX1_fills_127 : decode cX1_fills 127 = .ok (.goto (-112), 3) := dk_167 255 144 (dk_at dksX1_fills_5 9 rfl rfl)
theorem dX1_fills_130 : decode cX1_fills 130 = .ok (.return_, 1) := dk_177 (dk_at dksX1_fills_5 12 rfl rfl)
abbrev cX1_weighs : ByteArray := prog_1_method_41_code
def yX1_weighs : MethodName := ⟨RX1, "weighs", "()V"⟩
def dkwX1_weighs_3 : List UInt8 := [167, 255, 186, 177]
abbrev dktX1_weighs_3 : List UInt8 := dkwX1_weighs_3 ++ []
def dkwX1_weighs_2 : List UInt8 := [28, 167, 0, 4, 27, 182, 1, 53, 79, 132, 3, 1, 167, 255, 214, 132, 2, 1, 167, 255, 200, 132, 1, 1]
abbrev dktX1_weighs_2 : List UInt8 := dkwX1_weighs_2 ++ dktX1_weighs_3
def dkwX1_weighs_1 : List UInt8 := [180, 0, 52, 27, 28, 29, 184, 1, 50, 42, 29, 29, 154, 0, 7, 27, 167, 0, 4, 28, 29, 154, 0, 7]
abbrev dktX1_weighs_1 : List UInt8 := dkwX1_weighs_1 ++ dktX1_weighs_2
def dkwX1_weighs_0 : List UInt8 := [3, 60, 27, 16, 6, 162, 0, 70, 3, 61, 28, 16, 6, 162, 0, 56, 3, 62, 29, 5, 162, 0, 43, 42]
abbrev dktX1_weighs_0 : List UInt8 := dkwX1_weighs_0 ++ dktX1_weighs_1
theorem dksX1_weighs_0 : cX1_weighs.data.toList.drop 0 = dktX1_weighs_0 := by decide +kernel
theorem dksX1_weighs_1 : cX1_weighs.data.toList.drop 24 = dktX1_weighs_1 := dk_seg dksX1_weighs_0 24 rfl rfl
theorem dksX1_weighs_2 : cX1_weighs.data.toList.drop 48 = dktX1_weighs_2 := dk_seg dksX1_weighs_1 24 rfl rfl
theorem dksX1_weighs_3 : cX1_weighs.data.toList.drop 72 = dktX1_weighs_3 := dk_seg dksX1_weighs_2 24 rfl rfl
theorem dX1_weighs_0 : decode cX1_weighs 0 = .ok (.iconst 0, 1) := dk_3 (dk_at dksX1_weighs_0 0 rfl rfl)
theorem dX1_weighs_1 : decode cX1_weighs 1 = .ok (.istore_n 1, 1) := dk_60 (dk_at dksX1_weighs_0 1 rfl rfl)
theorem dX1_weighs_2 : decode cX1_weighs 2 = .ok (.iload_n 1, 1) := dk_27 (dk_at dksX1_weighs_0 2 rfl rfl)
theorem dX1_weighs_3 : decode cX1_weighs 3 = .ok (.bipush 6, 2) := dk_16 6 (dk_at dksX1_weighs_0 3 rfl rfl)
theorem dX1_weighs_5 : decode cX1_weighs 5 = .ok (.if_icmp .ge 70, 3) := dk_162 0 70 (dk_at dksX1_weighs_0 5 rfl rfl)
theorem dX1_weighs_8 : decode cX1_weighs 8 = .ok (.iconst 0, 1) := dk_3 (dk_at dksX1_weighs_0 8 rfl rfl)
theorem dX1_weighs_9 : decode cX1_weighs 9 = .ok (.istore_n 2, 1) := dk_61 (dk_at dksX1_weighs_0 9 rfl rfl)
theorem dX1_weighs_10 : decode cX1_weighs 10 = .ok (.iload_n 2, 1) := dk_28 (dk_at dksX1_weighs_0 10 rfl rfl)
theorem dX1_weighs_11 : decode cX1_weighs 11 = .ok (.bipush 6, 2) := dk_16 6 (dk_at dksX1_weighs_0 11 rfl rfl)
theorem dX1_weighs_13 : decode cX1_weighs 13 = .ok (.if_icmp .ge 56, 3) := dk_162 0 56 (dk_at dksX1_weighs_0 13 rfl rfl)
theorem dX1_weighs_16 : decode cX1_weighs 16 = .ok (.iconst 0, 1) := dk_3 (dk_at dksX1_weighs_0 16 rfl rfl)
theorem dX1_weighs_17 : decode cX1_weighs 17 = .ok (.istore_n 3, 1) := dk_62 (dk_at dksX1_weighs_0 17 rfl rfl)
theorem dX1_weighs_18 : decode cX1_weighs 18 = .ok (.iload_n 3, 1) := dk_29 (dk_at dksX1_weighs_0 18 rfl rfl)
theorem dX1_weighs_19 : decode cX1_weighs 19 = .ok (.iconst 2, 1) := dk_5 (dk_at dksX1_weighs_0 19 rfl rfl)
theorem dX1_weighs_20 : decode cX1_weighs 20 = .ok (.if_icmp .ge 43, 3) := dk_162 0 43 (dk_at dksX1_weighs_0 20 rfl rfl)
theorem dX1_weighs_23 : decode cX1_weighs 23 = .ok (.aload_n 0, 1) := dk_42 (dk_at dksX1_weighs_0 23 rfl rfl)
theorem dX1_weighs_24 : decode cX1_weighs 24 = .ok (.getfield 52, 3) := dk_180 0 52 (dk_at dksX1_weighs_1 0 rfl rfl)
theorem dX1_weighs_27 : decode cX1_weighs 27 = .ok (.iload_n 1, 1) := dk_27 (dk_at dksX1_weighs_1 3 rfl rfl)
theorem dX1_weighs_28 : decode cX1_weighs 28 = .ok (.iload_n 2, 1) := dk_28 (dk_at dksX1_weighs_1 4 rfl rfl)
theorem dX1_weighs_29 : decode cX1_weighs 29 = .ok (.iload_n 3, 1) := dk_29 (dk_at dksX1_weighs_1 5 rfl rfl)
theorem dX1_weighs_30 : decode cX1_weighs 30 = .ok (.invokestatic 306, 3) := dk_184 1 50 (dk_at dksX1_weighs_1 6 rfl rfl)
theorem dX1_weighs_33 : decode cX1_weighs 33 = .ok (.aload_n 0, 1) := dk_42 (dk_at dksX1_weighs_1 9 rfl rfl)
theorem dX1_weighs_34 : decode cX1_weighs 34 = .ok (.iload_n 3, 1) := dk_29 (dk_at dksX1_weighs_1 10 rfl rfl)
theorem dX1_weighs_35 : decode cX1_weighs 35 = .ok (.iload_n 3, 1) := dk_29 (dk_at dksX1_weighs_1 11 rfl rfl)
theorem dX1_weighs_36 : decode cX1_weighs 36 = .ok (.ifCond .ne 7, 3) := dk_154 0 7 (dk_at dksX1_weighs_1 12 rfl rfl)
theorem dX1_weighs_39 : decode cX1_weighs 39 = .ok (.iload_n 1, 1) := dk_27 (dk_at dksX1_weighs_1 15 rfl rfl)
theorem dX1_weighs_40 : decode cX1_weighs 40 = .ok (.goto 4, 3) := dk_167 0 4 (dk_at dksX1_weighs_1 16 rfl rfl)
theorem dX1_weighs_43 : decode cX1_weighs 43 = .ok (.iload_n 2, 1) := dk_28 (dk_at dksX1_weighs_1 19 rfl rfl)
theorem dX1_weighs_44 : decode cX1_weighs 44 = .ok (.iload_n 3, 1) := dk_29 (dk_at dksX1_weighs_1 20 rfl rfl)
theorem dX1_weighs_45 : decode cX1_weighs 45 = .ok (.ifCond .ne 7, 3) := dk_154 0 7 (dk_at dksX1_weighs_1 21 rfl rfl)
theorem dX1_weighs_48 : decode cX1_weighs 48 = .ok (.iload_n 2, 1) := dk_28 (dk_at dksX1_weighs_2 0 rfl rfl)
theorem dX1_weighs_49 : decode cX1_weighs 49 = .ok (.goto 4, 3) := dk_167 0 4 (dk_at dksX1_weighs_2 1 rfl rfl)
theorem dX1_weighs_52 : decode cX1_weighs 52 = .ok (.iload_n 1, 1) := dk_27 (dk_at dksX1_weighs_2 4 rfl rfl)
theorem dX1_weighs_53 : decode cX1_weighs 53 = .ok (.invokevirtual 309, 3) := dk_182 1 53 (dk_at dksX1_weighs_2 5 rfl rfl)
theorem dX1_weighs_56 : decode cX1_weighs 56 = .ok (.iastore, 1) := dk_79 (dk_at dksX1_weighs_2 8 rfl rfl)
theorem dX1_weighs_57 : decode cX1_weighs 57 = .ok (.iinc 3 1, 3) := dk_132 3 1 (dk_at dksX1_weighs_2 9 rfl rfl)
theorem dX1_weighs_60 : decode cX1_weighs 60 = .ok (.goto (-42), 3) := dk_167 255 214 (dk_at dksX1_weighs_2 12 rfl rfl)
theorem dX1_weighs_63 : decode cX1_weighs 63 = .ok (.iinc 2 1, 3) := dk_132 2 1 (dk_at dksX1_weighs_2 15 rfl rfl)
theorem dX1_weighs_66 : decode cX1_weighs 66 = .ok (.goto (-56), 3) := dk_167 255 200 (dk_at dksX1_weighs_2 18 rfl rfl)
theorem dX1_weighs_69 : decode cX1_weighs 69 = .ok (.iinc 1 1, 3) := dk_132 1 1 (dk_at dksX1_weighs_2 21 rfl rfl)
theorem dX1_weighs_72 : decode cX1_weighs 72 = .ok (.goto (-70), 3) := dk_167 255 186 (dk_at dksX1_weighs_3 0 rfl rfl)
theorem dX1_weighs_75 : decode cX1_weighs 75 = .ok (.return_, 1) := dk_177 (dk_at dksX1_weighs_3 3 rfl rfl)
abbrev cX1_turned : ByteArray := prog_1_method_40_code
def yX1_turned : MethodName := ⟨RX1, "turned", "(III)I"⟩
def dkwX1_turned_0 : List UInt8 := [26, 16, 6, 104, 27, 96, 5, 104, 28, 96, 172]
abbrev dktX1_turned_0 : List UInt8 := dkwX1_turned_0 ++ []
theorem dksX1_turned_0 : cX1_turned.data.toList.drop 0 = dktX1_turned_0 := by decide +kernel
theorem dX1_turned_0 : decode cX1_turned 0 = .ok (.iload_n 0, 1) := dk_26 (dk_at dksX1_turned_0 0 rfl rfl)
theorem dX1_turned_1 : decode cX1_turned 1 = .ok (.bipush 6, 2) := dk_16 6 (dk_at dksX1_turned_0 1 rfl rfl)
theorem dX1_turned_3 : decode cX1_turned 3 = .ok (.imul, 1) := dk_104 (dk_at dksX1_turned_0 3 rfl rfl)
theorem dX1_turned_4 : decode cX1_turned 4 = .ok (.iload_n 1, 1) := dk_27 (dk_at dksX1_turned_0 4 rfl rfl)
theorem dX1_turned_5 : decode cX1_turned 5 = .ok (.iadd, 1) := dk_96 (dk_at dksX1_turned_0 5 rfl rfl)
theorem dX1_turned_6 : decode cX1_turned 6 = .ok (.iconst 2, 1) := dk_5 (dk_at dksX1_turned_0 6 rfl rfl)
theorem dX1_turned_7 : decode cX1_turned 7 = .ok (.imul, 1) := dk_104 (dk_at dksX1_turned_0 7 rfl rfl)
theorem dX1_turned_8 : decode cX1_turned 8 = .ok (.iload_n 2, 1) := dk_28 (dk_at dksX1_turned_0 8 rfl rfl)
theorem dX1_turned_9 : decode cX1_turned 9 = .ok (.iadd, 1) := dk_96 (dk_at dksX1_turned_0 9 rfl rfl)
theorem dX1_turned_10 : decode cX1_turned 10 = .ok (.ireturn, 1) := dk_172 (dk_at dksX1_turned_0 10 rfl rfl)
abbrev cX1_spot : ByteArray := prog_1_method_42_code
def yX1_spot : MethodName := ⟨RX1, "spot", "(III)I"⟩
def dkwX1_spot_0 : List UInt8 := [26, 16, 31, 104, 27, 96, 5, 104, 16, 6, 104, 16, 6, 104, 28, 96, 172]
abbrev dktX1_spot_0 : List UInt8 := dkwX1_spot_0 ++ []
theorem dksX1_spot_0 : cX1_spot.data.toList.drop 0 = dktX1_spot_0 := by decide +kernel
theorem dX1_spot_0 : decode cX1_spot 0 = .ok (.iload_n 0, 1) := dk_26 (dk_at dksX1_spot_0 0 rfl rfl)
theorem dX1_spot_1 : decode cX1_spot 1 = .ok (.bipush 31, 2) := dk_16 31 (dk_at dksX1_spot_0 1 rfl rfl)
theorem dX1_spot_3 : decode cX1_spot 3 = .ok (.imul, 1) := dk_104 (dk_at dksX1_spot_0 3 rfl rfl)
theorem dX1_spot_4 : decode cX1_spot 4 = .ok (.iload_n 1, 1) := dk_27 (dk_at dksX1_spot_0 4 rfl rfl)
theorem dX1_spot_5 : decode cX1_spot 5 = .ok (.iadd, 1) := dk_96 (dk_at dksX1_spot_0 5 rfl rfl)
theorem dX1_spot_6 : decode cX1_spot 6 = .ok (.iconst 2, 1) := dk_5 (dk_at dksX1_spot_0 6 rfl rfl)
theorem dX1_spot_7 : decode cX1_spot 7 = .ok (.imul, 1) := dk_104 (dk_at dksX1_spot_0 7 rfl rfl)
theorem dX1_spot_8 : decode cX1_spot 8 = .ok (.bipush 6, 2) := dk_16 6 (dk_at dksX1_spot_0 8 rfl rfl)
theorem dX1_spot_10 : decode cX1_spot 10 = .ok (.imul, 1) := dk_104 (dk_at dksX1_spot_0 10 rfl rfl)
theorem dX1_spot_11 : decode cX1_spot 11 = .ok (.bipush 6, 2) := dk_16 6 (dk_at dksX1_spot_0 11 rfl rfl)
theorem dX1_spot_13 : decode cX1_spot 13 = .ok (.imul, 1) := dk_104 (dk_at dksX1_spot_0 13 rfl rfl)
theorem dX1_spot_14 : decode cX1_spot 14 = .ok (.iload_n 2, 1) := dk_28 (dk_at dksX1_spot_0 14 rfl rfl)
theorem dX1_spot_15 : decode cX1_spot 15 = .ok (.iadd, 1) := dk_96 (dk_at dksX1_spot_0 15 rfl rfl)
theorem dX1_spot_16 : decode cX1_spot 16 = .ok (.ireturn, 1) := dk_172 (dk_at dksX1_spot_0 16 rfl rfl)
abbrev cX1_expected : ByteArray := prog_1_method_45_code
def yX1_expected : MethodName := ⟨RX1, "expected", "(III)I"⟩
def dkwX1_expected_3 : List UInt8 := [22, 9, 105, 20, 1, 69, 22, 7, 101, 22, 11, 105, 97, 20, 1, 69, 109, 136, 172]
abbrev dktX1_expected_3 : List UInt8 := dkwX1_expected_3 ++ []
def dkwX1_expected_2 : List UInt8 := [55, 9, 42, 27, 28, 21, 5, 21, 6, 21, 4, 4, 21, 4, 100, 182, 1, 66, 133, 55, 11, 22, 7]
abbrev dktX1_expected_2 : List UInt8 := dkwX1_expected_2 ++ dktX1_expected_3
def dkwX1_expected_1 : List UInt8 := [180, 0, 52, 29, 46, 133, 55, 7, 42, 27, 28, 21, 5, 21, 6, 21, 4, 21, 4, 182, 1, 66, 133]
abbrev dktX1_expected_1 : List UInt8 := dkwX1_expected_1 ++ dktX1_expected_2
def dkwX1_expected_0 : List UInt8 := [29, 5, 112, 54, 4, 29, 5, 108, 16, 6, 108, 54, 5, 29, 5, 108, 16, 6, 112, 54, 6, 42]
abbrev dktX1_expected_0 : List UInt8 := dkwX1_expected_0 ++ dktX1_expected_1
theorem dksX1_expected_0 : cX1_expected.data.toList.drop 0 = dktX1_expected_0 := by decide +kernel
theorem dksX1_expected_1 : cX1_expected.data.toList.drop 22 = dktX1_expected_1 := dk_seg dksX1_expected_0 22 rfl rfl
theorem dksX1_expected_2 : cX1_expected.data.toList.drop 45 = dktX1_expected_2 := dk_seg dksX1_expected_1 23 rfl rfl
theorem dksX1_expected_3 : cX1_expected.data.toList.drop 68 = dktX1_expected_3 := dk_seg dksX1_expected_2 23 rfl rfl
theorem dX1_expected_0 : decode cX1_expected 0 = .ok (.iload_n 3, 1) := dk_29 (dk_at dksX1_expected_0 0 rfl rfl)
theorem dX1_expected_1 : decode cX1_expected 1 = .ok (.iconst 2, 1) := dk_5 (dk_at dksX1_expected_0 1 rfl rfl)
theorem dX1_expected_2 : decode cX1_expected 2 = .ok (.irem, 1) := dk_112 (dk_at dksX1_expected_0 2 rfl rfl)
theorem dX1_expected_3 : decode cX1_expected 3 = .ok (.istore 4, 2) := dk_54 4 (dk_at dksX1_expected_0 3 rfl rfl)
theorem dX1_expected_5 : decode cX1_expected 5 = .ok (.iload_n 3, 1) := dk_29 (dk_at dksX1_expected_0 5 rfl rfl)
theorem dX1_expected_6 : decode cX1_expected 6 = .ok (.iconst 2, 1) := dk_5 (dk_at dksX1_expected_0 6 rfl rfl)
theorem dX1_expected_7 : decode cX1_expected 7 = .ok (.idiv, 1) := dk_108 (dk_at dksX1_expected_0 7 rfl rfl)
theorem dX1_expected_8 : decode cX1_expected 8 = .ok (.bipush 6, 2) := dk_16 6 (dk_at dksX1_expected_0 8 rfl rfl)
theorem dX1_expected_10 : decode cX1_expected 10 = .ok (.idiv, 1) := dk_108 (dk_at dksX1_expected_0 10 rfl rfl)
theorem dX1_expected_11 : decode cX1_expected 11 = .ok (.istore 5, 2) := dk_54 5 (dk_at dksX1_expected_0 11 rfl rfl)
theorem dX1_expected_13 : decode cX1_expected 13 = .ok (.iload_n 3, 1) := dk_29 (dk_at dksX1_expected_0 13 rfl rfl)
theorem dX1_expected_14 : decode cX1_expected 14 = .ok (.iconst 2, 1) := dk_5 (dk_at dksX1_expected_0 14 rfl rfl)
theorem dX1_expected_15 : decode cX1_expected 15 = .ok (.idiv, 1) := dk_108 (dk_at dksX1_expected_0 15 rfl rfl)
theorem dX1_expected_16 : decode cX1_expected 16 = .ok (.bipush 6, 2) := dk_16 6 (dk_at dksX1_expected_0 16 rfl rfl)
theorem dX1_expected_18 : decode cX1_expected 18 = .ok (.irem, 1) := dk_112 (dk_at dksX1_expected_0 18 rfl rfl)
theorem dX1_expected_19 : decode cX1_expected 19 = .ok (.istore 6, 2) := dk_54 6 (dk_at dksX1_expected_0 19 rfl rfl)
theorem dX1_expected_21 : decode cX1_expected 21 = .ok (.aload_n 0, 1) := dk_42 (dk_at dksX1_expected_0 21 rfl rfl)
theorem dX1_expected_22 : decode cX1_expected 22 = .ok (.getfield 52, 3) := dk_180 0 52 (dk_at dksX1_expected_1 0 rfl rfl)
theorem dX1_expected_25 : decode cX1_expected 25 = .ok (.iload_n 3, 1) := dk_29 (dk_at dksX1_expected_1 3 rfl rfl)
theorem dX1_expected_26 : decode cX1_expected 26 = .ok (.iaload, 1) := dk_46 (dk_at dksX1_expected_1 4 rfl rfl)
theorem dX1_expected_27 : decode cX1_expected 27 = .ok (.i2l, 1) := dk_133 (dk_at dksX1_expected_1 5 rfl rfl)
theorem dX1_expected_28 : decode cX1_expected 28 = .ok (.lstore 7, 2) := dk_55 7 (dk_at dksX1_expected_1 6 rfl rfl)
theorem dX1_expected_30 : decode cX1_expected 30 = .ok (.aload_n 0, 1) := dk_42 (dk_at dksX1_expected_1 8 rfl rfl)
theorem dX1_expected_31 : decode cX1_expected 31 = .ok (.iload_n 1, 1) := dk_27 (dk_at dksX1_expected_1 9 rfl rfl)
theorem dX1_expected_32 : decode cX1_expected 32 = .ok (.iload_n 2, 1) := dk_28 (dk_at dksX1_expected_1 10 rfl rfl)
theorem dX1_expected_33 : decode cX1_expected 33 = .ok (.iload 5, 2) := dk_21 5 (dk_at dksX1_expected_1 11 rfl rfl)
theorem dX1_expected_35 : decode cX1_expected 35 = .ok (.iload 6, 2) := dk_21 6 (dk_at dksX1_expected_1 13 rfl rfl)
theorem dX1_expected_37 : decode cX1_expected 37 = .ok (.iload 4, 2) := dk_21 4 (dk_at dksX1_expected_1 15 rfl rfl)
theorem dX1_expected_39 : decode cX1_expected 39 = .ok (.iload 4, 2) := dk_21 4 (dk_at dksX1_expected_1 17 rfl rfl)
theorem dX1_expected_41 : decode cX1_expected 41 = .ok (.invokevirtual 322, 3) := dk_182 1 66 (dk_at dksX1_expected_1 19 rfl rfl)
theorem dX1_expected_44 : decode cX1_expected 44 = .ok (.i2l, 1) := dk_133 (dk_at dksX1_expected_1 22 rfl rfl)
theorem dX1_expected_45 : decode cX1_expected 45 = .ok (.lstore 9, 2) := dk_55 9 (dk_at dksX1_expected_2 0 rfl rfl)
theorem dX1_expected_47 : decode cX1_expected 47 = .ok (.aload_n 0, 1) := dk_42 (dk_at dksX1_expected_2 2 rfl rfl)
theorem dX1_expected_48 : decode cX1_expected 48 = .ok (.iload_n 1, 1) := dk_27 (dk_at dksX1_expected_2 3 rfl rfl)
theorem dX1_expected_49 : decode cX1_expected 49 = .ok (.iload_n 2, 1) := dk_28 (dk_at dksX1_expected_2 4 rfl rfl)
theorem dX1_expected_50 : decode cX1_expected 50 = .ok (.iload 5, 2) := dk_21 5 (dk_at dksX1_expected_2 5 rfl rfl)
theorem dX1_expected_52 : decode cX1_expected 52 = .ok (.iload 6, 2) := dk_21 6 (dk_at dksX1_expected_2 7 rfl rfl)
theorem dX1_expected_54 : decode cX1_expected 54 = .ok (.iload 4, 2) := dk_21 4 (dk_at dksX1_expected_2 9 rfl rfl)
theorem dX1_expected_56 : decode cX1_expected 56 = .ok (.iconst 1, 1) := dk_4 (dk_at dksX1_expected_2 11 rfl rfl)
theorem dX1_expected_57 : decode cX1_expected 57 = .ok (.iload 4, 2) := dk_21 4 (dk_at dksX1_expected_2 12 rfl rfl)
theorem dX1_expected_59 : decode cX1_expected 59 = .ok (.isub, 1) := dk_100 (dk_at dksX1_expected_2 14 rfl rfl)
theorem dX1_expected_60 : decode cX1_expected 60 = .ok (.invokevirtual 322, 3) := dk_182 1 66 (dk_at dksX1_expected_2 15 rfl rfl)
theorem dX1_expected_63 : decode cX1_expected 63 = .ok (.i2l, 1) := dk_133 (dk_at dksX1_expected_2 18 rfl rfl)
theorem dX1_expected_64 : decode cX1_expected 64 = .ok (.lstore 11, 2) := dk_55 11 (dk_at dksX1_expected_2 19 rfl rfl)
theorem dX1_expected_66 : decode cX1_expected 66 = .ok (.lload 7, 2) := dk_22 7 (dk_at dksX1_expected_2 21 rfl rfl)
theorem dX1_expected_68 : decode cX1_expected 68 = .ok (.lload 9, 2) := dk_22 9 (dk_at dksX1_expected_3 0 rfl rfl)
theorem dX1_expected_70 : decode cX1_expected 70 = .ok (.lmul, 1) := dk_105 (dk_at dksX1_expected_3 2 rfl rfl)
theorem dX1_expected_71 : decode cX1_expected 71 = .ok (.ldc2_w 325, 3) := dk_20 1 69 (dk_at dksX1_expected_3 3 rfl rfl)
theorem dX1_expected_74 : decode cX1_expected 74 = .ok (.lload 7, 2) := dk_22 7 (dk_at dksX1_expected_3 6 rfl rfl)
theorem dX1_expected_76 : decode cX1_expected 76 = .ok (.lsub, 1) := dk_101 (dk_at dksX1_expected_3 8 rfl rfl)
theorem dX1_expected_77 : decode cX1_expected 77 = .ok (.lload 11, 2) := dk_22 11 (dk_at dksX1_expected_3 9 rfl rfl)
theorem dX1_expected_79 : decode cX1_expected 79 = .ok (.lmul, 1) := dk_105 (dk_at dksX1_expected_3 11 rfl rfl)
theorem dX1_expected_80 : decode cX1_expected 80 = .ok (.ladd, 1) := dk_97 (dk_at dksX1_expected_3 12 rfl rfl)
theorem dX1_expected_81 : decode cX1_expected 81 = .ok (.ldc2_w 325, 3) := dk_20 1 69 (dk_at dksX1_expected_3 13 rfl rfl)
theorem dX1_expected_84 : decode cX1_expected 84 = .ok (.ldiv, 1) := dk_109 (dk_at dksX1_expected_3 16 rfl rfl)
theorem dX1_expected_85 : decode cX1_expected 85 = .ok (.l2i, 1) := dk_136 (dk_at dksX1_expected_3 17 rfl rfl)
theorem dX1_expected_86 : decode cX1_expected 86 = .ok (.ireturn, 1) := dk_172 (dk_at dksX1_expected_3 18 rfl rfl)
abbrev cX1_behind : ByteArray := prog_1_method_43_code
def yX1_behind : MethodName := ⟨RX1, "behind", "(IIIIII)I"⟩
def dkwX1_behind_4 : List UInt8 := [184, 1, 56, 46, 172]
abbrev dktX1_behind_4 : List UInt8 := dkwX1_behind_4 ++ []
def dkwX1_behind_3 : List UInt8 := [167, 0, 5, 21, 4, 54, 10, 42, 180, 0, 56, 21, 7, 21, 8, 21, 9, 21, 10, 21, 6, 184, 1, 50]
abbrev dktX1_behind_3 : List UInt8 := dkwX1_behind_3 ++ dktX1_behind_4
def dkwX1_behind_2 : List UInt8 := [167, 0, 4, 29, 54, 9, 21, 6, 4, 160, 0, 18, 21, 5, 154, 0, 13, 21, 4, 4, 96, 16, 6, 112]
abbrev dktX1_behind_2 : List UInt8 := dkwX1_behind_2 ++ dktX1_behind_3
def dkwX1_behind_1 : List UInt8 := [167, 0, 4, 28, 54, 8, 21, 6, 154, 0, 18, 21, 5, 4, 160, 0, 12, 29, 4, 96, 16, 6, 112]
abbrev dktX1_behind_1 : List UInt8 := dkwX1_behind_1 ++ dktX1_behind_2
def dkwX1_behind_0 : List UInt8 := [21, 6, 154, 0, 9, 27, 4, 96, 167, 0, 4, 27, 54, 7, 21, 6, 4, 160, 0, 9, 28, 4, 96]
abbrev dktX1_behind_0 : List UInt8 := dkwX1_behind_0 ++ dktX1_behind_1
theorem dksX1_behind_0 : cX1_behind.data.toList.drop 0 = dktX1_behind_0 := by decide +kernel
theorem dksX1_behind_1 : cX1_behind.data.toList.drop 23 = dktX1_behind_1 := dk_seg dksX1_behind_0 23 rfl rfl
theorem dksX1_behind_2 : cX1_behind.data.toList.drop 46 = dktX1_behind_2 := dk_seg dksX1_behind_1 23 rfl rfl
theorem dksX1_behind_3 : cX1_behind.data.toList.drop 70 = dktX1_behind_3 := dk_seg dksX1_behind_2 24 rfl rfl
theorem dksX1_behind_4 : cX1_behind.data.toList.drop 94 = dktX1_behind_4 := dk_seg dksX1_behind_3 24 rfl rfl
theorem dX1_behind_0 : decode cX1_behind 0 = .ok (.iload 6, 2) := dk_21 6 (dk_at dksX1_behind_0 0 rfl rfl)
theorem dX1_behind_2 : decode cX1_behind 2 = .ok (.ifCond .ne 9, 3) := dk_154 0 9 (dk_at dksX1_behind_0 2 rfl rfl)
theorem dX1_behind_5 : decode cX1_behind 5 = .ok (.iload_n 1, 1) := dk_27 (dk_at dksX1_behind_0 5 rfl rfl)
theorem dX1_behind_6 : decode cX1_behind 6 = .ok (.iconst 1, 1) := dk_4 (dk_at dksX1_behind_0 6 rfl rfl)
theorem dX1_behind_7 : decode cX1_behind 7 = .ok (.iadd, 1) := dk_96 (dk_at dksX1_behind_0 7 rfl rfl)
theorem dX1_behind_8 : decode cX1_behind 8 = .ok (.goto 4, 3) := dk_167 0 4 (dk_at dksX1_behind_0 8 rfl rfl)
theorem dX1_behind_11 : decode cX1_behind 11 = .ok (.iload_n 1, 1) := dk_27 (dk_at dksX1_behind_0 11 rfl rfl)
theorem dX1_behind_12 : decode cX1_behind 12 = .ok (.istore 7, 2) := dk_54 7 (dk_at dksX1_behind_0 12 rfl rfl)
theorem dX1_behind_14 : decode cX1_behind 14 = .ok (.iload 6, 2) := dk_21 6 (dk_at dksX1_behind_0 14 rfl rfl)
theorem dX1_behind_16 : decode cX1_behind 16 = .ok (.iconst 1, 1) := dk_4 (dk_at dksX1_behind_0 16 rfl rfl)
theorem dX1_behind_17 : decode cX1_behind 17 = .ok (.if_icmp .ne 9, 3) := dk_160 0 9 (dk_at dksX1_behind_0 17 rfl rfl)
theorem dX1_behind_20 : decode cX1_behind 20 = .ok (.iload_n 2, 1) := dk_28 (dk_at dksX1_behind_0 20 rfl rfl)
theorem dX1_behind_21 : decode cX1_behind 21 = .ok (.iconst 1, 1) := dk_4 (dk_at dksX1_behind_0 21 rfl rfl)
theorem dX1_behind_22 : decode cX1_behind 22 = .ok (.iadd, 1) := dk_96 (dk_at dksX1_behind_0 22 rfl rfl)
theorem dX1_behind_23 : decode cX1_behind 23 = .ok (.goto 4, 3) := dk_167 0 4 (dk_at dksX1_behind_1 0 rfl rfl)
theorem dX1_behind_26 : decode cX1_behind 26 = .ok (.iload_n 2, 1) := dk_28 (dk_at dksX1_behind_1 3 rfl rfl)
theorem dX1_behind_27 : decode cX1_behind 27 = .ok (.istore 8, 2) := dk_54 8 (dk_at dksX1_behind_1 4 rfl rfl)
theorem dX1_behind_29 : decode cX1_behind 29 = .ok (.iload 6, 2) := dk_21 6 (dk_at dksX1_behind_1 6 rfl rfl)
theorem dX1_behind_31 : decode cX1_behind 31 = .ok (.ifCond .ne 18, 3) := dk_154 0 18 (dk_at dksX1_behind_1 8 rfl rfl)
theorem dX1_behind_34 : decode cX1_behind 34 = .ok (.iload 5, 2) := dk_21 5 (dk_at dksX1_behind_1 11 rfl rfl)
theorem dX1_behind_36 : decode cX1_behind 36 = .ok (.iconst 1, 1) := dk_4 (dk_at dksX1_behind_1 13 rfl rfl)
theorem dX1_behind_37 : decode cX1_behind 37 = .ok (.if_icmp .ne 12, 3) := dk_160 0 12 (dk_at dksX1_behind_1 14 rfl rfl)
theorem dX1_behind_40 : decode cX1_behind 40 = .ok (.iload_n 3, 1) := dk_29 (dk_at dksX1_behind_1 17 rfl rfl)
theorem dX1_behind_41 : decode cX1_behind 41 = .ok (.iconst 1, 1) := dk_4 (dk_at dksX1_behind_1 18 rfl rfl)
theorem dX1_behind_42 : decode cX1_behind 42 = .ok (.iadd, 1) := dk_96 (dk_at dksX1_behind_1 19 rfl rfl)
theorem dX1_behind_43 : decode cX1_behind 43 = .ok (.bipush 6, 2) := dk_16 6 (dk_at dksX1_behind_1 20 rfl rfl)
theorem dX1_behind_45 : decode cX1_behind 45 = .ok (.irem, 1) := dk_112 (dk_at dksX1_behind_1 22 rfl rfl)
theorem dX1_behind_46 : decode cX1_behind 46 = .ok (.goto 4, 3) := dk_167 0 4 (dk_at dksX1_behind_2 0 rfl rfl)
theorem dX1_behind_49 : decode cX1_behind 49 = .ok (.iload_n 3, 1) := dk_29 (dk_at dksX1_behind_2 3 rfl rfl)
theorem dX1_behind_50 : decode cX1_behind 50 = .ok (.istore 9, 2) := dk_54 9 (dk_at dksX1_behind_2 4 rfl rfl)
theorem dX1_behind_52 : decode cX1_behind 52 = .ok (.iload 6, 2) := dk_21 6 (dk_at dksX1_behind_2 6 rfl rfl)
theorem dX1_behind_54 : decode cX1_behind 54 = .ok (.iconst 1, 1) := dk_4 (dk_at dksX1_behind_2 8 rfl rfl)
theorem dX1_behind_55 : decode cX1_behind 55 = .ok (.if_icmp .ne 18, 3) := dk_160 0 18 (dk_at dksX1_behind_2 9 rfl rfl)
theorem dX1_behind_58 : decode cX1_behind 58 = .ok (.iload 5, 2) := dk_21 5 (dk_at dksX1_behind_2 12 rfl rfl)
theorem dX1_behind_60 : decode cX1_behind 60 = .ok (.ifCond .ne 13, 3) := dk_154 0 13 (dk_at dksX1_behind_2 14 rfl rfl)
theorem dX1_behind_63 : decode cX1_behind 63 = .ok (.iload 4, 2) := dk_21 4 (dk_at dksX1_behind_2 17 rfl rfl)
theorem dX1_behind_65 : decode cX1_behind 65 = .ok (.iconst 1, 1) := dk_4 (dk_at dksX1_behind_2 19 rfl rfl)
theorem dX1_behind_66 : decode cX1_behind 66 = .ok (.iadd, 1) := dk_96 (dk_at dksX1_behind_2 20 rfl rfl)
theorem dX1_behind_67 : decode cX1_behind 67 = .ok (.bipush 6, 2) := dk_16 6 (dk_at dksX1_behind_2 21 rfl rfl)
theorem dX1_behind_69 : decode cX1_behind 69 = .ok (.irem, 1) := dk_112 (dk_at dksX1_behind_2 23 rfl rfl)
theorem dX1_behind_70 : decode cX1_behind 70 = .ok (.goto 5, 3) := dk_167 0 5 (dk_at dksX1_behind_3 0 rfl rfl)
theorem dX1_behind_73 : decode cX1_behind 73 = .ok (.iload 4, 2) := dk_21 4 (dk_at dksX1_behind_3 3 rfl rfl)
theorem dX1_behind_75 : decode cX1_behind 75 = .ok (.istore 10, 2) := dk_54 10 (dk_at dksX1_behind_3 5 rfl rfl)
theorem dX1_behind_77 : decode cX1_behind 77 = .ok (.aload_n 0, 1) := dk_42 (dk_at dksX1_behind_3 7 rfl rfl)
theorem dX1_behind_78 : decode cX1_behind 78 = .ok (.getfield 56, 3) := dk_180 0 56 (dk_at dksX1_behind_3 8 rfl rfl)
theorem dX1_behind_81 : decode cX1_behind 81 = .ok (.iload 7, 2) := dk_21 7 (dk_at dksX1_behind_3 11 rfl rfl)
theorem dX1_behind_83 : decode cX1_behind 83 = .ok (.iload 8, 2) := dk_21 8 (dk_at dksX1_behind_3 13 rfl rfl)
theorem dX1_behind_85 : decode cX1_behind 85 = .ok (.iload 9, 2) := dk_21 9 (dk_at dksX1_behind_3 15 rfl rfl)
theorem dX1_behind_87 : decode cX1_behind 87 = .ok (.iload 10, 2) := dk_21 10 (dk_at dksX1_behind_3 17 rfl rfl)
theorem dX1_behind_89 : decode cX1_behind 89 = .ok (.iload 6, 2) := dk_21 6 (dk_at dksX1_behind_3 19 rfl rfl)
theorem dX1_behind_91 : decode cX1_behind 91 = .ok (.invokestatic 306, 3) := dk_184 1 50 (dk_at dksX1_behind_3 21 rfl rfl)
theorem dX1_behind_94 : decode cX1_behind 94 = .ok (.invokestatic 312, 3) := dk_184 1 56 (dk_at dksX1_behind_4 0 rfl rfl)
theorem dX1_behind_97 : decode cX1_behind 97 = .ok (.iaload, 1) := dk_46 (dk_at dksX1_behind_4 3 rfl rfl)
theorem dX1_behind_98 : decode cX1_behind 98 = .ok (.ireturn, 1) := dk_172 (dk_at dksX1_behind_4 4 rfl rfl)
abbrev cX1_now : ByteArray := prog_1_method_47_code
def yX1_now : MethodName := ⟨RX1, "now", "()I"⟩
def dkwX1_now_1 : List UInt8 := [42, 180, 0, 40, 184, 1, 50, 184, 1, 56, 46, 172]
abbrev dktX1_now_1 : List UInt8 := dkwX1_now_1 ++ []
def dkwX1_now_0 : List UInt8 := [42, 180, 0, 56, 42, 180, 0, 20, 3, 50, 180, 0, 129, 42, 180, 0, 20, 4, 50, 180, 0, 129, 3, 3]
abbrev dktX1_now_0 : List UInt8 := dkwX1_now_0 ++ dktX1_now_1
theorem dksX1_now_0 : cX1_now.data.toList.drop 0 = dktX1_now_0 := by decide +kernel
theorem dksX1_now_1 : cX1_now.data.toList.drop 24 = dktX1_now_1 := dk_seg dksX1_now_0 24 rfl rfl
theorem dX1_now_0 : decode cX1_now 0 = .ok (.aload_n 0, 1) := dk_42 (dk_at dksX1_now_0 0 rfl rfl)
theorem dX1_now_1 : decode cX1_now 1 = .ok (.getfield 56, 3) := dk_180 0 56 (dk_at dksX1_now_0 1 rfl rfl)
theorem dX1_now_4 : decode cX1_now 4 = .ok (.aload_n 0, 1) := dk_42 (dk_at dksX1_now_0 4 rfl rfl)
theorem dX1_now_5 : decode cX1_now 5 = .ok (.getfield 20, 3) := dk_180 0 20 (dk_at dksX1_now_0 5 rfl rfl)
theorem dX1_now_8 : decode cX1_now 8 = .ok (.iconst 0, 1) := dk_3 (dk_at dksX1_now_0 8 rfl rfl)
theorem dX1_now_9 : decode cX1_now 9 = .ok (.aaload, 1) := dk_50 (dk_at dksX1_now_0 9 rfl rfl)
theorem dX1_now_10 : decode cX1_now 10 = .ok (.getfield 129, 3) := dk_180 0 129 (dk_at dksX1_now_0 10 rfl rfl)
theorem dX1_now_13 : decode cX1_now 13 = .ok (.aload_n 0, 1) := dk_42 (dk_at dksX1_now_0 13 rfl rfl)
theorem dX1_now_14 : decode cX1_now 14 = .ok (.getfield 20, 3) := dk_180 0 20 (dk_at dksX1_now_0 14 rfl rfl)
theorem dX1_now_17 : decode cX1_now 17 = .ok (.iconst 1, 1) := dk_4 (dk_at dksX1_now_0 17 rfl rfl)
theorem dX1_now_18 : decode cX1_now 18 = .ok (.aaload, 1) := dk_50 (dk_at dksX1_now_0 18 rfl rfl)
theorem dX1_now_19 : decode cX1_now 19 = .ok (.getfield 129, 3) := dk_180 0 129 (dk_at dksX1_now_0 19 rfl rfl)
theorem dX1_now_22 : decode cX1_now 22 = .ok (.iconst 0, 1) := dk_3 (dk_at dksX1_now_0 22 rfl rfl)
theorem dX1_now_23 : decode cX1_now 23 = .ok (.iconst 0, 1) := dk_3 (dk_at dksX1_now_0 23 rfl rfl)
theorem dX1_now_24 : decode cX1_now 24 = .ok (.aload_n 0, 1) := dk_42 (dk_at dksX1_now_1 0 rfl rfl)
theorem dX1_now_25 : decode cX1_now 25 = .ok (.getfield 40, 3) := dk_180 0 40 (dk_at dksX1_now_1 1 rfl rfl)
theorem dX1_now_28 : decode cX1_now 28 = .ok (.invokestatic 306, 3) := dk_184 1 50 (dk_at dksX1_now_1 4 rfl rfl)
theorem dX1_now_31 : decode cX1_now 31 = .ok (.invokestatic 312, 3) := dk_184 1 56 (dk_at dksX1_now_1 7 rfl rfl)
theorem dX1_now_34 : decode cX1_now 34 = .ok (.iaload, 1) := dk_46 (dk_at dksX1_now_1 10 rfl rfl)
theorem dX1_now_35 : decode cX1_now 35 = .ok (.ireturn, 1) := dk_172 (dk_at dksX1_now_1 11 rfl rfl)
abbrev cX1_weight : ByteArray := prog_1_method_49_code
def yX1_weight : MethodName := ⟨RX1, "weight", "()I"⟩
def dkwX1_weight_3 : List UInt8 := [182, 1, 66, 100, 172]
abbrev dktX1_weight_3 : List UInt8 := dkwX1_weight_3 ++ []
def dkwX1_weight_2 : List UInt8 := [180, 0, 20, 3, 50, 180, 0, 129, 42, 180, 0, 20, 4, 50, 180, 0, 129, 3, 3, 42, 180, 0, 40, 4]
abbrev dktX1_weight_2 : List UInt8 := dkwX1_weight_2 ++ dktX1_weight_3
def dkwX1_weight_1 : List UInt8 := [180, 0, 129, 42, 180, 0, 20, 4, 50, 180, 0, 129, 3, 3, 42, 180, 0, 40, 3, 182, 1, 66, 42, 42]
abbrev dktX1_weight_1 : List UInt8 := dkwX1_weight_1 ++ dktX1_weight_2
def dkwX1_weight_0 : List UInt8 := [42, 180, 0, 81, 154, 0, 5, 2, 172, 42, 42, 182, 0, 125, 182, 1, 71, 42, 42, 180, 0, 20, 3, 50]
abbrev dktX1_weight_0 : List UInt8 := dkwX1_weight_0 ++ dktX1_weight_1
theorem dksX1_weight_0 : cX1_weight.data.toList.drop 0 = dktX1_weight_0 := by decide +kernel
theorem dksX1_weight_1 : cX1_weight.data.toList.drop 24 = dktX1_weight_1 := dk_seg dksX1_weight_0 24 rfl rfl
theorem dksX1_weight_2 : cX1_weight.data.toList.drop 48 = dktX1_weight_2 := dk_seg dksX1_weight_1 24 rfl rfl
theorem dksX1_weight_3 : cX1_weight.data.toList.drop 72 = dktX1_weight_3 := dk_seg dksX1_weight_2 24 rfl rfl
theorem dX1_weight_0 : decode cX1_weight 0 = .ok (.aload_n 0, 1) := dk_42 (dk_at dksX1_weight_0 0 rfl rfl)
theorem dX1_weight_1 : decode cX1_weight 1 = .ok (.getfield 81, 3) := dk_180 0 81 (dk_at dksX1_weight_0 1 rfl rfl)
theorem dX1_weight_4 : decode cX1_weight 4 = .ok (.ifCond .ne 5, 3) := dk_154 0 5 (dk_at dksX1_weight_0 4 rfl rfl)
theorem dX1_weight_7 : decode cX1_weight 7 = .ok (.iconst (-1), 1) := dk_2 (dk_at dksX1_weight_0 7 rfl rfl)
theorem dX1_weight_8 : decode cX1_weight 8 = .ok (.ireturn, 1) := dk_172 (dk_at dksX1_weight_0 8 rfl rfl)
theorem dX1_weight_9 : decode cX1_weight 9 = .ok (.aload_n 0, 1) := dk_42 (dk_at dksX1_weight_0 9 rfl rfl)
theorem dX1_weight_10 : decode cX1_weight 10 = .ok (.aload_n 0, 1) := dk_42 (dk_at dksX1_weight_0 10 rfl rfl)
theorem dX1_weight_11 : decode cX1_weight 11 = .ok (.invokevirtual 125, 3) := dk_182 0 125 (dk_at dksX1_weight_0 11 rfl rfl)
theorem dX1_weight_14 : decode cX1_weight 14 = .ok (.invokevirtual 327, 3) := dk_182 1 71 (dk_at dksX1_weight_0 14 rfl rfl)
theorem dX1_weight_17 : decode cX1_weight 17 = .ok (.aload_n 0, 1) := dk_42 (dk_at dksX1_weight_0 17 rfl rfl)
theorem dX1_weight_18 : decode cX1_weight 18 = .ok (.aload_n 0, 1) := dk_42 (dk_at dksX1_weight_0 18 rfl rfl)
theorem dX1_weight_19 : decode cX1_weight 19 = .ok (.getfield 20, 3) := dk_180 0 20 (dk_at dksX1_weight_0 19 rfl rfl)
theorem dX1_weight_22 : decode cX1_weight 22 = .ok (.iconst 0, 1) := dk_3 (dk_at dksX1_weight_0 22 rfl rfl)
theorem dX1_weight_23 : decode cX1_weight 23 = .ok (.aaload, 1) := dk_50 (dk_at dksX1_weight_0 23 rfl rfl)
theorem dX1_weight_24 : decode cX1_weight 24 = .ok (.getfield 129, 3) := dk_180 0 129 (dk_at dksX1_weight_1 0 rfl rfl)
theorem dX1_weight_27 : decode cX1_weight 27 = .ok (.aload_n 0, 1) := dk_42 (dk_at dksX1_weight_1 3 rfl rfl)
theorem dX1_weight_28 : decode cX1_weight 28 = .ok (.getfield 20, 3) := dk_180 0 20 (dk_at dksX1_weight_1 4 rfl rfl)
theorem dX1_weight_31 : decode cX1_weight 31 = .ok (.iconst 1, 1) := dk_4 (dk_at dksX1_weight_1 7 rfl rfl)
theorem dX1_weight_32 : decode cX1_weight 32 = .ok (.aaload, 1) := dk_50 (dk_at dksX1_weight_1 8 rfl rfl)
theorem dX1_weight_33 : decode cX1_weight 33 = .ok (.getfield 129, 3) := dk_180 0 129 (dk_at dksX1_weight_1 9 rfl rfl)
theorem dX1_weight_36 : decode cX1_weight 36 = .ok (.iconst 0, 1) := dk_3 (dk_at dksX1_weight_1 12 rfl rfl)
theorem dX1_weight_37 : decode cX1_weight 37 = .ok (.iconst 0, 1) := dk_3 (dk_at dksX1_weight_1 13 rfl rfl)
theorem dX1_weight_38 : decode cX1_weight 38 = .ok (.aload_n 0, 1) := dk_42 (dk_at dksX1_weight_1 14 rfl rfl)
theorem dX1_weight_39 : decode cX1_weight 39 = .ok (.getfield 40, 3) := dk_180 0 40 (dk_at dksX1_weight_1 15 rfl rfl)
theorem dX1_weight_42 : decode cX1_weight 42 = .ok (.iconst 0, 1) := dk_3 (dk_at dksX1_weight_1 18 rfl rfl)
theorem dX1_weight_43 : decode cX1_weight 43 = .ok (.invokevirtual 322, 3) := dk_182 1 66 (dk_at dksX1_weight_1 19 rfl rfl)
theorem dX1_weight_46 : decode cX1_weight 46 = .ok (.aload_n 0, 1) := dk_42 (dk_at dksX1_weight_1 22 rfl rfl)
theorem dX1_weight_47 : decode cX1_weight 47 = .ok (.aload_n 0, 1) := dk_42 (dk_at dksX1_weight_1 23 rfl rfl)
theorem dX1_weight_48 : decode cX1_weight 48 = .ok (.getfield 20, 3) := dk_180 0 20 (dk_at dksX1_weight_2 0 rfl rfl)
theorem dX1_weight_51 : decode cX1_weight 51 = .ok (.iconst 0, 1) := dk_3 (dk_at dksX1_weight_2 3 rfl rfl)
theorem dX1_weight_52 : decode cX1_weight 52 = .ok (.aaload, 1) := dk_50 (dk_at dksX1_weight_2 4 rfl rfl)
theorem dX1_weight_53 : decode cX1_weight 53 = .ok (.getfield 129, 3) := dk_180 0 129 (dk_at dksX1_weight_2 5 rfl rfl)
theorem dX1_weight_56 : decode cX1_weight 56 = .ok (.aload_n 0, 1) := dk_42 (dk_at dksX1_weight_2 8 rfl rfl)
theorem dX1_weight_57 : decode cX1_weight 57 = .ok (.getfield 20, 3) := dk_180 0 20 (dk_at dksX1_weight_2 9 rfl rfl)
theorem dX1_weight_60 : decode cX1_weight 60 = .ok (.iconst 1, 1) := dk_4 (dk_at dksX1_weight_2 12 rfl rfl)
theorem dX1_weight_61 : decode cX1_weight 61 = .ok (.aaload, 1) := dk_50 (dk_at dksX1_weight_2 13 rfl rfl)
theorem dX1_weight_62 : decode cX1_weight 62 = .ok (.getfield 129, 3) := dk_180 0 129 (dk_at dksX1_weight_2 14 rfl rfl)
theorem dX1_weight_65 : decode cX1_weight 65 = .ok (.iconst 0, 1) := dk_3 (dk_at dksX1_weight_2 17 rfl rfl)
theorem dX1_weight_66 : decode cX1_weight 66 = .ok (.iconst 0, 1) := dk_3 (dk_at dksX1_weight_2 18 rfl rfl)
theorem dX1_weight_67 : decode cX1_weight 67 = .ok (.aload_n 0, 1) := dk_42 (dk_at dksX1_weight_2 19 rfl rfl)
theorem dX1_weight_68 : decode cX1_weight 68 = .ok (.getfield 40, 3) := dk_180 0 40 (dk_at dksX1_weight_2 20 rfl rfl)
theorem dX1_weight_71 : decode cX1_weight 71 = .ok (.iconst 1, 1) := dk_4 (dk_at dksX1_weight_2 23 rfl rfl)
theorem dX1_weight_72 : decode cX1_weight 72 = .ok (.invokevirtual 322, 3) := dk_182 1 66 (dk_at dksX1_weight_3 0 rfl rfl)
theorem dX1_weight_75 : decode cX1_weight 75 = .ok (.isub, 1) := dk_100 (dk_at dksX1_weight_3 3 rfl rfl)
theorem dX1_weight_76 : decode cX1_weight 76 = .ok (.ireturn, 1) := dk_172 (dk_at dksX1_weight_3 4 rfl rfl)
abbrev cX1_turn : ByteArray := prog_1_method_50_code
def yX1_turn : MethodName := ⟨RX1, "turn", "(II)I"⟩
def dkwX1_turn_10 : List UInt8 := [167, 255, 230, 42, 180, 0, 59, 3, 21, 4, 79, 42, 4, 181, 0, 185, 29, 172]
abbrev dktX1_turn_10 : List UInt8 := dkwX1_turn_10 ++ []
def dkwX1_turn_9 : List UInt8 := [162, 0, 26, 42, 180, 0, 20, 21, 5, 50, 42, 180, 0, 24, 21, 5, 50, 182, 1, 5, 132, 5, 1]
abbrev dktX1_turn_9 : List UInt8 := dkwX1_turn_9 ++ dktX1_turn_10
def dkwX1_turn_8 : List UInt8 := [167, 0, 10, 21, 5, 62, 21, 6, 54, 4, 132, 5, 1, 167, 255, 174, 3, 54, 5, 21, 5, 5]
abbrev dktX1_turn_8 : List UInt8 := dkwX1_turn_8 ++ dktX1_turn_9
def dkwX1_turn_7 : List UInt8 := [155, 0, 27, 27, 154, 0, 13, 21, 6, 21, 4, 163, 0, 16, 167, 0, 20, 21, 6, 21, 4, 161, 0, 6]
abbrev dktX1_turn_7 : List UInt8 := dkwX1_turn_7 ++ dktX1_turn_8
def dkwX1_turn_6 : List UInt8 := [3, 27, 4, 160, 0, 8, 21, 5, 167, 0, 4, 3, 28, 184, 1, 50, 184, 1, 56, 46, 54, 6, 29]
abbrev dktX1_turn_6 : List UInt8 := dkwX1_turn_6 ++ dktX1_turn_7
def dkwX1_turn_5 : List UInt8 := [54, 5, 21, 5, 16, 6, 162, 0, 81, 42, 180, 0, 56, 3, 3, 27, 154, 0, 8, 21, 5, 167, 0, 4]
abbrev dktX1_turn_5 : List UInt8 := dkwX1_turn_5 ++ dktX1_turn_6
def dkwX1_turn_4 : List UInt8 := [181, 0, 155, 132, 3, 1, 167, 255, 198, 42, 42, 182, 0, 125, 182, 1, 71, 2, 62, 3, 54, 4, 3]
abbrev dktX1_turn_4 : List UInt8 := dkwX1_turn_4 ++ dktX1_turn_5
def dkwX1_turn_3 : List UInt8 := [42, 180, 0, 20, 29, 50, 180, 0, 145, 3, 16, 6, 184, 0, 97, 42, 180, 0, 20, 29, 50, 2]
abbrev dktX1_turn_3 : List UInt8 := dkwX1_turn_3 ++ dktX1_turn_4
def dkwX1_turn_2 : List UInt8 := [180, 0, 24, 29, 50, 42, 180, 0, 20, 29, 50, 182, 1, 5, 42, 180, 0, 20, 29, 50, 180, 0, 94, 3]
abbrev dktX1_turn_2 : List UInt8 := dkwX1_turn_2 ++ dktX1_turn_3
def dkwX1_turn_1 : List UInt8 := [180, 0, 43, 156, 0, 10, 42, 182, 0, 106, 154, 0, 5, 2, 172, 3, 62, 29, 5, 162, 0, 59, 42]
abbrev dktX1_turn_1 : List UInt8 := dkwX1_turn_1 ++ dktX1_turn_2
def dkwX1_turn_0 : List UInt8 := [27, 184, 0, 68, 153, 0, 31, 28, 184, 0, 68, 153, 0, 24, 42, 180, 0, 81, 154, 0, 17, 42]
abbrev dktX1_turn_0 : List UInt8 := dkwX1_turn_0 ++ dktX1_turn_1
theorem dksX1_turn_0 : cX1_turn.data.toList.drop 0 = dktX1_turn_0 := by decide +kernel
theorem dksX1_turn_1 : cX1_turn.data.toList.drop 22 = dktX1_turn_1 := dk_seg dksX1_turn_0 22 rfl rfl
theorem dksX1_turn_2 : cX1_turn.data.toList.drop 45 = dktX1_turn_2 := dk_seg dksX1_turn_1 23 rfl rfl
theorem dksX1_turn_3 : cX1_turn.data.toList.drop 69 = dktX1_turn_3 := dk_seg dksX1_turn_2 24 rfl rfl
theorem dksX1_turn_4 : cX1_turn.data.toList.drop 91 = dktX1_turn_4 := dk_seg dksX1_turn_3 22 rfl rfl
theorem dksX1_turn_5 : cX1_turn.data.toList.drop 114 = dktX1_turn_5 := dk_seg dksX1_turn_4 23 rfl rfl
theorem dksX1_turn_6 : cX1_turn.data.toList.drop 138 = dktX1_turn_6 := dk_seg dksX1_turn_5 24 rfl rfl
theorem dksX1_turn_7 : cX1_turn.data.toList.drop 161 = dktX1_turn_7 := dk_seg dksX1_turn_6 23 rfl rfl
theorem dksX1_turn_8 : cX1_turn.data.toList.drop 185 = dktX1_turn_8 := dk_seg dksX1_turn_7 24 rfl rfl
theorem dksX1_turn_9 : cX1_turn.data.toList.drop 207 = dktX1_turn_9 := dk_seg dksX1_turn_8 22 rfl rfl
theorem dksX1_turn_10 : cX1_turn.data.toList.drop 230 = dktX1_turn_10 := dk_seg dksX1_turn_9 23 rfl rfl
theorem dX1_turn_0 : decode cX1_turn 0 = .ok (.iload_n 1, 1) := dk_27 (dk_at dksX1_turn_0 0 rfl rfl)
theorem dX1_turn_1 : decode cX1_turn 1 = .ok (.invokestatic 68, 3) := dk_184 0 68 (dk_at dksX1_turn_0 1 rfl rfl)
theorem dX1_turn_4 : decode cX1_turn 4 = .ok (.ifCond .eq 31, 3) := dk_153 0 31 (dk_at dksX1_turn_0 4 rfl rfl)
theorem dX1_turn_7 : decode cX1_turn 7 = .ok (.iload_n 2, 1) := dk_28 (dk_at dksX1_turn_0 7 rfl rfl)
theorem dX1_turn_8 : decode cX1_turn 8 = .ok (.invokestatic 68, 3) := dk_184 0 68 (dk_at dksX1_turn_0 8 rfl rfl)
theorem dX1_turn_11 : decode cX1_turn 11 = .ok (.ifCond .eq 24, 3) := dk_153 0 24 (dk_at dksX1_turn_0 11 rfl rfl)
theorem dX1_turn_14 : decode cX1_turn 14 = .ok (.aload_n 0, 1) := dk_42 (dk_at dksX1_turn_0 14 rfl rfl)
theorem dX1_turn_15 : decode cX1_turn 15 = .ok (.getfield 81, 3) := dk_180 0 81 (dk_at dksX1_turn_0 15 rfl rfl)
theorem dX1_turn_18 : decode cX1_turn 18 = .ok (.ifCond .ne 17, 3) := dk_154 0 17 (dk_at dksX1_turn_0 18 rfl rfl)
theorem dX1_turn_21 : decode cX1_turn 21 = .ok (.aload_n 0, 1) := dk_42 (dk_at dksX1_turn_0 21 rfl rfl)
theorem dX1_turn_22 : decode cX1_turn 22 = .ok (.getfield 43, 3) := dk_180 0 43 (dk_at dksX1_turn_1 0 rfl rfl)
theorem dX1_turn_25 : decode cX1_turn 25 = .ok (.ifCond .ge 10, 3) := dk_156 0 10 (dk_at dksX1_turn_1 3 rfl rfl)
theorem dX1_turn_28 : decode cX1_turn 28 = .ok (.aload_n 0, 1) := dk_42 (dk_at dksX1_turn_1 6 rfl rfl)
theorem dX1_turn_29 : decode cX1_turn 29 = .ok (.invokevirtual 106, 3) := dk_182 0 106 (dk_at dksX1_turn_1 7 rfl rfl)
theorem dX1_turn_32 : decode cX1_turn 32 = .ok (.ifCond .ne 5, 3) := dk_154 0 5 (dk_at dksX1_turn_1 10 rfl rfl)
theorem dX1_turn_35 : decode cX1_turn 35 = .ok (.iconst (-1), 1) := dk_2 (dk_at dksX1_turn_1 13 rfl rfl)
theorem dX1_turn_36 : decode cX1_turn 36 = .ok (.ireturn, 1) := dk_172 (dk_at dksX1_turn_1 14 rfl rfl)
theorem dX1_turn_37 : decode cX1_turn 37 = .ok (.iconst 0, 1) := dk_3 (dk_at dksX1_turn_1 15 rfl rfl)
theorem dX1_turn_38 : decode cX1_turn 38 = .ok (.istore_n 3, 1) := dk_62 (dk_at dksX1_turn_1 16 rfl rfl)
theorem dX1_turn_39 : decode cX1_turn 39 = .ok (.iload_n 3, 1) := dk_29 (dk_at dksX1_turn_1 17 rfl rfl)
theorem dX1_turn_40 : decode cX1_turn 40 = .ok (.iconst 2, 1) := dk_5 (dk_at dksX1_turn_1 18 rfl rfl)
theorem dX1_turn_41 : decode cX1_turn 41 = .ok (.if_icmp .ge 59, 3) := dk_162 0 59 (dk_at dksX1_turn_1 19 rfl rfl)
theorem dX1_turn_44 : decode cX1_turn 44 = .ok (.aload_n 0, 1) := dk_42 (dk_at dksX1_turn_1 22 rfl rfl)
theorem dX1_turn_45 : decode cX1_turn 45 = .ok (.getfield 24, 3) := dk_180 0 24 (dk_at dksX1_turn_2 0 rfl rfl)
theorem dX1_turn_48 : decode cX1_turn 48 = .ok (.iload_n 3, 1) := dk_29 (dk_at dksX1_turn_2 3 rfl rfl)
theorem dX1_turn_49 : decode cX1_turn 49 = .ok (.aaload, 1) := dk_50 (dk_at dksX1_turn_2 4 rfl rfl)
theorem dX1_turn_50 : decode cX1_turn 50 = .ok (.aload_n 0, 1) := dk_42 (dk_at dksX1_turn_2 5 rfl rfl)
theorem dX1_turn_51 : decode cX1_turn 51 = .ok (.getfield 20, 3) := dk_180 0 20 (dk_at dksX1_turn_2 6 rfl rfl)
theorem dX1_turn_54 : decode cX1_turn 54 = .ok (.iload_n 3, 1) := dk_29 (dk_at dksX1_turn_2 9 rfl rfl)
theorem dX1_turn_55 : decode cX1_turn 55 = .ok (.aaload, 1) := dk_50 (dk_at dksX1_turn_2 10 rfl rfl)
theorem dX1_turn_56 : decode cX1_turn 56 = .ok (.invokevirtual 261, 3) := dk_182 1 5 (dk_at dksX1_turn_2 11 rfl rfl)
theorem dX1_turn_59 : decode cX1_turn 59 = .ok (.aload_n 0, 1) := dk_42 (dk_at dksX1_turn_2 14 rfl rfl)
theorem dX1_turn_60 : decode cX1_turn 60 = .ok (.getfield 20, 3) := dk_180 0 20 (dk_at dksX1_turn_2 15 rfl rfl)
theorem dX1_turn_63 : decode cX1_turn 63 = .ok (.iload_n 3, 1) := dk_29 (dk_at dksX1_turn_2 18 rfl rfl)
theorem dX1_turn_64 : decode cX1_turn 64 = .ok (.aaload, 1) := dk_50 (dk_at dksX1_turn_2 19 rfl rfl)
theorem dX1_turn_65 : decode cX1_turn 65 = .ok (.getfield 94, 3) := dk_180 0 94 (dk_at dksX1_turn_2 20 rfl rfl)
theorem dX1_turn_68 : decode cX1_turn 68 = .ok (.iconst 0, 1) := dk_3 (dk_at dksX1_turn_2 23 rfl rfl)
theorem dX1_turn_69 : decode cX1_turn 69 = .ok (.aload_n 0, 1) := dk_42 (dk_at dksX1_turn_3 0 rfl rfl)
theorem dX1_turn_70 : decode cX1_turn 70 = .ok (.getfield 20, 3) := dk_180 0 20 (dk_at dksX1_turn_3 1 rfl rfl)
theorem dX1_turn_73 : decode cX1_turn 73 = .ok (.iload_n 3, 1) := dk_29 (dk_at dksX1_turn_3 4 rfl rfl)
theorem dX1_turn_74 : decode cX1_turn 74 = .ok (.aaload, 1) := dk_50 (dk_at dksX1_turn_3 5 rfl rfl)
theorem dX1_turn_75 : decode cX1_turn 75 = .ok (.getfield 145, 3) := dk_180 0 145 (dk_at dksX1_turn_3 6 rfl rfl)
theorem dX1_turn_78 : decode cX1_turn 78 = .ok (.iconst 0, 1) := dk_3 (dk_at dksX1_turn_3 9 rfl rfl)
theorem dX1_turn_79 : decode cX1_turn 79 = .ok (.bipush 6, 2) := dk_16 6 (dk_at dksX1_turn_3 10 rfl rfl)
theorem dX1_turn_81 : decode cX1_turn 81 = .ok (.invokestatic 97, 3) := dk_184 0 97 (dk_at dksX1_turn_3 12 rfl rfl)
theorem dX1_turn_84 : decode cX1_turn 84 = .ok (.aload_n 0, 1) := dk_42 (dk_at dksX1_turn_3 15 rfl rfl)
theorem dX1_turn_85 : decode cX1_turn 85 = .ok (.getfield 20, 3) := dk_180 0 20 (dk_at dksX1_turn_3 16 rfl rfl)
theorem dX1_turn_88 : decode cX1_turn 88 = .ok (.iload_n 3, 1) := dk_29 (dk_at dksX1_turn_3 19 rfl rfl)
theorem dX1_turn_89 : decode cX1_turn 89 = .ok (.aaload, 1) := dk_50 (dk_at dksX1_turn_3 20 rfl rfl)
theorem dX1_turn_90 : decode cX1_turn 90 = .ok (.iconst (-1), 1) := dk_2 (dk_at dksX1_turn_3 21 rfl rfl)
theorem dX1_turn_91 : decode cX1_turn 91 = .ok (.putfield 155, 3) := dk_181 0 155 (dk_at dksX1_turn_4 0 rfl rfl)
theorem dX1_turn_94 : decode cX1_turn 94 = .ok (.iinc 3 1, 3) := dk_132 3 1 (dk_at dksX1_turn_4 3 rfl rfl)
theorem dX1_turn_97 : decode cX1_turn 97 = .ok (.goto (-58), 3) := dk_167 255 198 (dk_at dksX1_turn_4 6 rfl rfl)
theorem dX1_turn_100 : decode cX1_turn 100 = .ok (.aload_n 0, 1) := dk_42 (dk_at dksX1_turn_4 9 rfl rfl)
theorem dX1_turn_101 : decode cX1_turn 101 = .ok (.aload_n 0, 1) := dk_42 (dk_at dksX1_turn_4 10 rfl rfl)
theorem dX1_turn_102 : decode cX1_turn 102 = .ok (.invokevirtual 125, 3) := dk_182 0 125 (dk_at dksX1_turn_4 11 rfl rfl)
theorem dX1_turn_105 : decode cX1_turn 105 = .ok (.invokevirtual 327, 3) := dk_182 1 71 (dk_at dksX1_turn_4 14 rfl rfl)
theorem dX1_turn_108 : decode cX1_turn 108 = .ok (.iconst (-1), 1) := dk_2 (dk_at dksX1_turn_4 17 rfl rfl)
theorem dX1_turn_109 : decode cX1_turn 109 = .ok (.istore_n 3, 1) := dk_62 (dk_at dksX1_turn_4 18 rfl rfl)
theorem dX1_turn_110 : decode cX1_turn 110 = .ok (.iconst 0, 1) := dk_3 (dk_at dksX1_turn_4 19 rfl rfl)
theorem dX1_turn_111 : decode cX1_turn 111 = .ok (.istore 4, 2) := dk_54 4 (dk_at dksX1_turn_4 20 rfl rfl)
theorem dX1_turn_113 : decode cX1_turn 113 = .ok (.iconst 0, 1) := dk_3 (dk_at dksX1_turn_4 22 rfl rfl)
theorem dX1_turn_114 : decode cX1_turn 114 = .ok (.istore 5, 2) := dk_54 5 (dk_at dksX1_turn_5 0 rfl rfl)
theorem dX1_turn_116 : decode cX1_turn 116 = .ok (.iload 5, 2) := dk_21 5 (dk_at dksX1_turn_5 2 rfl rfl)
theorem dX1_turn_118 : decode cX1_turn 118 = .ok (.bipush 6, 2) := dk_16 6 (dk_at dksX1_turn_5 4 rfl rfl)
theorem dX1_turn_120 : decode cX1_turn 120 = .ok (.if_icmp .ge 81, 3) := dk_162 0 81 (dk_at dksX1_turn_5 6 rfl rfl)
theorem dX1_turn_123 : decode cX1_turn 123 = .ok (.aload_n 0, 1) := dk_42 (dk_at dksX1_turn_5 9 rfl rfl)
theorem dX1_turn_124 : decode cX1_turn 124 = .ok (.getfield 56, 3) := dk_180 0 56 (dk_at dksX1_turn_5 10 rfl rfl)
theorem dX1_turn_127 : decode cX1_turn 127 = .ok (.iconst 0, 1) := dk_3 (dk_at dksX1_turn_5 13 rfl rfl)
theorem dX1_turn_128 : decode cX1_turn 128 = .ok (.iconst 0, 1) := dk_3 (dk_at dksX1_turn_5 14 rfl rfl)
theorem dX1_turn_129 : decode cX1_turn 129 = .ok (.iload_n 1, 1) := dk_27 (dk_at dksX1_turn_5 15 rfl rfl)
theorem dX1_turn_130 : decode cX1_turn 130 = .ok (.ifCond .ne 8, 3) := dk_154 0 8 (dk_at dksX1_turn_5 16 rfl rfl)
theorem dX1_turn_133 : decode cX1_turn 133 = .ok (.iload 5, 2) := dk_21 5 (dk_at dksX1_turn_5 19 rfl rfl)
theorem dX1_turn_135 : decode cX1_turn 135 = .ok (.goto 4, 3) := dk_167 0 4 (dk_at dksX1_turn_5 21 rfl rfl)
theorem dX1_turn_138 : decode cX1_turn 138 = .ok (.iconst 0, 1) := dk_3 (dk_at dksX1_turn_6 0 rfl rfl)
theorem dX1_turn_139 : decode cX1_turn 139 = .ok (.iload_n 1, 1) := dk_27 (dk_at dksX1_turn_6 1 rfl rfl)
theorem dX1_turn_140 : decode cX1_turn 140 = .ok (.iconst 1, 1) := dk_4 (dk_at dksX1_turn_6 2 rfl rfl)
theorem dX1_turn_141 : decode cX1_turn 141 = .ok (.if_icmp .ne 8, 3) := dk_160 0 8 (dk_at dksX1_turn_6 3 rfl rfl)
theorem dX1_turn_144 : decode cX1_turn 144 = .ok (.iload 5, 2) := dk_21 5 (dk_at dksX1_turn_6 6 rfl rfl)
theorem dX1_turn_146 : decode cX1_turn 146 = .ok (.goto 4, 3) := dk_167 0 4 (dk_at dksX1_turn_6 8 rfl rfl)
theorem dX1_turn_149 : decode cX1_turn 149 = .ok (.iconst 0, 1) := dk_3 (dk_at dksX1_turn_6 11 rfl rfl)
theorem dX1_turn_150 : decode cX1_turn 150 = .ok (.iload_n 2, 1) := dk_28 (dk_at dksX1_turn_6 12 rfl rfl)
theorem dX1_turn_151 : decode cX1_turn 151 = .ok (.invokestatic 306, 3) := dk_184 1 50 (dk_at dksX1_turn_6 13 rfl rfl)
theorem dX1_turn_154 : decode cX1_turn 154 = .ok (.invokestatic 312, 3) := dk_184 1 56 (dk_at dksX1_turn_6 16 rfl rfl)
theorem dX1_turn_157 : decode cX1_turn 157 = .ok (.iaload, 1) := dk_46 (dk_at dksX1_turn_6 19 rfl rfl)
theorem dX1_turn_158 : decode cX1_turn 158 = .ok (.istore 6, 2) := dk_54 6 (dk_at dksX1_turn_6 20 rfl rfl)
theorem dX1_turn_160 : decode cX1_turn 160 = .ok (.iload_n 3, 1) := dk_29 (dk_at dksX1_turn_6 22 rfl rfl)
theorem dX1_turn_161 : decode cX1_turn 161 = .ok (.ifCond .lt 27, 3) := dk_155 0 27 (dk_at dksX1_turn_7 0 rfl rfl)
theorem dX1_turn_164 : decode cX1_turn 164 = .ok (.iload_n 1, 1) := dk_27 (dk_at dksX1_turn_7 3 rfl rfl)
theorem dX1_turn_165 : decode cX1_turn 165 = .ok (.ifCond .ne 13, 3) := dk_154 0 13 (dk_at dksX1_turn_7 4 rfl rfl)
theorem dX1_turn_168 : decode cX1_turn 168 = .ok (.iload 6, 2) := dk_21 6 (dk_at dksX1_turn_7 7 rfl rfl)
theorem dX1_turn_170 : decode cX1_turn 170 = .ok (.iload 4, 2) := dk_21 4 (dk_at dksX1_turn_7 9 rfl rfl)
theorem dX1_turn_172 : decode cX1_turn 172 = .ok (.if_icmp .gt 16, 3) := dk_163 0 16 (dk_at dksX1_turn_7 11 rfl rfl)
theorem dX1_turn_175 : decode cX1_turn 175 = .ok (.goto 20, 3) := dk_167 0 20 (dk_at dksX1_turn_7 14 rfl rfl)
theorem dX1_turn_178 : decode cX1_turn 178 = .ok (.iload 6, 2) := dk_21 6 (dk_at dksX1_turn_7 17 rfl rfl)
theorem dX1_turn_180 : decode cX1_turn 180 = .ok (.iload 4, 2) := dk_21 4 (dk_at dksX1_turn_7 19 rfl rfl)
theorem dX1_turn_182 : decode cX1_turn 182 = .ok (.if_icmp .lt 6, 3) := dk_161 0 6 (dk_at dksX1_turn_7 21 rfl rfl)
theorem dX1_turn_185 : decode cX1_turn 185 = .ok (.goto 10, 3) := dk_167 0 10 (dk_at dksX1_turn_8 0 rfl rfl)
theorem dX1_turn_188 : decode cX1_turn 188 = .ok (.iload 5, 2) := dk_21 5 (dk_at dksX1_turn_8 3 rfl rfl)
theorem dX1_turn_190 : decode cX1_turn 190 = .ok (.istore_n 3, 1) := dk_62 (dk_at dksX1_turn_8 5 rfl rfl)
theorem dX1_turn_191 : decode cX1_turn 191 = .ok (.iload 6, 2) := dk_21 6 (dk_at dksX1_turn_8 6 rfl rfl)
theorem dX1_turn_193 : decode cX1_turn 193 = .ok (.istore 4, 2) := dk_54 4 (dk_at dksX1_turn_8 8 rfl rfl)
theorem dX1_turn_195 : decode cX1_turn 195 = .ok (.iinc 5 1, 3) := dk_132 5 1 (dk_at dksX1_turn_8 10 rfl rfl)
theorem dX1_turn_198 : decode cX1_turn 198 = .ok (.goto (-82), 3) := dk_167 255 174 (dk_at dksX1_turn_8 13 rfl rfl)
theorem dX1_turn_201 : decode cX1_turn 201 = .ok (.iconst 0, 1) := dk_3 (dk_at dksX1_turn_8 16 rfl rfl)
theorem dX1_turn_202 : decode cX1_turn 202 = .ok (.istore 5, 2) := dk_54 5 (dk_at dksX1_turn_8 17 rfl rfl)
theorem dX1_turn_204 : decode cX1_turn 204 = .ok (.iload 5, 2) := dk_21 5 (dk_at dksX1_turn_8 19 rfl rfl)
theorem dX1_turn_206 : decode cX1_turn 206 = .ok (.iconst 2, 1) := dk_5 (dk_at dksX1_turn_8 21 rfl rfl)
theorem dX1_turn_207 : decode cX1_turn 207 = .ok (.if_icmp .ge 26, 3) := dk_162 0 26 (dk_at dksX1_turn_9 0 rfl rfl)
theorem dX1_turn_210 : decode cX1_turn 210 = .ok (.aload_n 0, 1) := dk_42 (dk_at dksX1_turn_9 3 rfl rfl)
theorem dX1_turn_211 : decode cX1_turn 211 = .ok (.getfield 20, 3) := dk_180 0 20 (dk_at dksX1_turn_9 4 rfl rfl)
theorem dX1_turn_214 : decode cX1_turn 214 = .ok (.iload 5, 2) := dk_21 5 (dk_at dksX1_turn_9 7 rfl rfl)
theorem dX1_turn_216 : decode cX1_turn 216 = .ok (.aaload, 1) := dk_50 (dk_at dksX1_turn_9 9 rfl rfl)
theorem dX1_turn_217 : decode cX1_turn 217 = .ok (.aload_n 0, 1) := dk_42 (dk_at dksX1_turn_9 10 rfl rfl)
theorem dX1_turn_218 : decode cX1_turn 218 = .ok (.getfield 24, 3) := dk_180 0 24 (dk_at dksX1_turn_9 11 rfl rfl)
theorem dX1_turn_221 : decode cX1_turn 221 = .ok (.iload 5, 2) := dk_21 5 (dk_at dksX1_turn_9 14 rfl rfl)
theorem dX1_turn_223 : decode cX1_turn 223 = .ok (.aaload, 1) := dk_50 (dk_at dksX1_turn_9 16 rfl rfl)
theorem dX1_turn_224 : decode cX1_turn 224 = .ok (.invokevirtual 261, 3) := dk_182 1 5 (dk_at dksX1_turn_9 17 rfl rfl)
theorem dX1_turn_227 : decode cX1_turn 227 = .ok (.iinc 5 1, 3) := dk_132 5 1 (dk_at dksX1_turn_9 20 rfl rfl)
theorem dX1_turn_230 : decode cX1_turn 230 = .ok (.goto (-26), 3) := dk_167 255 230 (dk_at dksX1_turn_10 0 rfl rfl)
theorem dX1_turn_233 : decode cX1_turn 233 = .ok (.aload_n 0, 1) := dk_42 (dk_at dksX1_turn_10 3 rfl rfl)
theorem dX1_turn_234 : decode cX1_turn 234 = .ok (.getfield 59, 3) := dk_180 0 59 (dk_at dksX1_turn_10 4 rfl rfl)
theorem dX1_turn_237 : decode cX1_turn 237 = .ok (.iconst 0, 1) := dk_3 (dk_at dksX1_turn_10 7 rfl rfl)
theorem dX1_turn_238 : decode cX1_turn 238 = .ok (.iload 4, 2) := dk_21 4 (dk_at dksX1_turn_10 8 rfl rfl)
theorem dX1_turn_240 : decode cX1_turn 240 = .ok (.iastore, 1) := dk_79 (dk_at dksX1_turn_10 10 rfl rfl)
theorem dX1_turn_241 : decode cX1_turn 241 = .ok (.aload_n 0, 1) := dk_42 (dk_at dksX1_turn_10 11 rfl rfl)
theorem dX1_turn_242 : decode cX1_turn 242 = .ok (.iconst 1, 1) := dk_4 (dk_at dksX1_turn_10 12 rfl rfl)
theorem dX1_turn_243 : decode cX1_turn 243 = .ok (.putfield 185, 3) := dk_181 0 185 (dk_at dksX1_turn_10 13 rfl rfl)
theorem dX1_turn_246 : decode cX1_turn 246 = .ok (.iload_n 3, 1) := dk_29 (dk_at dksX1_turn_10 16 rfl rfl)
theorem dX1_turn_247 : decode cX1_turn 247 = .ok (.ireturn, 1) := dk_172 (dk_at dksX1_turn_10 17 rfl rfl)
abbrev cX1_advice : ByteArray := prog_1_method_51_code
def yX1_advice : MethodName := ⟨RX1, "advice", "(I)I"⟩
def dkwX1_advice_7 : List UInt8 := [132, 4, 1, 167, 255, 126, 28, 155, 0, 15, 42, 180, 0, 59, 3, 29, 79, 42, 4, 181, 0, 185, 28, 172]
abbrev dktX1_advice_7 : List UInt8 := dkwX1_advice_7 ++ []
def dkwX1_advice_6 : List UInt8 := [167, 0, 17, 16, 12, 21, 4, 104, 21, 5, 96, 61, 42, 182, 1, 75, 62, 132, 5, 1, 167, 255, 142]
abbrev dktX1_advice_6 : List UInt8 := dkwX1_advice_6 ++ dktX1_advice_7
def dkwX1_advice_5 : List UInt8 := [154, 0, 14, 42, 182, 1, 75, 29, 163, 0, 17, 167, 0, 28, 42, 182, 1, 75, 29, 161, 0, 6]
abbrev dktX1_advice_5 : List UInt8 := dkwX1_advice_5 ++ dktX1_advice_6
def dkwX1_advice_4 : List UInt8 := [42, 182, 0, 125, 182, 1, 71, 42, 180, 0, 20, 27, 50, 180, 0, 145, 21, 6, 21, 4, 79, 27]
abbrev dktX1_advice_4 : List UInt8 := dkwX1_advice_4 ++ dktX1_advice_5
def dkwX1_advice_3 : List UInt8 := [27, 50, 21, 4, 182, 0, 152, 54, 6, 42, 180, 0, 20, 27, 50, 180, 0, 145, 21, 6, 21, 5, 79, 42]
abbrev dktX1_advice_3 : List UInt8 := dkwX1_advice_3 ++ dktX1_advice_4
def dkwX1_advice_2 : List UInt8 := [16, 12, 162, 0, 113, 42, 27, 21, 4, 21, 5, 182, 0, 165, 153, 0, 6, 167, 0, 92, 42, 180, 0, 20]
abbrev dktX1_advice_2 : List UInt8 := dkwX1_advice_2 ++ dktX1_advice_3
def dkwX1_advice_1 : List UInt8 := [16, 254, 61, 42, 182, 1, 75, 62, 3, 54, 4, 21, 4, 16, 12, 162, 0, 129, 3, 54, 5, 21, 5]
abbrev dktX1_advice_1 : List UInt8 := dkwX1_advice_1 ++ dktX1_advice_2
def dkwX1_advice_0 : List UInt8 := [27, 184, 0, 68, 153, 0, 10, 42, 180, 0, 81, 154, 0, 5, 2, 172, 42, 42, 182, 0, 125, 182, 1, 71]
abbrev dktX1_advice_0 : List UInt8 := dkwX1_advice_0 ++ dktX1_advice_1
theorem dksX1_advice_0 : cX1_advice.data.toList.drop 0 = dktX1_advice_0 := by decide +kernel
theorem dksX1_advice_1 : cX1_advice.data.toList.drop 24 = dktX1_advice_1 := dk_seg dksX1_advice_0 24 rfl rfl
theorem dksX1_advice_2 : cX1_advice.data.toList.drop 47 = dktX1_advice_2 := dk_seg dksX1_advice_1 23 rfl rfl
theorem dksX1_advice_3 : cX1_advice.data.toList.drop 71 = dktX1_advice_3 := dk_seg dksX1_advice_2 24 rfl rfl
theorem dksX1_advice_4 : cX1_advice.data.toList.drop 95 = dktX1_advice_4 := dk_seg dksX1_advice_3 24 rfl rfl
theorem dksX1_advice_5 : cX1_advice.data.toList.drop 117 = dktX1_advice_5 := dk_seg dksX1_advice_4 22 rfl rfl
theorem dksX1_advice_6 : cX1_advice.data.toList.drop 139 = dktX1_advice_6 := dk_seg dksX1_advice_5 22 rfl rfl
theorem dksX1_advice_7 : cX1_advice.data.toList.drop 162 = dktX1_advice_7 := dk_seg dksX1_advice_6 23 rfl rfl
theorem dX1_advice_0 : decode cX1_advice 0 = .ok (.iload_n 1, 1) := dk_27 (dk_at dksX1_advice_0 0 rfl rfl)
theorem dX1_advice_1 : decode cX1_advice 1 = .ok (.invokestatic 68, 3) := dk_184 0 68 (dk_at dksX1_advice_0 1 rfl rfl)
theorem dX1_advice_4 : decode cX1_advice 4 = .ok (.ifCond .eq 10, 3) := dk_153 0 10 (dk_at dksX1_advice_0 4 rfl rfl)
theorem dX1_advice_7 : decode cX1_advice 7 = .ok (.aload_n 0, 1) := dk_42 (dk_at dksX1_advice_0 7 rfl rfl)
theorem dX1_advice_8 : decode cX1_advice 8 = .ok (.getfield 81, 3) := dk_180 0 81 (dk_at dksX1_advice_0 8 rfl rfl)
theorem dX1_advice_11 : decode cX1_advice 11 = .ok (.ifCond .ne 5, 3) := dk_154 0 5 (dk_at dksX1_advice_0 11 rfl rfl)
theorem dX1_advice_14 : decode cX1_advice 14 = .ok (.iconst (-1), 1) := dk_2 (dk_at dksX1_advice_0 14 rfl rfl)
theorem dX1_advice_15 : decode cX1_advice 15 = .ok (.ireturn, 1) := dk_172 (dk_at dksX1_advice_0 15 rfl rfl)
theorem dX1_advice_16 : decode cX1_advice 16 = .ok (.aload_n 0, 1) := dk_42 (dk_at dksX1_advice_0 16 rfl rfl)
theorem dX1_advice_17 : decode cX1_advice 17 = .ok (.aload_n 0, 1) := dk_42 (dk_at dksX1_advice_0 17 rfl rfl)
theorem dX1_advice_18 : decode cX1_advice 18 = .ok (.invokevirtual 125, 3) := dk_182 0 125 (dk_at dksX1_advice_0 18 rfl rfl)
theorem dX1_advice_21 : decode cX1_advice 21 = .ok (.invokevirtual 327, 3) := dk_182 1 71 (dk_at dksX1_advice_0 21 rfl rfl)
theorem dX1_advice_24 : decode cX1_advice 24 = .ok (.bipush (-2), 2) := dk_16 254 (dk_at dksX1_advice_1 0 rfl rfl)
theorem dX1_advice_26 : decode cX1_advice 26 = .ok (.istore_n 2, 1) := dk_61 (dk_at dksX1_advice_1 2 rfl rfl)
theorem dX1_advice_27 : decode cX1_advice 27 = .ok (.aload_n 0, 1) := dk_42 (dk_at dksX1_advice_1 3 rfl rfl)
theorem dX1_advice_28 : decode cX1_advice 28 = .ok (.invokevirtual 331, 3) := dk_182 1 75 (dk_at dksX1_advice_1 4 rfl rfl)
theorem dX1_advice_31 : decode cX1_advice 31 = .ok (.istore_n 3, 1) := dk_62 (dk_at dksX1_advice_1 7 rfl rfl)
theorem dX1_advice_32 : decode cX1_advice 32 = .ok (.iconst 0, 1) := dk_3 (dk_at dksX1_advice_1 8 rfl rfl)
theorem dX1_advice_33 : decode cX1_advice 33 = .ok (.istore 4, 2) := dk_54 4 (dk_at dksX1_advice_1 9 rfl rfl)
theorem dX1_advice_35 : decode cX1_advice 35 = .ok (.iload 4, 2) := dk_21 4 (dk_at dksX1_advice_1 11 rfl rfl)
theorem dX1_advice_37 : decode cX1_advice 37 = .ok (.bipush 12, 2) := dk_16 12 (dk_at dksX1_advice_1 13 rfl rfl)
theorem dX1_advice_39 : decode cX1_advice 39 = .ok (.if_icmp .ge 129, 3) := dk_162 0 129 (dk_at dksX1_advice_1 15 rfl rfl)
theorem dX1_advice_42 : decode cX1_advice 42 = .ok (.iconst 0, 1) := dk_3 (dk_at dksX1_advice_1 18 rfl rfl)
theorem dX1_advice_43 : decode cX1_advice 43 = .ok (.istore 5, 2) := dk_54 5 (dk_at dksX1_advice_1 19 rfl rfl)
theorem dX1_advice_45 : decode cX1_advice 45 = .ok (.iload 5, 2) := dk_21 5 (dk_at dksX1_advice_1 21 rfl rfl)
theorem dX1_advice_47 : decode cX1_advice 47 = .ok (.bipush 12, 2) := dk_16 12 (dk_at dksX1_advice_2 0 rfl rfl)
theorem dX1_advice_49 : decode cX1_advice 49 = .ok (.if_icmp .ge 113, 3) := dk_162 0 113 (dk_at dksX1_advice_2 2 rfl rfl)
theorem dX1_advice_52 : decode cX1_advice 52 = .ok (.aload_n 0, 1) := dk_42 (dk_at dksX1_advice_2 5 rfl rfl)
theorem dX1_advice_53 : decode cX1_advice 53 = .ok (.iload_n 1, 1) := dk_27 (dk_at dksX1_advice_2 6 rfl rfl)
theorem dX1_advice_54 : decode cX1_advice 54 = .ok (.iload 4, 2) := dk_21 4 (dk_at dksX1_advice_2 7 rfl rfl)
theorem dX1_advice_56 : decode cX1_advice 56 = .ok (.iload 5, 2) := dk_21 5 (dk_at dksX1_advice_2 9 rfl rfl)
theorem dX1_advice_58 : decode cX1_advice 58 = .ok (.invokevirtual 165, 3) := dk_182 0 165 (dk_at dksX1_advice_2 11 rfl rfl)
theorem dX1_advice_61 : decode cX1_advice 61 = .ok (.ifCond .eq 6, 3) := dk_153 0 6 (dk_at dksX1_advice_2 14 rfl rfl)
theorem dX1_advice_64 : decode cX1_advice 64 = .ok (.goto 92, 3) := dk_167 0 92 (dk_at dksX1_advice_2 17 rfl rfl)
theorem dX1_advice_67 : decode cX1_advice 67 = .ok (.aload_n 0, 1) := dk_42 (dk_at dksX1_advice_2 20 rfl rfl)
theorem dX1_advice_68 : decode cX1_advice 68 = .ok (.getfield 20, 3) := dk_180 0 20 (dk_at dksX1_advice_2 21 rfl rfl)
theorem dX1_advice_71 : decode cX1_advice 71 = .ok (.iload_n 1, 1) := dk_27 (dk_at dksX1_advice_3 0 rfl rfl)
theorem dX1_advice_72 : decode cX1_advice 72 = .ok (.aaload, 1) := dk_50 (dk_at dksX1_advice_3 1 rfl rfl)
theorem dX1_advice_73 : decode cX1_advice 73 = .ok (.iload 4, 2) := dk_21 4 (dk_at dksX1_advice_3 2 rfl rfl)
theorem dX1_advice_75 : decode cX1_advice 75 = .ok (.invokevirtual 152, 3) := dk_182 0 152 (dk_at dksX1_advice_3 4 rfl rfl)
theorem dX1_advice_78 : decode cX1_advice 78 = .ok (.istore 6, 2) := dk_54 6 (dk_at dksX1_advice_3 7 rfl rfl)
theorem dX1_advice_80 : decode cX1_advice 80 = .ok (.aload_n 0, 1) := dk_42 (dk_at dksX1_advice_3 9 rfl rfl)
theorem dX1_advice_81 : decode cX1_advice 81 = .ok (.getfield 20, 3) := dk_180 0 20 (dk_at dksX1_advice_3 10 rfl rfl)
theorem dX1_advice_84 : decode cX1_advice 84 = .ok (.iload_n 1, 1) := dk_27 (dk_at dksX1_advice_3 13 rfl rfl)
theorem dX1_advice_85 : decode cX1_advice 85 = .ok (.aaload, 1) := dk_50 (dk_at dksX1_advice_3 14 rfl rfl)
theorem dX1_advice_86 : decode cX1_advice 86 = .ok (.getfield 145, 3) := dk_180 0 145 (dk_at dksX1_advice_3 15 rfl rfl)
theorem dX1_advice_89 : decode cX1_advice 89 = .ok (.iload 6, 2) := dk_21 6 (dk_at dksX1_advice_3 18 rfl rfl)
theorem dX1_advice_91 : decode cX1_advice 91 = .ok (.iload 5, 2) := dk_21 5 (dk_at dksX1_advice_3 20 rfl rfl)
theorem dX1_advice_93 : decode cX1_advice 93 = .ok (.iastore, 1) := dk_79 (dk_at dksX1_advice_3 22 rfl rfl)
theorem dX1_advice_94 : decode cX1_advice 94 = .ok (.aload_n 0, 1) := dk_42 (dk_at dksX1_advice_3 23 rfl rfl)
theorem dX1_advice_95 : decode cX1_advice 95 = .ok (.aload_n 0, 1) := dk_42 (dk_at dksX1_advice_4 0 rfl rfl)
theorem dX1_advice_96 : decode cX1_advice 96 = .ok (.invokevirtual 125, 3) := dk_182 0 125 (dk_at dksX1_advice_4 1 rfl rfl)
theorem dX1_advice_99 : decode cX1_advice 99 = .ok (.invokevirtual 327, 3) := dk_182 1 71 (dk_at dksX1_advice_4 4 rfl rfl)
theorem dX1_advice_102 : decode cX1_advice 102 = .ok (.aload_n 0, 1) := dk_42 (dk_at dksX1_advice_4 7 rfl rfl)
theorem dX1_advice_103 : decode cX1_advice 103 = .ok (.getfield 20, 3) := dk_180 0 20 (dk_at dksX1_advice_4 8 rfl rfl)
theorem dX1_advice_106 : decode cX1_advice 106 = .ok (.iload_n 1, 1) := dk_27 (dk_at dksX1_advice_4 11 rfl rfl)
theorem dX1_advice_107 : decode cX1_advice 107 = .ok (.aaload, 1) := dk_50 (dk_at dksX1_advice_4 12 rfl rfl)
theorem dX1_advice_108 : decode cX1_advice 108 = .ok (.getfield 145, 3) := dk_180 0 145 (dk_at dksX1_advice_4 13 rfl rfl)
theorem dX1_advice_111 : decode cX1_advice 111 = .ok (.iload 6, 2) := dk_21 6 (dk_at dksX1_advice_4 16 rfl rfl)
theorem dX1_advice_113 : decode cX1_advice 113 = .ok (.iload 4, 2) := dk_21 4 (dk_at dksX1_advice_4 18 rfl rfl)
theorem dX1_advice_115 : decode cX1_advice 115 = .ok (.iastore, 1) := dk_79 (dk_at dksX1_advice_4 20 rfl rfl)
theorem dX1_advice_116 : decode cX1_advice 116 = .ok (.iload_n 1, 1) := dk_27 (dk_at dksX1_advice_4 21 rfl rfl)
theorem dX1_advice_117 : decode cX1_advice 117 = .ok (.ifCond .ne 14, 3) := dk_154 0 14 (dk_at dksX1_advice_5 0 rfl rfl)
theorem dX1_advice_120 : decode cX1_advice 120 = .ok (.aload_n 0, 1) := dk_42 (dk_at dksX1_advice_5 3 rfl rfl)
theorem dX1_advice_121 : decode cX1_advice 121 = .ok (.invokevirtual 331, 3) := dk_182 1 75 (dk_at dksX1_advice_5 4 rfl rfl)
theorem dX1_advice_124 : decode cX1_advice 124 = .ok (.iload_n 3, 1) := dk_29 (dk_at dksX1_advice_5 7 rfl rfl)
theorem dX1_advice_125 : decode cX1_advice 125 = .ok (.if_icmp .gt 17, 3) := dk_163 0 17 (dk_at dksX1_advice_5 8 rfl rfl)
theorem dX1_advice_128 : decode cX1_advice 128 = .ok (.goto 28, 3) := dk_167 0 28 (dk_at dksX1_advice_5 11 rfl rfl)
theorem dX1_advice_131 : decode cX1_advice 131 = .ok (.aload_n 0, 1) := dk_42 (dk_at dksX1_advice_5 14 rfl rfl)
theorem dX1_advice_132 : decode cX1_advice 132 = .ok (.invokevirtual 331, 3) := dk_182 1 75 (dk_at dksX1_advice_5 15 rfl rfl)
theorem dX1_advice_135 : decode cX1_advice 135 = .ok (.iload_n 3, 1) := dk_29 (dk_at dksX1_advice_5 18 rfl rfl)
theorem dX1_advice_136 : decode cX1_advice 136 = .ok (.if_icmp .lt 6, 3) := dk_161 0 6 (dk_at dksX1_advice_5 19 rfl rfl)
theorem dX1_advice_139 : decode cX1_advice 139 = .ok (.goto 17, 3) := dk_167 0 17 (dk_at dksX1_advice_6 0 rfl rfl)
theorem dX1_advice_142 : decode cX1_advice 142 = .ok (.bipush 12, 2) := dk_16 12 (dk_at dksX1_advice_6 3 rfl rfl)
theorem dX1_advice_144 : decode cX1_advice 144 = .ok (.iload 4, 2) := dk_21 4 (dk_at dksX1_advice_6 5 rfl rfl)
theorem dX1_advice_146 : decode cX1_advice 146 = .ok (.imul, 1) := dk_104 (dk_at dksX1_advice_6 7 rfl rfl)
theorem dX1_advice_147 : decode cX1_advice 147 = .ok (.iload 5, 2) := dk_21 5 (dk_at dksX1_advice_6 8 rfl rfl)
theorem dX1_advice_149 : decode cX1_advice 149 = .ok (.iadd, 1) := dk_96 (dk_at dksX1_advice_6 10 rfl rfl)
theorem dX1_advice_150 : decode cX1_advice 150 = .ok (.istore_n 2, 1) := dk_61 (dk_at dksX1_advice_6 11 rfl rfl)
theorem dX1_advice_151 : decode cX1_advice 151 = .ok (.aload_n 0, 1) := dk_42 (dk_at dksX1_advice_6 12 rfl rfl)
theorem dX1_advice_152 : decode cX1_advice 152 = .ok (.invokevirtual 331, 3) := dk_182 1 75 (dk_at dksX1_advice_6 13 rfl rfl)
theorem dX1_advice_155 : decode cX1_advice 155 = .ok (.istore_n 3, 1) := dk_62 (dk_at dksX1_advice_6 16 rfl rfl)
theorem dX1_advice_156 : decode cX1_advice 156 = .ok (.iinc 5 1, 3) := dk_132 5 1 (dk_at dksX1_advice_6 17 rfl rfl)
theorem dX1_advice_159 : decode cX1_advice 159 = .ok (.goto (-114), 3) := dk_167 255 142 (dk_at dksX1_advice_6 20 rfl rfl)
theorem dX1_advice_162 : decode cX1_advice 162 = .ok (.iinc 4 1, 3) := dk_132 4 1 (dk_at dksX1_advice_7 0 rfl rfl)
theorem dX1_advice_165 : decode cX1_advice 165 = .ok (.goto (-130), 3) := dk_167 255 126 (dk_at dksX1_advice_7 3 rfl rfl)
theorem dX1_advice_168 : decode cX1_advice 168 = .ok (.iload_n 2, 1) := dk_28 (dk_at dksX1_advice_7 6 rfl rfl)
theorem dX1_advice_169 : decode cX1_advice 169 = .ok (.ifCond .lt 15, 3) := dk_155 0 15 (dk_at dksX1_advice_7 7 rfl rfl)
theorem dX1_advice_172 : decode cX1_advice 172 = .ok (.aload_n 0, 1) := dk_42 (dk_at dksX1_advice_7 10 rfl rfl)
theorem dX1_advice_173 : decode cX1_advice 173 = .ok (.getfield 59, 3) := dk_180 0 59 (dk_at dksX1_advice_7 11 rfl rfl)
theorem dX1_advice_176 : decode cX1_advice 176 = .ok (.iconst 0, 1) := dk_3 (dk_at dksX1_advice_7 14 rfl rfl)
theorem dX1_advice_177 : decode cX1_advice 177 = .ok (.iload_n 3, 1) := dk_29 (dk_at dksX1_advice_7 15 rfl rfl)
theorem dX1_advice_178 : decode cX1_advice 178 = .ok (.iastore, 1) := dk_79 (dk_at dksX1_advice_7 16 rfl rfl)
theorem dX1_advice_179 : decode cX1_advice 179 = .ok (.aload_n 0, 1) := dk_42 (dk_at dksX1_advice_7 17 rfl rfl)
theorem dX1_advice_180 : decode cX1_advice 180 = .ok (.iconst 1, 1) := dk_4 (dk_at dksX1_advice_7 18 rfl rfl)
theorem dX1_advice_181 : decode cX1_advice 181 = .ok (.putfield 185, 3) := dk_181 0 185 (dk_at dksX1_advice_7 19 rfl rfl)
theorem dX1_advice_184 : decode cX1_advice 184 = .ok (.iload_n 2, 1) := dk_28 (dk_at dksX1_advice_7 22 rfl rfl)
theorem dX1_advice_185 : decode cX1_advice 185 = .ok (.ireturn, 1) := dk_172 (dk_at dksX1_advice_7 23 rfl rfl)
abbrev cX1_row : ByteArray := prog_1_method_52_code
def yX1_row : MethodName := ⟨RX1, "row", "(I)I"⟩
def dkwX1_row_1 : List UInt8 := [42, 180, 0, 59, 27, 46, 172]
abbrev dktX1_row_1 : List UInt8 := dkwX1_row_1 ++ []
def dkwX1_row_0 : List UInt8 := [27, 133, 9, 42, 180, 0, 185, 4, 100, 133, 184, 0, 5, 154, 0, 11, 187, 1, 78, 89, 183, 1, 80, 191]
abbrev dktX1_row_0 : List UInt8 := dkwX1_row_0 ++ dktX1_row_1
theorem dksX1_row_0 : cX1_row.data.toList.drop 0 = dktX1_row_0 := by decide +kernel
theorem dksX1_row_1 : cX1_row.data.toList.drop 24 = dktX1_row_1 := dk_seg dksX1_row_0 24 rfl rfl
theorem dX1_row_0 : decode cX1_row 0 = .ok (.iload_n 1, 1) := dk_27 (dk_at dksX1_row_0 0 rfl rfl)
theorem dX1_row_1 : decode cX1_row 1 = .ok (.i2l, 1) := dk_133 (dk_at dksX1_row_0 1 rfl rfl)
theorem dX1_row_2 : decode cX1_row 2 = .ok (.lconst 0, 1) := dk_9 (dk_at dksX1_row_0 2 rfl rfl)
theorem dX1_row_3 : decode cX1_row 3 = .ok (.aload_n 0, 1) := dk_42 (dk_at dksX1_row_0 3 rfl rfl)
theorem dX1_row_4 : decode cX1_row 4 = .ok (.getfield 185, 3) := dk_180 0 185 (dk_at dksX1_row_0 4 rfl rfl)
theorem dX1_row_7 : decode cX1_row 7 = .ok (.iconst 1, 1) := dk_4 (dk_at dksX1_row_0 7 rfl rfl)
theorem dX1_row_8 : decode cX1_row 8 = .ok (.isub, 1) := dk_100 (dk_at dksX1_row_0 8 rfl rfl)
theorem dX1_row_9 : decode cX1_row 9 = .ok (.i2l, 1) := dk_133 (dk_at dksX1_row_0 9 rfl rfl)
theorem dX1_row_10 : decode cX1_row 10 = .ok (.invokestatic 5, 3) := dk_184 0 5 (dk_at dksX1_row_0 10 rfl rfl)
theorem dX1_row_13 : decode cX1_row 13 = .ok (.ifCond .ne 11, 3) := dk_154 0 11 (dk_at dksX1_row_0 13 rfl rfl)
theorem dX1_row_16 : decode cX1_row 16 = .ok (.new 334, 3) := dk_187 1 78 (dk_at dksX1_row_0 16 rfl rfl)
theorem dX1_row_19 : decode cX1_row 19 = .ok (.dup, 1) := dk_89 (dk_at dksX1_row_0 19 rfl rfl)
theorem dX1_row_20 : decode cX1_row 20 = .ok (.invokespecial 336, 3) := dk_183 1 80 (dk_at dksX1_row_0 20 rfl rfl)
theorem dX1_row_23 : decode cX1_row 23 = .ok (.athrow, 1) := dk_191 (dk_at dksX1_row_0 23 rfl rfl)
theorem dX1_row_24 : decode cX1_row 24 = .ok (.aload_n 0, 1) := dk_42 (dk_at dksX1_row_1 0 rfl rfl)
theorem dX1_row_25 : decode cX1_row 25 = .ok (.getfield 59, 3) := dk_180 0 59 (dk_at dksX1_row_1 1 rfl rfl)
theorem dX1_row_28 : decode cX1_row 28 = .ok (.iload_n 1, 1) := dk_27 (dk_at dksX1_row_1 4 rfl rfl)
theorem dX1_row_29 : decode cX1_row 29 = .ok (.iaload, 1) := dk_46 (dk_at dksX1_row_1 5 rfl rfl)
theorem dX1_row_30 : decode cX1_row 30 = .ok (.ireturn, 1) := dk_172 (dk_at dksX1_row_1 6 rfl rfl)
theorem q47 : (Jvm.Cond.initialized "SixWhoTurn") ∈ lw_all := lw_g (lw_at lw_m1 1 rfl) rfl
theorem q68 : (Jvm.Cond.instantiable "SixWhoTurn" (25 : Nat)) ∈ lw_all := lw_g (lw_at lw_m1 22 rfl) rfl
theorem q70 : (Jvm.Cond.instanceMethod ({ cls := "SixWhoTurn", name := "<init>", desc := "()V" } : Jvm.MethodName)) ∈ lw_all := lw_g (lw_at lw_m1 24 rfl) rfl
theorem q71 : (Jvm.Cond.code ({ cls := "SixWhoTurn", name := "<init>", desc := "()V" } : Jvm.MethodName) prog_1_method_5_code (9 : Nat) (Option.none : Option Jvm.ClassFile.FieldType)) ∈ lw_all := lw_g (lw_at lw_m1 25 rfl) rfl
theorem q72 : (Jvm.Cond.methodLink "SixWhoTurn" (11 : Nat) ({ cls := "java/lang/Object", name := "<init>", desc := "()V" } : Jvm.MethodName)) ∈ lw_all := lw_g (lw_at lw_m1 26 rfl) rfl
theorem q75 : (Jvm.Cond.classLink "SixWhoTurn" (17 : Nat) "SixWhoTurn$Side") ∈ lw_all := lw_g (lw_at lw_m1 29 rfl) rfl
theorem q78 : (Jvm.Cond.methodLinkNest "SixWhoTurn" (19 : Nat) ({ cls := "SixWhoTurn$Side", name := "<init>", desc := "()V" } : Jvm.MethodName) "SixWhoTurn") ∈ lw_tbl := lw_at lw_m1 32 rfl
theorem q83 : (Jvm.Cond.fieldLinkNest "SixWhoTurn" (145 : Nat) "SixWhoTurn$Side" "court" "[I" "SixWhoTurn") ∈ lw_tbl := lw_at lw_m1 37 rfl
theorem q85 : (Jvm.Cond.fieldLinkNest "SixWhoTurn" (94 : Nat) "SixWhoTurn$Side" "lineUp" "[I" "SixWhoTurn") ∈ lw_tbl := lw_at lw_m1 39 rfl
theorem q88 : (Jvm.Cond.fieldLinkNest "SixWhoTurn" (142 : Nat) "SixWhoTurn$Side" "served" "[I" "SixWhoTurn") ∈ lw_tbl := lw_at lw_m1 42 rfl
theorem q90 : (Jvm.Cond.fieldLinkNest "SixWhoTurn" (193 : Nat) "SixWhoTurn$Side" "x" "[I" "SixWhoTurn") ∈ lw_tbl := lw_at lw_m1 44 rfl
theorem q92 : (Jvm.Cond.fieldLinkNest "SixWhoTurn" (196 : Nat) "SixWhoTurn$Side" "y" "[I" "SixWhoTurn") ∈ lw_tbl := lw_at lw_m1 46 rfl
theorem q96 : (Jvm.Cond.fieldLinkNest "SixWhoTurn" (129 : Nat) "SixWhoTurn$Side" "points" "I" "SixWhoTurn") ∈ lw_tbl := lw_at lw_m1 50 rfl
theorem q98 : (Jvm.Cond.fieldLinkNest "SixWhoTurn" (122 : Nat) "SixWhoTurn$Side" "sets" "I" "SixWhoTurn") ∈ lw_tbl := lw_at lw_m1 52 rfl
theorem q100 : (Jvm.Cond.fieldLinkNest "SixWhoTurn" (158 : Nat) "SixWhoTurn$Side" "changes" "I" "SixWhoTurn") ∈ lw_tbl := lw_at lw_m1 54 rfl
theorem q102 : (Jvm.Cond.fieldLinkNest "SixWhoTurn" (176 : Nat) "SixWhoTurn$Side" "pauses" "I" "SixWhoTurn") ∈ lw_tbl := lw_at lw_m1 56 rfl
theorem q104 : (Jvm.Cond.fieldLinkNest "SixWhoTurn" (182 : Nat) "SixWhoTurn$Side" "turns" "I" "SixWhoTurn") ∈ lw_tbl := lw_at lw_m1 58 rfl
theorem q106 : (Jvm.Cond.fieldLinkNest "SixWhoTurn" (85 : Nat) "SixWhoTurn$Side" "free" "I" "SixWhoTurn") ∈ lw_tbl := lw_at lw_m1 60 rfl
theorem q108 : (Jvm.Cond.fieldLinkNest "SixWhoTurn" (155 : Nat) "SixWhoTurn$Side" "standsFor" "I" "SixWhoTurn") ∈ lw_tbl := lw_at lw_m1 62 rfl
theorem q110 : (Jvm.Cond.fieldLinkNest "SixWhoTurn" (173 : Nat) "SixWhoTurn$Side" "freedAt" "I" "SixWhoTurn") ∈ lw_tbl := lw_at lw_m1 64 rfl
theorem q112 : (Jvm.Cond.fieldLinkNest "SixWhoTurn" (103 : Nat) "SixWhoTurn$Side" "isTold" "Z" "SixWhoTurn") ∈ lw_tbl := lw_at lw_m1 66 rfl
theorem q150 : (Jvm.Cond.classLink "SixWhoTurn" (27 : Nat) "[[[I") ∈ lw_all := lw_g (lw_at lw_m1 104 rfl) rfl
theorem q153 : (Jvm.Cond.constant "SixWhoTurn" (55 : Nat) (69192 : Int32)) ∈ lw_all := lw_g (lw_at lw_m1 107 rfl) rfl
theorem q154 : (Jvm.Cond.methodLink "SixWhoTurn" (62 : Nat) ({ cls := "java/util/Arrays", name := "fill", desc := "([II)V" } : Jvm.MethodName)) ∈ lw_all := lw_g (lw_at lw_m1 108 rfl) rfl
theorem q157 : (Jvm.Cond.fieldLink "SixWhoTurn" (20 : Nat) "SixWhoTurn" "sides" "[LSixWhoTurn$Side;") ∈ lw_all := lw_g (lw_at lw_m1 111 rfl) rfl
theorem q158 : (Jvm.Cond.fieldLink "SixWhoTurn" (24 : Nat) "SixWhoTurn" "kept" "[LSixWhoTurn$Side;") ∈ lw_all := lw_g (lw_at lw_m1 112 rfl) rfl
theorem q159 : (Jvm.Cond.fieldLink "SixWhoTurn" (29 : Nat) "SixWhoTurn" "skills" "[[[I") ∈ lw_all := lw_g (lw_at lw_m1 113 rfl) rfl
theorem q160 : (Jvm.Cond.fieldLink "SixWhoTurn" (32 : Nat) "SixWhoTurn" "numbers" "[I") ∈ lw_all := lw_g (lw_at lw_m1 114 rfl) rfl
theorem q161 : (Jvm.Cond.fieldLink "SixWhoTurn" (36 : Nat) "SixWhoTurn" "number" "I") ∈ lw_all := lw_g (lw_at lw_m1 115 rfl) rfl
theorem q162 : (Jvm.Cond.fieldLink "SixWhoTurn" (40 : Nat) "SixWhoTurn" "serving" "I") ∈ lw_all := lw_g (lw_at lw_m1 116 rfl) rfl
theorem q163 : (Jvm.Cond.fieldLink "SixWhoTurn" (116 : Nat) "SixWhoTurn" "rallies" "I") ∈ lw_all := lw_g (lw_at lw_m1 117 rfl) rfl
theorem q164 : (Jvm.Cond.fieldLink "SixWhoTurn" (119 : Nat) "SixWhoTurn" "run" "I") ∈ lw_all := lw_g (lw_at lw_m1 118 rfl) rfl
theorem q165 : (Jvm.Cond.fieldLink "SixWhoTurn" (43 : Nat) "SixWhoTurn" "winner" "I") ∈ lw_all := lw_g (lw_at lw_m1 119 rfl) rfl
theorem q166 : (Jvm.Cond.fieldLink "SixWhoTurn" (46 : Nat) "SixWhoTurn" "setWinner" "I") ∈ lw_all := lw_g (lw_at lw_m1 120 rfl) rfl
theorem q167 : (Jvm.Cond.fieldLink "SixWhoTurn" (81 : Nat) "SixWhoTurn" "isOn" "Z") ∈ lw_all := lw_g (lw_at lw_m1 121 rfl) rfl
theorem q168 : (Jvm.Cond.fieldLink "SixWhoTurn" (49 : Nat) "SixWhoTurn" "text" "[I") ∈ lw_all := lw_g (lw_at lw_m1 122 rfl) rfl
theorem q169 : (Jvm.Cond.fieldLink "SixWhoTurn" (188 : Nat) "SixWhoTurn" "signMany" "I") ∈ lw_all := lw_g (lw_at lw_m1 123 rfl) rfl
theorem q170 : (Jvm.Cond.fieldLink "SixWhoTurn" (203 : Nat) "SixWhoTurn" "at" "I") ∈ lw_all := lw_g (lw_at lw_m1 124 rfl) rfl
theorem q171 : (Jvm.Cond.fieldLink "SixWhoTurn" (206 : Nat) "SixWhoTurn" "end" "I") ∈ lw_all := lw_g (lw_at lw_m1 125 rfl) rfl
theorem q172 : (Jvm.Cond.fieldLink "SixWhoTurn" (250 : Nat) "SixWhoTurn" "read" "I") ∈ lw_all := lw_g (lw_at lw_m1 126 rfl) rfl
theorem q173 : (Jvm.Cond.fieldLink "SixWhoTurn" (265 : Nat) "SixWhoTurn" "keptServing" "I") ∈ lw_all := lw_g (lw_at lw_m1 127 rfl) rfl
theorem q174 : (Jvm.Cond.fieldLink "SixWhoTurn" (268 : Nat) "SixWhoTurn" "keptRallies" "I") ∈ lw_all := lw_g (lw_at lw_m1 128 rfl) rfl
theorem q175 : (Jvm.Cond.fieldLink "SixWhoTurn" (271 : Nat) "SixWhoTurn" "keptRun" "I") ∈ lw_all := lw_g (lw_at lw_m1 129 rfl) rfl
theorem q176 : (Jvm.Cond.fieldLink "SixWhoTurn" (274 : Nat) "SixWhoTurn" "keptWinner" "I") ∈ lw_all := lw_g (lw_at lw_m1 130 rfl) rfl
theorem q177 : (Jvm.Cond.fieldLink "SixWhoTurn" (277 : Nat) "SixWhoTurn" "keptSetWinner" "I") ∈ lw_all := lw_g (lw_at lw_m1 131 rfl) rfl
theorem q178 : (Jvm.Cond.fieldLink "SixWhoTurn" (52 : Nat) "SixWhoTurn" "chances" "[I") ∈ lw_all := lw_g (lw_at lw_m1 132 rfl) rfl
theorem q179 : (Jvm.Cond.fieldLink "SixWhoTurn" (56 : Nat) "SixWhoTurn" "table" "[I") ∈ lw_all := lw_g (lw_at lw_m1 133 rfl) rfl
theorem q180 : (Jvm.Cond.fieldLink "SixWhoTurn" (59 : Nat) "SixWhoTurn" "row" "[I") ∈ lw_all := lw_g (lw_at lw_m1 134 rfl) rfl
theorem q181 : (Jvm.Cond.fieldLink "SixWhoTurn" (185 : Nat) "SixWhoTurn" "rowMany" "I") ∈ lw_all := lw_g (lw_at lw_m1 135 rfl) rfl
theorem q182 : (Jvm.Cond.laysFinal "SixWhoTurn" "SixWhoTurn" "sides" "[LSixWhoTurn$Side;") ∈ lw_all := lw_g (lw_at lw_m1 136 rfl) rfl
theorem q183 : (Jvm.Cond.soleField "SixWhoTurn" "sides") ∈ lw_all := lw_g (lw_at lw_m1 137 rfl) rfl
theorem q184 : (Jvm.Cond.laysFinal "SixWhoTurn" "SixWhoTurn" "kept" "[LSixWhoTurn$Side;") ∈ lw_all := lw_g (lw_at lw_m1 138 rfl) rfl
theorem q185 : (Jvm.Cond.soleField "SixWhoTurn" "kept") ∈ lw_all := lw_g (lw_at lw_m1 139 rfl) rfl
theorem q186 : (Jvm.Cond.laysFinal "SixWhoTurn" "SixWhoTurn" "skills" "[[[I") ∈ lw_all := lw_g (lw_at lw_m1 140 rfl) rfl
theorem q187 : (Jvm.Cond.soleField "SixWhoTurn" "skills") ∈ lw_all := lw_g (lw_at lw_m1 141 rfl) rfl
theorem q188 : (Jvm.Cond.laysFinal "SixWhoTurn" "SixWhoTurn" "numbers" "[I") ∈ lw_all := lw_g (lw_at lw_m1 142 rfl) rfl
theorem q189 : (Jvm.Cond.soleField "SixWhoTurn" "numbers") ∈ lw_all := lw_g (lw_at lw_m1 143 rfl) rfl
theorem q190 : (Jvm.Cond.lays "SixWhoTurn" "SixWhoTurn" "number" "I") ∈ lw_all := lw_g (lw_at lw_m1 144 rfl) rfl
theorem q191 : (Jvm.Cond.soleField "SixWhoTurn" "number") ∈ lw_all := lw_g (lw_at lw_m1 145 rfl) rfl
theorem q192 : (Jvm.Cond.lays "SixWhoTurn" "SixWhoTurn" "serving" "I") ∈ lw_all := lw_g (lw_at lw_m1 146 rfl) rfl
theorem q193 : (Jvm.Cond.soleField "SixWhoTurn" "serving") ∈ lw_all := lw_g (lw_at lw_m1 147 rfl) rfl
theorem q194 : (Jvm.Cond.lays "SixWhoTurn" "SixWhoTurn" "rallies" "I") ∈ lw_all := lw_g (lw_at lw_m1 148 rfl) rfl
theorem q195 : (Jvm.Cond.soleField "SixWhoTurn" "rallies") ∈ lw_all := lw_g (lw_at lw_m1 149 rfl) rfl
theorem q196 : (Jvm.Cond.lays "SixWhoTurn" "SixWhoTurn" "run" "I") ∈ lw_all := lw_g (lw_at lw_m1 150 rfl) rfl
theorem q197 : (Jvm.Cond.soleField "SixWhoTurn" "run") ∈ lw_all := lw_g (lw_at lw_m1 151 rfl) rfl
theorem q198 : (Jvm.Cond.lays "SixWhoTurn" "SixWhoTurn" "winner" "I") ∈ lw_all := lw_g (lw_at lw_m1 152 rfl) rfl
theorem q199 : (Jvm.Cond.soleField "SixWhoTurn" "winner") ∈ lw_all := lw_g (lw_at lw_m1 153 rfl) rfl
theorem q200 : (Jvm.Cond.lays "SixWhoTurn" "SixWhoTurn" "setWinner" "I") ∈ lw_all := lw_g (lw_at lw_m1 154 rfl) rfl
theorem q201 : (Jvm.Cond.soleField "SixWhoTurn" "setWinner") ∈ lw_all := lw_g (lw_at lw_m1 155 rfl) rfl
theorem q202 : (Jvm.Cond.lays "SixWhoTurn" "SixWhoTurn" "isOn" "Z") ∈ lw_all := lw_g (lw_at lw_m1 156 rfl) rfl
theorem q203 : (Jvm.Cond.soleField "SixWhoTurn" "isOn") ∈ lw_all := lw_g (lw_at lw_m1 157 rfl) rfl
theorem q204 : (Jvm.Cond.laysFinal "SixWhoTurn" "SixWhoTurn" "text" "[I") ∈ lw_all := lw_g (lw_at lw_m1 158 rfl) rfl
theorem q205 : (Jvm.Cond.soleField "SixWhoTurn" "text") ∈ lw_all := lw_g (lw_at lw_m1 159 rfl) rfl
theorem q206 : (Jvm.Cond.lays "SixWhoTurn" "SixWhoTurn" "signMany" "I") ∈ lw_all := lw_g (lw_at lw_m1 160 rfl) rfl
theorem q207 : (Jvm.Cond.soleField "SixWhoTurn" "signMany") ∈ lw_all := lw_g (lw_at lw_m1 161 rfl) rfl
theorem q208 : (Jvm.Cond.lays "SixWhoTurn" "SixWhoTurn" "at" "I") ∈ lw_all := lw_g (lw_at lw_m1 162 rfl) rfl
theorem q209 : (Jvm.Cond.soleField "SixWhoTurn" "at") ∈ lw_all := lw_g (lw_at lw_m1 163 rfl) rfl
theorem q210 : (Jvm.Cond.lays "SixWhoTurn" "SixWhoTurn" "end" "I") ∈ lw_all := lw_g (lw_at lw_m1 164 rfl) rfl
theorem q211 : (Jvm.Cond.soleField "SixWhoTurn" "end") ∈ lw_all := lw_g (lw_at lw_m1 165 rfl) rfl
theorem q212 : (Jvm.Cond.lays "SixWhoTurn" "SixWhoTurn" "read" "I") ∈ lw_all := lw_g (lw_at lw_m1 166 rfl) rfl
theorem q213 : (Jvm.Cond.soleField "SixWhoTurn" "read") ∈ lw_all := lw_g (lw_at lw_m1 167 rfl) rfl
theorem q214 : (Jvm.Cond.lays "SixWhoTurn" "SixWhoTurn" "keptServing" "I") ∈ lw_all := lw_g (lw_at lw_m1 168 rfl) rfl
theorem q215 : (Jvm.Cond.soleField "SixWhoTurn" "keptServing") ∈ lw_all := lw_g (lw_at lw_m1 169 rfl) rfl
theorem q216 : (Jvm.Cond.lays "SixWhoTurn" "SixWhoTurn" "keptRallies" "I") ∈ lw_all := lw_g (lw_at lw_m1 170 rfl) rfl
theorem q217 : (Jvm.Cond.soleField "SixWhoTurn" "keptRallies") ∈ lw_all := lw_g (lw_at lw_m1 171 rfl) rfl
theorem q218 : (Jvm.Cond.lays "SixWhoTurn" "SixWhoTurn" "keptRun" "I") ∈ lw_all := lw_g (lw_at lw_m1 172 rfl) rfl
theorem q219 : (Jvm.Cond.soleField "SixWhoTurn" "keptRun") ∈ lw_all := lw_g (lw_at lw_m1 173 rfl) rfl
theorem q220 : (Jvm.Cond.lays "SixWhoTurn" "SixWhoTurn" "keptWinner" "I") ∈ lw_all := lw_g (lw_at lw_m1 174 rfl) rfl
theorem q221 : (Jvm.Cond.soleField "SixWhoTurn" "keptWinner") ∈ lw_all := lw_g (lw_at lw_m1 175 rfl) rfl
theorem q222 : (Jvm.Cond.lays "SixWhoTurn" "SixWhoTurn" "keptSetWinner" "I") ∈ lw_all := lw_g (lw_at lw_m1 176 rfl) rfl
theorem q223 : (Jvm.Cond.soleField "SixWhoTurn" "keptSetWinner") ∈ lw_all := lw_g (lw_at lw_m1 177 rfl) rfl
theorem q224 : (Jvm.Cond.laysFinal "SixWhoTurn" "SixWhoTurn" "chances" "[I") ∈ lw_all := lw_g (lw_at lw_m1 178 rfl) rfl
theorem q225 : (Jvm.Cond.soleField "SixWhoTurn" "chances") ∈ lw_all := lw_g (lw_at lw_m1 179 rfl) rfl
theorem q226 : (Jvm.Cond.laysFinal "SixWhoTurn" "SixWhoTurn" "table" "[I") ∈ lw_all := lw_g (lw_at lw_m1 180 rfl) rfl
theorem q227 : (Jvm.Cond.soleField "SixWhoTurn" "table") ∈ lw_all := lw_g (lw_at lw_m1 181 rfl) rfl
theorem q228 : (Jvm.Cond.laysFinal "SixWhoTurn" "SixWhoTurn" "row" "[I") ∈ lw_all := lw_g (lw_at lw_m1 182 rfl) rfl
theorem q229 : (Jvm.Cond.soleField "SixWhoTurn" "row") ∈ lw_all := lw_g (lw_at lw_m1 183 rfl) rfl
theorem q230 : (Jvm.Cond.lays "SixWhoTurn" "SixWhoTurn" "rowMany" "I") ∈ lw_all := lw_g (lw_at lw_m1 184 rfl) rfl
theorem q231 : (Jvm.Cond.soleField "SixWhoTurn" "rowMany") ∈ lw_all := lw_g (lw_at lw_m1 185 rfl) rfl
theorem q232 : (Jvm.Cond.superclass "SixWhoTurn" "java/lang/Object") ∈ lw_all := lw_g (lw_at lw_m1 186 rfl) rfl
theorem q234 : (Jvm.Cond.instanceMethod ({ cls := "SixWhoTurn", name := "skill", desc := "(IIII)I" } : Jvm.MethodName)) ∈ lw_all := lw_g (lw_at lw_m1 188 rfl) rfl
theorem q235 : (Jvm.Cond.selects "SixWhoTurn" ({ cls := "SixWhoTurn", name := "skill", desc := "(IIII)I" } : Jvm.MethodName) ({ cls := "SixWhoTurn", name := "skill", desc := "(IIII)I" } : Jvm.MethodName)) ∈ lw_all := lw_g (lw_at lw_m1 189 rfl) rfl
theorem q236 : (Jvm.Cond.code ({ cls := "SixWhoTurn", name := "skill", desc := "(IIII)I" } : Jvm.MethodName) prog_1_method_6_code (6 : Nat) (Option.some Jvm.ClassFile.FieldType.int)) ∈ lw_all := lw_g (lw_at lw_m1 190 rfl) rfl
theorem q237 : (Jvm.Cond.methodLink "SixWhoTurn" (68 : Nat) ({ cls := "SixWhoTurn", name := "isTeam", desc := "(I)Z" } : Jvm.MethodName)) ∈ lw_all := lw_g (lw_at lw_m1 191 rfl) rfl
theorem q238 : (Jvm.Cond.static ({ cls := "SixWhoTurn", name := "isTeam", desc := "(I)Z" } : Jvm.MethodName)) ∈ lw_all := lw_g (lw_at lw_m1 192 rfl) rfl
theorem q239 : (Jvm.Cond.code ({ cls := "SixWhoTurn", name := "isTeam", desc := "(I)Z" } : Jvm.MethodName) prog_1_method_2_code (1 : Nat) (Option.some Jvm.ClassFile.FieldType.boolean)) ∈ lw_all := lw_g (lw_at lw_m1 193 rfl) rfl
theorem q240 : (Jvm.Cond.methodLink "SixWhoTurn" (72 : Nat) ({ cls := "SixWhoTurn", name := "isPlayer", desc := "(I)Z" } : Jvm.MethodName)) ∈ lw_all := lw_g (lw_at lw_m1 194 rfl) rfl
theorem q241 : (Jvm.Cond.static ({ cls := "SixWhoTurn", name := "isPlayer", desc := "(I)Z" } : Jvm.MethodName)) ∈ lw_all := lw_g (lw_at lw_m1 195 rfl) rfl
theorem q242 : (Jvm.Cond.code ({ cls := "SixWhoTurn", name := "isPlayer", desc := "(I)Z" } : Jvm.MethodName) prog_1_method_3_code (1 : Nat) (Option.some Jvm.ClassFile.FieldType.boolean)) ∈ lw_all := lw_g (lw_at lw_m1 196 rfl) rfl
theorem q243 : (Jvm.Cond.constantLong "SixWhoTurn" (3 : Nat) (11 : Int64)) ∈ lw_all := lw_g (lw_at lw_m1 197 rfl) rfl
theorem q244 : (Jvm.Cond.methodLink "SixWhoTurn" (5 : Nat) ({ cls := "SixWhoTurn", name := "in", desc := "(JJJ)Z" } : Jvm.MethodName)) ∈ lw_all := lw_g (lw_at lw_m1 198 rfl) rfl
theorem q245 : (Jvm.Cond.static ({ cls := "SixWhoTurn", name := "in", desc := "(JJJ)Z" } : Jvm.MethodName)) ∈ lw_all := lw_g (lw_at lw_m1 199 rfl) rfl
theorem q246 : (Jvm.Cond.code ({ cls := "SixWhoTurn", name := "in", desc := "(JJJ)Z" } : Jvm.MethodName) prog_1_method_1_code (6 : Nat) (Option.some Jvm.ClassFile.FieldType.boolean)) ∈ lw_all := lw_g (lw_at lw_m1 200 rfl) rfl
theorem q247 : (Jvm.Cond.constantLong "SixWhoTurn" (75 : Nat) (3 : Int64)) ∈ lw_all := lw_g (lw_at lw_m1 201 rfl) rfl
theorem q248 : (Jvm.Cond.constantLong "SixWhoTurn" (77 : Nat) (100 : Int64)) ∈ lw_all := lw_g (lw_at lw_m1 202 rfl) rfl
theorem q250 : (Jvm.Cond.instanceMethod ({ cls := "SixWhoTurn", name := "libre", desc := "(II)I" } : Jvm.MethodName)) ∈ lw_all := lw_g (lw_at lw_m1 204 rfl) rfl
theorem q251 : (Jvm.Cond.selects "SixWhoTurn" ({ cls := "SixWhoTurn", name := "libre", desc := "(II)I" } : Jvm.MethodName) ({ cls := "SixWhoTurn", name := "libre", desc := "(II)I" } : Jvm.MethodName)) ∈ lw_all := lw_g (lw_at lw_m1 205 rfl) rfl
theorem q252 : (Jvm.Cond.code ({ cls := "SixWhoTurn", name := "libre", desc := "(II)I" } : Jvm.MethodName) prog_1_method_7_code (4 : Nat) (Option.some Jvm.ClassFile.FieldType.int)) ∈ lw_all := lw_g (lw_at lw_m1 206 rfl) rfl
theorem q253 : (Jvm.Cond.constantLong "SixWhoTurn" (79 : Nat) (-1 : Int64)) ∈ lw_all := lw_g (lw_at lw_m1 207 rfl) rfl
theorem q255 : (Jvm.Cond.instanceMethod ({ cls := "SixWhoTurn", name := "set", desc := "(II)I" } : Jvm.MethodName)) ∈ lw_all := lw_g (lw_at lw_m1 209 rfl) rfl
theorem q256 : (Jvm.Cond.selects "SixWhoTurn" ({ cls := "SixWhoTurn", name := "set", desc := "(II)I" } : Jvm.MethodName) ({ cls := "SixWhoTurn", name := "set", desc := "(II)I" } : Jvm.MethodName)) ∈ lw_all := lw_g (lw_at lw_m1 210 rfl) rfl
theorem q257 : (Jvm.Cond.code ({ cls := "SixWhoTurn", name := "set", desc := "(II)I" } : Jvm.MethodName) prog_1_method_8_code (4 : Nat) (Option.some Jvm.ClassFile.FieldType.int)) ∈ lw_all := lw_g (lw_at lw_m1 211 rfl) rfl
theorem q258 : (Jvm.Cond.constantLong "SixWhoTurn" (9 : Nat) (5 : Int64)) ∈ lw_all := lw_g (lw_at lw_m1 212 rfl) rfl
theorem q259 : (Jvm.Cond.fieldLink "SixWhoTurn" (88 : Nat) "SixWhoTurn" "LEAST" "[I") ∈ lw_all := lw_g (lw_at lw_m1 213 rfl) rfl
theorem q260 : (Jvm.Cond.laysStatic "SixWhoTurn" "LEAST" "[I") ∈ lw_tbl := lw_at lw_m1 214 rfl
theorem q261 : (Jvm.Cond.fieldLink "SixWhoTurn" (91 : Nat) "SixWhoTurn" "MOST" "[I") ∈ lw_all := lw_g (lw_at lw_m1 215 rfl) rfl
theorem q262 : (Jvm.Cond.laysStatic "SixWhoTurn" "MOST" "[I") ∈ lw_tbl := lw_at lw_m1 216 rfl
theorem q264 : (Jvm.Cond.instanceMethod ({ cls := "SixWhoTurn", name := "lineUp", desc := "(IIIIIII)Z" } : Jvm.MethodName)) ∈ lw_all := lw_g (lw_at lw_m1 218 rfl) rfl
theorem q265 : (Jvm.Cond.selects "SixWhoTurn" ({ cls := "SixWhoTurn", name := "lineUp", desc := "(IIIIIII)Z" } : Jvm.MethodName) ({ cls := "SixWhoTurn", name := "lineUp", desc := "(IIIIIII)Z" } : Jvm.MethodName)) ∈ lw_all := lw_g (lw_at lw_m1 219 rfl) rfl
theorem q266 : (Jvm.Cond.code ({ cls := "SixWhoTurn", name := "lineUp", desc := "(IIIIIII)Z" } : Jvm.MethodName) prog_1_method_9_code (14 : Nat) (Option.some Jvm.ClassFile.FieldType.boolean)) ∈ lw_all := lw_g (lw_at lw_m1 220 rfl) rfl
theorem q267 : (Jvm.Cond.methodLink "SixWhoTurn" (97 : Nat) ({ cls := "java/lang/System", name := "arraycopy", desc := "(Ljava/lang/Object;ILjava/lang/Object;II)V" } : Jvm.MethodName)) ∈ lw_all := lw_g (lw_at lw_m1 221 rfl) rfl
theorem q271 : (Jvm.Cond.instanceMethod ({ cls := "SixWhoTurn", name := "begin", desc := "(I)I" } : Jvm.MethodName)) ∈ lw_all := lw_g (lw_at lw_m1 225 rfl) rfl
theorem q272 : (Jvm.Cond.selects "SixWhoTurn" ({ cls := "SixWhoTurn", name := "begin", desc := "(I)I" } : Jvm.MethodName) ({ cls := "SixWhoTurn", name := "begin", desc := "(I)I" } : Jvm.MethodName)) ∈ lw_all := lw_g (lw_at lw_m1 226 rfl) rfl
theorem q273 : (Jvm.Cond.code ({ cls := "SixWhoTurn", name := "begin", desc := "(I)I" } : Jvm.MethodName) prog_1_method_11_code (6 : Nat) (Option.some Jvm.ClassFile.FieldType.int)) ∈ lw_all := lw_g (lw_at lw_m1 227 rfl) rfl
theorem q274 : (Jvm.Cond.methodLink "SixWhoTurn" (106 : Nat) ({ cls := "SixWhoTurn", name := "areTold", desc := "()Z" } : Jvm.MethodName)) ∈ lw_all := lw_g (lw_at lw_m1 228 rfl) rfl
theorem q275 : (Jvm.Cond.privateMethod ({ cls := "SixWhoTurn", name := "areTold", desc := "()Z" } : Jvm.MethodName)) ∈ lw_tbl := lw_at lw_m1 229 rfl
theorem q276 : (Jvm.Cond.instanceMethod ({ cls := "SixWhoTurn", name := "areTold", desc := "()Z" } : Jvm.MethodName)) ∈ lw_all := lw_g (lw_at lw_m1 230 rfl) rfl
theorem q277 : (Jvm.Cond.code ({ cls := "SixWhoTurn", name := "areTold", desc := "()Z" } : Jvm.MethodName) prog_1_method_10_code (1 : Nat) (Option.some Jvm.ClassFile.FieldType.boolean)) ∈ lw_all := lw_g (lw_at lw_m1 231 rfl) rfl
theorem q278 : (Jvm.Cond.methodLink "SixWhoTurn" (110 : Nat) ({ cls := "SixWhoTurn$Side", name := "hasFree", desc := "()Z" } : Jvm.MethodName)) ∈ lw_all := lw_g (lw_at lw_m1 232 rfl) rfl
theorem q282 : (Jvm.Cond.methodLink "SixWhoTurn" (113 : Nat) ({ cls := "SixWhoTurn$Side", name := "begins", desc := "()V" } : Jvm.MethodName)) ∈ lw_all := lw_g (lw_at lw_m1 236 rfl) rfl
theorem q287 : (Jvm.Cond.laysStatic "SixWhoTurn" "FEET_X" "[I") ∈ lw_tbl := lw_at lw_m2 1 rfl
theorem q289 : (Jvm.Cond.laysStatic "SixWhoTurn" "FEET_Y" "[I") ∈ lw_tbl := lw_at lw_m2 3 rfl
theorem q291 : (Jvm.Cond.instanceMethod ({ cls := "SixWhoTurn", name := "rally", desc := "(I)I" } : Jvm.MethodName)) ∈ lw_all := lw_g (lw_at lw_m2 5 rfl) rfl
theorem q292 : (Jvm.Cond.selects "SixWhoTurn" ({ cls := "SixWhoTurn", name := "rally", desc := "(I)I" } : Jvm.MethodName) ({ cls := "SixWhoTurn", name := "rally", desc := "(I)I" } : Jvm.MethodName)) ∈ lw_all := lw_g (lw_at lw_m2 6 rfl) rfl
theorem q293 : (Jvm.Cond.code ({ cls := "SixWhoTurn", name := "rally", desc := "(I)I" } : Jvm.MethodName) prog_1_method_16_code (2 : Nat) (Option.some Jvm.ClassFile.FieldType.int)) ∈ lw_all := lw_g (lw_at lw_m2 7 rfl) rfl
theorem q294 : (Jvm.Cond.methodLink "SixWhoTurn" (148 : Nat) ({ cls := "SixWhoTurn", name := "won", desc := "(I)I" } : Jvm.MethodName)) ∈ lw_all := lw_g (lw_at lw_m2 8 rfl) rfl
theorem q295 : (Jvm.Cond.privateMethod ({ cls := "SixWhoTurn", name := "won", desc := "(I)I" } : Jvm.MethodName)) ∈ lw_tbl := lw_at lw_m2 9 rfl
theorem q296 : (Jvm.Cond.instanceMethod ({ cls := "SixWhoTurn", name := "won", desc := "(I)I" } : Jvm.MethodName)) ∈ lw_all := lw_g (lw_at lw_m2 10 rfl) rfl
theorem q297 : (Jvm.Cond.code ({ cls := "SixWhoTurn", name := "won", desc := "(I)I" } : Jvm.MethodName) prog_1_method_15_code (2 : Nat) (Option.some Jvm.ClassFile.FieldType.int)) ∈ lw_all := lw_g (lw_at lw_m2 11 rfl) rfl
theorem q298 : (Jvm.Cond.methodLink "SixWhoTurn" (136 : Nat) ({ cls := "SixWhoTurn$Side", name := "goesRound", desc := "()V" } : Jvm.MethodName)) ∈ lw_all := lw_g (lw_at lw_m2 12 rfl) rfl
theorem q303 : (Jvm.Cond.methodLink "SixWhoTurn" (139 : Nat) ({ cls := "SixWhoTurn", name := "ends", desc := "()I" } : Jvm.MethodName)) ∈ lw_all := lw_g (lw_at lw_m2 17 rfl) rfl
theorem q304 : (Jvm.Cond.privateMethod ({ cls := "SixWhoTurn", name := "ends", desc := "()I" } : Jvm.MethodName)) ∈ lw_tbl := lw_at lw_m2 18 rfl
theorem q305 : (Jvm.Cond.instanceMethod ({ cls := "SixWhoTurn", name := "ends", desc := "()I" } : Jvm.MethodName)) ∈ lw_all := lw_g (lw_at lw_m2 19 rfl) rfl
theorem q306 : (Jvm.Cond.code ({ cls := "SixWhoTurn", name := "ends", desc := "()I" } : Jvm.MethodName) prog_1_method_14_code (3 : Nat) (Option.some Jvm.ClassFile.FieldType.int)) ∈ lw_all := lw_g (lw_at lw_m2 20 rfl) rfl
theorem q307 : (Jvm.Cond.methodLink "SixWhoTurn" (125 : Nat) ({ cls := "SixWhoTurn", name := "goal", desc := "()I" } : Jvm.MethodName)) ∈ lw_all := lw_g (lw_at lw_m2 21 rfl) rfl
theorem q308 : (Jvm.Cond.privateMethod ({ cls := "SixWhoTurn", name := "goal", desc := "()I" } : Jvm.MethodName)) ∈ lw_tbl := lw_at lw_m2 22 rfl
theorem q309 : (Jvm.Cond.instanceMethod ({ cls := "SixWhoTurn", name := "goal", desc := "()I" } : Jvm.MethodName)) ∈ lw_all := lw_g (lw_at lw_m2 23 rfl) rfl
theorem q310 : (Jvm.Cond.code ({ cls := "SixWhoTurn", name := "goal", desc := "()I" } : Jvm.MethodName) prog_1_method_12_code (1 : Nat) (Option.some Jvm.ClassFile.FieldType.int)) ∈ lw_all := lw_g (lw_at lw_m2 24 rfl) rfl
theorem q311 : (Jvm.Cond.methodLink "SixWhoTurn" (132 : Nat) ({ cls := "SixWhoTurn", name := "wins", desc := "(III)Z" } : Jvm.MethodName)) ∈ lw_all := lw_g (lw_at lw_m2 25 rfl) rfl
theorem q312 : (Jvm.Cond.privateMethod ({ cls := "SixWhoTurn", name := "wins", desc := "(III)Z" } : Jvm.MethodName)) ∈ lw_tbl := lw_at lw_m2 26 rfl
theorem q313 : (Jvm.Cond.instanceMethod ({ cls := "SixWhoTurn", name := "wins", desc := "(III)Z" } : Jvm.MethodName)) ∈ lw_all := lw_g (lw_at lw_m2 27 rfl) rfl
theorem q314 : (Jvm.Cond.code ({ cls := "SixWhoTurn", name := "wins", desc := "(III)Z" } : Jvm.MethodName) prog_1_method_13_code (4 : Nat) (Option.some Jvm.ClassFile.FieldType.boolean)) ∈ lw_all := lw_g (lw_at lw_m2 28 rfl) rfl
theorem q316 : (Jvm.Cond.instanceMethod ({ cls := "SixWhoTurn", name := "may", desc := "(III)I" } : Jvm.MethodName)) ∈ lw_all := lw_g (lw_at lw_m2 30 rfl) rfl
theorem q317 : (Jvm.Cond.selects "SixWhoTurn" ({ cls := "SixWhoTurn", name := "may", desc := "(III)I" } : Jvm.MethodName) ({ cls := "SixWhoTurn", name := "may", desc := "(III)I" } : Jvm.MethodName)) ∈ lw_all := lw_g (lw_at lw_m2 31 rfl) rfl
theorem q318 : (Jvm.Cond.code ({ cls := "SixWhoTurn", name := "may", desc := "(III)I" } : Jvm.MethodName) prog_1_method_17_code (5 : Nat) (Option.some Jvm.ClassFile.FieldType.int)) ∈ lw_all := lw_g (lw_at lw_m2 32 rfl) rfl
theorem q319 : (Jvm.Cond.methodLink "SixWhoTurn" (152 : Nat) ({ cls := "SixWhoTurn$Side", name := "placeOf", desc := "(I)I" } : Jvm.MethodName)) ∈ lw_all := lw_g (lw_at lw_m2 33 rfl) rfl
theorem q323 : (Jvm.Cond.methodLink "SixWhoTurn" (161 : Nat) ({ cls := "SixWhoTurn$Side", name := "mayPair", desc := "(II)Z" } : Jvm.MethodName)) ∈ lw_all := lw_g (lw_at lw_m2 37 rfl) rfl
theorem q328 : (Jvm.Cond.instanceMethod ({ cls := "SixWhoTurn", name := "change", desc := "(III)I" } : Jvm.MethodName)) ∈ lw_all := lw_g (lw_at lw_m2 42 rfl) rfl
theorem q329 : (Jvm.Cond.selects "SixWhoTurn" ({ cls := "SixWhoTurn", name := "change", desc := "(III)I" } : Jvm.MethodName) ({ cls := "SixWhoTurn", name := "change", desc := "(III)I" } : Jvm.MethodName)) ∈ lw_all := lw_g (lw_at lw_m2 43 rfl) rfl
theorem q330 : (Jvm.Cond.code ({ cls := "SixWhoTurn", name := "change", desc := "(III)I" } : Jvm.MethodName) prog_1_method_18_code (4 : Nat) (Option.some Jvm.ClassFile.FieldType.int)) ∈ lw_all := lw_g (lw_at lw_m2 44 rfl) rfl
theorem q331 : (Jvm.Cond.methodLink "SixWhoTurn" (165 : Nat) ({ cls := "SixWhoTurn", name := "may", desc := "(III)I" } : Jvm.MethodName)) ∈ lw_all := lw_g (lw_at lw_m2 45 rfl) rfl
theorem q332 : (Jvm.Cond.methodLink "SixWhoTurn" (169 : Nat) ({ cls := "SixWhoTurn$Side", name := "puts", desc := "(II)I" } : Jvm.MethodName)) ∈ lw_all := lw_g (lw_at lw_m2 46 rfl) rfl
theorem q338 : (Jvm.Cond.instanceMethod ({ cls := "SixWhoTurn", name := "free", desc := "(II)I" } : Jvm.MethodName)) ∈ lw_all := lw_g (lw_at lw_m2 52 rfl) rfl
theorem q339 : (Jvm.Cond.selects "SixWhoTurn" ({ cls := "SixWhoTurn", name := "free", desc := "(II)I" } : Jvm.MethodName) ({ cls := "SixWhoTurn", name := "free", desc := "(II)I" } : Jvm.MethodName)) ∈ lw_all := lw_g (lw_at lw_m2 53 rfl) rfl
theorem q340 : (Jvm.Cond.code ({ cls := "SixWhoTurn", name := "free", desc := "(II)I" } : Jvm.MethodName) prog_1_method_19_code (5 : Nat) (Option.some Jvm.ClassFile.FieldType.int)) ∈ lw_all := lw_g (lw_at lw_m2 54 rfl) rfl
theorem q342 : (Jvm.Cond.instanceMethod ({ cls := "SixWhoTurn", name := "pause", desc := "(I)I" } : Jvm.MethodName)) ∈ lw_all := lw_g (lw_at lw_m2 56 rfl) rfl
theorem q343 : (Jvm.Cond.selects "SixWhoTurn" ({ cls := "SixWhoTurn", name := "pause", desc := "(I)I" } : Jvm.MethodName) ({ cls := "SixWhoTurn", name := "pause", desc := "(I)I" } : Jvm.MethodName)) ∈ lw_all := lw_g (lw_at lw_m2 57 rfl) rfl
theorem q344 : (Jvm.Cond.code ({ cls := "SixWhoTurn", name := "pause", desc := "(I)I" } : Jvm.MethodName) prog_1_method_20_code (2 : Nat) (Option.some Jvm.ClassFile.FieldType.int)) ∈ lw_all := lw_g (lw_at lw_m2 58 rfl) rfl
theorem q346 : (Jvm.Cond.instanceMethod ({ cls := "SixWhoTurn", name := "wrong", desc := "(I)I" } : Jvm.MethodName)) ∈ lw_all := lw_g (lw_at lw_m2 60 rfl) rfl
theorem q347 : (Jvm.Cond.selects "SixWhoTurn" ({ cls := "SixWhoTurn", name := "wrong", desc := "(I)I" } : Jvm.MethodName) ({ cls := "SixWhoTurn", name := "wrong", desc := "(I)I" } : Jvm.MethodName)) ∈ lw_all := lw_g (lw_at lw_m2 61 rfl) rfl
theorem q348 : (Jvm.Cond.code ({ cls := "SixWhoTurn", name := "wrong", desc := "(I)I" } : Jvm.MethodName) prog_1_method_21_code (2 : Nat) (Option.some Jvm.ClassFile.FieldType.int)) ∈ lw_all := lw_g (lw_at lw_m2 62 rfl) rfl
theorem q350 : (Jvm.Cond.instanceMethod ({ cls := "SixWhoTurn", name := "at", desc := "(II)I" } : Jvm.MethodName)) ∈ lw_all := lw_g (lw_at lw_m2 64 rfl) rfl
theorem q351 : (Jvm.Cond.selects "SixWhoTurn" ({ cls := "SixWhoTurn", name := "at", desc := "(II)I" } : Jvm.MethodName) ({ cls := "SixWhoTurn", name := "at", desc := "(II)I" } : Jvm.MethodName)) ∈ lw_all := lw_g (lw_at lw_m2 65 rfl) rfl
theorem q352 : (Jvm.Cond.code ({ cls := "SixWhoTurn", name := "at", desc := "(II)I" } : Jvm.MethodName) prog_1_method_22_code (3 : Nat) (Option.some Jvm.ClassFile.FieldType.int)) ∈ lw_all := lw_g (lw_at lw_m2 66 rfl) rfl
theorem q353 : (Jvm.Cond.methodLink "SixWhoTurn" (179 : Nat) ({ cls := "SixWhoTurn", name := "isPlace", desc := "(I)Z" } : Jvm.MethodName)) ∈ lw_all := lw_g (lw_at lw_m2 67 rfl) rfl
theorem q354 : (Jvm.Cond.static ({ cls := "SixWhoTurn", name := "isPlace", desc := "(I)Z" } : Jvm.MethodName)) ∈ lw_all := lw_g (lw_at lw_m2 68 rfl) rfl
theorem q355 : (Jvm.Cond.code ({ cls := "SixWhoTurn", name := "isPlace", desc := "(I)Z" } : Jvm.MethodName) prog_1_method_4_code (1 : Nat) (Option.some Jvm.ClassFile.FieldType.boolean)) ∈ lw_all := lw_g (lw_at lw_m2 69 rfl) rfl
theorem q357 : (Jvm.Cond.instanceMethod ({ cls := "SixWhoTurn", name := "of", desc := "(II)I" } : Jvm.MethodName)) ∈ lw_all := lw_g (lw_at lw_m2 71 rfl) rfl
theorem q358 : (Jvm.Cond.selects "SixWhoTurn" ({ cls := "SixWhoTurn", name := "of", desc := "(II)I" } : Jvm.MethodName) ({ cls := "SixWhoTurn", name := "of", desc := "(II)I" } : Jvm.MethodName)) ∈ lw_all := lw_g (lw_at lw_m2 72 rfl) rfl
theorem q359 : (Jvm.Cond.code ({ cls := "SixWhoTurn", name := "of", desc := "(II)I" } : Jvm.MethodName) prog_1_method_23_code (4 : Nat) (Option.some Jvm.ClassFile.FieldType.int)) ∈ lw_all := lw_g (lw_at lw_m2 73 rfl) rfl
theorem q361 : (Jvm.Cond.instanceMethod ({ cls := "SixWhoTurn", name := "count", desc := "(I)I" } : Jvm.MethodName)) ∈ lw_all := lw_g (lw_at lw_m2 75 rfl) rfl
theorem q362 : (Jvm.Cond.selects "SixWhoTurn" ({ cls := "SixWhoTurn", name := "count", desc := "(I)I" } : Jvm.MethodName) ({ cls := "SixWhoTurn", name := "count", desc := "(I)I" } : Jvm.MethodName)) ∈ lw_all := lw_g (lw_at lw_m2 76 rfl) rfl
theorem q363 : (Jvm.Cond.code ({ cls := "SixWhoTurn", name := "count", desc := "(I)I" } : Jvm.MethodName) prog_1_method_24_code (2 : Nat) (Option.some Jvm.ClassFile.FieldType.int)) ∈ lw_all := lw_g (lw_at lw_m2 77 rfl) rfl
theorem q365 : (Jvm.Cond.instanceMethod ({ cls := "SixWhoTurn", name := "served", desc := "(II)I" } : Jvm.MethodName)) ∈ lw_all := lw_g (lw_at lw_m2 79 rfl) rfl
theorem q366 : (Jvm.Cond.selects "SixWhoTurn" ({ cls := "SixWhoTurn", name := "served", desc := "(II)I" } : Jvm.MethodName) ({ cls := "SixWhoTurn", name := "served", desc := "(II)I" } : Jvm.MethodName)) ∈ lw_all := lw_g (lw_at lw_m2 80 rfl) rfl
theorem q367 : (Jvm.Cond.code ({ cls := "SixWhoTurn", name := "served", desc := "(II)I" } : Jvm.MethodName) prog_1_method_25_code (3 : Nat) (Option.some Jvm.ClassFile.FieldType.int)) ∈ lw_all := lw_g (lw_at lw_m2 81 rfl) rfl
theorem q369 : (Jvm.Cond.instanceMethod ({ cls := "SixWhoTurn", name := "feet", desc := "(IIII)Z" } : Jvm.MethodName)) ∈ lw_all := lw_g (lw_at lw_m2 83 rfl) rfl
theorem q370 : (Jvm.Cond.selects "SixWhoTurn" ({ cls := "SixWhoTurn", name := "feet", desc := "(IIII)Z" } : Jvm.MethodName) ({ cls := "SixWhoTurn", name := "feet", desc := "(IIII)Z" } : Jvm.MethodName)) ∈ lw_all := lw_g (lw_at lw_m2 84 rfl) rfl
theorem q371 : (Jvm.Cond.code ({ cls := "SixWhoTurn", name := "feet", desc := "(IIII)Z" } : Jvm.MethodName) prog_1_method_26_code (5 : Nat) (Option.some Jvm.ClassFile.FieldType.boolean)) ∈ lw_all := lw_g (lw_at lw_m2 85 rfl) rfl
theorem q372 : (Jvm.Cond.constantLong "SixWhoTurn" (191 : Nat) (999 : Int64)) ∈ lw_all := lw_g (lw_at lw_m2 86 rfl) rfl
theorem q374 : (Jvm.Cond.instanceMethod ({ cls := "SixWhoTurn", name := "overlap", desc := "(I)I" } : Jvm.MethodName)) ∈ lw_all := lw_g (lw_at lw_m2 88 rfl) rfl
theorem q375 : (Jvm.Cond.selects "SixWhoTurn" ({ cls := "SixWhoTurn", name := "overlap", desc := "(I)I" } : Jvm.MethodName) ({ cls := "SixWhoTurn", name := "overlap", desc := "(I)I" } : Jvm.MethodName)) ∈ lw_all := lw_g (lw_at lw_m2 89 rfl) rfl
theorem q376 : (Jvm.Cond.code ({ cls := "SixWhoTurn", name := "overlap", desc := "(I)I" } : Jvm.MethodName) prog_1_method_27_code (3 : Nat) (Option.some Jvm.ClassFile.FieldType.int)) ∈ lw_all := lw_g (lw_at lw_m2 90 rfl) rfl
theorem q377 : (Jvm.Cond.methodLink "SixWhoTurn" (199 : Nat) ({ cls := "SixWhoTurn$Side", name := "overlaps", desc := "(Z)I" } : Jvm.MethodName)) ∈ lw_all := lw_g (lw_at lw_m2 91 rfl) rfl
theorem q382 : (Jvm.Cond.laysStatic "SixWhoTurn" "LESS" "[I") ∈ lw_tbl := lw_at lw_m2 96 rfl
theorem q384 : (Jvm.Cond.laysStatic "SixWhoTurn" "MORE" "[I") ∈ lw_tbl := lw_at lw_m2 98 rfl
theorem q386 : (Jvm.Cond.instanceMethod ({ cls := "SixWhoTurn", name := "sign", desc := "(I)I" } : Jvm.MethodName)) ∈ lw_all := lw_g (lw_at lw_m2 100 rfl) rfl
theorem q387 : (Jvm.Cond.selects "SixWhoTurn" ({ cls := "SixWhoTurn", name := "sign", desc := "(I)I" } : Jvm.MethodName) ({ cls := "SixWhoTurn", name := "sign", desc := "(I)I" } : Jvm.MethodName)) ∈ lw_all := lw_g (lw_at lw_m2 101 rfl) rfl
theorem q388 : (Jvm.Cond.code ({ cls := "SixWhoTurn", name := "sign", desc := "(I)I" } : Jvm.MethodName) prog_1_method_28_code (3 : Nat) (Option.some Jvm.ClassFile.FieldType.int)) ∈ lw_all := lw_g (lw_at lw_m2 102 rfl) rfl
theorem q390 : (Jvm.Cond.instanceMethod ({ cls := "SixWhoTurn", name := "end", desc := "(I)Z" } : Jvm.MethodName)) ∈ lw_all := lw_g (lw_at lw_m2 104 rfl) rfl
theorem q391 : (Jvm.Cond.selects "SixWhoTurn" ({ cls := "SixWhoTurn", name := "end", desc := "(I)Z" } : Jvm.MethodName) ({ cls := "SixWhoTurn", name := "end", desc := "(I)Z" } : Jvm.MethodName)) ∈ lw_all := lw_g (lw_at lw_m2 105 rfl) rfl
theorem q392 : (Jvm.Cond.code ({ cls := "SixWhoTurn", name := "end", desc := "(I)Z" } : Jvm.MethodName) prog_1_method_29_code (2 : Nat) (Option.some Jvm.ClassFile.FieldType.boolean)) ∈ lw_all := lw_g (lw_at lw_m2 106 rfl) rfl
theorem q394 : (Jvm.Cond.instanceMethod ({ cls := "SixWhoTurn", name := "sheet", desc := "()I" } : Jvm.MethodName)) ∈ lw_all := lw_g (lw_at lw_m2 108 rfl) rfl
theorem q395 : (Jvm.Cond.selects "SixWhoTurn" ({ cls := "SixWhoTurn", name := "sheet", desc := "()I" } : Jvm.MethodName) ({ cls := "SixWhoTurn", name := "sheet", desc := "()I" } : Jvm.MethodName)) ∈ lw_all := lw_g (lw_at lw_m2 109 rfl) rfl
theorem q396 : (Jvm.Cond.code ({ cls := "SixWhoTurn", name := "sheet", desc := "()I" } : Jvm.MethodName) prog_1_method_37_code (5 : Nat) (Option.some Jvm.ClassFile.FieldType.int)) ∈ lw_all := lw_g (lw_at lw_m2 110 rfl) rfl
theorem q397 : (Jvm.Cond.methodLink "SixWhoTurn" (280 : Nat) ({ cls := "java/lang/Math", name := "min", desc := "(II)I" } : Jvm.MethodName)) ∈ lw_all := lw_g (lw_at lw_m2 111 rfl) rfl
theorem q400 : (Jvm.Cond.methodLink "SixWhoTurn" (285 : Nat) ({ cls := "SixWhoTurn", name := "items", desc := "()LSixWhoTurn$Item;" } : Jvm.MethodName)) ∈ lw_all := lw_g (lw_at lw_m2 114 rfl) rfl
theorem q401 : (Jvm.Cond.privateMethod ({ cls := "SixWhoTurn", name := "items", desc := "()LSixWhoTurn$Item;" } : Jvm.MethodName)) ∈ lw_tbl := lw_at lw_m2 115 rfl
theorem q402 : (Jvm.Cond.instanceMethod ({ cls := "SixWhoTurn", name := "items", desc := "()LSixWhoTurn$Item;" } : Jvm.MethodName)) ∈ lw_all := lw_g (lw_at lw_m2 116 rfl) rfl
theorem q403 : (Jvm.Cond.code ({ cls := "SixWhoTurn", name := "items", desc := "()LSixWhoTurn$Item;" } : Jvm.MethodName) prog_1_method_34_code (4 : Nat) (Option.some (Jvm.ClassFile.FieldType.object "SixWhoTurn$Item"))) ∈ lw_all := lw_g (lw_at lw_m2 117 rfl) rfl
theorem q404 : (Jvm.Cond.methodLink "SixWhoTurn" (253 : Nat) ({ cls := "SixWhoTurn", name := "item", desc := "()LSixWhoTurn$Item;" } : Jvm.MethodName)) ∈ lw_all := lw_g (lw_at lw_m2 118 rfl) rfl
theorem q405 : (Jvm.Cond.privateMethod ({ cls := "SixWhoTurn", name := "item", desc := "()LSixWhoTurn$Item;" } : Jvm.MethodName)) ∈ lw_tbl := lw_at lw_m2 119 rfl
theorem q406 : (Jvm.Cond.instanceMethod ({ cls := "SixWhoTurn", name := "item", desc := "()LSixWhoTurn$Item;" } : Jvm.MethodName)) ∈ lw_all := lw_g (lw_at lw_m2 120 rfl) rfl
theorem q407 : (Jvm.Cond.code ({ cls := "SixWhoTurn", name := "item", desc := "()LSixWhoTurn$Item;" } : Jvm.MethodName) prog_1_method_33_code (3 : Nat) (Option.some (Jvm.ClassFile.FieldType.object "SixWhoTurn$Item"))) ∈ lw_all := lw_g (lw_at lw_m2 121 rfl) rfl
theorem q408 : (Jvm.Cond.methodLink "SixWhoTurn" (216 : Nat) ({ cls := "SixWhoTurn", name := "takes", desc := "(C)Z" } : Jvm.MethodName)) ∈ lw_all := lw_g (lw_at lw_m2 122 rfl) rfl
theorem q409 : (Jvm.Cond.privateMethod ({ cls := "SixWhoTurn", name := "takes", desc := "(C)Z" } : Jvm.MethodName)) ∈ lw_tbl := lw_at lw_m2 123 rfl
theorem q410 : (Jvm.Cond.instanceMethod ({ cls := "SixWhoTurn", name := "takes", desc := "(C)Z" } : Jvm.MethodName)) ∈ lw_all := lw_g (lw_at lw_m2 124 rfl) rfl
theorem q411 : (Jvm.Cond.code ({ cls := "SixWhoTurn", name := "takes", desc := "(C)Z" } : Jvm.MethodName) prog_1_method_30_code (3 : Nat) (Option.some Jvm.ClassFile.FieldType.boolean)) ∈ lw_all := lw_g (lw_at lw_m2 125 rfl) rfl
theorem q412 : (Jvm.Cond.classLink "SixWhoTurn" (238 : Nat) "SixWhoTurn$Rally") ∈ lw_all := lw_g (lw_at lw_m2 126 rfl) rfl
theorem q414 : (Jvm.Cond.methodLink "SixWhoTurn" (240 : Nat) ({ cls := "SixWhoTurn$Rally", name := "<init>", desc := "(LSixWhoTurn;I)V" } : Jvm.MethodName)) ∈ lw_all := lw_g (lw_at lw_m2 128 rfl) rfl
theorem q423 : (Jvm.Cond.fieldLinkNest "SixWhoTurn" (245 : Nat) "SixWhoTurn$Item" "begin" "I" "SixWhoTurn") ∈ lw_tbl := lw_at lw_m2 137 rfl
theorem q424 : (Jvm.Cond.fieldLinkNest "SixWhoTurn" (257 : Nat) "SixWhoTurn$Item" "next" "LSixWhoTurn$Item;" "SixWhoTurn") ∈ lw_tbl := lw_at lw_m2 138 rfl
theorem q437 : (Jvm.Cond.methodLink "SixWhoTurn" (241 : Nat) ({ cls := "SixWhoTurn", name := "act", desc := "(I)LSixWhoTurn$Item;" } : Jvm.MethodName)) ∈ lw_all := lw_g (lw_at lw_m2 151 rfl) rfl
theorem q438 : (Jvm.Cond.privateMethod ({ cls := "SixWhoTurn", name := "act", desc := "(I)LSixWhoTurn$Item;" } : Jvm.MethodName)) ∈ lw_tbl := lw_at lw_m2 152 rfl
theorem q439 : (Jvm.Cond.instanceMethod ({ cls := "SixWhoTurn", name := "act", desc := "(I)LSixWhoTurn$Item;" } : Jvm.MethodName)) ∈ lw_all := lw_g (lw_at lw_m2 153 rfl) rfl
theorem q440 : (Jvm.Cond.code ({ cls := "SixWhoTurn", name := "act", desc := "(I)LSixWhoTurn$Item;" } : Jvm.MethodName) prog_1_method_32_code (4 : Nat) (Option.some (Jvm.ClassFile.FieldType.object "SixWhoTurn$Item"))) ∈ lw_all := lw_g (lw_at lw_m2 154 rfl) rfl
theorem q441 : (Jvm.Cond.classLink "SixWhoTurn" (220 : Nat) "SixWhoTurn$Pause") ∈ lw_all := lw_g (lw_at lw_m2 155 rfl) rfl
theorem q443 : (Jvm.Cond.methodLink "SixWhoTurn" (222 : Nat) ({ cls := "SixWhoTurn$Pause", name := "<init>", desc := "(LSixWhoTurn;I)V" } : Jvm.MethodName)) ∈ lw_all := lw_g (lw_at lw_m2 157 rfl) rfl
theorem q457 : (Jvm.Cond.classLink "SixWhoTurn" (225 : Nat) "SixWhoTurn$Free") ∈ lw_all := lw_g (lw_at lw_m2 171 rfl) rfl
theorem q459 : (Jvm.Cond.methodLink "SixWhoTurn" (227 : Nat) ({ cls := "SixWhoTurn$Free", name := "<init>", desc := "(LSixWhoTurn;II)V" } : Jvm.MethodName)) ∈ lw_all := lw_g (lw_at lw_m2 173 rfl) rfl
theorem q476 : (Jvm.Cond.methodLink "SixWhoTurn" (230 : Nat) ({ cls := "SixWhoTurn", name := "player", desc := "()I" } : Jvm.MethodName)) ∈ lw_all := lw_g (lw_at lw_m2 190 rfl) rfl
theorem q477 : (Jvm.Cond.privateMethod ({ cls := "SixWhoTurn", name := "player", desc := "()I" } : Jvm.MethodName)) ∈ lw_tbl := lw_at lw_m2 191 rfl
theorem q478 : (Jvm.Cond.instanceMethod ({ cls := "SixWhoTurn", name := "player", desc := "()I" } : Jvm.MethodName)) ∈ lw_all := lw_g (lw_at lw_m2 192 rfl) rfl
theorem q479 : (Jvm.Cond.code ({ cls := "SixWhoTurn", name := "player", desc := "()I" } : Jvm.MethodName) prog_1_method_31_code (2 : Nat) (Option.some Jvm.ClassFile.FieldType.int)) ∈ lw_all := lw_g (lw_at lw_m2 193 rfl) rfl
theorem q480 : (Jvm.Cond.stringRef "SixWhoTurn" (209 : Nat) "0123456789xy") ∈ lw_tbl := lw_at lw_m2 194 rfl
theorem q481 : (Jvm.Cond.methodLink "SixWhoTurn" (211 : Nat) ({ cls := "java/lang/String", name := "indexOf", desc := "(I)I" } : Jvm.MethodName)) ∈ lw_all := lw_g (lw_at lw_m2 195 rfl) rfl
theorem q565 : (Jvm.Cond.classLink "SixWhoTurn" (233 : Nat) "SixWhoTurn$Change") ∈ lw_all := lw_g (lw_at lw_m3 39 rfl) rfl
theorem q567 : (Jvm.Cond.methodLink "SixWhoTurn" (235 : Nat) ({ cls := "SixWhoTurn$Change", name := "<init>", desc := "(LSixWhoTurn;III)V" } : Jvm.MethodName)) ∈ lw_all := lw_g (lw_at lw_m3 41 rfl) rfl
theorem q588 : (Jvm.Cond.methodLink "SixWhoTurn" (288 : Nat) ({ cls := "SixWhoTurn", name := "keeps", desc := "()V" } : Jvm.MethodName)) ∈ lw_all := lw_g (lw_at lw_m3 62 rfl) rfl
theorem q589 : (Jvm.Cond.privateMethod ({ cls := "SixWhoTurn", name := "keeps", desc := "()V" } : Jvm.MethodName)) ∈ lw_tbl := lw_at lw_m3 63 rfl
theorem q590 : (Jvm.Cond.instanceMethod ({ cls := "SixWhoTurn", name := "keeps", desc := "()V" } : Jvm.MethodName)) ∈ lw_all := lw_g (lw_at lw_m3 64 rfl) rfl
theorem q591 : (Jvm.Cond.code ({ cls := "SixWhoTurn", name := "keeps", desc := "()V" } : Jvm.MethodName) prog_1_method_35_code (2 : Nat) (Option.none : Option Jvm.ClassFile.FieldType)) ∈ lw_all := lw_g (lw_at lw_m3 65 rfl) rfl
theorem q592 : (Jvm.Cond.methodLink "SixWhoTurn" (261 : Nat) ({ cls := "SixWhoTurn$Side", name := "become", desc := "(LSixWhoTurn$Side;)V" } : Jvm.MethodName)) ∈ lw_all := lw_g (lw_at lw_m3 66 rfl) rfl
theorem q596 : (Jvm.Cond.methodLink "SixWhoTurn" (291 : Nat) ({ cls := "SixWhoTurn$Item", name := "isDone", desc := "()Z" } : Jvm.MethodName)) ∈ lw_all := lw_g (lw_at lw_m3 70 rfl) rfl
theorem q615 : (Jvm.Cond.methodLink "SixWhoTurn" (294 : Nat) ({ cls := "SixWhoTurn", name := "putsBack", desc := "()V" } : Jvm.MethodName)) ∈ lw_all := lw_g (lw_at lw_m3 89 rfl) rfl
theorem q616 : (Jvm.Cond.privateMethod ({ cls := "SixWhoTurn", name := "putsBack", desc := "()V" } : Jvm.MethodName)) ∈ lw_tbl := lw_at lw_m3 90 rfl
theorem q617 : (Jvm.Cond.instanceMethod ({ cls := "SixWhoTurn", name := "putsBack", desc := "()V" } : Jvm.MethodName)) ∈ lw_all := lw_g (lw_at lw_m3 91 rfl) rfl
theorem q618 : (Jvm.Cond.code ({ cls := "SixWhoTurn", name := "putsBack", desc := "()V" } : Jvm.MethodName) prog_1_method_36_code (2 : Nat) (Option.none : Option Jvm.ClassFile.FieldType)) ∈ lw_all := lw_g (lw_at lw_m3 92 rfl) rfl
theorem q620 : (Jvm.Cond.instanceMethod ({ cls := "SixWhoTurn", name := "odds", desc := "(III)I" } : Jvm.MethodName)) ∈ lw_all := lw_g (lw_at lw_m3 94 rfl) rfl
theorem q621 : (Jvm.Cond.selects "SixWhoTurn" ({ cls := "SixWhoTurn", name := "odds", desc := "(III)I" } : Jvm.MethodName) ({ cls := "SixWhoTurn", name := "odds", desc := "(III)I" } : Jvm.MethodName)) ∈ lw_all := lw_g (lw_at lw_m3 95 rfl) rfl
theorem q622 : (Jvm.Cond.code ({ cls := "SixWhoTurn", name := "odds", desc := "(III)I" } : Jvm.MethodName) prog_1_method_46_code (4 : Nat) (Option.some Jvm.ClassFile.FieldType.int)) ∈ lw_all := lw_g (lw_at lw_m3 96 rfl) rfl
theorem q623 : (Jvm.Cond.methodLink "SixWhoTurn" (309 : Nat) ({ cls := "SixWhoTurn", name := "oddsOf", desc := "(III)I" } : Jvm.MethodName)) ∈ lw_all := lw_g (lw_at lw_m3 97 rfl) rfl
theorem q624 : (Jvm.Cond.privateMethod ({ cls := "SixWhoTurn", name := "oddsOf", desc := "(III)I" } : Jvm.MethodName)) ∈ lw_tbl := lw_at lw_m3 98 rfl
theorem q625 : (Jvm.Cond.instanceMethod ({ cls := "SixWhoTurn", name := "oddsOf", desc := "(III)I" } : Jvm.MethodName)) ∈ lw_all := lw_g (lw_at lw_m3 99 rfl) rfl
theorem q626 : (Jvm.Cond.code ({ cls := "SixWhoTurn", name := "oddsOf", desc := "(III)I" } : Jvm.MethodName) prog_1_method_39_code (5 : Nat) (Option.some Jvm.ClassFile.FieldType.int)) ∈ lw_all := lw_g (lw_at lw_m3 100 rfl) rfl
theorem q627 : (Jvm.Cond.methodLink "SixWhoTurn" (297 : Nat) ({ cls := "SixWhoTurn$Side", name := "at", desc := "(II)I" } : Jvm.MethodName)) ∈ lw_all := lw_g (lw_at lw_m3 101 rfl) rfl
theorem q631 : (Jvm.Cond.methodLink "SixWhoTurn" (299 : Nat) ({ cls := "SixWhoTurn", name := "third", desc := "(IIIIII)I" } : Jvm.MethodName)) ∈ lw_all := lw_g (lw_at lw_m3 105 rfl) rfl
theorem q632 : (Jvm.Cond.privateMethod ({ cls := "SixWhoTurn", name := "third", desc := "(IIIIII)I" } : Jvm.MethodName)) ∈ lw_tbl := lw_at lw_m3 106 rfl
theorem q633 : (Jvm.Cond.instanceMethod ({ cls := "SixWhoTurn", name := "third", desc := "(IIIIII)I" } : Jvm.MethodName)) ∈ lw_all := lw_g (lw_at lw_m3 107 rfl) rfl
theorem q634 : (Jvm.Cond.code ({ cls := "SixWhoTurn", name := "third", desc := "(IIIIII)I" } : Jvm.MethodName) prog_1_method_38_code (9 : Nat) (Option.some Jvm.ClassFile.FieldType.int)) ∈ lw_all := lw_g (lw_at lw_m3 108 rfl) rfl
theorem q635 : (Jvm.Cond.methodLink "SixWhoTurn" (303 : Nat) ({ cls := "java/lang/Math", name := "max", desc := "(II)I" } : Jvm.MethodName)) ∈ lw_all := lw_g (lw_at lw_m3 109 rfl) rfl
theorem q637 : (Jvm.Cond.instanceMethod ({ cls := "SixWhoTurn", name := "chance", desc := "()I" } : Jvm.MethodName)) ∈ lw_all := lw_g (lw_at lw_m3 111 rfl) rfl
theorem q638 : (Jvm.Cond.selects "SixWhoTurn" ({ cls := "SixWhoTurn", name := "chance", desc := "()I" } : Jvm.MethodName) ({ cls := "SixWhoTurn", name := "chance", desc := "()I" } : Jvm.MethodName)) ∈ lw_all := lw_g (lw_at lw_m3 112 rfl) rfl
theorem q639 : (Jvm.Cond.code ({ cls := "SixWhoTurn", name := "chance", desc := "()I" } : Jvm.MethodName) prog_1_method_48_code (1 : Nat) (Option.some Jvm.ClassFile.FieldType.int)) ∈ lw_all := lw_g (lw_at lw_m3 113 rfl) rfl
theorem q640 : (Jvm.Cond.methodLink "SixWhoTurn" (327 : Nat) ({ cls := "SixWhoTurn", name := "fills", desc := "(I)V" } : Jvm.MethodName)) ∈ lw_all := lw_g (lw_at lw_m3 114 rfl) rfl
theorem q641 : (Jvm.Cond.privateMethod ({ cls := "SixWhoTurn", name := "fills", desc := "(I)V" } : Jvm.MethodName)) ∈ lw_tbl := lw_at lw_m3 115 rfl
theorem q642 : (Jvm.Cond.instanceMethod ({ cls := "SixWhoTurn", name := "fills", desc := "(I)V" } : Jvm.MethodName)) ∈ lw_all := lw_g (lw_at lw_m3 116 rfl) rfl
theorem q643 : (Jvm.Cond.code ({ cls := "SixWhoTurn", name := "fills", desc := "(I)V" } : Jvm.MethodName) prog_1_method_44_code (7 : Nat) (Option.none : Option Jvm.ClassFile.FieldType)) ∈ lw_all := lw_g (lw_at lw_m3 117 rfl) rfl
theorem q644 : (Jvm.Cond.methodLink "SixWhoTurn" (315 : Nat) ({ cls := "SixWhoTurn", name := "weighs", desc := "()V" } : Jvm.MethodName)) ∈ lw_all := lw_g (lw_at lw_m3 118 rfl) rfl
theorem q645 : (Jvm.Cond.privateMethod ({ cls := "SixWhoTurn", name := "weighs", desc := "()V" } : Jvm.MethodName)) ∈ lw_tbl := lw_at lw_m3 119 rfl
theorem q646 : (Jvm.Cond.instanceMethod ({ cls := "SixWhoTurn", name := "weighs", desc := "()V" } : Jvm.MethodName)) ∈ lw_all := lw_g (lw_at lw_m3 120 rfl) rfl
theorem q647 : (Jvm.Cond.code ({ cls := "SixWhoTurn", name := "weighs", desc := "()V" } : Jvm.MethodName) prog_1_method_41_code (4 : Nat) (Option.none : Option Jvm.ClassFile.FieldType)) ∈ lw_all := lw_g (lw_at lw_m3 121 rfl) rfl
theorem q648 : (Jvm.Cond.methodLink "SixWhoTurn" (306 : Nat) ({ cls := "SixWhoTurn", name := "turned", desc := "(III)I" } : Jvm.MethodName)) ∈ lw_all := lw_g (lw_at lw_m3 122 rfl) rfl
theorem q649 : (Jvm.Cond.static ({ cls := "SixWhoTurn", name := "turned", desc := "(III)I" } : Jvm.MethodName)) ∈ lw_all := lw_g (lw_at lw_m3 123 rfl) rfl
theorem q650 : (Jvm.Cond.code ({ cls := "SixWhoTurn", name := "turned", desc := "(III)I" } : Jvm.MethodName) prog_1_method_40_code (3 : Nat) (Option.some Jvm.ClassFile.FieldType.int)) ∈ lw_all := lw_g (lw_at lw_m3 124 rfl) rfl
theorem q651 : (Jvm.Cond.methodLink "SixWhoTurn" (312 : Nat) ({ cls := "SixWhoTurn", name := "spot", desc := "(III)I" } : Jvm.MethodName)) ∈ lw_all := lw_g (lw_at lw_m3 125 rfl) rfl
theorem q652 : (Jvm.Cond.static ({ cls := "SixWhoTurn", name := "spot", desc := "(III)I" } : Jvm.MethodName)) ∈ lw_all := lw_g (lw_at lw_m3 126 rfl) rfl
theorem q653 : (Jvm.Cond.code ({ cls := "SixWhoTurn", name := "spot", desc := "(III)I" } : Jvm.MethodName) prog_1_method_42_code (3 : Nat) (Option.some Jvm.ClassFile.FieldType.int)) ∈ lw_all := lw_g (lw_at lw_m3 127 rfl) rfl
theorem q654 : (Jvm.Cond.constant "SixWhoTurn" (318 : Nat) (1000000000 : Int32)) ∈ lw_all := lw_g (lw_at lw_m3 128 rfl) rfl
theorem q655 : (Jvm.Cond.methodLink "SixWhoTurn" (319 : Nat) ({ cls := "SixWhoTurn", name := "expected", desc := "(III)I" } : Jvm.MethodName)) ∈ lw_all := lw_g (lw_at lw_m3 129 rfl) rfl
theorem q656 : (Jvm.Cond.privateMethod ({ cls := "SixWhoTurn", name := "expected", desc := "(III)I" } : Jvm.MethodName)) ∈ lw_tbl := lw_at lw_m3 130 rfl
theorem q657 : (Jvm.Cond.instanceMethod ({ cls := "SixWhoTurn", name := "expected", desc := "(III)I" } : Jvm.MethodName)) ∈ lw_all := lw_g (lw_at lw_m3 131 rfl) rfl
theorem q658 : (Jvm.Cond.code ({ cls := "SixWhoTurn", name := "expected", desc := "(III)I" } : Jvm.MethodName) prog_1_method_45_code (13 : Nat) (Option.some Jvm.ClassFile.FieldType.int)) ∈ lw_all := lw_g (lw_at lw_m3 132 rfl) rfl
theorem q659 : (Jvm.Cond.methodLink "SixWhoTurn" (322 : Nat) ({ cls := "SixWhoTurn", name := "behind", desc := "(IIIIII)I" } : Jvm.MethodName)) ∈ lw_all := lw_g (lw_at lw_m3 133 rfl) rfl
theorem q660 : (Jvm.Cond.privateMethod ({ cls := "SixWhoTurn", name := "behind", desc := "(IIIIII)I" } : Jvm.MethodName)) ∈ lw_tbl := lw_at lw_m3 134 rfl
theorem q661 : (Jvm.Cond.instanceMethod ({ cls := "SixWhoTurn", name := "behind", desc := "(IIIIII)I" } : Jvm.MethodName)) ∈ lw_all := lw_g (lw_at lw_m3 135 rfl) rfl
theorem q662 : (Jvm.Cond.code ({ cls := "SixWhoTurn", name := "behind", desc := "(IIIIII)I" } : Jvm.MethodName) prog_1_method_43_code (11 : Nat) (Option.some Jvm.ClassFile.FieldType.int)) ∈ lw_all := lw_g (lw_at lw_m3 136 rfl) rfl
theorem q663 : (Jvm.Cond.constantLong "SixWhoTurn" (325 : Nat) (1000 : Int64)) ∈ lw_all := lw_g (lw_at lw_m3 137 rfl) rfl
theorem q664 : (Jvm.Cond.methodLink "SixWhoTurn" (331 : Nat) ({ cls := "SixWhoTurn", name := "now", desc := "()I" } : Jvm.MethodName)) ∈ lw_all := lw_g (lw_at lw_m3 138 rfl) rfl
theorem q665 : (Jvm.Cond.privateMethod ({ cls := "SixWhoTurn", name := "now", desc := "()I" } : Jvm.MethodName)) ∈ lw_tbl := lw_at lw_m3 139 rfl
theorem q666 : (Jvm.Cond.instanceMethod ({ cls := "SixWhoTurn", name := "now", desc := "()I" } : Jvm.MethodName)) ∈ lw_all := lw_g (lw_at lw_m3 140 rfl) rfl
theorem q667 : (Jvm.Cond.code ({ cls := "SixWhoTurn", name := "now", desc := "()I" } : Jvm.MethodName) prog_1_method_47_code (1 : Nat) (Option.some Jvm.ClassFile.FieldType.int)) ∈ lw_all := lw_g (lw_at lw_m3 141 rfl) rfl
theorem q669 : (Jvm.Cond.instanceMethod ({ cls := "SixWhoTurn", name := "weight", desc := "()I" } : Jvm.MethodName)) ∈ lw_all := lw_g (lw_at lw_m3 143 rfl) rfl
theorem q670 : (Jvm.Cond.selects "SixWhoTurn" ({ cls := "SixWhoTurn", name := "weight", desc := "()I" } : Jvm.MethodName) ({ cls := "SixWhoTurn", name := "weight", desc := "()I" } : Jvm.MethodName)) ∈ lw_all := lw_g (lw_at lw_m3 144 rfl) rfl
theorem q671 : (Jvm.Cond.code ({ cls := "SixWhoTurn", name := "weight", desc := "()I" } : Jvm.MethodName) prog_1_method_49_code (1 : Nat) (Option.some Jvm.ClassFile.FieldType.int)) ∈ lw_all := lw_g (lw_at lw_m3 145 rfl) rfl
theorem q673 : (Jvm.Cond.instanceMethod ({ cls := "SixWhoTurn", name := "turn", desc := "(II)I" } : Jvm.MethodName)) ∈ lw_all := lw_g (lw_at lw_m3 147 rfl) rfl
theorem q674 : (Jvm.Cond.selects "SixWhoTurn" ({ cls := "SixWhoTurn", name := "turn", desc := "(II)I" } : Jvm.MethodName) ({ cls := "SixWhoTurn", name := "turn", desc := "(II)I" } : Jvm.MethodName)) ∈ lw_all := lw_g (lw_at lw_m3 148 rfl) rfl
theorem q675 : (Jvm.Cond.code ({ cls := "SixWhoTurn", name := "turn", desc := "(II)I" } : Jvm.MethodName) prog_1_method_50_code (7 : Nat) (Option.some Jvm.ClassFile.FieldType.int)) ∈ lw_all := lw_g (lw_at lw_m3 149 rfl) rfl
theorem q677 : (Jvm.Cond.instanceMethod ({ cls := "SixWhoTurn", name := "advice", desc := "(I)I" } : Jvm.MethodName)) ∈ lw_all := lw_g (lw_at lw_m3 151 rfl) rfl
theorem q678 : (Jvm.Cond.selects "SixWhoTurn" ({ cls := "SixWhoTurn", name := "advice", desc := "(I)I" } : Jvm.MethodName) ({ cls := "SixWhoTurn", name := "advice", desc := "(I)I" } : Jvm.MethodName)) ∈ lw_all := lw_g (lw_at lw_m3 152 rfl) rfl
theorem q679 : (Jvm.Cond.code ({ cls := "SixWhoTurn", name := "advice", desc := "(I)I" } : Jvm.MethodName) prog_1_method_51_code (7 : Nat) (Option.some Jvm.ClassFile.FieldType.int)) ∈ lw_all := lw_g (lw_at lw_m3 153 rfl) rfl
theorem q685 : (Jvm.Cond.instanceMethod ({ cls := "SixWhoTurn", name := "row", desc := "(I)I" } : Jvm.MethodName)) ∈ lw_all := lw_g (lw_at lw_m3 159 rfl) rfl
theorem q686 : (Jvm.Cond.selects "SixWhoTurn" ({ cls := "SixWhoTurn", name := "row", desc := "(I)I" } : Jvm.MethodName) ({ cls := "SixWhoTurn", name := "row", desc := "(I)I" } : Jvm.MethodName)) ∈ lw_all := lw_g (lw_at lw_m3 160 rfl) rfl
theorem q687 : (Jvm.Cond.code ({ cls := "SixWhoTurn", name := "row", desc := "(I)I" } : Jvm.MethodName) prog_1_method_52_code (2 : Nat) (Option.some Jvm.ClassFile.FieldType.int)) ∈ lw_all := lw_g (lw_at lw_m3 161 rfl) rfl
theorem q688 : (Jvm.Cond.classLink "SixWhoTurn" (334 : Nat) "java/util/NoSuchElementException") ∈ lw_all := lw_g (lw_at lw_m3 162 rfl) rfl
theorem q727 : (Jvm.Cond.methodLink "SixWhoTurn" (336 : Nat) ({ cls := "java/util/NoSuchElementException", name := "<init>", desc := "()V" } : Jvm.MethodName)) ∈ lw_all := lw_g (lw_at lw_m3 201 rfl) rfl
theorem q1056 : (Jvm.Cond.castable "SixWhoTurn" "java/lang/Object") ∈ lw_tbl := lw_at lw_m5 50 rfl
theorem in_X1 : ∀ w ∈ wsX10, w ∈ lw_all := lw_in wsX10 [182, 184, 186, 188, 190, 192, 194, 196, 198, 200, 202, 204, 206, 208, 210, 212, 214, 216, 218, 220, 222, 224, 226, 228, 230] (by decide +kernel) (by decide +kernel)
