/-! SixWhoTurn$Side -/
set_option maxRecDepth 100000
def RX2 : String := "SixWhoTurn$Side"
def TX2 : u_T := fun k => match k with
  | 0 => ("SixWhoTurn$Side", "court", "[I", true)
  | 1 => ("SixWhoTurn$Side", "lineUp", "[I", true)
  | 2 => ("SixWhoTurn$Side", "partner", "[I", true)
  | 3 => ("SixWhoTurn$Side", "served", "[I", true)
  | 4 => ("SixWhoTurn$Side", "x", "[I", true)
  | 5 => ("SixWhoTurn$Side", "y", "[I", true)
  | 6 => ("SixWhoTurn$Side", "wasOn", "[Z", true)
  | 7 => ("SixWhoTurn$Side", "isDone", "[Z", true)
  | 8 => ("SixWhoTurn$Side", "points", "I", false)
  | 9 => ("SixWhoTurn$Side", "sets", "I", false)
  | 10 => ("SixWhoTurn$Side", "changes", "I", false)
  | 11 => ("SixWhoTurn$Side", "pauses", "I", false)
  | 12 => ("SixWhoTurn$Side", "turns", "I", false)
  | 13 => ("SixWhoTurn$Side", "free", "I", false)
  | 14 => ("SixWhoTurn$Side", "standsFor", "I", false)
  | 15 => ("SixWhoTurn$Side", "freedAt", "I", false)
  | _ => ("SixWhoTurn$Side", "isTold", "Z", false)
def tyX2 : Nat → FieldType := fun k => match k with
  | 0 => .array .int
  | 1 => .array .int
  | 2 => .array .int
  | 3 => .array .int
  | 4 => .array .int
  | 5 => .array .int
  | 6 => .array .boolean
  | 7 => .array .boolean
  | 8 => .int
  | 9 => .int
  | 10 => .int
  | 11 => .int
  | 12 => .int
  | 13 => .int
  | 14 => .int
  | 15 => .int
  | _ => .boolean
abbrev wsX20 : List Cond := u_ws RX2 TX2 17
set_option maxRecDepth 100000 in
theorem nmX2 : ∀ a, a < 17 → ∀ b, b < 17 → a ≠ b → (TX2 a).2.1 ≠ (TX2 b).2.1 := by decide +kernel
set_option maxRecDepth 100000 in
theorem tyX2_ok : ∀ k, k < 17 → parseFieldDescriptor (TX2 k).2.2.1 = some (tyX2 k) := by decide +kernel
abbrev cX2_init : ByteArray := prog_7_method_1_code
def yX2_init : MethodName := ⟨RX2, "<init>", "()V"⟩
def dkwX2_init_3 : List UInt8 := [181, 0, 37, 42, 2, 181, 0, 41, 42, 2, 181, 0, 44, 177]
abbrev dktX2_init_3 : List UInt8 := dkwX2_init_3 ++ []
def dkwX2_init_2 : List UInt8 := [188, 10, 181, 0, 27, 42, 16, 12, 188, 4, 181, 0, 30, 42, 16, 12, 188, 4, 181, 0, 34, 42, 2]
abbrev dktX2_init_2 : List UInt8 := dkwX2_init_2 ++ dktX2_init_3
def dkwX2_init_1 : List UInt8 := [188, 10, 181, 0, 18, 42, 16, 12, 188, 10, 181, 0, 21, 42, 16, 6, 188, 10, 181, 0, 24, 42, 16, 6]
abbrev dktX2_init_1 : List UInt8 := dkwX2_init_1 ++ dktX2_init_2
def dkwX2_init_0 : List UInt8 := [42, 183, 0, 3, 42, 16, 6, 188, 10, 181, 0, 9, 42, 16, 6, 188, 10, 181, 0, 15, 42, 16, 12]
abbrev dktX2_init_0 : List UInt8 := dkwX2_init_0 ++ dktX2_init_1
theorem dksX2_init_0 : cX2_init.data.toList.drop 0 = dktX2_init_0 := by decide +kernel
theorem dksX2_init_1 : cX2_init.data.toList.drop 23 = dktX2_init_1 := dk_seg dksX2_init_0 23 rfl rfl
theorem dksX2_init_2 : cX2_init.data.toList.drop 47 = dktX2_init_2 := dk_seg dksX2_init_1 24 rfl rfl
theorem dksX2_init_3 : cX2_init.data.toList.drop 70 = dktX2_init_3 := dk_seg dksX2_init_2 23 rfl rfl
theorem dX2_init_0 : decode cX2_init 0 = .ok (.aload_n 0, 1) := dk_42 (dk_at dksX2_init_0 0 rfl rfl)
theorem dX2_init_1 : decode cX2_init 1 = .ok (.invokespecial 3, 3) := dk_183 0 3 (dk_at dksX2_init_0 1 rfl rfl)
theorem dX2_init_4 : decode cX2_init 4 = .ok (.aload_n 0, 1) := dk_42 (dk_at dksX2_init_0 4 rfl rfl)
theorem dX2_init_5 : decode cX2_init 5 = .ok (.bipush 6, 2) := dk_16 6 (dk_at dksX2_init_0 5 rfl rfl)
theorem dX2_init_7 : decode cX2_init 7 = .ok (.newarray .int, 2) := dk_188_10 (dk_at dksX2_init_0 7 rfl rfl)
theorem dX2_init_9 : decode cX2_init 9 = .ok (.putfield 9, 3) := dk_181 0 9 (dk_at dksX2_init_0 9 rfl rfl)
theorem dX2_init_12 : decode cX2_init 12 = .ok (.aload_n 0, 1) := dk_42 (dk_at dksX2_init_0 12 rfl rfl)
theorem dX2_init_13 : decode cX2_init 13 = .ok (.bipush 6, 2) := dk_16 6 (dk_at dksX2_init_0 13 rfl rfl)
theorem dX2_init_15 : decode cX2_init 15 = .ok (.newarray .int, 2) := dk_188_10 (dk_at dksX2_init_0 15 rfl rfl)
theorem dX2_init_17 : decode cX2_init 17 = .ok (.putfield 15, 3) := dk_181 0 15 (dk_at dksX2_init_0 17 rfl rfl)
theorem dX2_init_20 : decode cX2_init 20 = .ok (.aload_n 0, 1) := dk_42 (dk_at dksX2_init_0 20 rfl rfl)
theorem dX2_init_21 : decode cX2_init 21 = .ok (.bipush 12, 2) := dk_16 12 (dk_at dksX2_init_0 21 rfl rfl)
theorem dX2_init_23 : decode cX2_init 23 = .ok (.newarray .int, 2) := dk_188_10 (dk_at dksX2_init_1 0 rfl rfl)
theorem dX2_init_25 : decode cX2_init 25 = .ok (.putfield 18, 3) := dk_181 0 18 (dk_at dksX2_init_1 2 rfl rfl)
theorem dX2_init_28 : decode cX2_init 28 = .ok (.aload_n 0, 1) := dk_42 (dk_at dksX2_init_1 5 rfl rfl)
theorem dX2_init_29 : decode cX2_init 29 = .ok (.bipush 12, 2) := dk_16 12 (dk_at dksX2_init_1 6 rfl rfl)
theorem dX2_init_31 : decode cX2_init 31 = .ok (.newarray .int, 2) := dk_188_10 (dk_at dksX2_init_1 8 rfl rfl)
theorem dX2_init_33 : decode cX2_init 33 = .ok (.putfield 21, 3) := dk_181 0 21 (dk_at dksX2_init_1 10 rfl rfl)
theorem dX2_init_36 : decode cX2_init 36 = .ok (.aload_n 0, 1) := dk_42 (dk_at dksX2_init_1 13 rfl rfl)
theorem dX2_init_37 : decode cX2_init 37 = .ok (.bipush 6, 2) := dk_16 6 (dk_at dksX2_init_1 14 rfl rfl)
theorem dX2_init_39 : decode cX2_init 39 = .ok (.newarray .int, 2) := dk_188_10 (dk_at dksX2_init_1 16 rfl rfl)
theorem dX2_init_41 : decode cX2_init 41 = .ok (.putfield 24, 3) := dk_181 0 24 (dk_at dksX2_init_1 18 rfl rfl)
theorem dX2_init_44 : decode cX2_init 44 = .ok (.aload_n 0, 1) := dk_42 (dk_at dksX2_init_1 21 rfl rfl)
theorem dX2_init_45 : decode cX2_init 45 = .ok (.bipush 6, 2) := dk_16 6 (dk_at dksX2_init_1 22 rfl rfl)
theorem dX2_init_47 : decode cX2_init 47 = .ok (.newarray .int, 2) := dk_188_10 (dk_at dksX2_init_2 0 rfl rfl)
theorem dX2_init_49 : decode cX2_init 49 = .ok (.putfield 27, 3) := dk_181 0 27 (dk_at dksX2_init_2 2 rfl rfl)
theorem dX2_init_52 : decode cX2_init 52 = .ok (.aload_n 0, 1) := dk_42 (dk_at dksX2_init_2 5 rfl rfl)
theorem dX2_init_53 : decode cX2_init 53 = .ok (.bipush 12, 2) := dk_16 12 (dk_at dksX2_init_2 6 rfl rfl)
theorem dX2_init_55 : decode cX2_init 55 = .ok (.newarray .boolean, 2) := dk_188_4 (dk_at dksX2_init_2 8 rfl rfl)
theorem dX2_init_57 : decode cX2_init 57 = .ok (.putfield 30, 3) := dk_181 0 30 (dk_at dksX2_init_2 10 rfl rfl)
theorem dX2_init_60 : decode cX2_init 60 = .ok (.aload_n 0, 1) := dk_42 (dk_at dksX2_init_2 13 rfl rfl)
theorem dX2_init_61 : decode cX2_init 61 = .ok (.bipush 12, 2) := dk_16 12 (dk_at dksX2_init_2 14 rfl rfl)
theorem dX2_init_63 : decode cX2_init 63 = .ok (.newarray .boolean, 2) := dk_188_4 (dk_at dksX2_init_2 16 rfl rfl)
theorem dX2_init_65 : decode cX2_init 65 = .ok (.putfield 34, 3) := dk_181 0 34 (dk_at dksX2_init_2 18 rfl rfl)
theorem dX2_init_68 : decode cX2_init 68 = .ok (.aload_n 0, 1) := dk_42 (dk_at dksX2_init_2 21 rfl rfl)
theorem dX2_init_69 : decode cX2_init 69 = .ok (.iconst (-1), 1) := dk_2 (dk_at dksX2_init_2 22 rfl rfl)
theorem dX2_init_70 : decode cX2_init 70 = .ok (.putfield 37, 3) := dk_181 0 37 (dk_at dksX2_init_3 0 rfl rfl)
theorem dX2_init_73 : decode cX2_init 73 = .ok (.aload_n 0, 1) := dk_42 (dk_at dksX2_init_3 3 rfl rfl)
theorem dX2_init_74 : decode cX2_init 74 = .ok (.iconst (-1), 1) := dk_2 (dk_at dksX2_init_3 4 rfl rfl)
theorem dX2_init_75 : decode cX2_init 75 = .ok (.putfield 41, 3) := dk_181 0 41 (dk_at dksX2_init_3 5 rfl rfl)
theorem dX2_init_78 : decode cX2_init 78 = .ok (.aload_n 0, 1) := dk_42 (dk_at dksX2_init_3 8 rfl rfl)
theorem dX2_init_79 : decode cX2_init 79 = .ok (.iconst (-1), 1) := dk_2 (dk_at dksX2_init_3 9 rfl rfl)
theorem dX2_init_80 : decode cX2_init 80 = .ok (.putfield 44, 3) := dk_181 0 44 (dk_at dksX2_init_3 10 rfl rfl)
theorem dX2_init_83 : decode cX2_init 83 = .ok (.return_, 1) := dk_177 (dk_at dksX2_init_3 13 rfl rfl)
abbrev cX2_hasFree : ByteArray := prog_7_method_4_code
def yX2_hasFree : MethodName := ⟨RX2, "hasFree", "()Z"⟩
def dkwX2_hasFree_1 : List UInt8 := [160, 0, 7, 4, 167, 0, 4, 3, 60, 132, 2, 1, 167, 255, 224, 27, 172]
abbrev dktX2_hasFree_1 : List UInt8 := dkwX2_hasFree_1 ++ []
def dkwX2_hasFree_0 : List UInt8 := [3, 60, 3, 61, 28, 16, 6, 162, 0, 32, 27, 154, 0, 16, 42, 180, 0, 15, 28, 46, 42, 180, 0, 37]
abbrev dktX2_hasFree_0 : List UInt8 := dkwX2_hasFree_0 ++ dktX2_hasFree_1
theorem dksX2_hasFree_0 : cX2_hasFree.data.toList.drop 0 = dktX2_hasFree_0 := by decide +kernel
theorem dksX2_hasFree_1 : cX2_hasFree.data.toList.drop 24 = dktX2_hasFree_1 := dk_seg dksX2_hasFree_0 24 rfl rfl
theorem dX2_hasFree_0 : decode cX2_hasFree 0 = .ok (.iconst 0, 1) := dk_3 (dk_at dksX2_hasFree_0 0 rfl rfl)
theorem dX2_hasFree_1 : decode cX2_hasFree 1 = .ok (.istore_n 1, 1) := dk_60 (dk_at dksX2_hasFree_0 1 rfl rfl)
theorem dX2_hasFree_2 : decode cX2_hasFree 2 = .ok (.iconst 0, 1) := dk_3 (dk_at dksX2_hasFree_0 2 rfl rfl)
theorem dX2_hasFree_3 : decode cX2_hasFree 3 = .ok (.istore_n 2, 1) := dk_61 (dk_at dksX2_hasFree_0 3 rfl rfl)
theorem dX2_hasFree_4 : decode cX2_hasFree 4 = .ok (.iload_n 2, 1) := dk_28 (dk_at dksX2_hasFree_0 4 rfl rfl)
theorem dX2_hasFree_5 : decode cX2_hasFree 5 = .ok (.bipush 6, 2) := dk_16 6 (dk_at dksX2_hasFree_0 5 rfl rfl)
theorem dX2_hasFree_7 : decode cX2_hasFree 7 = .ok (.if_icmp .ge 32, 3) := dk_162 0 32 (dk_at dksX2_hasFree_0 7 rfl rfl)
theorem dX2_hasFree_10 : decode cX2_hasFree 10 = .ok (.iload_n 1, 1) := dk_27 (dk_at dksX2_hasFree_0 10 rfl rfl)
theorem dX2_hasFree_11 : decode cX2_hasFree 11 = .ok (.ifCond .ne 16, 3) := dk_154 0 16 (dk_at dksX2_hasFree_0 11 rfl rfl)
theorem dX2_hasFree_14 : decode cX2_hasFree 14 = .ok (.aload_n 0, 1) := dk_42 (dk_at dksX2_hasFree_0 14 rfl rfl)
theorem dX2_hasFree_15 : decode cX2_hasFree 15 = .ok (.getfield 15, 3) := dk_180 0 15 (dk_at dksX2_hasFree_0 15 rfl rfl)
theorem dX2_hasFree_18 : decode cX2_hasFree 18 = .ok (.iload_n 2, 1) := dk_28 (dk_at dksX2_hasFree_0 18 rfl rfl)
theorem dX2_hasFree_19 : decode cX2_hasFree 19 = .ok (.iaload, 1) := dk_46 (dk_at dksX2_hasFree_0 19 rfl rfl)
theorem dX2_hasFree_20 : decode cX2_hasFree 20 = .ok (.aload_n 0, 1) := dk_42 (dk_at dksX2_hasFree_0 20 rfl rfl)
theorem dX2_hasFree_21 : decode cX2_hasFree 21 = .ok (.getfield 37, 3) := dk_180 0 37 (dk_at dksX2_hasFree_0 21 rfl rfl)
theorem dX2_hasFree_24 : decode cX2_hasFree 24 = .ok (.if_icmp .ne 7, 3) := dk_160 0 7 (dk_at dksX2_hasFree_1 0 rfl rfl)
theorem dX2_hasFree_27 : decode cX2_hasFree 27 = .ok (.iconst 1, 1) := dk_4 (dk_at dksX2_hasFree_1 3 rfl rfl)
theorem dX2_hasFree_28 : decode cX2_hasFree 28 = .ok (.goto 4, 3) := dk_167 0 4 (dk_at dksX2_hasFree_1 4 rfl rfl)
theorem dX2_hasFree_31 : decode cX2_hasFree 31 = .ok (.iconst 0, 1) := dk_3 (dk_at dksX2_hasFree_1 7 rfl rfl)
theorem dX2_hasFree_32 : decode cX2_hasFree 32 = .ok (.istore_n 1, 1) := dk_60 (dk_at dksX2_hasFree_1 8 rfl rfl)
theorem dX2_hasFree_33 : decode cX2_hasFree 33 = .ok (.iinc 2 1, 3) := dk_132 2 1 (dk_at dksX2_hasFree_1 9 rfl rfl)
theorem dX2_hasFree_36 : decode cX2_hasFree 36 = .ok (.goto (-32), 3) := dk_167 255 224 (dk_at dksX2_hasFree_1 12 rfl rfl)
theorem dX2_hasFree_39 : decode cX2_hasFree 39 = .ok (.iload_n 1, 1) := dk_27 (dk_at dksX2_hasFree_1 15 rfl rfl)
theorem dX2_hasFree_40 : decode cX2_hasFree 40 = .ok (.ireturn, 1) := dk_172 (dk_at dksX2_hasFree_1 16 rfl rfl)
abbrev cX2_begins : ByteArray := prog_7_method_3_code
def yX2_begins : MethodName := ⟨RX2, "begins", "()V"⟩
def dkwX2_begins_5 : List UInt8 := [181, 0, 41, 42, 2, 181, 0, 44, 42, 3, 181, 0, 68, 177]
abbrev dktX2_begins_5 : List UInt8 := dkwX2_begins_5 ++ []
def dkwX2_begins_4 : List UInt8 := [42, 3, 181, 0, 53, 42, 3, 181, 0, 59, 42, 3, 181, 0, 62, 42, 3, 181, 0, 65, 42, 2]
abbrev dktX2_begins_4 : List UInt8 := dkwX2_begins_4 ++ dktX2_begins_5
def dkwX2_begins_3 : List UInt8 := [27, 178, 0, 72, 27, 46, 79, 42, 180, 0, 27, 27, 178, 0, 75, 27, 46, 79, 132, 1, 1, 167, 255, 201]
abbrev dktX2_begins_3 : List UInt8 := dkwX2_begins_3 ++ dktX2_begins_4
def dkwX2_begins_2 : List UInt8 := [27, 42, 180, 0, 15, 27, 46, 79, 42, 180, 0, 30, 42, 180, 0, 15, 27, 46, 4, 84, 42, 180, 0, 24]
abbrev dktX2_begins_2 : List UInt8 := dkwX2_begins_2 ++ dktX2_begins_3
def dkwX2_begins_1 : List UInt8 := [180, 0, 18, 27, 2, 79, 132, 1, 1, 167, 255, 226, 3, 60, 27, 16, 6, 162, 0, 55, 42, 180, 0, 9]
abbrev dktX2_begins_1 : List UInt8 := dkwX2_begins_1 ++ dktX2_begins_2
def dkwX2_begins_0 : List UInt8 := [3, 60, 27, 16, 12, 162, 0, 30, 42, 180, 0, 30, 27, 3, 84, 42, 180, 0, 34, 27, 3, 84, 42]
abbrev dktX2_begins_0 : List UInt8 := dkwX2_begins_0 ++ dktX2_begins_1
theorem dksX2_begins_0 : cX2_begins.data.toList.drop 0 = dktX2_begins_0 := by decide +kernel
theorem dksX2_begins_1 : cX2_begins.data.toList.drop 23 = dktX2_begins_1 := dk_seg dksX2_begins_0 23 rfl rfl
theorem dksX2_begins_2 : cX2_begins.data.toList.drop 47 = dktX2_begins_2 := dk_seg dksX2_begins_1 24 rfl rfl
theorem dksX2_begins_3 : cX2_begins.data.toList.drop 71 = dktX2_begins_3 := dk_seg dksX2_begins_2 24 rfl rfl
theorem dksX2_begins_4 : cX2_begins.data.toList.drop 95 = dktX2_begins_4 := dk_seg dksX2_begins_3 24 rfl rfl
theorem dksX2_begins_5 : cX2_begins.data.toList.drop 117 = dktX2_begins_5 := dk_seg dksX2_begins_4 22 rfl rfl
theorem dX2_begins_0 : decode cX2_begins 0 = .ok (.iconst 0, 1) := dk_3 (dk_at dksX2_begins_0 0 rfl rfl)
theorem dX2_begins_1 : decode cX2_begins 1 = .ok (.istore_n 1, 1) := dk_60 (dk_at dksX2_begins_0 1 rfl rfl)
theorem dX2_begins_2 : decode cX2_begins 2 = .ok (.iload_n 1, 1) := dk_27 (dk_at dksX2_begins_0 2 rfl rfl)
theorem dX2_begins_3 : decode cX2_begins 3 = .ok (.bipush 12, 2) := dk_16 12 (dk_at dksX2_begins_0 3 rfl rfl)
theorem dX2_begins_5 : decode cX2_begins 5 = .ok (.if_icmp .ge 30, 3) := dk_162 0 30 (dk_at dksX2_begins_0 5 rfl rfl)
theorem dX2_begins_8 : decode cX2_begins 8 = .ok (.aload_n 0, 1) := dk_42 (dk_at dksX2_begins_0 8 rfl rfl)
theorem dX2_begins_9 : decode cX2_begins 9 = .ok (.getfield 30, 3) := dk_180 0 30 (dk_at dksX2_begins_0 9 rfl rfl)
theorem dX2_begins_12 : decode cX2_begins 12 = .ok (.iload_n 1, 1) := dk_27 (dk_at dksX2_begins_0 12 rfl rfl)
theorem dX2_begins_13 : decode cX2_begins 13 = .ok (.iconst 0, 1) := dk_3 (dk_at dksX2_begins_0 13 rfl rfl)
theorem dX2_begins_14 : decode cX2_begins 14 = .ok (.bastore, 1) := dk_84 (dk_at dksX2_begins_0 14 rfl rfl)
theorem dX2_begins_15 : decode cX2_begins 15 = .ok (.aload_n 0, 1) := dk_42 (dk_at dksX2_begins_0 15 rfl rfl)
theorem dX2_begins_16 : decode cX2_begins 16 = .ok (.getfield 34, 3) := dk_180 0 34 (dk_at dksX2_begins_0 16 rfl rfl)
theorem dX2_begins_19 : decode cX2_begins 19 = .ok (.iload_n 1, 1) := dk_27 (dk_at dksX2_begins_0 19 rfl rfl)
theorem dX2_begins_20 : decode cX2_begins 20 = .ok (.iconst 0, 1) := dk_3 (dk_at dksX2_begins_0 20 rfl rfl)
theorem dX2_begins_21 : decode cX2_begins 21 = .ok (.bastore, 1) := dk_84 (dk_at dksX2_begins_0 21 rfl rfl)
theorem dX2_begins_22 : decode cX2_begins 22 = .ok (.aload_n 0, 1) := dk_42 (dk_at dksX2_begins_0 22 rfl rfl)
theorem dX2_begins_23 : decode cX2_begins 23 = .ok (.getfield 18, 3) := dk_180 0 18 (dk_at dksX2_begins_1 0 rfl rfl)
theorem dX2_begins_26 : decode cX2_begins 26 = .ok (.iload_n 1, 1) := dk_27 (dk_at dksX2_begins_1 3 rfl rfl)
theorem dX2_begins_27 : decode cX2_begins 27 = .ok (.iconst (-1), 1) := dk_2 (dk_at dksX2_begins_1 4 rfl rfl)
theorem dX2_begins_28 : decode cX2_begins 28 = .ok (.iastore, 1) := dk_79 (dk_at dksX2_begins_1 5 rfl rfl)
theorem dX2_begins_29 : decode cX2_begins 29 = .ok (.iinc 1 1, 3) := dk_132 1 1 (dk_at dksX2_begins_1 6 rfl rfl)
theorem dX2_begins_32 : decode cX2_begins 32 = .ok (.goto (-30), 3) := dk_167 255 226 (dk_at dksX2_begins_1 9 rfl rfl)
theorem dX2_begins_35 : decode cX2_begins 35 = .ok (.iconst 0, 1) := dk_3 (dk_at dksX2_begins_1 12 rfl rfl)
theorem dX2_begins_36 : decode cX2_begins 36 = .ok (.istore_n 1, 1) := dk_60 (dk_at dksX2_begins_1 13 rfl rfl)
theorem dX2_begins_37 : decode cX2_begins 37 = .ok (.iload_n 1, 1) := dk_27 (dk_at dksX2_begins_1 14 rfl rfl)
theorem dX2_begins_38 : decode cX2_begins 38 = .ok (.bipush 6, 2) := dk_16 6 (dk_at dksX2_begins_1 15 rfl rfl)
theorem dX2_begins_40 : decode cX2_begins 40 = .ok (.if_icmp .ge 55, 3) := dk_162 0 55 (dk_at dksX2_begins_1 17 rfl rfl)
theorem dX2_begins_43 : decode cX2_begins 43 = .ok (.aload_n 0, 1) := dk_42 (dk_at dksX2_begins_1 20 rfl rfl)
theorem dX2_begins_44 : decode cX2_begins 44 = .ok (.getfield 9, 3) := dk_180 0 9 (dk_at dksX2_begins_1 21 rfl rfl)
theorem dX2_begins_47 : decode cX2_begins 47 = .ok (.iload_n 1, 1) := dk_27 (dk_at dksX2_begins_2 0 rfl rfl)
theorem dX2_begins_48 : decode cX2_begins 48 = .ok (.aload_n 0, 1) := dk_42 (dk_at dksX2_begins_2 1 rfl rfl)
theorem dX2_begins_49 : decode cX2_begins 49 = .ok (.getfield 15, 3) := dk_180 0 15 (dk_at dksX2_begins_2 2 rfl rfl)
theorem dX2_begins_52 : decode cX2_begins 52 = .ok (.iload_n 1, 1) := dk_27 (dk_at dksX2_begins_2 5 rfl rfl)
theorem dX2_begins_53 : decode cX2_begins 53 = .ok (.iaload, 1) := dk_46 (dk_at dksX2_begins_2 6 rfl rfl)
theorem dX2_begins_54 : decode cX2_begins 54 = .ok (.iastore, 1) := dk_79 (dk_at dksX2_begins_2 7 rfl rfl)
theorem dX2_begins_55 : decode cX2_begins 55 = .ok (.aload_n 0, 1) := dk_42 (dk_at dksX2_begins_2 8 rfl rfl)
theorem dX2_begins_56 : decode cX2_begins 56 = .ok (.getfield 30, 3) := dk_180 0 30 (dk_at dksX2_begins_2 9 rfl rfl)
theorem dX2_begins_59 : decode cX2_begins 59 = .ok (.aload_n 0, 1) := dk_42 (dk_at dksX2_begins_2 12 rfl rfl)
theorem dX2_begins_60 : decode cX2_begins 60 = .ok (.getfield 15, 3) := dk_180 0 15 (dk_at dksX2_begins_2 13 rfl rfl)
theorem dX2_begins_63 : decode cX2_begins 63 = .ok (.iload_n 1, 1) := dk_27 (dk_at dksX2_begins_2 16 rfl rfl)
theorem dX2_begins_64 : decode cX2_begins 64 = .ok (.iaload, 1) := dk_46 (dk_at dksX2_begins_2 17 rfl rfl)
theorem dX2_begins_65 : decode cX2_begins 65 = .ok (.iconst 1, 1) := dk_4 (dk_at dksX2_begins_2 18 rfl rfl)
theorem dX2_begins_66 : decode cX2_begins 66 = .ok (.bastore, 1) := dk_84 (dk_at dksX2_begins_2 19 rfl rfl)
theorem dX2_begins_67 : decode cX2_begins 67 = .ok (.aload_n 0, 1) := dk_42 (dk_at dksX2_begins_2 20 rfl rfl)
theorem dX2_begins_68 : decode cX2_begins 68 = .ok (.getfield 24, 3) := dk_180 0 24 (dk_at dksX2_begins_2 21 rfl rfl)
theorem dX2_begins_71 : decode cX2_begins 71 = .ok (.iload_n 1, 1) := dk_27 (dk_at dksX2_begins_3 0 rfl rfl)
theorem dX2_begins_72 : decode cX2_begins 72 = .ok (.getstatic 72, 3) := dk_178 0 72 (dk_at dksX2_begins_3 1 rfl rfl)
theorem dX2_begins_75 : decode cX2_begins 75 = .ok (.iload_n 1, 1) := dk_27 (dk_at dksX2_begins_3 4 rfl rfl)
theorem dX2_begins_76 : decode cX2_begins 76 = .ok (.iaload, 1) := dk_46 (dk_at dksX2_begins_3 5 rfl rfl)
theorem dX2_begins_77 : decode cX2_begins 77 = .ok (.iastore, 1) := dk_79 (dk_at dksX2_begins_3 6 rfl rfl)
theorem dX2_begins_78 : decode cX2_begins 78 = .ok (.aload_n 0, 1) := dk_42 (dk_at dksX2_begins_3 7 rfl rfl)
theorem dX2_begins_79 : decode cX2_begins 79 = .ok (.getfield 27, 3) := dk_180 0 27 (dk_at dksX2_begins_3 8 rfl rfl)
theorem dX2_begins_82 : decode cX2_begins 82 = .ok (.iload_n 1, 1) := dk_27 (dk_at dksX2_begins_3 11 rfl rfl)
theorem dX2_begins_83 : decode cX2_begins 83 = .ok (.getstatic 75, 3) := dk_178 0 75 (dk_at dksX2_begins_3 12 rfl rfl)
theorem dX2_begins_86 : decode cX2_begins 86 = .ok (.iload_n 1, 1) := dk_27 (dk_at dksX2_begins_3 15 rfl rfl)
theorem dX2_begins_87 : decode cX2_begins 87 = .ok (.iaload, 1) := dk_46 (dk_at dksX2_begins_3 16 rfl rfl)
theorem dX2_begins_88 : decode cX2_begins 88 = .ok (.iastore, 1) := dk_79 (dk_at dksX2_begins_3 17 rfl rfl)
theorem dX2_begins_89 : decode cX2_begins 89 = .ok (.iinc 1 1, 3) := dk_132 1 1 (dk_at dksX2_begins_3 18 rfl rfl)
theorem dX2_begins_92 : decode cX2_begins 92 = .ok (.goto (-55), 3) := dk_167 255 201 (dk_at dksX2_begins_3 21 rfl rfl)
theorem dX2_begins_95 : decode cX2_begins 95 = .ok (.aload_n 0, 1) := dk_42 (dk_at dksX2_begins_4 0 rfl rfl)
theorem dX2_begins_96 : decode cX2_begins 96 = .ok (.iconst 0, 1) := dk_3 (dk_at dksX2_begins_4 1 rfl rfl)
theorem dX2_begins_97 : decode cX2_begins 97 = .ok (.putfield 53, 3) := dk_181 0 53 (dk_at dksX2_begins_4 2 rfl rfl)
theorem dX2_begins_100 : decode cX2_begins 100 = .ok (.aload_n 0, 1) := dk_42 (dk_at dksX2_begins_4 5 rfl rfl)
theorem dX2_begins_101 : decode cX2_begins 101 = .ok (.iconst 0, 1) := dk_3 (dk_at dksX2_begins_4 6 rfl rfl)
theorem dX2_begins_102 : decode cX2_begins 102 = .ok (.putfield 59, 3) := dk_181 0 59 (dk_at dksX2_begins_4 7 rfl rfl)
theorem dX2_begins_105 : decode cX2_begins 105 = .ok (.aload_n 0, 1) := dk_42 (dk_at dksX2_begins_4 10 rfl rfl)
theorem dX2_begins_106 : decode cX2_begins 106 = .ok (.iconst 0, 1) := dk_3 (dk_at dksX2_begins_4 11 rfl rfl)
theorem dX2_begins_107 : decode cX2_begins 107 = .ok (.putfield 62, 3) := dk_181 0 62 (dk_at dksX2_begins_4 12 rfl rfl)
theorem dX2_begins_110 : decode cX2_begins 110 = .ok (.aload_n 0, 1) := dk_42 (dk_at dksX2_begins_4 15 rfl rfl)
theorem dX2_begins_111 : decode cX2_begins 111 = .ok (.iconst 0, 1) := dk_3 (dk_at dksX2_begins_4 16 rfl rfl)
theorem dX2_begins_112 : decode cX2_begins 112 = .ok (.putfield 65, 3) := dk_181 0 65 (dk_at dksX2_begins_4 17 rfl rfl)
theorem dX2_begins_115 : decode cX2_begins 115 = .ok (.aload_n 0, 1) := dk_42 (dk_at dksX2_begins_4 20 rfl rfl)
theorem dX2_begins_116 : decode cX2_begins 116 = .ok (.iconst (-1), 1) := dk_2 (dk_at dksX2_begins_4 21 rfl rfl)
theorem dX2_begins_117 : decode cX2_begins 117 = .ok (.putfield 41, 3) := dk_181 0 41 (dk_at dksX2_begins_5 0 rfl rfl)
theorem dX2_begins_120 : decode cX2_begins 120 = .ok (.aload_n 0, 1) := dk_42 (dk_at dksX2_begins_5 3 rfl rfl)
theorem dX2_begins_121 : decode cX2_begins 121 = .ok (.iconst (-1), 1) := dk_2 (dk_at dksX2_begins_5 4 rfl rfl)
theorem dX2_begins_122 : decode cX2_begins 122 = .ok (.putfield 44, 3) := dk_181 0 44 (dk_at dksX2_begins_5 5 rfl rfl)
theorem dX2_begins_125 : decode cX2_begins 125 = .ok (.aload_n 0, 1) := dk_42 (dk_at dksX2_begins_5 8 rfl rfl)
theorem dX2_begins_126 : decode cX2_begins 126 = .ok (.iconst 0, 1) := dk_3 (dk_at dksX2_begins_5 9 rfl rfl)
theorem dX2_begins_127 : decode cX2_begins 127 = .ok (.putfield 68, 3) := dk_181 0 68 (dk_at dksX2_begins_5 10 rfl rfl)
theorem dX2_begins_130 : decode cX2_begins 130 = .ok (.return_, 1) := dk_177 (dk_at dksX2_begins_5 13 rfl rfl)
abbrev cX2_goesRound : ByteArray := prog_7_method_6_code
def yX2_goesRound : MethodName := ⟨RX2, "goesRound", "()V"⟩
def dkwX2_goesRound_3 : List UInt8 := [42, 2, 181, 0, 41, 177]
abbrev dktX2_goesRound_3 : List UInt8 := dkwX2_goesRound_3 ++ []
def dkwX2_goesRound_2 : List UInt8 := [42, 180, 0, 9, 6, 46, 42, 180, 0, 37, 159, 0, 4, 177, 42, 180, 0, 9, 6, 42, 180, 0, 41, 79]
abbrev dktX2_goesRound_2 : List UInt8 := dkwX2_goesRound_2 ++ dktX2_goesRound_3
def dkwX2_goesRound_1 : List UInt8 := [180, 0, 9, 8, 27, 79, 42, 89, 180, 0, 65, 4, 96, 181, 0, 65, 42, 180, 0, 41, 2, 159, 0, 16]
abbrev dktX2_goesRound_1 : List UInt8 := dkwX2_goesRound_1 ++ dktX2_goesRound_2
def dkwX2_goesRound_0 : List UInt8 := [42, 180, 0, 9, 3, 46, 60, 42, 180, 0, 9, 4, 42, 180, 0, 9, 3, 8, 184, 0, 47, 42]
abbrev dktX2_goesRound_0 : List UInt8 := dkwX2_goesRound_0 ++ dktX2_goesRound_1
theorem dksX2_goesRound_0 : cX2_goesRound.data.toList.drop 0 = dktX2_goesRound_0 := by decide +kernel
theorem dksX2_goesRound_1 : cX2_goesRound.data.toList.drop 22 = dktX2_goesRound_1 := dk_seg dksX2_goesRound_0 22 rfl rfl
theorem dksX2_goesRound_2 : cX2_goesRound.data.toList.drop 46 = dktX2_goesRound_2 := dk_seg dksX2_goesRound_1 24 rfl rfl
theorem dksX2_goesRound_3 : cX2_goesRound.data.toList.drop 70 = dktX2_goesRound_3 := dk_seg dksX2_goesRound_2 24 rfl rfl
theorem dX2_goesRound_0 : decode cX2_goesRound 0 = .ok (.aload_n 0, 1) := dk_42 (dk_at dksX2_goesRound_0 0 rfl rfl)
theorem dX2_goesRound_1 : decode cX2_goesRound 1 = .ok (.getfield 9, 3) := dk_180 0 9 (dk_at dksX2_goesRound_0 1 rfl rfl)
theorem dX2_goesRound_4 : decode cX2_goesRound 4 = .ok (.iconst 0, 1) := dk_3 (dk_at dksX2_goesRound_0 4 rfl rfl)
theorem dX2_goesRound_5 : decode cX2_goesRound 5 = .ok (.iaload, 1) := dk_46 (dk_at dksX2_goesRound_0 5 rfl rfl)
theorem dX2_goesRound_6 : decode cX2_goesRound 6 = .ok (.istore_n 1, 1) := dk_60 (dk_at dksX2_goesRound_0 6 rfl rfl)
theorem dX2_goesRound_7 : decode cX2_goesRound 7 = .ok (.aload_n 0, 1) := dk_42 (dk_at dksX2_goesRound_0 7 rfl rfl)
theorem dX2_goesRound_8 : decode cX2_goesRound 8 = .ok (.getfield 9, 3) := dk_180 0 9 (dk_at dksX2_goesRound_0 8 rfl rfl)
theorem dX2_goesRound_11 : decode cX2_goesRound 11 = .ok (.iconst 1, 1) := dk_4 (dk_at dksX2_goesRound_0 11 rfl rfl)
theorem dX2_goesRound_12 : decode cX2_goesRound 12 = .ok (.aload_n 0, 1) := dk_42 (dk_at dksX2_goesRound_0 12 rfl rfl)
theorem dX2_goesRound_13 : decode cX2_goesRound 13 = .ok (.getfield 9, 3) := dk_180 0 9 (dk_at dksX2_goesRound_0 13 rfl rfl)
theorem dX2_goesRound_16 : decode cX2_goesRound 16 = .ok (.iconst 0, 1) := dk_3 (dk_at dksX2_goesRound_0 16 rfl rfl)
theorem dX2_goesRound_17 : decode cX2_goesRound 17 = .ok (.iconst 5, 1) := dk_8 (dk_at dksX2_goesRound_0 17 rfl rfl)
theorem dX2_goesRound_18 : decode cX2_goesRound 18 = .ok (.invokestatic 47, 3) := dk_184 0 47 (dk_at dksX2_goesRound_0 18 rfl rfl)
theorem dX2_goesRound_21 : decode cX2_goesRound 21 = .ok (.aload_n 0, 1) := dk_42 (dk_at dksX2_goesRound_0 21 rfl rfl)
theorem dX2_goesRound_22 : decode cX2_goesRound 22 = .ok (.getfield 9, 3) := dk_180 0 9 (dk_at dksX2_goesRound_1 0 rfl rfl)
theorem dX2_goesRound_25 : decode cX2_goesRound 25 = .ok (.iconst 5, 1) := dk_8 (dk_at dksX2_goesRound_1 3 rfl rfl)
theorem dX2_goesRound_26 : decode cX2_goesRound 26 = .ok (.iload_n 1, 1) := dk_27 (dk_at dksX2_goesRound_1 4 rfl rfl)
theorem dX2_goesRound_27 : decode cX2_goesRound 27 = .ok (.iastore, 1) := dk_79 (dk_at dksX2_goesRound_1 5 rfl rfl)
theorem dX2_goesRound_28 : decode cX2_goesRound 28 = .ok (.aload_n 0, 1) := dk_42 (dk_at dksX2_goesRound_1 6 rfl rfl)
theorem dX2_goesRound_29 : decode cX2_goesRound 29 = .ok (.dup, 1) := dk_89 (dk_at dksX2_goesRound_1 7 rfl rfl)
theorem dX2_goesRound_30 : decode cX2_goesRound 30 = .ok (.getfield 65, 3) := dk_180 0 65 (dk_at dksX2_goesRound_1 8 rfl rfl)
theorem dX2_goesRound_33 : decode cX2_goesRound 33 = .ok (.iconst 1, 1) := dk_4 (dk_at dksX2_goesRound_1 11 rfl rfl)
theorem dX2_goesRound_34 : decode cX2_goesRound 34 = .ok (.iadd, 1) := dk_96 (dk_at dksX2_goesRound_1 12 rfl rfl)
theorem dX2_goesRound_35 : decode cX2_goesRound 35 = .ok (.putfield 65, 3) := dk_181 0 65 (dk_at dksX2_goesRound_1 13 rfl rfl)
theorem dX2_goesRound_38 : decode cX2_goesRound 38 = .ok (.aload_n 0, 1) := dk_42 (dk_at dksX2_goesRound_1 16 rfl rfl)
theorem dX2_goesRound_39 : decode cX2_goesRound 39 = .ok (.getfield 41, 3) := dk_180 0 41 (dk_at dksX2_goesRound_1 17 rfl rfl)
theorem dX2_goesRound_42 : decode cX2_goesRound 42 = .ok (.iconst (-1), 1) := dk_2 (dk_at dksX2_goesRound_1 20 rfl rfl)
theorem dX2_goesRound_43 : decode cX2_goesRound 43 = .ok (.if_icmp .eq 16, 3) := dk_159 0 16 (dk_at dksX2_goesRound_1 21 rfl rfl)
theorem dX2_goesRound_46 : decode cX2_goesRound 46 = .ok (.aload_n 0, 1) := dk_42 (dk_at dksX2_goesRound_2 0 rfl rfl)
theorem dX2_goesRound_47 : decode cX2_goesRound 47 = .ok (.getfield 9, 3) := dk_180 0 9 (dk_at dksX2_goesRound_2 1 rfl rfl)
theorem dX2_goesRound_50 : decode cX2_goesRound 50 = .ok (.iconst 3, 1) := dk_6 (dk_at dksX2_goesRound_2 4 rfl rfl)
theorem dX2_goesRound_51 : decode cX2_goesRound 51 = .ok (.iaload, 1) := dk_46 (dk_at dksX2_goesRound_2 5 rfl rfl)
theorem dX2_goesRound_52 : decode cX2_goesRound 52 = .ok (.aload_n 0, 1) := dk_42 (dk_at dksX2_goesRound_2 6 rfl rfl)
theorem dX2_goesRound_53 : decode cX2_goesRound 53 = .ok (.getfield 37, 3) := dk_180 0 37 (dk_at dksX2_goesRound_2 7 rfl rfl)
theorem dX2_goesRound_56 : decode cX2_goesRound 56 = .ok (.if_icmp .eq 4, 3) := dk_159 0 4 (dk_at dksX2_goesRound_2 10 rfl rfl)
theorem dX2_goesRound_59 : decode cX2_goesRound 59 = .ok (.return_, 1) := dk_177 (dk_at dksX2_goesRound_2 13 rfl rfl)
theorem dX2_goesRound_60 : decode cX2_goesRound 60 = .ok (.aload_n 0, 1) := dk_42 (dk_at dksX2_goesRound_2 14 rfl rfl)
theorem dX2_goesRound_61 : decode cX2_goesRound 61 = .ok (.getfield 9, 3) := dk_180 0 9 (dk_at dksX2_goesRound_2 15 rfl rfl)
theorem dX2_goesRound_64 : decode cX2_goesRound 64 = .ok (.iconst 3, 1) := dk_6 (dk_at dksX2_goesRound_2 18 rfl rfl)
theorem dX2_goesRound_65 : decode cX2_goesRound 65 = .ok (.aload_n 0, 1) := dk_42 (dk_at dksX2_goesRound_2 19 rfl rfl)
theorem dX2_goesRound_66 : decode cX2_goesRound 66 = .ok (.getfield 41, 3) := dk_180 0 41 (dk_at dksX2_goesRound_2 20 rfl rfl)
theorem dX2_goesRound_69 : decode cX2_goesRound 69 = .ok (.iastore, 1) := dk_79 (dk_at dksX2_goesRound_2 23 rfl rfl)
theorem dX2_goesRound_70 : decode cX2_goesRound 70 = .ok (.aload_n 0, 1) := dk_42 (dk_at dksX2_goesRound_3 0 rfl rfl)
theorem dX2_goesRound_71 : decode cX2_goesRound 71 = .ok (.iconst (-1), 1) := dk_2 (dk_at dksX2_goesRound_3 1 rfl rfl)
theorem dX2_goesRound_72 : decode cX2_goesRound 72 = .ok (.putfield 41, 3) := dk_181 0 41 (dk_at dksX2_goesRound_3 2 rfl rfl)
theorem dX2_goesRound_75 : decode cX2_goesRound 75 = .ok (.return_, 1) := dk_177 (dk_at dksX2_goesRound_3 5 rfl rfl)
abbrev cX2_placeOf : ByteArray := prog_7_method_5_code
def yX2_placeOf : MethodName := ⟨RX2, "placeOf", "(I)I"⟩
def dkwX2_placeOf_1 : List UInt8 := [28, 61, 132, 3, 1, 167, 255, 231, 28, 172]
abbrev dktX2_placeOf_1 : List UInt8 := dkwX2_placeOf_1 ++ []
def dkwX2_placeOf_0 : List UInt8 := [2, 61, 3, 62, 29, 16, 6, 162, 0, 25, 42, 180, 0, 9, 29, 46, 27, 160, 0, 7, 29, 167, 0, 4]
abbrev dktX2_placeOf_0 : List UInt8 := dkwX2_placeOf_0 ++ dktX2_placeOf_1
theorem dksX2_placeOf_0 : cX2_placeOf.data.toList.drop 0 = dktX2_placeOf_0 := by decide +kernel
theorem dksX2_placeOf_1 : cX2_placeOf.data.toList.drop 24 = dktX2_placeOf_1 := dk_seg dksX2_placeOf_0 24 rfl rfl
theorem dX2_placeOf_0 : decode cX2_placeOf 0 = .ok (.iconst (-1), 1) := dk_2 (dk_at dksX2_placeOf_0 0 rfl rfl)
theorem dX2_placeOf_1 : decode cX2_placeOf 1 = .ok (.istore_n 2, 1) := dk_61 (dk_at dksX2_placeOf_0 1 rfl rfl)
theorem dX2_placeOf_2 : decode cX2_placeOf 2 = .ok (.iconst 0, 1) := dk_3 (dk_at dksX2_placeOf_0 2 rfl rfl)
theorem dX2_placeOf_3 : decode cX2_placeOf 3 = .ok (.istore_n 3, 1) := dk_62 (dk_at dksX2_placeOf_0 3 rfl rfl)
theorem dX2_placeOf_4 : decode cX2_placeOf 4 = .ok (.iload_n 3, 1) := dk_29 (dk_at dksX2_placeOf_0 4 rfl rfl)
theorem dX2_placeOf_5 : decode cX2_placeOf 5 = .ok (.bipush 6, 2) := dk_16 6 (dk_at dksX2_placeOf_0 5 rfl rfl)
theorem dX2_placeOf_7 : decode cX2_placeOf 7 = .ok (.if_icmp .ge 25, 3) := dk_162 0 25 (dk_at dksX2_placeOf_0 7 rfl rfl)
theorem dX2_placeOf_10 : decode cX2_placeOf 10 = .ok (.aload_n 0, 1) := dk_42 (dk_at dksX2_placeOf_0 10 rfl rfl)
theorem dX2_placeOf_11 : decode cX2_placeOf 11 = .ok (.getfield 9, 3) := dk_180 0 9 (dk_at dksX2_placeOf_0 11 rfl rfl)
theorem dX2_placeOf_14 : decode cX2_placeOf 14 = .ok (.iload_n 3, 1) := dk_29 (dk_at dksX2_placeOf_0 14 rfl rfl)
theorem dX2_placeOf_15 : decode cX2_placeOf 15 = .ok (.iaload, 1) := dk_46 (dk_at dksX2_placeOf_0 15 rfl rfl)
theorem dX2_placeOf_16 : decode cX2_placeOf 16 = .ok (.iload_n 1, 1) := dk_27 (dk_at dksX2_placeOf_0 16 rfl rfl)
theorem dX2_placeOf_17 : decode cX2_placeOf 17 = .ok (.if_icmp .ne 7, 3) := dk_160 0 7 (dk_at dksX2_placeOf_0 17 rfl rfl)
theorem dX2_placeOf_20 : decode cX2_placeOf 20 = .ok (.iload_n 3, 1) := dk_29 (dk_at dksX2_placeOf_0 20 rfl rfl)
theorem dX2_placeOf_21 : decode cX2_placeOf 21 = .ok (.goto 4, 3) := dk_167 0 4 (dk_at dksX2_placeOf_0 21 rfl rfl)
theorem dX2_placeOf_24 : decode cX2_placeOf 24 = .ok (.iload_n 2, 1) := dk_28 (dk_at dksX2_placeOf_1 0 rfl rfl)
theorem dX2_placeOf_25 : decode cX2_placeOf 25 = .ok (.istore_n 2, 1) := dk_61 (dk_at dksX2_placeOf_1 1 rfl rfl)
theorem dX2_placeOf_26 : decode cX2_placeOf 26 = .ok (.iinc 3 1, 3) := dk_132 3 1 (dk_at dksX2_placeOf_1 2 rfl rfl)
theorem dX2_placeOf_29 : decode cX2_placeOf 29 = .ok (.goto (-25), 3) := dk_167 255 231 (dk_at dksX2_placeOf_1 5 rfl rfl)
theorem dX2_placeOf_32 : decode cX2_placeOf 32 = .ok (.iload_n 2, 1) := dk_28 (dk_at dksX2_placeOf_1 8 rfl rfl)
theorem dX2_placeOf_33 : decode cX2_placeOf 33 = .ok (.ireturn, 1) := dk_172 (dk_at dksX2_placeOf_1 9 rfl rfl)
abbrev cX2_mayPair : ByteArray := prog_7_method_7_code
def yX2_mayPair : MethodName := ⟨RX2, "mayPair", "(II)Z"⟩
def dkwX2_mayPair_2 : List UInt8 := [180, 0, 30, 28, 51, 154, 0, 7, 4, 167, 0, 4, 3, 172]
abbrev dktX2_mayPair_2 : List UInt8 := dkwX2_mayPair_2 ++ []
def dkwX2_mayPair_1 : List UInt8 := [27, 46, 2, 159, 0, 19, 42, 180, 0, 18, 27, 46, 28, 160, 0, 7, 4, 167, 0, 4, 3, 172, 42]
abbrev dktX2_mayPair_1 : List UInt8 := dkwX2_mayPair_1 ++ dktX2_mayPair_2
def dkwX2_mayPair_0 : List UInt8 := [42, 180, 0, 34, 27, 51, 154, 0, 12, 42, 180, 0, 34, 28, 51, 153, 0, 5, 3, 172, 42, 180, 0, 18]
abbrev dktX2_mayPair_0 : List UInt8 := dkwX2_mayPair_0 ++ dktX2_mayPair_1
theorem dksX2_mayPair_0 : cX2_mayPair.data.toList.drop 0 = dktX2_mayPair_0 := by decide +kernel
theorem dksX2_mayPair_1 : cX2_mayPair.data.toList.drop 24 = dktX2_mayPair_1 := dk_seg dksX2_mayPair_0 24 rfl rfl
theorem dksX2_mayPair_2 : cX2_mayPair.data.toList.drop 47 = dktX2_mayPair_2 := dk_seg dksX2_mayPair_1 23 rfl rfl
theorem dX2_mayPair_0 : decode cX2_mayPair 0 = .ok (.aload_n 0, 1) := dk_42 (dk_at dksX2_mayPair_0 0 rfl rfl)
theorem dX2_mayPair_1 : decode cX2_mayPair 1 = .ok (.getfield 34, 3) := dk_180 0 34 (dk_at dksX2_mayPair_0 1 rfl rfl)
theorem dX2_mayPair_4 : decode cX2_mayPair 4 = .ok (.iload_n 1, 1) := dk_27 (dk_at dksX2_mayPair_0 4 rfl rfl)
theorem dX2_mayPair_5 : decode cX2_mayPair 5 = .ok (.baload, 1) := dk_51 (dk_at dksX2_mayPair_0 5 rfl rfl)
theorem dX2_mayPair_6 : decode cX2_mayPair 6 = .ok (.ifCond .ne 12, 3) := dk_154 0 12 (dk_at dksX2_mayPair_0 6 rfl rfl)
theorem dX2_mayPair_9 : decode cX2_mayPair 9 = .ok (.aload_n 0, 1) := dk_42 (dk_at dksX2_mayPair_0 9 rfl rfl)
theorem dX2_mayPair_10 : decode cX2_mayPair 10 = .ok (.getfield 34, 3) := dk_180 0 34 (dk_at dksX2_mayPair_0 10 rfl rfl)
theorem dX2_mayPair_13 : decode cX2_mayPair 13 = .ok (.iload_n 2, 1) := dk_28 (dk_at dksX2_mayPair_0 13 rfl rfl)
theorem dX2_mayPair_14 : decode cX2_mayPair 14 = .ok (.baload, 1) := dk_51 (dk_at dksX2_mayPair_0 14 rfl rfl)
theorem dX2_mayPair_15 : decode cX2_mayPair 15 = .ok (.ifCond .eq 5, 3) := dk_153 0 5 (dk_at dksX2_mayPair_0 15 rfl rfl)
theorem dX2_mayPair_18 : decode cX2_mayPair 18 = .ok (.iconst 0, 1) := dk_3 (dk_at dksX2_mayPair_0 18 rfl rfl)
theorem dX2_mayPair_19 : decode cX2_mayPair 19 = .ok (.ireturn, 1) := dk_172 (dk_at dksX2_mayPair_0 19 rfl rfl)
theorem dX2_mayPair_20 : decode cX2_mayPair 20 = .ok (.aload_n 0, 1) := dk_42 (dk_at dksX2_mayPair_0 20 rfl rfl)
theorem dX2_mayPair_21 : decode cX2_mayPair 21 = .ok (.getfield 18, 3) := dk_180 0 18 (dk_at dksX2_mayPair_0 21 rfl rfl)
theorem dX2_mayPair_24 : decode cX2_mayPair 24 = .ok (.iload_n 1, 1) := dk_27 (dk_at dksX2_mayPair_1 0 rfl rfl)
theorem dX2_mayPair_25 : decode cX2_mayPair 25 = .ok (.iaload, 1) := dk_46 (dk_at dksX2_mayPair_1 1 rfl rfl)
theorem dX2_mayPair_26 : decode cX2_mayPair 26 = .ok (.iconst (-1), 1) := dk_2 (dk_at dksX2_mayPair_1 2 rfl rfl)
theorem dX2_mayPair_27 : decode cX2_mayPair 27 = .ok (.if_icmp .eq 19, 3) := dk_159 0 19 (dk_at dksX2_mayPair_1 3 rfl rfl)
theorem dX2_mayPair_30 : decode cX2_mayPair 30 = .ok (.aload_n 0, 1) := dk_42 (dk_at dksX2_mayPair_1 6 rfl rfl)
theorem dX2_mayPair_31 : decode cX2_mayPair 31 = .ok (.getfield 18, 3) := dk_180 0 18 (dk_at dksX2_mayPair_1 7 rfl rfl)
theorem dX2_mayPair_34 : decode cX2_mayPair 34 = .ok (.iload_n 1, 1) := dk_27 (dk_at dksX2_mayPair_1 10 rfl rfl)
theorem dX2_mayPair_35 : decode cX2_mayPair 35 = .ok (.iaload, 1) := dk_46 (dk_at dksX2_mayPair_1 11 rfl rfl)
theorem dX2_mayPair_36 : decode cX2_mayPair 36 = .ok (.iload_n 2, 1) := dk_28 (dk_at dksX2_mayPair_1 12 rfl rfl)
theorem dX2_mayPair_37 : decode cX2_mayPair 37 = .ok (.if_icmp .ne 7, 3) := dk_160 0 7 (dk_at dksX2_mayPair_1 13 rfl rfl)
theorem dX2_mayPair_40 : decode cX2_mayPair 40 = .ok (.iconst 1, 1) := dk_4 (dk_at dksX2_mayPair_1 16 rfl rfl)
theorem dX2_mayPair_41 : decode cX2_mayPair 41 = .ok (.goto 4, 3) := dk_167 0 4 (dk_at dksX2_mayPair_1 17 rfl rfl)
theorem dX2_mayPair_44 : decode cX2_mayPair 44 = .ok (.iconst 0, 1) := dk_3 (dk_at dksX2_mayPair_1 20 rfl rfl)
theorem dX2_mayPair_45 : decode cX2_mayPair 45 = .ok (.ireturn, 1) := dk_172 (dk_at dksX2_mayPair_1 21 rfl rfl)
theorem dX2_mayPair_46 : decode cX2_mayPair 46 = .ok (.aload_n 0, 1) := dk_42 (dk_at dksX2_mayPair_1 22 rfl rfl)
theorem dX2_mayPair_47 : decode cX2_mayPair 47 = .ok (.getfield 30, 3) := dk_180 0 30 (dk_at dksX2_mayPair_2 0 rfl rfl)
theorem dX2_mayPair_50 : decode cX2_mayPair 50 = .ok (.iload_n 2, 1) := dk_28 (dk_at dksX2_mayPair_2 3 rfl rfl)
theorem dX2_mayPair_51 : decode cX2_mayPair 51 = .ok (.baload, 1) := dk_51 (dk_at dksX2_mayPair_2 4 rfl rfl)
theorem dX2_mayPair_52 : decode cX2_mayPair 52 = .ok (.ifCond .ne 7, 3) := dk_154 0 7 (dk_at dksX2_mayPair_2 5 rfl rfl)
theorem dX2_mayPair_55 : decode cX2_mayPair 55 = .ok (.iconst 1, 1) := dk_4 (dk_at dksX2_mayPair_2 8 rfl rfl)
theorem dX2_mayPair_56 : decode cX2_mayPair 56 = .ok (.goto 4, 3) := dk_167 0 4 (dk_at dksX2_mayPair_2 9 rfl rfl)
theorem dX2_mayPair_59 : decode cX2_mayPair 59 = .ok (.iconst 0, 1) := dk_3 (dk_at dksX2_mayPair_2 12 rfl rfl)
theorem dX2_mayPair_60 : decode cX2_mayPair 60 = .ok (.ireturn, 1) := dk_172 (dk_at dksX2_mayPair_2 13 rfl rfl)
abbrev cX2_puts : ByteArray := prog_7_method_8_code
def yX2_puts : MethodName := ⟨RX2, "puts", "(II)I"⟩
def dkwX2_puts_3 : List UInt8 := [180, 0, 30, 28, 4, 84, 29, 172]
abbrev dktX2_puts_3 : List UInt8 := dkwX2_puts_3 ++ []
def dkwX2_puts_2 : List UInt8 := [42, 180, 0, 34, 28, 21, 4, 84, 42, 180, 0, 18, 27, 28, 79, 42, 180, 0, 18, 28, 27, 79, 42]
abbrev dktX2_puts_2 : List UInt8 := dkwX2_puts_2 ++ dktX2_puts_3
def dkwX2_puts_1 : List UInt8 := [180, 0, 18, 27, 46, 28, 160, 0, 7, 4, 167, 0, 4, 3, 54, 4, 42, 180, 0, 34, 27, 21, 4, 84]
abbrev dktX2_puts_1 : List UInt8 := dkwX2_puts_1 ++ dktX2_puts_2
def dkwX2_puts_0 : List UInt8 := [42, 27, 182, 0, 78, 62, 42, 180, 0, 9, 29, 28, 79, 42, 89, 180, 0, 59, 4, 96, 181, 0, 59, 42]
abbrev dktX2_puts_0 : List UInt8 := dkwX2_puts_0 ++ dktX2_puts_1
theorem dksX2_puts_0 : cX2_puts.data.toList.drop 0 = dktX2_puts_0 := by decide +kernel
theorem dksX2_puts_1 : cX2_puts.data.toList.drop 24 = dktX2_puts_1 := dk_seg dksX2_puts_0 24 rfl rfl
theorem dksX2_puts_2 : cX2_puts.data.toList.drop 48 = dktX2_puts_2 := dk_seg dksX2_puts_1 24 rfl rfl
theorem dksX2_puts_3 : cX2_puts.data.toList.drop 71 = dktX2_puts_3 := dk_seg dksX2_puts_2 23 rfl rfl
theorem dX2_puts_0 : decode cX2_puts 0 = .ok (.aload_n 0, 1) := dk_42 (dk_at dksX2_puts_0 0 rfl rfl)
theorem dX2_puts_1 : decode cX2_puts 1 = .ok (.iload_n 1, 1) := dk_27 (dk_at dksX2_puts_0 1 rfl rfl)
theorem dX2_puts_2 : decode cX2_puts 2 = .ok (.invokevirtual 78, 3) := dk_182 0 78 (dk_at dksX2_puts_0 2 rfl rfl)
theorem dX2_puts_5 : decode cX2_puts 5 = .ok (.istore_n 3, 1) := dk_62 (dk_at dksX2_puts_0 5 rfl rfl)
theorem dX2_puts_6 : decode cX2_puts 6 = .ok (.aload_n 0, 1) := dk_42 (dk_at dksX2_puts_0 6 rfl rfl)
theorem dX2_puts_7 : decode cX2_puts 7 = .ok (.getfield 9, 3) := dk_180 0 9 (dk_at dksX2_puts_0 7 rfl rfl)
theorem dX2_puts_10 : decode cX2_puts 10 = .ok (.iload_n 3, 1) := dk_29 (dk_at dksX2_puts_0 10 rfl rfl)
theorem dX2_puts_11 : decode cX2_puts 11 = .ok (.iload_n 2, 1) := dk_28 (dk_at dksX2_puts_0 11 rfl rfl)
theorem dX2_puts_12 : decode cX2_puts 12 = .ok (.iastore, 1) := dk_79 (dk_at dksX2_puts_0 12 rfl rfl)
theorem dX2_puts_13 : decode cX2_puts 13 = .ok (.aload_n 0, 1) := dk_42 (dk_at dksX2_puts_0 13 rfl rfl)
theorem dX2_puts_14 : decode cX2_puts 14 = .ok (.dup, 1) := dk_89 (dk_at dksX2_puts_0 14 rfl rfl)
theorem dX2_puts_15 : decode cX2_puts 15 = .ok (.getfield 59, 3) := dk_180 0 59 (dk_at dksX2_puts_0 15 rfl rfl)
theorem dX2_puts_18 : decode cX2_puts 18 = .ok (.iconst 1, 1) := dk_4 (dk_at dksX2_puts_0 18 rfl rfl)
theorem dX2_puts_19 : decode cX2_puts 19 = .ok (.iadd, 1) := dk_96 (dk_at dksX2_puts_0 19 rfl rfl)
theorem dX2_puts_20 : decode cX2_puts 20 = .ok (.putfield 59, 3) := dk_181 0 59 (dk_at dksX2_puts_0 20 rfl rfl)
theorem dX2_puts_23 : decode cX2_puts 23 = .ok (.aload_n 0, 1) := dk_42 (dk_at dksX2_puts_0 23 rfl rfl)
theorem dX2_puts_24 : decode cX2_puts 24 = .ok (.getfield 18, 3) := dk_180 0 18 (dk_at dksX2_puts_1 0 rfl rfl)
theorem dX2_puts_27 : decode cX2_puts 27 = .ok (.iload_n 1, 1) := dk_27 (dk_at dksX2_puts_1 3 rfl rfl)
theorem dX2_puts_28 : decode cX2_puts 28 = .ok (.iaload, 1) := dk_46 (dk_at dksX2_puts_1 4 rfl rfl)
theorem dX2_puts_29 : decode cX2_puts 29 = .ok (.iload_n 2, 1) := dk_28 (dk_at dksX2_puts_1 5 rfl rfl)
theorem dX2_puts_30 : decode cX2_puts 30 = .ok (.if_icmp .ne 7, 3) := dk_160 0 7 (dk_at dksX2_puts_1 6 rfl rfl)
theorem dX2_puts_33 : decode cX2_puts 33 = .ok (.iconst 1, 1) := dk_4 (dk_at dksX2_puts_1 9 rfl rfl)
theorem dX2_puts_34 : decode cX2_puts 34 = .ok (.goto 4, 3) := dk_167 0 4 (dk_at dksX2_puts_1 10 rfl rfl)
theorem dX2_puts_37 : decode cX2_puts 37 = .ok (.iconst 0, 1) := dk_3 (dk_at dksX2_puts_1 13 rfl rfl)
theorem dX2_puts_38 : decode cX2_puts 38 = .ok (.istore 4, 2) := dk_54 4 (dk_at dksX2_puts_1 14 rfl rfl)
theorem dX2_puts_40 : decode cX2_puts 40 = .ok (.aload_n 0, 1) := dk_42 (dk_at dksX2_puts_1 16 rfl rfl)
theorem dX2_puts_41 : decode cX2_puts 41 = .ok (.getfield 34, 3) := dk_180 0 34 (dk_at dksX2_puts_1 17 rfl rfl)
theorem dX2_puts_44 : decode cX2_puts 44 = .ok (.iload_n 1, 1) := dk_27 (dk_at dksX2_puts_1 20 rfl rfl)
theorem dX2_puts_45 : decode cX2_puts 45 = .ok (.iload 4, 2) := dk_21 4 (dk_at dksX2_puts_1 21 rfl rfl)
theorem dX2_puts_47 : decode cX2_puts 47 = .ok (.bastore, 1) := dk_84 (dk_at dksX2_puts_1 23 rfl rfl)
theorem dX2_puts_48 : decode cX2_puts 48 = .ok (.aload_n 0, 1) := dk_42 (dk_at dksX2_puts_2 0 rfl rfl)
theorem dX2_puts_49 : decode cX2_puts 49 = .ok (.getfield 34, 3) := dk_180 0 34 (dk_at dksX2_puts_2 1 rfl rfl)
theorem dX2_puts_52 : decode cX2_puts 52 = .ok (.iload_n 2, 1) := dk_28 (dk_at dksX2_puts_2 4 rfl rfl)
theorem dX2_puts_53 : decode cX2_puts 53 = .ok (.iload 4, 2) := dk_21 4 (dk_at dksX2_puts_2 5 rfl rfl)
theorem dX2_puts_55 : decode cX2_puts 55 = .ok (.bastore, 1) := dk_84 (dk_at dksX2_puts_2 7 rfl rfl)
theorem dX2_puts_56 : decode cX2_puts 56 = .ok (.aload_n 0, 1) := dk_42 (dk_at dksX2_puts_2 8 rfl rfl)
theorem dX2_puts_57 : decode cX2_puts 57 = .ok (.getfield 18, 3) := dk_180 0 18 (dk_at dksX2_puts_2 9 rfl rfl)
theorem dX2_puts_60 : decode cX2_puts 60 = .ok (.iload_n 1, 1) := dk_27 (dk_at dksX2_puts_2 12 rfl rfl)
theorem dX2_puts_61 : decode cX2_puts 61 = .ok (.iload_n 2, 1) := dk_28 (dk_at dksX2_puts_2 13 rfl rfl)
theorem dX2_puts_62 : decode cX2_puts 62 = .ok (.iastore, 1) := dk_79 (dk_at dksX2_puts_2 14 rfl rfl)
theorem dX2_puts_63 : decode cX2_puts 63 = .ok (.aload_n 0, 1) := dk_42 (dk_at dksX2_puts_2 15 rfl rfl)
theorem dX2_puts_64 : decode cX2_puts 64 = .ok (.getfield 18, 3) := dk_180 0 18 (dk_at dksX2_puts_2 16 rfl rfl)
theorem dX2_puts_67 : decode cX2_puts 67 = .ok (.iload_n 2, 1) := dk_28 (dk_at dksX2_puts_2 19 rfl rfl)
theorem dX2_puts_68 : decode cX2_puts 68 = .ok (.iload_n 1, 1) := dk_27 (dk_at dksX2_puts_2 20 rfl rfl)
theorem dX2_puts_69 : decode cX2_puts 69 = .ok (.iastore, 1) := dk_79 (dk_at dksX2_puts_2 21 rfl rfl)
theorem dX2_puts_70 : decode cX2_puts 70 = .ok (.aload_n 0, 1) := dk_42 (dk_at dksX2_puts_2 22 rfl rfl)
theorem dX2_puts_71 : decode cX2_puts 71 = .ok (.getfield 30, 3) := dk_180 0 30 (dk_at dksX2_puts_3 0 rfl rfl)
theorem dX2_puts_74 : decode cX2_puts 74 = .ok (.iload_n 2, 1) := dk_28 (dk_at dksX2_puts_3 3 rfl rfl)
theorem dX2_puts_75 : decode cX2_puts 75 = .ok (.iconst 1, 1) := dk_4 (dk_at dksX2_puts_3 4 rfl rfl)
theorem dX2_puts_76 : decode cX2_puts 76 = .ok (.bastore, 1) := dk_84 (dk_at dksX2_puts_3 5 rfl rfl)
theorem dX2_puts_77 : decode cX2_puts 77 = .ok (.iload_n 3, 1) := dk_29 (dk_at dksX2_puts_3 6 rfl rfl)
theorem dX2_puts_78 : decode cX2_puts 78 = .ok (.ireturn, 1) := dk_172 (dk_at dksX2_puts_3 7 rfl rfl)
abbrev cX2_overlaps : ByteArray := prog_7_method_10_code
def yX2_overlaps : MethodName := ⟨RX2, "overlaps", "(Z)I"⟩
def dkwX2_overlaps_2 : List UInt8 := [28, 46, 46, 45, 178, 0, 85, 28, 46, 46, 161, 0, 5, 28, 172, 132, 2, 1, 167, 255, 194, 2, 172]
abbrev dktX2_overlaps_2 : List UInt8 := dkwX2_overlaps_2 ++ []
def dkwX2_overlaps_1 : List UInt8 := [167, 0, 39, 28, 6, 162, 0, 10, 42, 180, 0, 27, 167, 0, 7, 42, 180, 0, 24, 78, 45, 178, 0, 82]
abbrev dktX2_overlaps_1 : List UInt8 := dkwX2_overlaps_1 ++ dktX2_overlaps_2
def dkwX2_overlaps_0 : List UInt8 := [3, 61, 28, 178, 0, 82, 190, 162, 0, 60, 27, 153, 0, 14, 178, 0, 85, 28, 46, 154, 0, 6]
abbrev dktX2_overlaps_0 : List UInt8 := dkwX2_overlaps_0 ++ dktX2_overlaps_1
theorem dksX2_overlaps_0 : cX2_overlaps.data.toList.drop 0 = dktX2_overlaps_0 := by decide +kernel
theorem dksX2_overlaps_1 : cX2_overlaps.data.toList.drop 22 = dktX2_overlaps_1 := dk_seg dksX2_overlaps_0 22 rfl rfl
theorem dksX2_overlaps_2 : cX2_overlaps.data.toList.drop 46 = dktX2_overlaps_2 := dk_seg dksX2_overlaps_1 24 rfl rfl
theorem dX2_overlaps_0 : decode cX2_overlaps 0 = .ok (.iconst 0, 1) := dk_3 (dk_at dksX2_overlaps_0 0 rfl rfl)
theorem dX2_overlaps_1 : decode cX2_overlaps 1 = .ok (.istore_n 2, 1) := dk_61 (dk_at dksX2_overlaps_0 1 rfl rfl)
theorem dX2_overlaps_2 : decode cX2_overlaps 2 = .ok (.iload_n 2, 1) := dk_28 (dk_at dksX2_overlaps_0 2 rfl rfl)
theorem dX2_overlaps_3 : decode cX2_overlaps 3 = .ok (.getstatic 82, 3) := dk_178 0 82 (dk_at dksX2_overlaps_0 3 rfl rfl)
theorem dX2_overlaps_6 : decode cX2_overlaps 6 = .ok (.arraylength, 1) := dk_190 (dk_at dksX2_overlaps_0 6 rfl rfl)
theorem dX2_overlaps_7 : decode cX2_overlaps 7 = .ok (.if_icmp .ge 60, 3) := dk_162 0 60 (dk_at dksX2_overlaps_0 7 rfl rfl)
theorem dX2_overlaps_10 : decode cX2_overlaps 10 = .ok (.iload_n 1, 1) := dk_27 (dk_at dksX2_overlaps_0 10 rfl rfl)
theorem dX2_overlaps_11 : decode cX2_overlaps 11 = .ok (.ifCond .eq 14, 3) := dk_153 0 14 (dk_at dksX2_overlaps_0 11 rfl rfl)
theorem dX2_overlaps_14 : decode cX2_overlaps 14 = .ok (.getstatic 85, 3) := dk_178 0 85 (dk_at dksX2_overlaps_0 14 rfl rfl)
theorem dX2_overlaps_17 : decode cX2_overlaps 17 = .ok (.iload_n 2, 1) := dk_28 (dk_at dksX2_overlaps_0 17 rfl rfl)
theorem dX2_overlaps_18 : decode cX2_overlaps 18 = .ok (.iaload, 1) := dk_46 (dk_at dksX2_overlaps_0 18 rfl rfl)
theorem dX2_overlaps_19 : decode cX2_overlaps 19 = .ok (.ifCond .ne 6, 3) := dk_154 0 6 (dk_at dksX2_overlaps_0 19 rfl rfl)
theorem dX2_overlaps_22 : decode cX2_overlaps 22 = .ok (.goto 39, 3) := dk_167 0 39 (dk_at dksX2_overlaps_1 0 rfl rfl)
theorem dX2_overlaps_25 : decode cX2_overlaps 25 = .ok (.iload_n 2, 1) := dk_28 (dk_at dksX2_overlaps_1 3 rfl rfl)
theorem dX2_overlaps_26 : decode cX2_overlaps 26 = .ok (.iconst 3, 1) := dk_6 (dk_at dksX2_overlaps_1 4 rfl rfl)
theorem dX2_overlaps_27 : decode cX2_overlaps 27 = .ok (.if_icmp .ge 10, 3) := dk_162 0 10 (dk_at dksX2_overlaps_1 5 rfl rfl)
theorem dX2_overlaps_30 : decode cX2_overlaps 30 = .ok (.aload_n 0, 1) := dk_42 (dk_at dksX2_overlaps_1 8 rfl rfl)
theorem dX2_overlaps_31 : decode cX2_overlaps 31 = .ok (.getfield 27, 3) := dk_180 0 27 (dk_at dksX2_overlaps_1 9 rfl rfl)
theorem dX2_overlaps_34 : decode cX2_overlaps 34 = .ok (.goto 7, 3) := dk_167 0 7 (dk_at dksX2_overlaps_1 12 rfl rfl)
theorem dX2_overlaps_37 : decode cX2_overlaps 37 = .ok (.aload_n 0, 1) := dk_42 (dk_at dksX2_overlaps_1 15 rfl rfl)
theorem dX2_overlaps_38 : decode cX2_overlaps 38 = .ok (.getfield 24, 3) := dk_180 0 24 (dk_at dksX2_overlaps_1 16 rfl rfl)
theorem dX2_overlaps_41 : decode cX2_overlaps 41 = .ok (.astore_n 3, 1) := dk_78 (dk_at dksX2_overlaps_1 19 rfl rfl)
theorem dX2_overlaps_42 : decode cX2_overlaps 42 = .ok (.aload_n 3, 1) := dk_45 (dk_at dksX2_overlaps_1 20 rfl rfl)
theorem dX2_overlaps_43 : decode cX2_overlaps 43 = .ok (.getstatic 82, 3) := dk_178 0 82 (dk_at dksX2_overlaps_1 21 rfl rfl)
theorem dX2_overlaps_46 : decode cX2_overlaps 46 = .ok (.iload_n 2, 1) := dk_28 (dk_at dksX2_overlaps_2 0 rfl rfl)
theorem dX2_overlaps_47 : decode cX2_overlaps 47 = .ok (.iaload, 1) := dk_46 (dk_at dksX2_overlaps_2 1 rfl rfl)
theorem dX2_overlaps_48 : decode cX2_overlaps 48 = .ok (.iaload, 1) := dk_46 (dk_at dksX2_overlaps_2 2 rfl rfl)
theorem dX2_overlaps_49 : decode cX2_overlaps 49 = .ok (.aload_n 3, 1) := dk_45 (dk_at dksX2_overlaps_2 3 rfl rfl)
theorem dX2_overlaps_50 : decode cX2_overlaps 50 = .ok (.getstatic 85, 3) := dk_178 0 85 (dk_at dksX2_overlaps_2 4 rfl rfl)
theorem dX2_overlaps_53 : decode cX2_overlaps 53 = .ok (.iload_n 2, 1) := dk_28 (dk_at dksX2_overlaps_2 7 rfl rfl)
theorem dX2_overlaps_54 : decode cX2_overlaps 54 = .ok (.iaload, 1) := dk_46 (dk_at dksX2_overlaps_2 8 rfl rfl)
theorem dX2_overlaps_55 : decode cX2_overlaps 55 = .ok (.iaload, 1) := dk_46 (dk_at dksX2_overlaps_2 9 rfl rfl)
theorem dX2_overlaps_56 : decode cX2_overlaps 56 = .ok (.if_icmp .lt 5, 3) := dk_161 0 5 (dk_at dksX2_overlaps_2 10 rfl rfl)
theorem dX2_overlaps_59 : decode cX2_overlaps 59 = .ok (.iload_n 2, 1) := dk_28 (dk_at dksX2_overlaps_2 13 rfl rfl)
theorem dX2_overlaps_60 : decode cX2_overlaps 60 = .ok (.ireturn, 1) := dk_172 (dk_at dksX2_overlaps_2 14 rfl rfl)
theorem dX2_overlaps_61 : decode cX2_overlaps 61 = .ok (.iinc 2 1, 3) := dk_132 2 1 (dk_at dksX2_overlaps_2 15 rfl rfl)
theorem dX2_overlaps_64 : decode cX2_overlaps 64 = .ok (.goto (-62), 3) := dk_167 255 194 (dk_at dksX2_overlaps_2 18 rfl rfl)
theorem dX2_overlaps_67 : decode cX2_overlaps 67 = .ok (.iconst (-1), 1) := dk_2 (dk_at dksX2_overlaps_2 21 rfl rfl)
theorem dX2_overlaps_68 : decode cX2_overlaps 68 = .ok (.ireturn, 1) := dk_172 (dk_at dksX2_overlaps_2 22 rfl rfl)
abbrev cX2_become : ByteArray := prog_7_method_2_code
def yX2_become : MethodName := ⟨RX2, "become", "(LSixWhoTurn$Side;)V"⟩
def dkwX2_become_8 : List UInt8 := [181, 0, 68, 177]
abbrev dktX2_become_8 : List UInt8 := dkwX2_become_8 ++ []
def dkwX2_become_7 : List UInt8 := [181, 0, 37, 42, 43, 180, 0, 41, 181, 0, 41, 42, 43, 180, 0, 44, 181, 0, 44, 42, 43, 180, 0, 68]
abbrev dktX2_become_7 : List UInt8 := dkwX2_become_7 ++ dktX2_become_8
def dkwX2_become_6 : List UInt8 := [181, 0, 59, 42, 43, 180, 0, 62, 181, 0, 62, 42, 43, 180, 0, 65, 181, 0, 65, 42, 43, 180, 0, 37]
abbrev dktX2_become_6 : List UInt8 := dkwX2_become_6 ++ dktX2_become_7
def dkwX2_become_5 : List UInt8 := [184, 0, 47, 42, 43, 180, 0, 53, 181, 0, 53, 42, 43, 180, 0, 56, 181, 0, 56, 42, 43, 180, 0, 59]
abbrev dktX2_become_5 : List UInt8 := dkwX2_become_5 ++ dktX2_become_6
def dkwX2_become_4 : List UInt8 := [3, 42, 180, 0, 30, 3, 16, 12, 184, 0, 47, 43, 180, 0, 34, 3, 42, 180, 0, 34, 3, 16, 12]
abbrev dktX2_become_4 : List UInt8 := dkwX2_become_4 ++ dktX2_become_5
def dkwX2_become_3 : List UInt8 := [16, 6, 184, 0, 47, 43, 180, 0, 27, 3, 42, 180, 0, 27, 3, 16, 6, 184, 0, 47, 43, 180, 0, 30]
abbrev dktX2_become_3 : List UInt8 := dkwX2_become_3 ++ dktX2_become_4
def dkwX2_become_2 : List UInt8 := [180, 0, 21, 3, 42, 180, 0, 21, 3, 16, 12, 184, 0, 47, 43, 180, 0, 24, 3, 42, 180, 0, 24, 3]
abbrev dktX2_become_2 : List UInt8 := dkwX2_become_2 ++ dktX2_become_3
def dkwX2_become_1 : List UInt8 := [3, 16, 6, 184, 0, 47, 43, 180, 0, 18, 3, 42, 180, 0, 18, 3, 16, 12, 184, 0, 47, 43]
abbrev dktX2_become_1 : List UInt8 := dkwX2_become_1 ++ dktX2_become_2
def dkwX2_become_0 : List UInt8 := [43, 180, 0, 9, 3, 42, 180, 0, 9, 3, 16, 6, 184, 0, 47, 43, 180, 0, 15, 3, 42, 180, 0, 15]
abbrev dktX2_become_0 : List UInt8 := dkwX2_become_0 ++ dktX2_become_1
theorem dksX2_become_0 : cX2_become.data.toList.drop 0 = dktX2_become_0 := by decide +kernel
theorem dksX2_become_1 : cX2_become.data.toList.drop 24 = dktX2_become_1 := dk_seg dksX2_become_0 24 rfl rfl
theorem dksX2_become_2 : cX2_become.data.toList.drop 46 = dktX2_become_2 := dk_seg dksX2_become_1 22 rfl rfl
theorem dksX2_become_3 : cX2_become.data.toList.drop 70 = dktX2_become_3 := dk_seg dksX2_become_2 24 rfl rfl
theorem dksX2_become_4 : cX2_become.data.toList.drop 94 = dktX2_become_4 := dk_seg dksX2_become_3 24 rfl rfl
theorem dksX2_become_5 : cX2_become.data.toList.drop 117 = dktX2_become_5 := dk_seg dksX2_become_4 23 rfl rfl
theorem dksX2_become_6 : cX2_become.data.toList.drop 141 = dktX2_become_6 := dk_seg dksX2_become_5 24 rfl rfl
theorem dksX2_become_7 : cX2_become.data.toList.drop 165 = dktX2_become_7 := dk_seg dksX2_become_6 24 rfl rfl
theorem dksX2_become_8 : cX2_become.data.toList.drop 189 = dktX2_become_8 := dk_seg dksX2_become_7 24 rfl rfl
theorem dX2_become_0 : decode cX2_become 0 = .ok (.aload_n 1, 1) := dk_43 (dk_at dksX2_become_0 0 rfl rfl)
theorem dX2_become_1 : decode cX2_become 1 = .ok (.getfield 9, 3) := dk_180 0 9 (dk_at dksX2_become_0 1 rfl rfl)
theorem dX2_become_4 : decode cX2_become 4 = .ok (.iconst 0, 1) := dk_3 (dk_at dksX2_become_0 4 rfl rfl)
theorem dX2_become_5 : decode cX2_become 5 = .ok (.aload_n 0, 1) := dk_42 (dk_at dksX2_become_0 5 rfl rfl)
theorem dX2_become_6 : decode cX2_become 6 = .ok (.getfield 9, 3) := dk_180 0 9 (dk_at dksX2_become_0 6 rfl rfl)
theorem dX2_become_9 : decode cX2_become 9 = .ok (.iconst 0, 1) := dk_3 (dk_at dksX2_become_0 9 rfl rfl)
theorem dX2_become_10 : decode cX2_become 10 = .ok (.bipush 6, 2) := dk_16 6 (dk_at dksX2_become_0 10 rfl rfl)
theorem dX2_become_12 : decode cX2_become 12 = .ok (.invokestatic 47, 3) := dk_184 0 47 (dk_at dksX2_become_0 12 rfl rfl)
theorem dX2_become_15 : decode cX2_become 15 = .ok (.aload_n 1, 1) := dk_43 (dk_at dksX2_become_0 15 rfl rfl)
theorem dX2_become_16 : decode cX2_become 16 = .ok (.getfield 15, 3) := dk_180 0 15 (dk_at dksX2_become_0 16 rfl rfl)
theorem dX2_become_19 : decode cX2_become 19 = .ok (.iconst 0, 1) := dk_3 (dk_at dksX2_become_0 19 rfl rfl)
theorem dX2_become_20 : decode cX2_become 20 = .ok (.aload_n 0, 1) := dk_42 (dk_at dksX2_become_0 20 rfl rfl)
theorem dX2_become_21 : decode cX2_become 21 = .ok (.getfield 15, 3) := dk_180 0 15 (dk_at dksX2_become_0 21 rfl rfl)
theorem dX2_become_24 : decode cX2_become 24 = .ok (.iconst 0, 1) := dk_3 (dk_at dksX2_become_1 0 rfl rfl)
theorem dX2_become_25 : decode cX2_become 25 = .ok (.bipush 6, 2) := dk_16 6 (dk_at dksX2_become_1 1 rfl rfl)
theorem dX2_become_27 : decode cX2_become 27 = .ok (.invokestatic 47, 3) := dk_184 0 47 (dk_at dksX2_become_1 3 rfl rfl)
theorem dX2_become_30 : decode cX2_become 30 = .ok (.aload_n 1, 1) := dk_43 (dk_at dksX2_become_1 6 rfl rfl)
theorem dX2_become_31 : decode cX2_become 31 = .ok (.getfield 18, 3) := dk_180 0 18 (dk_at dksX2_become_1 7 rfl rfl)
theorem dX2_become_34 : decode cX2_become 34 = .ok (.iconst 0, 1) := dk_3 (dk_at dksX2_become_1 10 rfl rfl)
theorem dX2_become_35 : decode cX2_become 35 = .ok (.aload_n 0, 1) := dk_42 (dk_at dksX2_become_1 11 rfl rfl)
theorem dX2_become_36 : decode cX2_become 36 = .ok (.getfield 18, 3) := dk_180 0 18 (dk_at dksX2_become_1 12 rfl rfl)
theorem dX2_become_39 : decode cX2_become 39 = .ok (.iconst 0, 1) := dk_3 (dk_at dksX2_become_1 15 rfl rfl)
theorem dX2_become_40 : decode cX2_become 40 = .ok (.bipush 12, 2) := dk_16 12 (dk_at dksX2_become_1 16 rfl rfl)
theorem dX2_become_42 : decode cX2_become 42 = .ok (.invokestatic 47, 3) := dk_184 0 47 (dk_at dksX2_become_1 18 rfl rfl)
theorem dX2_become_45 : decode cX2_become 45 = .ok (.aload_n 1, 1) := dk_43 (dk_at dksX2_become_1 21 rfl rfl)
theorem dX2_become_46 : decode cX2_become 46 = .ok (.getfield 21, 3) := dk_180 0 21 (dk_at dksX2_become_2 0 rfl rfl)
theorem dX2_become_49 : decode cX2_become 49 = .ok (.iconst 0, 1) := dk_3 (dk_at dksX2_become_2 3 rfl rfl)
theorem dX2_become_50 : decode cX2_become 50 = .ok (.aload_n 0, 1) := dk_42 (dk_at dksX2_become_2 4 rfl rfl)
theorem dX2_become_51 : decode cX2_become 51 = .ok (.getfield 21, 3) := dk_180 0 21 (dk_at dksX2_become_2 5 rfl rfl)
theorem dX2_become_54 : decode cX2_become 54 = .ok (.iconst 0, 1) := dk_3 (dk_at dksX2_become_2 8 rfl rfl)
theorem dX2_become_55 : decode cX2_become 55 = .ok (.bipush 12, 2) := dk_16 12 (dk_at dksX2_become_2 9 rfl rfl)
theorem dX2_become_57 : decode cX2_become 57 = .ok (.invokestatic 47, 3) := dk_184 0 47 (dk_at dksX2_become_2 11 rfl rfl)
theorem dX2_become_60 : decode cX2_become 60 = .ok (.aload_n 1, 1) := dk_43 (dk_at dksX2_become_2 14 rfl rfl)
theorem dX2_become_61 : decode cX2_become 61 = .ok (.getfield 24, 3) := dk_180 0 24 (dk_at dksX2_become_2 15 rfl rfl)
theorem dX2_become_64 : decode cX2_become 64 = .ok (.iconst 0, 1) := dk_3 (dk_at dksX2_become_2 18 rfl rfl)
theorem dX2_become_65 : decode cX2_become 65 = .ok (.aload_n 0, 1) := dk_42 (dk_at dksX2_become_2 19 rfl rfl)
theorem dX2_become_66 : decode cX2_become 66 = .ok (.getfield 24, 3) := dk_180 0 24 (dk_at dksX2_become_2 20 rfl rfl)
theorem dX2_become_69 : decode cX2_become 69 = .ok (.iconst 0, 1) := dk_3 (dk_at dksX2_become_2 23 rfl rfl)
theorem dX2_become_70 : decode cX2_become 70 = .ok (.bipush 6, 2) := dk_16 6 (dk_at dksX2_become_3 0 rfl rfl)
theorem dX2_become_72 : decode cX2_become 72 = .ok (.invokestatic 47, 3) := dk_184 0 47 (dk_at dksX2_become_3 2 rfl rfl)
theorem dX2_become_75 : decode cX2_become 75 = .ok (.aload_n 1, 1) := dk_43 (dk_at dksX2_become_3 5 rfl rfl)
theorem dX2_become_76 : decode cX2_become 76 = .ok (.getfield 27, 3) := dk_180 0 27 (dk_at dksX2_become_3 6 rfl rfl)
theorem dX2_become_79 : decode cX2_become 79 = .ok (.iconst 0, 1) := dk_3 (dk_at dksX2_become_3 9 rfl rfl)
theorem dX2_become_80 : decode cX2_become 80 = .ok (.aload_n 0, 1) := dk_42 (dk_at dksX2_become_3 10 rfl rfl)
theorem dX2_become_81 : decode cX2_become 81 = .ok (.getfield 27, 3) := dk_180 0 27 (dk_at dksX2_become_3 11 rfl rfl)
theorem dX2_become_84 : decode cX2_become 84 = .ok (.iconst 0, 1) := dk_3 (dk_at dksX2_become_3 14 rfl rfl)
theorem dX2_become_85 : decode cX2_become 85 = .ok (.bipush 6, 2) := dk_16 6 (dk_at dksX2_become_3 15 rfl rfl)
theorem dX2_become_87 : decode cX2_become 87 = .ok (.invokestatic 47, 3) := dk_184 0 47 (dk_at dksX2_become_3 17 rfl rfl)
theorem dX2_become_90 : decode cX2_become 90 = .ok (.aload_n 1, 1) := dk_43 (dk_at dksX2_become_3 20 rfl rfl)
theorem dX2_become_91 : decode cX2_become 91 = .ok (.getfield 30, 3) := dk_180 0 30 (dk_at dksX2_become_3 21 rfl rfl)
theorem dX2_become_94 : decode cX2_become 94 = .ok (.iconst 0, 1) := dk_3 (dk_at dksX2_become_4 0 rfl rfl)
theorem dX2_become_95 : decode cX2_become 95 = .ok (.aload_n 0, 1) := dk_42 (dk_at dksX2_become_4 1 rfl rfl)
theorem dX2_become_96 : decode cX2_become 96 = .ok (.getfield 30, 3) := dk_180 0 30 (dk_at dksX2_become_4 2 rfl rfl)
theorem dX2_become_99 : decode cX2_become 99 = .ok (.iconst 0, 1) := dk_3 (dk_at dksX2_become_4 5 rfl rfl)
theorem dX2_become_100 : decode cX2_become 100 = .ok (.bipush 12, 2) := dk_16 12 (dk_at dksX2_become_4 6 rfl rfl)
theorem dX2_become_102 : decode cX2_become 102 = .ok (.invokestatic 47, 3) := dk_184 0 47 (dk_at dksX2_become_4 8 rfl rfl)
theorem dX2_become_105 : decode cX2_become 105 = .ok (.aload_n 1, 1) := dk_43 (dk_at dksX2_become_4 11 rfl rfl)
theorem dX2_become_106 : decode cX2_become 106 = .ok (.getfield 34, 3) := dk_180 0 34 (dk_at dksX2_become_4 12 rfl rfl)
theorem dX2_become_109 : decode cX2_become 109 = .ok (.iconst 0, 1) := dk_3 (dk_at dksX2_become_4 15 rfl rfl)
theorem dX2_become_110 : decode cX2_become 110 = .ok (.aload_n 0, 1) := dk_42 (dk_at dksX2_become_4 16 rfl rfl)
theorem dX2_become_111 : decode cX2_become 111 = .ok (.getfield 34, 3) := dk_180 0 34 (dk_at dksX2_become_4 17 rfl rfl)
theorem dX2_become_114 : decode cX2_become 114 = .ok (.iconst 0, 1) := dk_3 (dk_at dksX2_become_4 20 rfl rfl)
theorem dX2_become_115 : decode cX2_become 115 = .ok (.bipush 12, 2) := dk_16 12 (dk_at dksX2_become_4 21 rfl rfl)
theorem dX2_become_117 : decode cX2_become 117 = .ok (.invokestatic 47, 3) := dk_184 0 47 (dk_at dksX2_become_5 0 rfl rfl)
theorem dX2_become_120 : decode cX2_become 120 = .ok (.aload_n 0, 1) := dk_42 (dk_at dksX2_become_5 3 rfl rfl)
theorem dX2_become_121 : decode cX2_become 121 = .ok (.aload_n 1, 1) := dk_43 (dk_at dksX2_become_5 4 rfl rfl)
theorem dX2_become_122 : decode cX2_become 122 = .ok (.getfield 53, 3) := dk_180 0 53 (dk_at dksX2_become_5 5 rfl rfl)
theorem dX2_become_125 : decode cX2_become 125 = .ok (.putfield 53, 3) := dk_181 0 53 (dk_at dksX2_become_5 8 rfl rfl)
theorem dX2_become_128 : decode cX2_become 128 = .ok (.aload_n 0, 1) := dk_42 (dk_at dksX2_become_5 11 rfl rfl)
theorem dX2_become_129 : decode cX2_become 129 = .ok (.aload_n 1, 1) := dk_43 (dk_at dksX2_become_5 12 rfl rfl)
theorem dX2_become_130 : decode cX2_become 130 = .ok (.getfield 56, 3) := dk_180 0 56 (dk_at dksX2_become_5 13 rfl rfl)
theorem dX2_become_133 : decode cX2_become 133 = .ok (.putfield 56, 3) := dk_181 0 56 (dk_at dksX2_become_5 16 rfl rfl)
theorem dX2_become_136 : decode cX2_become 136 = .ok (.aload_n 0, 1) := dk_42 (dk_at dksX2_become_5 19 rfl rfl)
theorem dX2_become_137 : decode cX2_become 137 = .ok (.aload_n 1, 1) := dk_43 (dk_at dksX2_become_5 20 rfl rfl)
theorem dX2_become_138 : decode cX2_become 138 = .ok (.getfield 59, 3) := dk_180 0 59 (dk_at dksX2_become_5 21 rfl rfl)
theorem dX2_become_141 : decode cX2_become 141 = .ok (.putfield 59, 3) := dk_181 0 59 (dk_at dksX2_become_6 0 rfl rfl)
theorem dX2_become_144 : decode cX2_become 144 = .ok (.aload_n 0, 1) := dk_42 (dk_at dksX2_become_6 3 rfl rfl)
theorem dX2_become_145 : decode cX2_become 145 = .ok (.aload_n 1, 1) := dk_43 (dk_at dksX2_become_6 4 rfl rfl)
theorem dX2_become_146 : decode cX2_become 146 = .ok (.getfield 62, 3) := dk_180 0 62 (dk_at dksX2_become_6 5 rfl rfl)
theorem dX2_become_149 : decode cX2_become 149 = .ok (.putfield 62, 3) := dk_181 0 62 (dk_at dksX2_become_6 8 rfl rfl)
theorem dX2_become_152 : decode cX2_become 152 = .ok (.aload_n 0, 1) := dk_42 (dk_at dksX2_become_6 11 rfl rfl)
theorem dX2_become_153 : decode cX2_become 153 = .ok (.aload_n 1, 1) := dk_43 (dk_at dksX2_become_6 12 rfl rfl)
theorem dX2_become_154 : decode cX2_become 154 = .ok (.getfield 65, 3) := dk_180 0 65 (dk_at dksX2_become_6 13 rfl rfl)
theorem dX2_become_157 : decode cX2_become 157 = .ok (.putfield 65, 3) := dk_181 0 65 (dk_at dksX2_become_6 16 rfl rfl)
theorem dX2_become_160 : decode cX2_become 160 = .ok (.aload_n 0, 1) := dk_42 (dk_at dksX2_become_6 19 rfl rfl)
theorem dX2_become_161 : decode cX2_become 161 = .ok (.aload_n 1, 1) := dk_43 (dk_at dksX2_become_6 20 rfl rfl)
theorem dX2_become_162 : decode cX2_become 162 = .ok (.getfield 37, 3) := dk_180 0 37 (dk_at dksX2_become_6 21 rfl rfl)
theorem dX2_become_165 : decode cX2_become 165 = .ok (.putfield 37, 3) := dk_181 0 37 (dk_at dksX2_become_7 0 rfl rfl)
theorem dX2_become_168 : decode cX2_become 168 = .ok (.aload_n 0, 1) := dk_42 (dk_at dksX2_become_7 3 rfl rfl)
theorem dX2_become_169 : decode cX2_become 169 = .ok (.aload_n 1, 1) := dk_43 (dk_at dksX2_become_7 4 rfl rfl)
theorem dX2_become_170 : decode cX2_become 170 = .ok (.getfield 41, 3) := dk_180 0 41 (dk_at dksX2_become_7 5 rfl rfl)
theorem dX2_become_173 : decode cX2_become 173 = .ok (.putfield 41, 3) := dk_181 0 41 (dk_at dksX2_become_7 8 rfl rfl)
theorem dX2_become_176 : decode cX2_become 176 = .ok (.aload_n 0, 1) := dk_42 (dk_at dksX2_become_7 11 rfl rfl)
theorem dX2_become_177 : decode cX2_become 177 = .ok (.aload_n 1, 1) := dk_43 (dk_at dksX2_become_7 12 rfl rfl)
theorem dX2_become_178 : decode cX2_become 178 = .ok (.getfield 44, 3) := dk_180 0 44 (dk_at dksX2_become_7 13 rfl rfl)
theorem dX2_become_181 : decode cX2_become 181 = .ok (.putfield 44, 3) := dk_181 0 44 (dk_at dksX2_become_7 16 rfl rfl)
theorem dX2_become_184 : decode cX2_become 184 = .ok (.aload_n 0, 1) := dk_42 (dk_at dksX2_become_7 19 rfl rfl)
theorem dX2_become_185 : decode cX2_become 185 = .ok (.aload_n 1, 1) := dk_43 (dk_at dksX2_become_7 20 rfl rfl)
theorem dX2_become_186 : decode cX2_become 186 = .ok (.getfield 68, 3) := dk_180 0 68 (dk_at dksX2_become_7 21 rfl rfl)
theorem dX2_become_189 : decode cX2_become 189 = .ok (.putfield 68, 3) := dk_181 0 68 (dk_at dksX2_become_8 0 rfl rfl)
theorem dX2_become_192 : decode cX2_become 192 = .ok (.return_, 1) := dk_177 (dk_at dksX2_become_8 3 rfl rfl)
abbrev cX2_at : ByteArray := prog_7_method_9_code
def yX2_at : MethodName := ⟨RX2, "at", "(II)I"⟩
def dkwX2_at_1 : List UInt8 := [2, 159, 0, 10, 42, 180, 0, 41, 167, 0, 4, 29, 172]
abbrev dktX2_at_1 : List UInt8 := dkwX2_at_1 ++ []
def dkwX2_at_0 : List UInt8 := [42, 180, 0, 9, 27, 28, 96, 16, 6, 112, 46, 62, 29, 42, 180, 0, 37, 160, 0, 18, 42, 180, 0, 41]
abbrev dktX2_at_0 : List UInt8 := dkwX2_at_0 ++ dktX2_at_1
theorem dksX2_at_0 : cX2_at.data.toList.drop 0 = dktX2_at_0 := by decide +kernel
theorem dksX2_at_1 : cX2_at.data.toList.drop 24 = dktX2_at_1 := dk_seg dksX2_at_0 24 rfl rfl
theorem dX2_at_0 : decode cX2_at 0 = .ok (.aload_n 0, 1) := dk_42 (dk_at dksX2_at_0 0 rfl rfl)
theorem dX2_at_1 : decode cX2_at 1 = .ok (.getfield 9, 3) := dk_180 0 9 (dk_at dksX2_at_0 1 rfl rfl)
theorem dX2_at_4 : decode cX2_at 4 = .ok (.iload_n 1, 1) := dk_27 (dk_at dksX2_at_0 4 rfl rfl)
theorem dX2_at_5 : decode cX2_at 5 = .ok (.iload_n 2, 1) := dk_28 (dk_at dksX2_at_0 5 rfl rfl)
theorem dX2_at_6 : decode cX2_at 6 = .ok (.iadd, 1) := dk_96 (dk_at dksX2_at_0 6 rfl rfl)
theorem dX2_at_7 : decode cX2_at 7 = .ok (.bipush 6, 2) := dk_16 6 (dk_at dksX2_at_0 7 rfl rfl)
theorem dX2_at_9 : decode cX2_at 9 = .ok (.irem, 1) := dk_112 (dk_at dksX2_at_0 9 rfl rfl)
theorem dX2_at_10 : decode cX2_at 10 = .ok (.iaload, 1) := dk_46 (dk_at dksX2_at_0 10 rfl rfl)
theorem dX2_at_11 : decode cX2_at 11 = .ok (.istore_n 3, 1) := dk_62 (dk_at dksX2_at_0 11 rfl rfl)
theorem dX2_at_12 : decode cX2_at 12 = .ok (.iload_n 3, 1) := dk_29 (dk_at dksX2_at_0 12 rfl rfl)
theorem dX2_at_13 : decode cX2_at 13 = .ok (.aload_n 0, 1) := dk_42 (dk_at dksX2_at_0 13 rfl rfl)
theorem dX2_at_14 : decode cX2_at 14 = .ok (.getfield 37, 3) := dk_180 0 37 (dk_at dksX2_at_0 14 rfl rfl)
theorem dX2_at_17 : decode cX2_at 17 = .ok (.if_icmp .ne 18, 3) := dk_160 0 18 (dk_at dksX2_at_0 17 rfl rfl)
theorem dX2_at_20 : decode cX2_at 20 = .ok (.aload_n 0, 1) := dk_42 (dk_at dksX2_at_0 20 rfl rfl)
theorem dX2_at_21 : decode cX2_at 21 = .ok (.getfield 41, 3) := dk_180 0 41 (dk_at dksX2_at_0 21 rfl rfl)
theorem dX2_at_24 : decode cX2_at 24 = .ok (.iconst (-1), 1) := dk_2 (dk_at dksX2_at_1 0 rfl rfl)
theorem dX2_at_25 : decode cX2_at 25 = .ok (.if_icmp .eq 10, 3) := dk_159 0 10 (dk_at dksX2_at_1 1 rfl rfl)
theorem dX2_at_28 : decode cX2_at 28 = .ok (.aload_n 0, 1) := dk_42 (dk_at dksX2_at_1 4 rfl rfl)
theorem dX2_at_29 : decode cX2_at 29 = .ok (.getfield 41, 3) := dk_180 0 41 (dk_at dksX2_at_1 5 rfl rfl)
theorem dX2_at_32 : decode cX2_at 32 = .ok (.goto 4, 3) := dk_167 0 4 (dk_at dksX2_at_1 8 rfl rfl)
theorem dX2_at_35 : decode cX2_at 35 = .ok (.iload_n 3, 1) := dk_29 (dk_at dksX2_at_1 11 rfl rfl)
theorem dX2_at_36 : decode cX2_at 36 = .ok (.ireturn, 1) := dk_172 (dk_at dksX2_at_1 12 rfl rfl)
theorem q48 : (Jvm.Cond.initialized "SixWhoTurn$Side") ∈ lw_all := lw_g (lw_at lw_m1 2 rfl) rfl
theorem q77 : (Jvm.Cond.instantiable "SixWhoTurn$Side" (17 : Nat)) ∈ lw_all := lw_g (lw_at lw_m1 31 rfl) rfl
theorem q79 : (Jvm.Cond.instanceMethod ({ cls := "SixWhoTurn$Side", name := "<init>", desc := "()V" } : Jvm.MethodName)) ∈ lw_all := lw_g (lw_at lw_m1 33 rfl) rfl
theorem q80 : (Jvm.Cond.code ({ cls := "SixWhoTurn$Side", name := "<init>", desc := "()V" } : Jvm.MethodName) prog_7_method_1_code (1 : Nat) (Option.none : Option Jvm.ClassFile.FieldType)) ∈ lw_all := lw_g (lw_at lw_m1 34 rfl) rfl
theorem q81 : (Jvm.Cond.methodLink "SixWhoTurn$Side" (3 : Nat) ({ cls := "java/lang/Object", name := "<init>", desc := "()V" } : Jvm.MethodName)) ∈ lw_all := lw_g (lw_at lw_m1 35 rfl) rfl
theorem q82 : (Jvm.Cond.fieldLink "SixWhoTurn$Side" (9 : Nat) "SixWhoTurn$Side" "court" "[I") ∈ lw_all := lw_g (lw_at lw_m1 36 rfl) rfl
theorem q84 : (Jvm.Cond.fieldLink "SixWhoTurn$Side" (15 : Nat) "SixWhoTurn$Side" "lineUp" "[I") ∈ lw_all := lw_g (lw_at lw_m1 38 rfl) rfl
theorem q86 : (Jvm.Cond.fieldLink "SixWhoTurn$Side" (18 : Nat) "SixWhoTurn$Side" "partner" "[I") ∈ lw_all := lw_g (lw_at lw_m1 40 rfl) rfl
theorem q87 : (Jvm.Cond.fieldLink "SixWhoTurn$Side" (21 : Nat) "SixWhoTurn$Side" "served" "[I") ∈ lw_all := lw_g (lw_at lw_m1 41 rfl) rfl
theorem q89 : (Jvm.Cond.fieldLink "SixWhoTurn$Side" (24 : Nat) "SixWhoTurn$Side" "x" "[I") ∈ lw_all := lw_g (lw_at lw_m1 43 rfl) rfl
theorem q91 : (Jvm.Cond.fieldLink "SixWhoTurn$Side" (27 : Nat) "SixWhoTurn$Side" "y" "[I") ∈ lw_all := lw_g (lw_at lw_m1 45 rfl) rfl
theorem q93 : (Jvm.Cond.fieldLink "SixWhoTurn$Side" (30 : Nat) "SixWhoTurn$Side" "wasOn" "[Z") ∈ lw_all := lw_g (lw_at lw_m1 47 rfl) rfl
theorem q94 : (Jvm.Cond.fieldLink "SixWhoTurn$Side" (34 : Nat) "SixWhoTurn$Side" "isDone" "[Z") ∈ lw_all := lw_g (lw_at lw_m1 48 rfl) rfl
theorem q95 : (Jvm.Cond.fieldLink "SixWhoTurn$Side" (53 : Nat) "SixWhoTurn$Side" "points" "I") ∈ lw_all := lw_g (lw_at lw_m1 49 rfl) rfl
theorem q97 : (Jvm.Cond.fieldLink "SixWhoTurn$Side" (56 : Nat) "SixWhoTurn$Side" "sets" "I") ∈ lw_all := lw_g (lw_at lw_m1 51 rfl) rfl
theorem q99 : (Jvm.Cond.fieldLink "SixWhoTurn$Side" (59 : Nat) "SixWhoTurn$Side" "changes" "I") ∈ lw_all := lw_g (lw_at lw_m1 53 rfl) rfl
theorem q101 : (Jvm.Cond.fieldLink "SixWhoTurn$Side" (62 : Nat) "SixWhoTurn$Side" "pauses" "I") ∈ lw_all := lw_g (lw_at lw_m1 55 rfl) rfl
theorem q103 : (Jvm.Cond.fieldLink "SixWhoTurn$Side" (65 : Nat) "SixWhoTurn$Side" "turns" "I") ∈ lw_all := lw_g (lw_at lw_m1 57 rfl) rfl
theorem q105 : (Jvm.Cond.fieldLink "SixWhoTurn$Side" (37 : Nat) "SixWhoTurn$Side" "free" "I") ∈ lw_all := lw_g (lw_at lw_m1 59 rfl) rfl
theorem q107 : (Jvm.Cond.fieldLink "SixWhoTurn$Side" (41 : Nat) "SixWhoTurn$Side" "standsFor" "I") ∈ lw_all := lw_g (lw_at lw_m1 61 rfl) rfl
theorem q109 : (Jvm.Cond.fieldLink "SixWhoTurn$Side" (44 : Nat) "SixWhoTurn$Side" "freedAt" "I") ∈ lw_all := lw_g (lw_at lw_m1 63 rfl) rfl
theorem q111 : (Jvm.Cond.fieldLink "SixWhoTurn$Side" (68 : Nat) "SixWhoTurn$Side" "isTold" "Z") ∈ lw_all := lw_g (lw_at lw_m1 65 rfl) rfl
theorem q113 : (Jvm.Cond.laysFinal "SixWhoTurn$Side" "SixWhoTurn$Side" "court" "[I") ∈ lw_all := lw_g (lw_at lw_m1 67 rfl) rfl
theorem q114 : (Jvm.Cond.soleField "SixWhoTurn$Side" "court") ∈ lw_all := lw_g (lw_at lw_m1 68 rfl) rfl
theorem q115 : (Jvm.Cond.laysFinal "SixWhoTurn$Side" "SixWhoTurn$Side" "lineUp" "[I") ∈ lw_all := lw_g (lw_at lw_m1 69 rfl) rfl
theorem q116 : (Jvm.Cond.soleField "SixWhoTurn$Side" "lineUp") ∈ lw_all := lw_g (lw_at lw_m1 70 rfl) rfl
theorem q117 : (Jvm.Cond.laysFinal "SixWhoTurn$Side" "SixWhoTurn$Side" "partner" "[I") ∈ lw_all := lw_g (lw_at lw_m1 71 rfl) rfl
theorem q118 : (Jvm.Cond.soleField "SixWhoTurn$Side" "partner") ∈ lw_all := lw_g (lw_at lw_m1 72 rfl) rfl
theorem q119 : (Jvm.Cond.laysFinal "SixWhoTurn$Side" "SixWhoTurn$Side" "served" "[I") ∈ lw_all := lw_g (lw_at lw_m1 73 rfl) rfl
theorem q120 : (Jvm.Cond.soleField "SixWhoTurn$Side" "served") ∈ lw_all := lw_g (lw_at lw_m1 74 rfl) rfl
theorem q121 : (Jvm.Cond.laysFinal "SixWhoTurn$Side" "SixWhoTurn$Side" "x" "[I") ∈ lw_all := lw_g (lw_at lw_m1 75 rfl) rfl
theorem q122 : (Jvm.Cond.soleField "SixWhoTurn$Side" "x") ∈ lw_all := lw_g (lw_at lw_m1 76 rfl) rfl
theorem q123 : (Jvm.Cond.laysFinal "SixWhoTurn$Side" "SixWhoTurn$Side" "y" "[I") ∈ lw_all := lw_g (lw_at lw_m1 77 rfl) rfl
theorem q124 : (Jvm.Cond.soleField "SixWhoTurn$Side" "y") ∈ lw_all := lw_g (lw_at lw_m1 78 rfl) rfl
theorem q125 : (Jvm.Cond.laysFinal "SixWhoTurn$Side" "SixWhoTurn$Side" "wasOn" "[Z") ∈ lw_all := lw_g (lw_at lw_m1 79 rfl) rfl
theorem q126 : (Jvm.Cond.soleField "SixWhoTurn$Side" "wasOn") ∈ lw_all := lw_g (lw_at lw_m1 80 rfl) rfl
theorem q127 : (Jvm.Cond.laysFinal "SixWhoTurn$Side" "SixWhoTurn$Side" "isDone" "[Z") ∈ lw_all := lw_g (lw_at lw_m1 81 rfl) rfl
theorem q128 : (Jvm.Cond.soleField "SixWhoTurn$Side" "isDone") ∈ lw_all := lw_g (lw_at lw_m1 82 rfl) rfl
theorem q129 : (Jvm.Cond.lays "SixWhoTurn$Side" "SixWhoTurn$Side" "points" "I") ∈ lw_all := lw_g (lw_at lw_m1 83 rfl) rfl
theorem q130 : (Jvm.Cond.soleField "SixWhoTurn$Side" "points") ∈ lw_all := lw_g (lw_at lw_m1 84 rfl) rfl
theorem q131 : (Jvm.Cond.lays "SixWhoTurn$Side" "SixWhoTurn$Side" "sets" "I") ∈ lw_all := lw_g (lw_at lw_m1 85 rfl) rfl
theorem q132 : (Jvm.Cond.soleField "SixWhoTurn$Side" "sets") ∈ lw_all := lw_g (lw_at lw_m1 86 rfl) rfl
theorem q133 : (Jvm.Cond.lays "SixWhoTurn$Side" "SixWhoTurn$Side" "changes" "I") ∈ lw_all := lw_g (lw_at lw_m1 87 rfl) rfl
theorem q134 : (Jvm.Cond.soleField "SixWhoTurn$Side" "changes") ∈ lw_all := lw_g (lw_at lw_m1 88 rfl) rfl
theorem q135 : (Jvm.Cond.lays "SixWhoTurn$Side" "SixWhoTurn$Side" "pauses" "I") ∈ lw_all := lw_g (lw_at lw_m1 89 rfl) rfl
theorem q136 : (Jvm.Cond.soleField "SixWhoTurn$Side" "pauses") ∈ lw_all := lw_g (lw_at lw_m1 90 rfl) rfl
theorem q137 : (Jvm.Cond.lays "SixWhoTurn$Side" "SixWhoTurn$Side" "turns" "I") ∈ lw_all := lw_g (lw_at lw_m1 91 rfl) rfl
theorem q138 : (Jvm.Cond.soleField "SixWhoTurn$Side" "turns") ∈ lw_all := lw_g (lw_at lw_m1 92 rfl) rfl
theorem q139 : (Jvm.Cond.lays "SixWhoTurn$Side" "SixWhoTurn$Side" "free" "I") ∈ lw_all := lw_g (lw_at lw_m1 93 rfl) rfl
theorem q140 : (Jvm.Cond.soleField "SixWhoTurn$Side" "free") ∈ lw_all := lw_g (lw_at lw_m1 94 rfl) rfl
theorem q141 : (Jvm.Cond.lays "SixWhoTurn$Side" "SixWhoTurn$Side" "standsFor" "I") ∈ lw_all := lw_g (lw_at lw_m1 95 rfl) rfl
theorem q142 : (Jvm.Cond.soleField "SixWhoTurn$Side" "standsFor") ∈ lw_all := lw_g (lw_at lw_m1 96 rfl) rfl
theorem q143 : (Jvm.Cond.lays "SixWhoTurn$Side" "SixWhoTurn$Side" "freedAt" "I") ∈ lw_all := lw_g (lw_at lw_m1 97 rfl) rfl
theorem q144 : (Jvm.Cond.soleField "SixWhoTurn$Side" "freedAt") ∈ lw_all := lw_g (lw_at lw_m1 98 rfl) rfl
theorem q145 : (Jvm.Cond.lays "SixWhoTurn$Side" "SixWhoTurn$Side" "isTold" "Z") ∈ lw_all := lw_g (lw_at lw_m1 99 rfl) rfl
theorem q146 : (Jvm.Cond.soleField "SixWhoTurn$Side" "isTold") ∈ lw_all := lw_g (lw_at lw_m1 100 rfl) rfl
theorem q147 : (Jvm.Cond.superclass "SixWhoTurn$Side" "java/lang/Object") ∈ lw_all := lw_g (lw_at lw_m1 101 rfl) rfl
theorem q279 : (Jvm.Cond.instanceMethod ({ cls := "SixWhoTurn$Side", name := "hasFree", desc := "()Z" } : Jvm.MethodName)) ∈ lw_all := lw_g (lw_at lw_m1 233 rfl) rfl
theorem q280 : (Jvm.Cond.selects "SixWhoTurn$Side" ({ cls := "SixWhoTurn$Side", name := "hasFree", desc := "()Z" } : Jvm.MethodName) ({ cls := "SixWhoTurn$Side", name := "hasFree", desc := "()Z" } : Jvm.MethodName)) ∈ lw_all := lw_g (lw_at lw_m1 234 rfl) rfl
theorem q281 : (Jvm.Cond.code ({ cls := "SixWhoTurn$Side", name := "hasFree", desc := "()Z" } : Jvm.MethodName) prog_7_method_4_code (3 : Nat) (Option.some Jvm.ClassFile.FieldType.boolean)) ∈ lw_all := lw_g (lw_at lw_m1 235 rfl) rfl
theorem q283 : (Jvm.Cond.instanceMethod ({ cls := "SixWhoTurn$Side", name := "begins", desc := "()V" } : Jvm.MethodName)) ∈ lw_all := lw_g (lw_at lw_m1 237 rfl) rfl
theorem q284 : (Jvm.Cond.selects "SixWhoTurn$Side" ({ cls := "SixWhoTurn$Side", name := "begins", desc := "()V" } : Jvm.MethodName) ({ cls := "SixWhoTurn$Side", name := "begins", desc := "()V" } : Jvm.MethodName)) ∈ lw_all := lw_g (lw_at lw_m1 238 rfl) rfl
theorem q285 : (Jvm.Cond.code ({ cls := "SixWhoTurn$Side", name := "begins", desc := "()V" } : Jvm.MethodName) prog_7_method_3_code (2 : Nat) (Option.none : Option Jvm.ClassFile.FieldType)) ∈ lw_all := lw_g (lw_at lw_m1 239 rfl) rfl
theorem q286 : (Jvm.Cond.fieldLinkNest "SixWhoTurn$Side" (72 : Nat) "SixWhoTurn" "FEET_X" "[I" "SixWhoTurn") ∈ lw_tbl := lw_at lw_m2 0 rfl
theorem q288 : (Jvm.Cond.fieldLinkNest "SixWhoTurn$Side" (75 : Nat) "SixWhoTurn" "FEET_Y" "[I" "SixWhoTurn") ∈ lw_tbl := lw_at lw_m2 2 rfl
theorem q299 : (Jvm.Cond.instanceMethod ({ cls := "SixWhoTurn$Side", name := "goesRound", desc := "()V" } : Jvm.MethodName)) ∈ lw_all := lw_g (lw_at lw_m2 13 rfl) rfl
theorem q300 : (Jvm.Cond.selects "SixWhoTurn$Side" ({ cls := "SixWhoTurn$Side", name := "goesRound", desc := "()V" } : Jvm.MethodName) ({ cls := "SixWhoTurn$Side", name := "goesRound", desc := "()V" } : Jvm.MethodName)) ∈ lw_all := lw_g (lw_at lw_m2 14 rfl) rfl
theorem q301 : (Jvm.Cond.code ({ cls := "SixWhoTurn$Side", name := "goesRound", desc := "()V" } : Jvm.MethodName) prog_7_method_6_code (2 : Nat) (Option.none : Option Jvm.ClassFile.FieldType)) ∈ lw_all := lw_g (lw_at lw_m2 15 rfl) rfl
theorem q302 : (Jvm.Cond.methodLink "SixWhoTurn$Side" (47 : Nat) ({ cls := "java/lang/System", name := "arraycopy", desc := "(Ljava/lang/Object;ILjava/lang/Object;II)V" } : Jvm.MethodName)) ∈ lw_all := lw_g (lw_at lw_m2 16 rfl) rfl
theorem q320 : (Jvm.Cond.instanceMethod ({ cls := "SixWhoTurn$Side", name := "placeOf", desc := "(I)I" } : Jvm.MethodName)) ∈ lw_all := lw_g (lw_at lw_m2 34 rfl) rfl
theorem q321 : (Jvm.Cond.selects "SixWhoTurn$Side" ({ cls := "SixWhoTurn$Side", name := "placeOf", desc := "(I)I" } : Jvm.MethodName) ({ cls := "SixWhoTurn$Side", name := "placeOf", desc := "(I)I" } : Jvm.MethodName)) ∈ lw_all := lw_g (lw_at lw_m2 35 rfl) rfl
theorem q322 : (Jvm.Cond.code ({ cls := "SixWhoTurn$Side", name := "placeOf", desc := "(I)I" } : Jvm.MethodName) prog_7_method_5_code (4 : Nat) (Option.some Jvm.ClassFile.FieldType.int)) ∈ lw_all := lw_g (lw_at lw_m2 36 rfl) rfl
theorem q324 : (Jvm.Cond.instanceMethod ({ cls := "SixWhoTurn$Side", name := "mayPair", desc := "(II)Z" } : Jvm.MethodName)) ∈ lw_all := lw_g (lw_at lw_m2 38 rfl) rfl
theorem q325 : (Jvm.Cond.selects "SixWhoTurn$Side" ({ cls := "SixWhoTurn$Side", name := "mayPair", desc := "(II)Z" } : Jvm.MethodName) ({ cls := "SixWhoTurn$Side", name := "mayPair", desc := "(II)Z" } : Jvm.MethodName)) ∈ lw_all := lw_g (lw_at lw_m2 39 rfl) rfl
theorem q326 : (Jvm.Cond.code ({ cls := "SixWhoTurn$Side", name := "mayPair", desc := "(II)Z" } : Jvm.MethodName) prog_7_method_7_code (3 : Nat) (Option.some Jvm.ClassFile.FieldType.boolean)) ∈ lw_all := lw_g (lw_at lw_m2 40 rfl) rfl
theorem q333 : (Jvm.Cond.instanceMethod ({ cls := "SixWhoTurn$Side", name := "puts", desc := "(II)I" } : Jvm.MethodName)) ∈ lw_all := lw_g (lw_at lw_m2 47 rfl) rfl
theorem q334 : (Jvm.Cond.selects "SixWhoTurn$Side" ({ cls := "SixWhoTurn$Side", name := "puts", desc := "(II)I" } : Jvm.MethodName) ({ cls := "SixWhoTurn$Side", name := "puts", desc := "(II)I" } : Jvm.MethodName)) ∈ lw_all := lw_g (lw_at lw_m2 48 rfl) rfl
theorem q335 : (Jvm.Cond.code ({ cls := "SixWhoTurn$Side", name := "puts", desc := "(II)I" } : Jvm.MethodName) prog_7_method_8_code (5 : Nat) (Option.some Jvm.ClassFile.FieldType.int)) ∈ lw_all := lw_g (lw_at lw_m2 49 rfl) rfl
theorem q336 : (Jvm.Cond.methodLink "SixWhoTurn$Side" (78 : Nat) ({ cls := "SixWhoTurn$Side", name := "placeOf", desc := "(I)I" } : Jvm.MethodName)) ∈ lw_all := lw_g (lw_at lw_m2 50 rfl) rfl
theorem q378 : (Jvm.Cond.instanceMethod ({ cls := "SixWhoTurn$Side", name := "overlaps", desc := "(Z)I" } : Jvm.MethodName)) ∈ lw_all := lw_g (lw_at lw_m2 92 rfl) rfl
theorem q379 : (Jvm.Cond.selects "SixWhoTurn$Side" ({ cls := "SixWhoTurn$Side", name := "overlaps", desc := "(Z)I" } : Jvm.MethodName) ({ cls := "SixWhoTurn$Side", name := "overlaps", desc := "(Z)I" } : Jvm.MethodName)) ∈ lw_all := lw_g (lw_at lw_m2 93 rfl) rfl
theorem q380 : (Jvm.Cond.code ({ cls := "SixWhoTurn$Side", name := "overlaps", desc := "(Z)I" } : Jvm.MethodName) prog_7_method_10_code (4 : Nat) (Option.some Jvm.ClassFile.FieldType.int)) ∈ lw_all := lw_g (lw_at lw_m2 94 rfl) rfl
theorem q381 : (Jvm.Cond.fieldLinkNest "SixWhoTurn$Side" (82 : Nat) "SixWhoTurn" "LESS" "[I" "SixWhoTurn") ∈ lw_tbl := lw_at lw_m2 95 rfl
theorem q383 : (Jvm.Cond.fieldLinkNest "SixWhoTurn$Side" (85 : Nat) "SixWhoTurn" "MORE" "[I" "SixWhoTurn") ∈ lw_tbl := lw_at lw_m2 97 rfl
theorem q593 : (Jvm.Cond.instanceMethod ({ cls := "SixWhoTurn$Side", name := "become", desc := "(LSixWhoTurn$Side;)V" } : Jvm.MethodName)) ∈ lw_all := lw_g (lw_at lw_m3 67 rfl) rfl
theorem q594 : (Jvm.Cond.selects "SixWhoTurn$Side" ({ cls := "SixWhoTurn$Side", name := "become", desc := "(LSixWhoTurn$Side;)V" } : Jvm.MethodName) ({ cls := "SixWhoTurn$Side", name := "become", desc := "(LSixWhoTurn$Side;)V" } : Jvm.MethodName)) ∈ lw_all := lw_g (lw_at lw_m3 68 rfl) rfl
theorem q595 : (Jvm.Cond.code ({ cls := "SixWhoTurn$Side", name := "become", desc := "(LSixWhoTurn$Side;)V" } : Jvm.MethodName) prog_7_method_2_code (2 : Nat) (Option.none : Option Jvm.ClassFile.FieldType)) ∈ lw_all := lw_g (lw_at lw_m3 69 rfl) rfl
theorem q628 : (Jvm.Cond.instanceMethod ({ cls := "SixWhoTurn$Side", name := "at", desc := "(II)I" } : Jvm.MethodName)) ∈ lw_all := lw_g (lw_at lw_m3 102 rfl) rfl
theorem q629 : (Jvm.Cond.selects "SixWhoTurn$Side" ({ cls := "SixWhoTurn$Side", name := "at", desc := "(II)I" } : Jvm.MethodName) ({ cls := "SixWhoTurn$Side", name := "at", desc := "(II)I" } : Jvm.MethodName)) ∈ lw_all := lw_g (lw_at lw_m3 103 rfl) rfl
theorem q630 : (Jvm.Cond.code ({ cls := "SixWhoTurn$Side", name := "at", desc := "(II)I" } : Jvm.MethodName) prog_7_method_9_code (4 : Nat) (Option.some Jvm.ClassFile.FieldType.int)) ∈ lw_all := lw_g (lw_at lw_m3 104 rfl) rfl
theorem q1057 : (Jvm.Cond.castable "SixWhoTurn$Side" "java/lang/Object") ∈ lw_tbl := lw_at lw_m5 51 rfl
theorem in_X2 : ∀ w ∈ wsX20, w ∈ lw_all := lw_in wsX20 [113, 115, 117, 119, 121, 123, 125, 127, 129, 131, 133, 135, 137, 139, 141, 143, 145] (by decide +kernel) (by decide +kernel)
