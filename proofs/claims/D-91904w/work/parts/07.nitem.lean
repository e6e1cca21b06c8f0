/-! SixWhoTurn$Item -/
set_option maxRecDepth 100000
def RX4 : String := "SixWhoTurn$Item"
abbrev cX4_init : ByteArray := prog_4_method_1_code
def yX4_init : MethodName := ⟨RX4, "<init>", "(LSixWhoTurn;)V"⟩
def dkwX4_init_0 : List UInt8 := [42, 43, 181, 0, 1, 42, 183, 0, 7, 177]
abbrev dktX4_init_0 : List UInt8 := dkwX4_init_0 ++ []
theorem dksX4_init_0 : cX4_init.data.toList.drop 0 = dktX4_init_0 := by decide +kernel
theorem dX4_init_0 : decode cX4_init 0 = .ok (.aload_n 0, 1) := dk_42 (dk_at dksX4_init_0 0 rfl rfl)
theorem dX4_init_1 : decode cX4_init 1 = .ok (.aload_n 1, 1) := dk_43 (dk_at dksX4_init_0 1 rfl rfl)
theorem dX4_init_2 : decode cX4_init 2 = .ok (.putfield 1, 3) := dk_181 0 1 (dk_at dksX4_init_0 2 rfl rfl)
theorem dX4_init_5 : decode cX4_init 5 = .ok (.aload_n 0, 1) := dk_42 (dk_at dksX4_init_0 5 rfl rfl)
theorem dX4_init_6 : decode cX4_init 6 = .ok (.invokespecial 7, 3) := dk_183 0 7 (dk_at dksX4_init_0 6 rfl rfl)
theorem dX4_init_9 : decode cX4_init 9 = .ok (.return_, 1) := dk_177 (dk_at dksX4_init_0 9 rfl rfl)
theorem q53 : (Jvm.Cond.initialized "SixWhoTurn$Item") ∈ lw_all := lw_g (lw_at lw_m1 7 rfl) rfl
theorem q418 : (Jvm.Cond.instanceMethod ({ cls := "SixWhoTurn$Item", name := "<init>", desc := "(LSixWhoTurn;)V" } : Jvm.MethodName)) ∈ lw_all := lw_g (lw_at lw_m2 132 rfl) rfl
theorem q419 : (Jvm.Cond.code ({ cls := "SixWhoTurn$Item", name := "<init>", desc := "(LSixWhoTurn;)V" } : Jvm.MethodName) prog_4_method_1_code (2 : Nat) (Option.none : Option Jvm.ClassFile.FieldType)) ∈ lw_all := lw_g (lw_at lw_m2 133 rfl) rfl
theorem q420 : (Jvm.Cond.methodLink "SixWhoTurn$Item" (7 : Nat) ({ cls := "java/lang/Object", name := "<init>", desc := "()V" } : Jvm.MethodName)) ∈ lw_all := lw_g (lw_at lw_m2 134 rfl) rfl
theorem q425 : (Jvm.Cond.fieldLink "SixWhoTurn$Item" (1 : Nat) "SixWhoTurn$Item" "this$0" "LSixWhoTurn;") ∈ lw_all := lw_g (lw_at lw_m2 139 rfl) rfl
theorem q431 : (Jvm.Cond.soleField "SixWhoTurn$Item" "begin") ∈ lw_all := lw_g (lw_at lw_m2 145 rfl) rfl
theorem q433 : (Jvm.Cond.soleField "SixWhoTurn$Item" "next") ∈ lw_all := lw_g (lw_at lw_m2 147 rfl) rfl
theorem q435 : (Jvm.Cond.soleField "SixWhoTurn$Item" "this$0") ∈ lw_all := lw_g (lw_at lw_m2 149 rfl) rfl
theorem q597 : (Jvm.Cond.declares ({ cls := "SixWhoTurn$Item", name := "isDone", desc := "()Z" } : Jvm.MethodName)) ∈ lw_tbl := lw_at lw_m3 71 rfl
theorem q598 : (Jvm.Cond.sameMethod "SixWhoTurn$Item" "SixWhoTurn$Item" "isDone" "()Z") ∈ lw_all := lw_g (lw_at lw_m3 72 rfl) rfl
/-! SixWhoTurn$Rally -/
set_option maxRecDepth 100000
def RX5 : String := "SixWhoTurn$Rally"
def TX5 : u_T := fun k => match k with
  | 0 => ("SixWhoTurn$Item", "begin", "I", false)
  | 1 => ("SixWhoTurn$Item", "next", "LSixWhoTurn$Item;", false)
  | 2 => ("SixWhoTurn$Item", "this$0", "LSixWhoTurn;", true)
  | 3 => ("SixWhoTurn$Rally", "team", "I", true)
  | _ => ("SixWhoTurn$Rally", "this$0", "LSixWhoTurn;", true)
def tyX5 : Nat → FieldType := fun k => match k with
  | 0 => .int
  | 1 => .object "SixWhoTurn$Item"
  | 2 => .object "SixWhoTurn"
  | 3 => .int
  | _ => .object "SixWhoTurn"
abbrev wsX50 : List Cond := u_ws RX5 TX5 5
-- two fields of one name: no nmX5
theorem tyX5_ok : ∀ k, k < 5 → parseFieldDescriptor (TX5 k).2.2.1 = some (tyX5 k) := by decide +kernel
abbrev cX5_init : ByteArray := prog_6_method_1_code
def yX5_init : MethodName := ⟨RX5, "<init>", "(LSixWhoTurn;I)V"⟩
def dkwX5_init_0 : List UInt8 := [42, 43, 181, 0, 1, 42, 43, 183, 0, 7, 42, 28, 181, 0, 13, 177]
abbrev dktX5_init_0 : List UInt8 := dkwX5_init_0 ++ []
theorem dksX5_init_0 : cX5_init.data.toList.drop 0 = dktX5_init_0 := by decide +kernel
theorem dX5_init_0 : decode cX5_init 0 = .ok (.aload_n 0, 1) := dk_42 (dk_at dksX5_init_0 0 rfl rfl)
theorem dX5_init_1 : decode cX5_init 1 = .ok (.aload_n 1, 1) := dk_43 (dk_at dksX5_init_0 1 rfl rfl)
theorem dX5_init_2 : decode cX5_init 2 = .ok (.putfield 1, 3) := dk_181 0 1 (dk_at dksX5_init_0 2 rfl rfl)
theorem dX5_init_5 : decode cX5_init 5 = .ok (.aload_n 0, 1) := dk_42 (dk_at dksX5_init_0 5 rfl rfl)
theorem dX5_init_6 : decode cX5_init 6 = .ok (.aload_n 1, 1) := dk_43 (dk_at dksX5_init_0 6 rfl rfl)
theorem dX5_init_7 : decode cX5_init 7 = .ok (.invokespecial 7, 3) := dk_183 0 7 (dk_at dksX5_init_0 7 rfl rfl)
theorem dX5_init_10 : decode cX5_init 10 = .ok (.aload_n 0, 1) := dk_42 (dk_at dksX5_init_0 10 rfl rfl)
theorem dX5_init_11 : decode cX5_init 11 = .ok (.iload_n 2, 1) := dk_28 (dk_at dksX5_init_0 11 rfl rfl)
theorem dX5_init_12 : decode cX5_init 12 = .ok (.putfield 13, 3) := dk_181 0 13 (dk_at dksX5_init_0 12 rfl rfl)
theorem dX5_init_15 : decode cX5_init 15 = .ok (.return_, 1) := dk_177 (dk_at dksX5_init_0 15 rfl rfl)
abbrev cX5_isDone : ByteArray := prog_6_method_2_code
def yX5_isDone : MethodName := ⟨RX5, "isDone", "()Z"⟩
def dkwX5_isDone_0 : List UInt8 := [42, 180, 0, 1, 42, 180, 0, 13, 182, 0, 17, 155, 0, 7, 4, 167, 0, 4, 3, 172]
abbrev dktX5_isDone_0 : List UInt8 := dkwX5_isDone_0 ++ []
theorem dksX5_isDone_0 : cX5_isDone.data.toList.drop 0 = dktX5_isDone_0 := by decide +kernel
theorem dX5_isDone_0 : decode cX5_isDone 0 = .ok (.aload_n 0, 1) := dk_42 (dk_at dksX5_isDone_0 0 rfl rfl)
theorem dX5_isDone_1 : decode cX5_isDone 1 = .ok (.getfield 1, 3) := dk_180 0 1 (dk_at dksX5_isDone_0 1 rfl rfl)
theorem dX5_isDone_4 : decode cX5_isDone 4 = .ok (.aload_n 0, 1) := dk_42 (dk_at dksX5_isDone_0 4 rfl rfl)
theorem dX5_isDone_5 : decode cX5_isDone 5 = .ok (.getfield 13, 3) := dk_180 0 13 (dk_at dksX5_isDone_0 5 rfl rfl)
theorem dX5_isDone_8 : decode cX5_isDone 8 = .ok (.invokevirtual 17, 3) := dk_182 0 17 (dk_at dksX5_isDone_0 8 rfl rfl)
theorem dX5_isDone_11 : decode cX5_isDone 11 = .ok (.ifCond .lt 7, 3) := dk_155 0 7 (dk_at dksX5_isDone_0 11 rfl rfl)
theorem dX5_isDone_14 : decode cX5_isDone 14 = .ok (.iconst 1, 1) := dk_4 (dk_at dksX5_isDone_0 14 rfl rfl)
theorem dX5_isDone_15 : decode cX5_isDone 15 = .ok (.goto 4, 3) := dk_167 0 4 (dk_at dksX5_isDone_0 15 rfl rfl)
theorem dX5_isDone_18 : decode cX5_isDone 18 = .ok (.iconst 0, 1) := dk_3 (dk_at dksX5_isDone_0 18 rfl rfl)
theorem dX5_isDone_19 : decode cX5_isDone 19 = .ok (.ireturn, 1) := dk_172 (dk_at dksX5_isDone_0 19 rfl rfl)
theorem q54 : (Jvm.Cond.initialized "SixWhoTurn$Rally") ∈ lw_all := lw_g (lw_at lw_m1 8 rfl) rfl
theorem q413 : (Jvm.Cond.instantiable "SixWhoTurn$Rally" (5 : Nat)) ∈ lw_all := lw_g (lw_at lw_m2 127 rfl) rfl
theorem q415 : (Jvm.Cond.instanceMethod ({ cls := "SixWhoTurn$Rally", name := "<init>", desc := "(LSixWhoTurn;I)V" } : Jvm.MethodName)) ∈ lw_all := lw_g (lw_at lw_m2 129 rfl) rfl
theorem q416 : (Jvm.Cond.code ({ cls := "SixWhoTurn$Rally", name := "<init>", desc := "(LSixWhoTurn;I)V" } : Jvm.MethodName) prog_6_method_1_code (3 : Nat) (Option.none : Option Jvm.ClassFile.FieldType)) ∈ lw_all := lw_g (lw_at lw_m2 130 rfl) rfl
theorem q417 : (Jvm.Cond.methodLinkNest "SixWhoTurn$Rally" (7 : Nat) ({ cls := "SixWhoTurn$Item", name := "<init>", desc := "(LSixWhoTurn;)V" } : Jvm.MethodName) "SixWhoTurn") ∈ lw_tbl := lw_at lw_m2 131 rfl
theorem q421 : (Jvm.Cond.fieldLink "SixWhoTurn$Rally" (13 : Nat) "SixWhoTurn$Rally" "team" "I") ∈ lw_all := lw_g (lw_at lw_m2 135 rfl) rfl
theorem q422 : (Jvm.Cond.fieldLink "SixWhoTurn$Rally" (1 : Nat) "SixWhoTurn$Rally" "this$0" "LSixWhoTurn;") ∈ lw_all := lw_g (lw_at lw_m2 136 rfl) rfl
theorem q426 : (Jvm.Cond.laysFinal "SixWhoTurn$Rally" "SixWhoTurn$Rally" "team" "I") ∈ lw_all := lw_g (lw_at lw_m2 140 rfl) rfl
theorem q427 : (Jvm.Cond.soleField "SixWhoTurn$Rally" "team") ∈ lw_all := lw_g (lw_at lw_m2 141 rfl) rfl
theorem q428 : (Jvm.Cond.laysFinal "SixWhoTurn$Rally" "SixWhoTurn$Rally" "this$0" "LSixWhoTurn;") ∈ lw_all := lw_g (lw_at lw_m2 142 rfl) rfl
theorem q429 : (Jvm.Cond.soleField "SixWhoTurn$Rally" "this$0") ∈ lw_all := lw_g (lw_at lw_m2 143 rfl) rfl
theorem q430 : (Jvm.Cond.lays "SixWhoTurn$Rally" "SixWhoTurn$Item" "begin" "I") ∈ lw_all := lw_g (lw_at lw_m2 144 rfl) rfl
theorem q432 : (Jvm.Cond.lays "SixWhoTurn$Rally" "SixWhoTurn$Item" "next" "LSixWhoTurn$Item;") ∈ lw_all := lw_g (lw_at lw_m2 146 rfl) rfl
theorem q434 : (Jvm.Cond.laysFinal "SixWhoTurn$Rally" "SixWhoTurn$Item" "this$0" "LSixWhoTurn;") ∈ lw_all := lw_g (lw_at lw_m2 148 rfl) rfl
theorem q436 : (Jvm.Cond.superclass "SixWhoTurn$Rally" "SixWhoTurn$Item") ∈ lw_all := lw_g (lw_at lw_m2 150 rfl) rfl
theorem q611 : (Jvm.Cond.selects "SixWhoTurn$Rally" ({ cls := "SixWhoTurn$Item", name := "isDone", desc := "()Z" } : Jvm.MethodName) ({ cls := "SixWhoTurn$Rally", name := "isDone", desc := "()Z" } : Jvm.MethodName)) ∈ lw_all := lw_g (lw_at lw_m3 85 rfl) rfl
theorem q612 : (Jvm.Cond.instanceMethod ({ cls := "SixWhoTurn$Rally", name := "isDone", desc := "()Z" } : Jvm.MethodName)) ∈ lw_all := lw_g (lw_at lw_m3 86 rfl) rfl
theorem q613 : (Jvm.Cond.code ({ cls := "SixWhoTurn$Rally", name := "isDone", desc := "()Z" } : Jvm.MethodName) prog_6_method_2_code (1 : Nat) (Option.some Jvm.ClassFile.FieldType.boolean)) ∈ lw_all := lw_g (lw_at lw_m3 87 rfl) rfl
theorem q614 : (Jvm.Cond.methodLink "SixWhoTurn$Rally" (17 : Nat) ({ cls := "SixWhoTurn", name := "rally", desc := "(I)I" } : Jvm.MethodName)) ∈ lw_all := lw_g (lw_at lw_m3 88 rfl) rfl
theorem q1059 : (Jvm.Cond.castable "SixWhoTurn$Rally" "java/lang/Object") ∈ lw_tbl := lw_at lw_m5 53 rfl
theorem in_X5 : ∀ w ∈ wsX50, w ∈ lw_all := lw_in wsX50 [430, 432, 434, 426, 428] (by decide +kernel) (by decide +kernel)
/-! SixWhoTurn$Pause -/
set_option maxRecDepth 100000
def RX6 : String := "SixWhoTurn$Pause"
def TX6 : u_T := fun k => match k with
  | 0 => ("SixWhoTurn$Item", "begin", "I", false)
  | 1 => ("SixWhoTurn$Item", "next", "LSixWhoTurn$Item;", false)
  | 2 => ("SixWhoTurn$Item", "this$0", "LSixWhoTurn;", true)
  | 3 => ("SixWhoTurn$Pause", "team", "I", true)
  | _ => ("SixWhoTurn$Pause", "this$0", "LSixWhoTurn;", true)
def tyX6 : Nat → FieldType := fun k => match k with
  | 0 => .int
  | 1 => .object "SixWhoTurn$Item"
  | 2 => .object "SixWhoTurn"
  | 3 => .int
  | _ => .object "SixWhoTurn"
abbrev wsX60 : List Cond := u_ws RX6 TX6 5
-- two fields of one name: no nmX6
theorem tyX6_ok : ∀ k, k < 5 → parseFieldDescriptor (TX6 k).2.2.1 = some (tyX6 k) := by decide +kernel
abbrev cX6_init : ByteArray := prog_5_method_1_code
def yX6_init : MethodName := ⟨RX6, "<init>", "(LSixWhoTurn;I)V"⟩
def dkwX6_init_0 : List UInt8 := [42, 43, 181, 0, 1, 42, 43, 183, 0, 7, 42, 28, 181, 0, 13, 177]
abbrev dktX6_init_0 : List UInt8 := dkwX6_init_0 ++ []
theorem dksX6_init_0 : cX6_init.data.toList.drop 0 = dktX6_init_0 := by decide +kernel
theorem dX6_init_0 : decode cX6_init 0 = .ok (.aload_n 0, 1) := dk_42 (dk_at dksX6_init_0 0 rfl rfl)
theorem dX6_init_1 : decode cX6_init 1 = .ok (.aload_n 1, 1) := dk_43 (dk_at dksX6_init_0 1 rfl rfl)
theorem dX6_init_2 : decode cX6_init 2 = .ok (.putfield 1, 3) := dk_181 0 1 (dk_at dksX6_init_0 2 rfl rfl)
theorem dX6_init_5 : decode cX6_init 5 = .ok (.aload_n 0, 1) := dk_42 (dk_at dksX6_init_0 5 rfl rfl)
theorem dX6_init_6 : decode cX6_init 6 = .ok (.aload_n 1, 1) := dk_43 (dk_at dksX6_init_0 6 rfl rfl)
theorem dX6_init_7 : decode cX6_init 7 = .ok (.invokespecial 7, 3) := dk_183 0 7 (dk_at dksX6_init_0 7 rfl rfl)
theorem dX6_init_10 : decode cX6_init 10 = .ok (.aload_n 0, 1) := dk_42 (dk_at dksX6_init_0 10 rfl rfl)
theorem dX6_init_11 : decode cX6_init 11 = .ok (.iload_n 2, 1) := dk_28 (dk_at dksX6_init_0 11 rfl rfl)
theorem dX6_init_12 : decode cX6_init 12 = .ok (.putfield 13, 3) := dk_181 0 13 (dk_at dksX6_init_0 12 rfl rfl)
theorem dX6_init_15 : decode cX6_init 15 = .ok (.return_, 1) := dk_177 (dk_at dksX6_init_0 15 rfl rfl)
abbrev cX6_isDone : ByteArray := prog_5_method_2_code
def yX6_isDone : MethodName := ⟨RX6, "isDone", "()Z"⟩
def dkwX6_isDone_0 : List UInt8 := [42, 180, 0, 1, 42, 180, 0, 13, 182, 0, 17, 155, 0, 7, 4, 167, 0, 4, 3, 172]
abbrev dktX6_isDone_0 : List UInt8 := dkwX6_isDone_0 ++ []
theorem dksX6_isDone_0 : cX6_isDone.data.toList.drop 0 = dktX6_isDone_0 := by decide +kernel
theorem dX6_isDone_0 : decode cX6_isDone 0 = .ok (.aload_n 0, 1) := dk_42 (dk_at dksX6_isDone_0 0 rfl rfl)
theorem dX6_isDone_1 : decode cX6_isDone 1 = .ok (.getfield 1, 3) := dk_180 0 1 (dk_at dksX6_isDone_0 1 rfl rfl)
theorem dX6_isDone_4 : decode cX6_isDone 4 = .ok (.aload_n 0, 1) := dk_42 (dk_at dksX6_isDone_0 4 rfl rfl)
theorem dX6_isDone_5 : decode cX6_isDone 5 = .ok (.getfield 13, 3) := dk_180 0 13 (dk_at dksX6_isDone_0 5 rfl rfl)
theorem dX6_isDone_8 : decode cX6_isDone 8 = .ok (.invokevirtual 17, 3) := dk_182 0 17 (dk_at dksX6_isDone_0 8 rfl rfl)
theorem dX6_isDone_11 : decode cX6_isDone 11 = .ok (.ifCond .lt 7, 3) := dk_155 0 7 (dk_at dksX6_isDone_0 11 rfl rfl)
theorem dX6_isDone_14 : decode cX6_isDone 14 = .ok (.iconst 1, 1) := dk_4 (dk_at dksX6_isDone_0 14 rfl rfl)
theorem dX6_isDone_15 : decode cX6_isDone 15 = .ok (.goto 4, 3) := dk_167 0 4 (dk_at dksX6_isDone_0 15 rfl rfl)
theorem dX6_isDone_18 : decode cX6_isDone 18 = .ok (.iconst 0, 1) := dk_3 (dk_at dksX6_isDone_0 18 rfl rfl)
theorem dX6_isDone_19 : decode cX6_isDone 19 = .ok (.ireturn, 1) := dk_172 (dk_at dksX6_isDone_0 19 rfl rfl)
theorem q55 : (Jvm.Cond.initialized "SixWhoTurn$Pause") ∈ lw_all := lw_g (lw_at lw_m1 9 rfl) rfl
theorem q442 : (Jvm.Cond.instantiable "SixWhoTurn$Pause" (5 : Nat)) ∈ lw_all := lw_g (lw_at lw_m2 156 rfl) rfl
theorem q444 : (Jvm.Cond.instanceMethod ({ cls := "SixWhoTurn$Pause", name := "<init>", desc := "(LSixWhoTurn;I)V" } : Jvm.MethodName)) ∈ lw_all := lw_g (lw_at lw_m2 158 rfl) rfl
theorem q445 : (Jvm.Cond.code ({ cls := "SixWhoTurn$Pause", name := "<init>", desc := "(LSixWhoTurn;I)V" } : Jvm.MethodName) prog_5_method_1_code (3 : Nat) (Option.none : Option Jvm.ClassFile.FieldType)) ∈ lw_all := lw_g (lw_at lw_m2 159 rfl) rfl
theorem q446 : (Jvm.Cond.methodLinkNest "SixWhoTurn$Pause" (7 : Nat) ({ cls := "SixWhoTurn$Item", name := "<init>", desc := "(LSixWhoTurn;)V" } : Jvm.MethodName) "SixWhoTurn") ∈ lw_tbl := lw_at lw_m2 160 rfl
theorem q447 : (Jvm.Cond.fieldLink "SixWhoTurn$Pause" (13 : Nat) "SixWhoTurn$Pause" "team" "I") ∈ lw_all := lw_g (lw_at lw_m2 161 rfl) rfl
theorem q448 : (Jvm.Cond.fieldLink "SixWhoTurn$Pause" (1 : Nat) "SixWhoTurn$Pause" "this$0" "LSixWhoTurn;") ∈ lw_all := lw_g (lw_at lw_m2 162 rfl) rfl
theorem q449 : (Jvm.Cond.laysFinal "SixWhoTurn$Pause" "SixWhoTurn$Pause" "team" "I") ∈ lw_all := lw_g (lw_at lw_m2 163 rfl) rfl
theorem q450 : (Jvm.Cond.soleField "SixWhoTurn$Pause" "team") ∈ lw_all := lw_g (lw_at lw_m2 164 rfl) rfl
theorem q451 : (Jvm.Cond.laysFinal "SixWhoTurn$Pause" "SixWhoTurn$Pause" "this$0" "LSixWhoTurn;") ∈ lw_all := lw_g (lw_at lw_m2 165 rfl) rfl
theorem q452 : (Jvm.Cond.soleField "SixWhoTurn$Pause" "this$0") ∈ lw_all := lw_g (lw_at lw_m2 166 rfl) rfl
theorem q453 : (Jvm.Cond.lays "SixWhoTurn$Pause" "SixWhoTurn$Item" "begin" "I") ∈ lw_all := lw_g (lw_at lw_m2 167 rfl) rfl
theorem q454 : (Jvm.Cond.lays "SixWhoTurn$Pause" "SixWhoTurn$Item" "next" "LSixWhoTurn$Item;") ∈ lw_all := lw_g (lw_at lw_m2 168 rfl) rfl
theorem q455 : (Jvm.Cond.laysFinal "SixWhoTurn$Pause" "SixWhoTurn$Item" "this$0" "LSixWhoTurn;") ∈ lw_all := lw_g (lw_at lw_m2 169 rfl) rfl
theorem q456 : (Jvm.Cond.superclass "SixWhoTurn$Pause" "SixWhoTurn$Item") ∈ lw_all := lw_g (lw_at lw_m2 170 rfl) rfl
theorem q607 : (Jvm.Cond.selects "SixWhoTurn$Pause" ({ cls := "SixWhoTurn$Item", name := "isDone", desc := "()Z" } : Jvm.MethodName) ({ cls := "SixWhoTurn$Pause", name := "isDone", desc := "()Z" } : Jvm.MethodName)) ∈ lw_all := lw_g (lw_at lw_m3 81 rfl) rfl
theorem q608 : (Jvm.Cond.instanceMethod ({ cls := "SixWhoTurn$Pause", name := "isDone", desc := "()Z" } : Jvm.MethodName)) ∈ lw_all := lw_g (lw_at lw_m3 82 rfl) rfl
theorem q609 : (Jvm.Cond.code ({ cls := "SixWhoTurn$Pause", name := "isDone", desc := "()Z" } : Jvm.MethodName) prog_5_method_2_code (1 : Nat) (Option.some Jvm.ClassFile.FieldType.boolean)) ∈ lw_all := lw_g (lw_at lw_m3 83 rfl) rfl
theorem q610 : (Jvm.Cond.methodLink "SixWhoTurn$Pause" (17 : Nat) ({ cls := "SixWhoTurn", name := "pause", desc := "(I)I" } : Jvm.MethodName)) ∈ lw_all := lw_g (lw_at lw_m3 84 rfl) rfl
theorem q1060 : (Jvm.Cond.castable "SixWhoTurn$Pause" "java/lang/Object") ∈ lw_tbl := lw_at lw_m5 54 rfl
theorem in_X6 : ∀ w ∈ wsX60, w ∈ lw_all := lw_in wsX60 [453, 454, 455, 449, 451] (by decide +kernel) (by decide +kernel)
/-! SixWhoTurn$Free -/
set_option maxRecDepth 100000
def RX7 : String := "SixWhoTurn$Free"
def TX7 : u_T := fun k => match k with
  | 0 => ("SixWhoTurn$Item", "begin", "I", false)
  | 1 => ("SixWhoTurn$Item", "next", "LSixWhoTurn$Item;", false)
  | 2 => ("SixWhoTurn$Item", "this$0", "LSixWhoTurn;", true)
  | 3 => ("SixWhoTurn$Free", "team", "I", true)
  | 4 => ("SixWhoTurn$Free", "player", "I", true)
  | _ => ("SixWhoTurn$Free", "this$0", "LSixWhoTurn;", true)
def tyX7 : Nat → FieldType := fun k => match k with
  | 0 => .int
  | 1 => .object "SixWhoTurn$Item"
  | 2 => .object "SixWhoTurn"
  | 3 => .int
  | 4 => .int
  | _ => .object "SixWhoTurn"
abbrev wsX70 : List Cond := u_ws RX7 TX7 6
-- two fields of one name: no nmX7
theorem tyX7_ok : ∀ k, k < 6 → parseFieldDescriptor (TX7 k).2.2.1 = some (tyX7 k) := by decide +kernel
abbrev cX7_init : ByteArray := prog_3_method_1_code
def yX7_init : MethodName := ⟨RX7, "<init>", "(LSixWhoTurn;II)V"⟩
def dkwX7_init_0 : List UInt8 := [42, 43, 181, 0, 1, 42, 43, 183, 0, 7, 42, 28, 181, 0, 13, 42, 29, 181, 0, 17, 177]
abbrev dktX7_init_0 : List UInt8 := dkwX7_init_0 ++ []
theorem dksX7_init_0 : cX7_init.data.toList.drop 0 = dktX7_init_0 := by decide +kernel
theorem dX7_init_0 : decode cX7_init 0 = .ok (.aload_n 0, 1) := dk_42 (dk_at dksX7_init_0 0 rfl rfl)
theorem dX7_init_1 : decode cX7_init 1 = .ok (.aload_n 1, 1) := dk_43 (dk_at dksX7_init_0 1 rfl rfl)
theorem dX7_init_2 : decode cX7_init 2 = .ok (.putfield 1, 3) := dk_181 0 1 (dk_at dksX7_init_0 2 rfl rfl)
theorem dX7_init_5 : decode cX7_init 5 = .ok (.aload_n 0, 1) := dk_42 (dk_at dksX7_init_0 5 rfl rfl)
theorem dX7_init_6 : decode cX7_init 6 = .ok (.aload_n 1, 1) := dk_43 (dk_at dksX7_init_0 6 rfl rfl)
theorem dX7_init_7 : decode cX7_init 7 = .ok (.invokespecial 7, 3) := dk_183 0 7 (dk_at dksX7_init_0 7 rfl rfl)
theorem dX7_init_10 : decode cX7_init 10 = .ok (.aload_n 0, 1) := dk_42 (dk_at dksX7_init_0 10 rfl rfl)
theorem dX7_init_11 : decode cX7_init 11 = .ok (.iload_n 2, 1) := dk_28 (dk_at dksX7_init_0 11 rfl rfl)
theorem dX7_init_12 : decode cX7_init 12 = .ok (.putfield 13, 3) := dk_181 0 13 (dk_at dksX7_init_0 12 rfl rfl)
theorem dX7_init_15 : decode cX7_init 15 = .ok (.aload_n 0, 1) := dk_42 (dk_at dksX7_init_0 15 rfl rfl)
theorem dX7_init_16 : decode cX7_init 16 = .ok (.iload_n 3, 1) := dk_29 (dk_at dksX7_init_0 16 rfl rfl)
theorem dX7_init_17 : decode cX7_init 17 = .ok (.putfield 17, 3) := dk_181 0 17 (dk_at dksX7_init_0 17 rfl rfl)
theorem dX7_init_20 : decode cX7_init 20 = .ok (.return_, 1) := dk_177 (dk_at dksX7_init_0 20 rfl rfl)
abbrev cX7_isDone : ByteArray := prog_3_method_2_code
def yX7_isDone : MethodName := ⟨RX7, "isDone", "()Z"⟩
def dkwX7_isDone_0 : List UInt8 := [42, 180, 0, 1, 42, 180, 0, 13, 42, 180, 0, 17, 182, 0, 20, 155, 0, 7, 4, 167, 0, 4, 3, 172]
abbrev dktX7_isDone_0 : List UInt8 := dkwX7_isDone_0 ++ []
theorem dksX7_isDone_0 : cX7_isDone.data.toList.drop 0 = dktX7_isDone_0 := by decide +kernel
theorem dX7_isDone_0 : decode cX7_isDone 0 = .ok (.aload_n 0, 1) := dk_42 (dk_at dksX7_isDone_0 0 rfl rfl)
theorem dX7_isDone_1 : decode cX7_isDone 1 = .ok (.getfield 1, 3) := dk_180 0 1 (dk_at dksX7_isDone_0 1 rfl rfl)
theorem dX7_isDone_4 : decode cX7_isDone 4 = .ok (.aload_n 0, 1) := dk_42 (dk_at dksX7_isDone_0 4 rfl rfl)
theorem dX7_isDone_5 : decode cX7_isDone 5 = .ok (.getfield 13, 3) := dk_180 0 13 (dk_at dksX7_isDone_0 5 rfl rfl)
theorem dX7_isDone_8 : decode cX7_isDone 8 = .ok (.aload_n 0, 1) := dk_42 (dk_at dksX7_isDone_0 8 rfl rfl)
theorem dX7_isDone_9 : decode cX7_isDone 9 = .ok (.getfield 17, 3) := dk_180 0 17 (dk_at dksX7_isDone_0 9 rfl rfl)
theorem dX7_isDone_12 : decode cX7_isDone 12 = .ok (.invokevirtual 20, 3) := dk_182 0 20 (dk_at dksX7_isDone_0 12 rfl rfl)
theorem dX7_isDone_15 : decode cX7_isDone 15 = .ok (.ifCond .lt 7, 3) := dk_155 0 7 (dk_at dksX7_isDone_0 15 rfl rfl)
theorem dX7_isDone_18 : decode cX7_isDone 18 = .ok (.iconst 1, 1) := dk_4 (dk_at dksX7_isDone_0 18 rfl rfl)
theorem dX7_isDone_19 : decode cX7_isDone 19 = .ok (.goto 4, 3) := dk_167 0 4 (dk_at dksX7_isDone_0 19 rfl rfl)
theorem dX7_isDone_22 : decode cX7_isDone 22 = .ok (.iconst 0, 1) := dk_3 (dk_at dksX7_isDone_0 22 rfl rfl)
theorem dX7_isDone_23 : decode cX7_isDone 23 = .ok (.ireturn, 1) := dk_172 (dk_at dksX7_isDone_0 23 rfl rfl)
theorem q56 : (Jvm.Cond.initialized "SixWhoTurn$Free") ∈ lw_all := lw_g (lw_at lw_m1 10 rfl) rfl
theorem q458 : (Jvm.Cond.instantiable "SixWhoTurn$Free" (6 : Nat)) ∈ lw_all := lw_g (lw_at lw_m2 172 rfl) rfl
theorem q460 : (Jvm.Cond.instanceMethod ({ cls := "SixWhoTurn$Free", name := "<init>", desc := "(LSixWhoTurn;II)V" } : Jvm.MethodName)) ∈ lw_all := lw_g (lw_at lw_m2 174 rfl) rfl
theorem q461 : (Jvm.Cond.code ({ cls := "SixWhoTurn$Free", name := "<init>", desc := "(LSixWhoTurn;II)V" } : Jvm.MethodName) prog_3_method_1_code (4 : Nat) (Option.none : Option Jvm.ClassFile.FieldType)) ∈ lw_all := lw_g (lw_at lw_m2 175 rfl) rfl
theorem q462 : (Jvm.Cond.methodLinkNest "SixWhoTurn$Free" (7 : Nat) ({ cls := "SixWhoTurn$Item", name := "<init>", desc := "(LSixWhoTurn;)V" } : Jvm.MethodName) "SixWhoTurn") ∈ lw_tbl := lw_at lw_m2 176 rfl
theorem q463 : (Jvm.Cond.fieldLink "SixWhoTurn$Free" (13 : Nat) "SixWhoTurn$Free" "team" "I") ∈ lw_all := lw_g (lw_at lw_m2 177 rfl) rfl
theorem q464 : (Jvm.Cond.fieldLink "SixWhoTurn$Free" (17 : Nat) "SixWhoTurn$Free" "player" "I") ∈ lw_all := lw_g (lw_at lw_m2 178 rfl) rfl
theorem q465 : (Jvm.Cond.fieldLink "SixWhoTurn$Free" (1 : Nat) "SixWhoTurn$Free" "this$0" "LSixWhoTurn;") ∈ lw_all := lw_g (lw_at lw_m2 179 rfl) rfl
theorem q466 : (Jvm.Cond.laysFinal "SixWhoTurn$Free" "SixWhoTurn$Free" "team" "I") ∈ lw_all := lw_g (lw_at lw_m2 180 rfl) rfl
theorem q467 : (Jvm.Cond.soleField "SixWhoTurn$Free" "team") ∈ lw_all := lw_g (lw_at lw_m2 181 rfl) rfl
theorem q468 : (Jvm.Cond.laysFinal "SixWhoTurn$Free" "SixWhoTurn$Free" "player" "I") ∈ lw_all := lw_g (lw_at lw_m2 182 rfl) rfl
theorem q469 : (Jvm.Cond.soleField "SixWhoTurn$Free" "player") ∈ lw_all := lw_g (lw_at lw_m2 183 rfl) rfl
theorem q470 : (Jvm.Cond.laysFinal "SixWhoTurn$Free" "SixWhoTurn$Free" "this$0" "LSixWhoTurn;") ∈ lw_all := lw_g (lw_at lw_m2 184 rfl) rfl
theorem q471 : (Jvm.Cond.soleField "SixWhoTurn$Free" "this$0") ∈ lw_all := lw_g (lw_at lw_m2 185 rfl) rfl
theorem q472 : (Jvm.Cond.lays "SixWhoTurn$Free" "SixWhoTurn$Item" "begin" "I") ∈ lw_all := lw_g (lw_at lw_m2 186 rfl) rfl
theorem q473 : (Jvm.Cond.lays "SixWhoTurn$Free" "SixWhoTurn$Item" "next" "LSixWhoTurn$Item;") ∈ lw_all := lw_g (lw_at lw_m2 187 rfl) rfl
theorem q474 : (Jvm.Cond.laysFinal "SixWhoTurn$Free" "SixWhoTurn$Item" "this$0" "LSixWhoTurn;") ∈ lw_all := lw_g (lw_at lw_m2 188 rfl) rfl
theorem q475 : (Jvm.Cond.superclass "SixWhoTurn$Free" "SixWhoTurn$Item") ∈ lw_all := lw_g (lw_at lw_m2 189 rfl) rfl
theorem q603 : (Jvm.Cond.selects "SixWhoTurn$Free" ({ cls := "SixWhoTurn$Item", name := "isDone", desc := "()Z" } : Jvm.MethodName) ({ cls := "SixWhoTurn$Free", name := "isDone", desc := "()Z" } : Jvm.MethodName)) ∈ lw_all := lw_g (lw_at lw_m3 77 rfl) rfl
theorem q604 : (Jvm.Cond.instanceMethod ({ cls := "SixWhoTurn$Free", name := "isDone", desc := "()Z" } : Jvm.MethodName)) ∈ lw_all := lw_g (lw_at lw_m3 78 rfl) rfl
theorem q605 : (Jvm.Cond.code ({ cls := "SixWhoTurn$Free", name := "isDone", desc := "()Z" } : Jvm.MethodName) prog_3_method_2_code (1 : Nat) (Option.some Jvm.ClassFile.FieldType.boolean)) ∈ lw_all := lw_g (lw_at lw_m3 79 rfl) rfl
theorem q606 : (Jvm.Cond.methodLink "SixWhoTurn$Free" (20 : Nat) ({ cls := "SixWhoTurn", name := "free", desc := "(II)I" } : Jvm.MethodName)) ∈ lw_all := lw_g (lw_at lw_m3 80 rfl) rfl
theorem q1061 : (Jvm.Cond.castable "SixWhoTurn$Free" "java/lang/Object") ∈ lw_tbl := lw_at lw_m5 55 rfl
theorem in_X7 : ∀ w ∈ wsX70, w ∈ lw_all := lw_in wsX70 [472, 473, 474, 466, 468, 470] (by decide +kernel) (by decide +kernel)
/-! SixWhoTurn$Change -/
set_option maxRecDepth 100000
def RX8 : String := "SixWhoTurn$Change"
def TX8 : u_T := fun k => match k with
  | 0 => ("SixWhoTurn$Item", "begin", "I", false)
  | 1 => ("SixWhoTurn$Item", "next", "LSixWhoTurn$Item;", false)
  | 2 => ("SixWhoTurn$Item", "this$0", "LSixWhoTurn;", true)
  | 3 => ("SixWhoTurn$Change", "team", "I", true)
  | 4 => ("SixWhoTurn$Change", "out", "I", true)
  | 5 => ("SixWhoTurn$Change", "in", "I", true)
  | _ => ("SixWhoTurn$Change", "this$0", "LSixWhoTurn;", true)
def tyX8 : Nat → FieldType := fun k => match k with
  | 0 => .int
  | 1 => .object "SixWhoTurn$Item"
  | 2 => .object "SixWhoTurn"
  | 3 => .int
  | 4 => .int
  | 5 => .int
  | _ => .object "SixWhoTurn"
abbrev wsX80 : List Cond := u_ws RX8 TX8 7
-- two fields of one name: no nmX8
theorem tyX8_ok : ∀ k, k < 7 → parseFieldDescriptor (TX8 k).2.2.1 = some (tyX8 k) := by decide +kernel
abbrev cX8_init : ByteArray := prog_2_method_1_code
def yX8_init : MethodName := ⟨RX8, "<init>", "(LSixWhoTurn;III)V"⟩
def dkwX8_init_1 : List UInt8 := [181, 0, 20, 177]
abbrev dktX8_init_1 : List UInt8 := dkwX8_init_1 ++ []
def dkwX8_init_0 : List UInt8 := [42, 43, 181, 0, 1, 42, 43, 183, 0, 7, 42, 28, 181, 0, 13, 42, 29, 181, 0, 17, 42, 21, 4]
abbrev dktX8_init_0 : List UInt8 := dkwX8_init_0 ++ dktX8_init_1
theorem dksX8_init_0 : cX8_init.data.toList.drop 0 = dktX8_init_0 := by decide +kernel
theorem dksX8_init_1 : cX8_init.data.toList.drop 23 = dktX8_init_1 := dk_seg dksX8_init_0 23 rfl rfl
theorem dX8_init_0 : decode cX8_init 0 = .ok (.aload_n 0, 1) := dk_42 (dk_at dksX8_init_0 0 rfl rfl)
theorem dX8_init_1 : decode cX8_init 1 = .ok (.aload_n 1, 1) := dk_43 (dk_at dksX8_init_0 1 rfl rfl)
theorem dX8_init_2 : decode cX8_init 2 = .ok (.putfield 1, 3) := dk_181 0 1 (dk_at dksX8_init_0 2 rfl rfl)
theorem dX8_init_5 : decode cX8_init 5 = .ok (.aload_n 0, 1) := dk_42 (dk_at dksX8_init_0 5 rfl rfl)
theorem dX8_init_6 : decode cX8_init 6 = .ok (.aload_n 1, 1) := dk_43 (dk_at dksX8_init_0 6 rfl rfl)
theorem dX8_init_7 : decode cX8_init 7 = .ok (.invokespecial 7, 3) := dk_183 0 7 (dk_at dksX8_init_0 7 rfl rfl)
theorem dX8_init_10 : decode cX8_init 10 = .ok (.aload_n 0, 1) := dk_42 (dk_at dksX8_init_0 10 rfl rfl)
theorem dX8_init_11 : decode cX8_init 11 = .ok (.iload_n 2, 1) := dk_28 (dk_at dksX8_init_0 11 rfl rfl)
theorem dX8_init_12 : decode cX8_init 12 = .ok (.putfield 13, 3) := dk_181 0 13 (dk_at dksX8_init_0 12 rfl rfl)
theorem dX8_init_15 : decode cX8_init 15 = .ok (.aload_n 0, 1) := dk_42 (dk_at dksX8_init_0 15 rfl rfl)
theorem dX8_init_16 : decode cX8_init 16 = .ok (.iload_n 3, 1) := dk_29 (dk_at dksX8_init_0 16 rfl rfl)
theorem dX8_init_17 : decode cX8_init 17 = .ok (.putfield 17, 3) := dk_181 0 17 (dk_at dksX8_init_0 17 rfl rfl)
theorem dX8_init_20 : decode cX8_init 20 = .ok (.aload_n 0, 1) := dk_42 (dk_at dksX8_init_0 20 rfl rfl)
theorem dX8_init_21 : decode cX8_init 21 = .ok (.iload 4, 2) := dk_21 4 (dk_at dksX8_init_0 21 rfl rfl)
theorem dX8_init_23 : decode cX8_init 23 = .ok (.putfield 20, 3) := dk_181 0 20 (dk_at dksX8_init_1 0 rfl rfl)
theorem dX8_init_26 : decode cX8_init 26 = .ok (.return_, 1) := dk_177 (dk_at dksX8_init_1 3 rfl rfl)
abbrev cX8_isDone : ByteArray := prog_2_method_2_code
def yX8_isDone : MethodName := ⟨RX8, "isDone", "()Z"⟩
def dkwX8_isDone_1 : List UInt8 := [167, 0, 4, 3, 172]
abbrev dktX8_isDone_1 : List UInt8 := dkwX8_isDone_1 ++ []
def dkwX8_isDone_0 : List UInt8 := [42, 180, 0, 1, 42, 180, 0, 13, 42, 180, 0, 17, 42, 180, 0, 20, 182, 0, 23, 155, 0, 7, 4]
abbrev dktX8_isDone_0 : List UInt8 := dkwX8_isDone_0 ++ dktX8_isDone_1
theorem dksX8_isDone_0 : cX8_isDone.data.toList.drop 0 = dktX8_isDone_0 := by decide +kernel
theorem dksX8_isDone_1 : cX8_isDone.data.toList.drop 23 = dktX8_isDone_1 := dk_seg dksX8_isDone_0 23 rfl rfl
theorem dX8_isDone_0 : decode cX8_isDone 0 = .ok (.aload_n 0, 1) := dk_42 (dk_at dksX8_isDone_0 0 rfl rfl)
theorem dX8_isDone_1 : decode cX8_isDone 1 = .ok (.getfield 1, 3) := dk_180 0 1 (dk_at dksX8_isDone_0 1 rfl rfl)
theorem dX8_isDone_4 : decode cX8_isDone 4 = .ok (.aload_n 0, 1) := dk_42 (dk_at dksX8_isDone_0 4 rfl rfl)
theorem dX8_isDone_5 : decode cX8_isDone 5 = .ok (.getfield 13, 3) := dk_180 0 13 (dk_at dksX8_isDone_0 5 rfl rfl)
theorem dX8_isDone_8 : decode cX8_isDone 8 = .ok (.aload_n 0, 1) := dk_42 (dk_at dksX8_isDone_0 8 rfl rfl)
theorem dX8_isDone_9 : decode cX8_isDone 9 = .ok (.getfield 17, 3) := dk_180 0 17 (dk_at dksX8_isDone_0 9 rfl rfl)
theorem dX8_isDone_12 : decode cX8_isDone 12 = .ok (.aload_n 0, 1) := dk_42 (dk_at dksX8_isDone_0 12 rfl rfl)
theorem dX8_isDone_13 : decode cX8_isDone 13 = .ok (.getfield 20, 3) := dk_180 0 20 (dk_at dksX8_isDone_0 13 rfl rfl)
theorem dX8_isDone_16 : decode cX8_isDone 16 = .ok (.invokevirtual 23, 3) := dk_182 0 23 (dk_at dksX8_isDone_0 16 rfl rfl)
theorem dX8_isDone_19 : decode cX8_isDone 19 = .ok (.ifCond .lt 7, 3) := dk_155 0 7 (dk_at dksX8_isDone_0 19 rfl rfl)
theorem dX8_isDone_22 : decode cX8_isDone 22 = .ok (.iconst 1, 1) := dk_4 (dk_at dksX8_isDone_0 22 rfl rfl)
theorem dX8_isDone_23 : decode cX8_isDone 23 = .ok (.goto 4, 3) := dk_167 0 4 (dk_at dksX8_isDone_1 0 rfl rfl)
theorem dX8_isDone_26 : decode cX8_isDone 26 = .ok (.iconst 0, 1) := dk_3 (dk_at dksX8_isDone_1 3 rfl rfl)
theorem dX8_isDone_27 : decode cX8_isDone 27 = .ok (.ireturn, 1) := dk_172 (dk_at dksX8_isDone_1 4 rfl rfl)
theorem q62 : (Jvm.Cond.initialized "SixWhoTurn$Change") ∈ lw_all := lw_g (lw_at lw_m1 16 rfl) rfl
theorem q566 : (Jvm.Cond.instantiable "SixWhoTurn$Change" (7 : Nat)) ∈ lw_all := lw_g (lw_at lw_m3 40 rfl) rfl
theorem q568 : (Jvm.Cond.instanceMethod ({ cls := "SixWhoTurn$Change", name := "<init>", desc := "(LSixWhoTurn;III)V" } : Jvm.MethodName)) ∈ lw_all := lw_g (lw_at lw_m3 42 rfl) rfl
theorem q569 : (Jvm.Cond.code ({ cls := "SixWhoTurn$Change", name := "<init>", desc := "(LSixWhoTurn;III)V" } : Jvm.MethodName) prog_2_method_1_code (5 : Nat) (Option.none : Option Jvm.ClassFile.FieldType)) ∈ lw_all := lw_g (lw_at lw_m3 43 rfl) rfl
theorem q570 : (Jvm.Cond.methodLinkNest "SixWhoTurn$Change" (7 : Nat) ({ cls := "SixWhoTurn$Item", name := "<init>", desc := "(LSixWhoTurn;)V" } : Jvm.MethodName) "SixWhoTurn") ∈ lw_tbl := lw_at lw_m3 44 rfl
theorem q571 : (Jvm.Cond.fieldLink "SixWhoTurn$Change" (13 : Nat) "SixWhoTurn$Change" "team" "I") ∈ lw_all := lw_g (lw_at lw_m3 45 rfl) rfl
theorem q572 : (Jvm.Cond.fieldLink "SixWhoTurn$Change" (17 : Nat) "SixWhoTurn$Change" "out" "I") ∈ lw_all := lw_g (lw_at lw_m3 46 rfl) rfl
theorem q573 : (Jvm.Cond.fieldLink "SixWhoTurn$Change" (20 : Nat) "SixWhoTurn$Change" "in" "I") ∈ lw_all := lw_g (lw_at lw_m3 47 rfl) rfl
theorem q574 : (Jvm.Cond.fieldLink "SixWhoTurn$Change" (1 : Nat) "SixWhoTurn$Change" "this$0" "LSixWhoTurn;") ∈ lw_all := lw_g (lw_at lw_m3 48 rfl) rfl
theorem q575 : (Jvm.Cond.laysFinal "SixWhoTurn$Change" "SixWhoTurn$Change" "team" "I") ∈ lw_all := lw_g (lw_at lw_m3 49 rfl) rfl
theorem q576 : (Jvm.Cond.soleField "SixWhoTurn$Change" "team") ∈ lw_all := lw_g (lw_at lw_m3 50 rfl) rfl
theorem q577 : (Jvm.Cond.laysFinal "SixWhoTurn$Change" "SixWhoTurn$Change" "out" "I") ∈ lw_all := lw_g (lw_at lw_m3 51 rfl) rfl
theorem q578 : (Jvm.Cond.soleField "SixWhoTurn$Change" "out") ∈ lw_all := lw_g (lw_at lw_m3 52 rfl) rfl
theorem q579 : (Jvm.Cond.laysFinal "SixWhoTurn$Change" "SixWhoTurn$Change" "in" "I") ∈ lw_all := lw_g (lw_at lw_m3 53 rfl) rfl
theorem q580 : (Jvm.Cond.soleField "SixWhoTurn$Change" "in") ∈ lw_all := lw_g (lw_at lw_m3 54 rfl) rfl
theorem q581 : (Jvm.Cond.laysFinal "SixWhoTurn$Change" "SixWhoTurn$Change" "this$0" "LSixWhoTurn;") ∈ lw_all := lw_g (lw_at lw_m3 55 rfl) rfl
theorem q582 : (Jvm.Cond.soleField "SixWhoTurn$Change" "this$0") ∈ lw_all := lw_g (lw_at lw_m3 56 rfl) rfl
theorem q583 : (Jvm.Cond.lays "SixWhoTurn$Change" "SixWhoTurn$Item" "begin" "I") ∈ lw_all := lw_g (lw_at lw_m3 57 rfl) rfl
theorem q584 : (Jvm.Cond.lays "SixWhoTurn$Change" "SixWhoTurn$Item" "next" "LSixWhoTurn$Item;") ∈ lw_all := lw_g (lw_at lw_m3 58 rfl) rfl
theorem q585 : (Jvm.Cond.laysFinal "SixWhoTurn$Change" "SixWhoTurn$Item" "this$0" "LSixWhoTurn;") ∈ lw_all := lw_g (lw_at lw_m3 59 rfl) rfl
theorem q586 : (Jvm.Cond.superclass "SixWhoTurn$Change" "SixWhoTurn$Item") ∈ lw_all := lw_g (lw_at lw_m3 60 rfl) rfl
theorem q599 : (Jvm.Cond.selects "SixWhoTurn$Change" ({ cls := "SixWhoTurn$Item", name := "isDone", desc := "()Z" } : Jvm.MethodName) ({ cls := "SixWhoTurn$Change", name := "isDone", desc := "()Z" } : Jvm.MethodName)) ∈ lw_all := lw_g (lw_at lw_m3 73 rfl) rfl
theorem q600 : (Jvm.Cond.instanceMethod ({ cls := "SixWhoTurn$Change", name := "isDone", desc := "()Z" } : Jvm.MethodName)) ∈ lw_all := lw_g (lw_at lw_m3 74 rfl) rfl
theorem q601 : (Jvm.Cond.code ({ cls := "SixWhoTurn$Change", name := "isDone", desc := "()Z" } : Jvm.MethodName) prog_2_method_2_code (1 : Nat) (Option.some Jvm.ClassFile.FieldType.boolean)) ∈ lw_all := lw_g (lw_at lw_m3 75 rfl) rfl
theorem q602 : (Jvm.Cond.methodLink "SixWhoTurn$Change" (23 : Nat) ({ cls := "SixWhoTurn", name := "change", desc := "(III)I" } : Jvm.MethodName)) ∈ lw_all := lw_g (lw_at lw_m3 76 rfl) rfl
theorem q1062 : (Jvm.Cond.castable "SixWhoTurn$Change" "java/lang/Object") ∈ lw_tbl := lw_at lw_m5 56 rfl
theorem in_X8 : ∀ w ∈ wsX80, w ∈ lw_all := lw_in wsX80 [583, 584, 585, 575, 577, 579, 581] (by decide +kernel) (by decide +kernel)
