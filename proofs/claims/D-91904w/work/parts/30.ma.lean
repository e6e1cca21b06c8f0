/-! SixWhoTurnModel, first half: printed by gen/mk.py: each method as a function over the memory, and its contract -/
set_option maxRecDepth 100000
def pm_in (p1 : Int32) (p2 : Int32) (p3 : Int32) : Int32 :=
  if p1 < p2 then ((0 : Int32)) else (if p3 < p1 then ((0 : Int32)) else ((1 : Int32)))
theorem pm_in_bz (p1 : Int32) (p2 : Int32) (p3 : Int32) : bz_ (pm_in p1 p2 p3) := by
  unfold pm_in
  repeat' split
  all_goals first | exact Or.inl rfl | exact Or.inr rfl
theorem hdX3_in : w6_hd yX3_in 3 := by decide +kernel
abbrev rmX3_in : Room := { frames := 0, cells := 0, slots := 0, locals := 0 }
set_option maxHeartbeats 4000000 in
set_option maxRecDepth 100000 in
theorem ctpm_in (l : Launch) (D : va_G) (g : Nat → ClassId) (p1 : Int32) (p2 : Int32) (p3 : Int32) (r : Int32) (hf : pm_in p1 p2 p3 = r) : CTi l D g yX3_in cX3_in 3 .boolean rmX3_in [.int p1, .int p2, .int p3] [] [] r := by
  intro sz
  refine w6_starti RX3 (by decide) (Nat.le_of_ble_eq_true rfl) rfl ?_
  intro p e s m below meth c A ls Q hx hb hown hts F I hl hret
  have hl : lv_has ls 3 [(0, .int p1), (1, .int p2), (2, .int p3)] := hl
  unfold pm_in at hf
  refine lv_iload_n hx hb dX3_in_0 rfl (lv_at hl 0 rfl) ?_
  refine lv_iload_n hx hb dX3_in_1 rfl (lv_at hl 1 rfl) ?_
  refine lv_icmp_lt (tgt := 14) hx hb dX3_in_2 (by decide) (fun c => ?_) (fun c => ?_)
  · have hf := if_p c hf
    refine lv_iconst (v := (0 : Int32)) hx hb dX3_in_14 (by decide) ?_
    exact hret _ _ _ _ _ dX3_in_15 I hf rfl
  · have hf := if_n c hf
    refine lv_iload_n hx hb dX3_in_5 rfl (lv_at hl 0 rfl) ?_
    refine lv_iload_n hx hb dX3_in_6 rfl (lv_at hl 2 rfl) ?_
    refine lv_icmp_gt (tgt := 14) hx hb dX3_in_7 (by decide) (fun c => ?_) (fun c => ?_)
    · have hf := if_p c hf
      refine lv_iconst (v := (0 : Int32)) hx hb dX3_in_14 (by decide) ?_
      exact hret _ _ _ _ _ dX3_in_15 I hf rfl
    · have hf := if_n c hf
      refine lv_iconst (v := (1 : Int32)) hx hb dX3_in_10 (by decide) ?_
      refine lv_goto (tgt := 15) hx hb dX3_in_11 (by decide) ?_
      exact hret _ _ _ _ _ dX3_in_15 I hf rfl
def pm_isTeam (p1 : Int32) : Int32 :=
  if p1 = (0 : Int32) then ((1 : Int32)) else (if p1 = (1 : Int32) then ((1 : Int32)) else ((0 : Int32)))
theorem pm_isTeam_bz (p1 : Int32) : bz_ (pm_isTeam p1) := by
  unfold pm_isTeam
  repeat' split
  all_goals first | exact Or.inl rfl | exact Or.inr rfl | exact pm_in_bz _ _ _
theorem hdX3_isTeam : w6_hd yX3_isTeam 1 := by decide +kernel
abbrev rmX3_isTeam : Room := { frames := 0, cells := 0, slots := 0, locals := 0 }
set_option maxHeartbeats 4000000 in
set_option maxRecDepth 100000 in
theorem ctpm_isTeam (l : Launch) (D : va_G) (g : Nat → ClassId) (p1 : Int32) (r : Int32) (hf : pm_isTeam p1 = r) : CTi l D g yX3_isTeam cX3_isTeam 1 .boolean rmX3_isTeam [.int p1] [] [] r := by
  intro sz
  refine w6_starti RX3 (by decide) (Nat.le_of_ble_eq_true rfl) rfl ?_
  intro p e s m below meth c A ls Q hx hb hown hts F I hl hret
  have hl : lv_has ls 1 [(0, .int p1)] := hl
  unfold pm_isTeam at hf
  refine lv_iload_n hx hb dX3_isTeam_0 rfl (lv_at hl 0 rfl) ?_
  refine lv_if_eq (tgt := 9) hx hb dX3_isTeam_1 (by decide) (fun c => ?_) (fun c => ?_)
  · have hf := if_p c hf
    refine lv_iconst (v := (1 : Int32)) hx hb dX3_isTeam_9 (by decide) ?_
    refine lv_goto (tgt := 14) hx hb dX3_isTeam_10 (by decide) ?_
    exact hret _ _ _ _ _ dX3_isTeam_14 I hf rfl
  · have hf := if_n c hf
    refine lv_iload_n hx hb dX3_isTeam_4 rfl (lv_at hl 0 rfl) ?_
    refine lv_iconst (v := (1 : Int32)) hx hb dX3_isTeam_5 (by decide) ?_
    refine lv_icmp_ne (tgt := 13) hx hb dX3_isTeam_6 (by decide) (fun c => ?_) (fun c => ?_)
    · have hf := if_n c hf
      refine lv_iconst (v := (0 : Int32)) hx hb dX3_isTeam_13 (by decide) ?_
      exact hret _ _ _ _ _ dX3_isTeam_14 I hf rfl
    · have hf := if_p c hf
      refine lv_iconst (v := (1 : Int32)) hx hb dX3_isTeam_9 (by decide) ?_
      refine lv_goto (tgt := 14) hx hb dX3_isTeam_10 (by decide) ?_
      exact hret _ _ _ _ _ dX3_isTeam_14 I hf rfl
def pm_isPlayer (p1 : Int32) : Int32 :=
  (pm_in p1 (0 : Int32) (11 : Int32))
theorem pm_isPlayer_bz (p1 : Int32) : bz_ (pm_isPlayer p1) := by
  unfold pm_isPlayer
  repeat' split
  all_goals first | exact Or.inl rfl | exact Or.inr rfl | exact pm_in_bz _ _ _
theorem hdX3_isPlayer : w6_hd yX3_isPlayer 1 := by decide +kernel
abbrev rmX3_isPlayer : Room := { frames := 1, cells := 0, slots := 0, locals := 22 }
set_option maxHeartbeats 4000000 in
set_option maxRecDepth 100000 in
theorem ctpm_isPlayer (l : Launch) (D : va_G) (g : Nat → ClassId) (p1 : Int32) (r : Int32) (hf : pm_isPlayer p1 = r) : CTi l D g yX3_isPlayer cX3_isPlayer 1 .boolean rmX3_isPlayer [.int p1] [] [] r := by
  intro sz
  refine w6_starti RX3 (by decide) (Nat.le_of_ble_eq_true rfl) rfl ?_
  intro p e s m below meth c A ls Q hx hb hown hts F I hl hret
  have hl : lv_has ls 1 [(0, .int p1)] := hl
  unfold pm_isPlayer at hf
  refine lv_iload_n hx hb dX3_isPlayer_0 rfl (lv_at hl 0 rfl) ?_
  refine lv_iconst (v := (0 : Int32)) hx hb dX3_isPlayer_1 (by decide) ?_
  refine lv_bipush (v := (11 : Int32)) hx hb dX3_isPlayer_2 (by decide) ?_
  refine xz_Pi F I (ctpm_in l D g p1 (0 : Int32) (11 : Int32) _ rfl) (lw_S q834 q835 q50 q836) hdX3_in (Nat.le_of_ble_eq_true rfl) (Nat.le_of_ble_eq_true rfl) rfl hl.1 [] rfl (Nat.le_of_ble_eq_true rfl) dX3_isPlayer_4 ⟨Nat.le_of_ble_eq_true rfl, Nat.le_of_ble_eq_true rfl⟩ (fun H locs I => ?_)
  exact hret _ _ _ _ _ dX3_isPlayer_7 I hf (bz_n (pm_in_bz p1 (0 : Int32) (11 : Int32)))
def pm_playerOf_j19 (p1 : Int32)  : Int32 :=
  if p1 = (120 : Int32) then ((10 : Int32)) else (if p1 = (121 : Int32) then ((11 : Int32)) else ((-1 : Int32)))
def pm_playerOf (p1 : Int32) : Int32 :=
  if p1 < (48 : Int32) then (pm_playerOf_j19 p1 ) else (if (57 : Int32) < p1 then (pm_playerOf_j19 p1 ) else ((p1 - (48 : Int32))))
theorem hdX3_playerOf : w6_hd yX3_playerOf 1 := by decide +kernel
abbrev rmX3_playerOf : Room := { frames := 0, cells := 0, slots := 0, locals := 0 }
set_option maxHeartbeats 4000000 in
set_option maxRecDepth 100000 in
theorem ctpm_playerOf (l : Launch) (D : va_G) (g : Nat → ClassId) (p1 : Int32) (r : Int32) (hf : pm_playerOf p1 = r) : CTi l D g yX3_playerOf cX3_playerOf 1 .int rmX3_playerOf [.int p1] [] [] r := by
  intro sz
  refine w6_starti RX3 (by decide) (Nat.le_of_ble_eq_true rfl) rfl ?_
  intro p e s m below meth c A ls Q hx hb hown hts F I hl hret
  have hl : lv_has ls 1 [(0, .int p1)] := hl
  have hJ19 : ∀  (H : Heap) (locs : List Loc) (ls : Array Slot), pm_playerOf_j19 p1  = r → w6_I D ([] ++ []) A s H locs → lv_has ls 1 [(0, .int p1)] → W p l e rmX3_playerOf s m ([.int p1] : List Value).toArray below meth c H locs 0 0 Q (F0 m 19 ls []) := by
    intro  H locs ls hf I hl
    unfold pm_playerOf_j19 at hf
    refine lv_iload_n hx hb dX3_playerOf_19 rfl (lv_at hl 0 rfl) ?_
    refine lv_bipush (v := (120 : Int32)) hx hb dX3_playerOf_20 (by decide) ?_
    refine lv_icmp_ne (tgt := 30) hx hb dX3_playerOf_22 (by decide) (fun c => ?_) (fun c => ?_)
    · have hf := if_n c hf
      refine lv_iload_n hx hb dX3_playerOf_30 rfl (lv_at hl 0 rfl) ?_
      refine lv_bipush (v := (121 : Int32)) hx hb dX3_playerOf_31 (by decide) ?_
      refine lv_icmp_ne (tgt := 41) hx hb dX3_playerOf_33 (by decide) (fun c => ?_) (fun c => ?_)
      · have hf := if_n c hf
        refine lv_iconst (v := (-1 : Int32)) hx hb dX3_playerOf_41 (by decide) ?_
        exact hret _ _ _ _ _ dX3_playerOf_42 I hf rfl
      · have hf := if_p c hf
        refine lv_bipush (v := (11 : Int32)) hx hb dX3_playerOf_36 (by decide) ?_
        refine lv_goto (tgt := 42) hx hb dX3_playerOf_38 (by decide) ?_
        exact hret _ _ _ _ _ dX3_playerOf_42 I hf rfl
    · have hf := if_p c hf
      refine lv_bipush (v := (10 : Int32)) hx hb dX3_playerOf_25 (by decide) ?_
      refine lv_goto (tgt := 42) hx hb dX3_playerOf_27 (by decide) ?_
      exact hret _ _ _ _ _ dX3_playerOf_42 I hf rfl
  unfold pm_playerOf at hf
  refine lv_iload_n hx hb dX3_playerOf_0 rfl (lv_at hl 0 rfl) ?_
  refine lv_bipush (v := (48 : Int32)) hx hb dX3_playerOf_1 (by decide) ?_
  refine lv_icmp_lt (tgt := 19) hx hb dX3_playerOf_3 (by decide) (fun c => ?_) (fun c => ?_)
  · have hf := if_p c hf
    exact hJ19  _ _ ls hf I (lv_sub hl [0] rfl)
  · have hf := if_n c hf
    refine lv_iload_n hx hb dX3_playerOf_6 rfl (lv_at hl 0 rfl) ?_
    refine lv_bipush (v := (57 : Int32)) hx hb dX3_playerOf_7 (by decide) ?_
    refine lv_icmp_gt (tgt := 19) hx hb dX3_playerOf_9 (by decide) (fun c => ?_) (fun c => ?_)
    · have hf := if_p c hf
      exact hJ19  _ _ ls hf I (lv_sub hl [0] rfl)
    · have hf := if_n c hf
      refine lv_iload_n hx hb dX3_playerOf_12 rfl (lv_at hl 0 rfl) ?_
      refine lv_bipush (v := (48 : Int32)) hx hb dX3_playerOf_13 (by decide) ?_
      refine lv_isub hx hb dX3_playerOf_15 ?_
      refine lv_goto (tgt := 42) hx hb dX3_playerOf_16 (by decide) ?_
      exact hret _ _ _ _ _ dX3_playerOf_42 I hf rfl
def pm_cell (p1 : Int32) (p2 : Int32) (p3 : Int32) (p4 : Int32) (p5 : Int32) : Int32 :=
  ((((((((p1 * (31 : Int32)) + p2) * (2 : Int32)) + p3) * (6 : Int32)) + p4) * (6 : Int32)) + p5)
theorem hdX3_cell : w6_hd yX3_cell 5 := by decide +kernel
abbrev rmX3_cell : Room := { frames := 0, cells := 0, slots := 0, locals := 0 }
set_option maxHeartbeats 4000000 in
set_option maxRecDepth 100000 in
theorem ctpm_cell (l : Launch) (D : va_G) (g : Nat → ClassId) (p1 : Int32) (p2 : Int32) (p3 : Int32) (p4 : Int32) (p5 : Int32) (r : Int32) (hf : pm_cell p1 p2 p3 p4 p5 = r) : CTi l D g yX3_cell cX3_cell 5 .int rmX3_cell [.int p1, .int p2, .int p3, .int p4, .int p5] [] [] r := by
  intro sz
  refine w6_starti RX3 (by decide) (Nat.le_of_ble_eq_true rfl) rfl ?_
  intro p e s m below meth c A ls Q hx hb hown hts F I hl hret
  have hl : lv_has ls 5 [(0, .int p1), (1, .int p2), (2, .int p3), (3, .int p4), (4, .int p5)] := hl
  unfold pm_cell at hf
  refine lv_iload_n hx hb dX3_cell_0 rfl (lv_at hl 0 rfl) ?_
  refine lv_bipush (v := (31 : Int32)) hx hb dX3_cell_1 (by decide) ?_
  refine lv_imul hx hb dX3_cell_3 ?_
  refine lv_iload_n hx hb dX3_cell_4 rfl (lv_at hl 1 rfl) ?_
  refine lv_iadd hx hb dX3_cell_5 ?_
  refine lv_iconst (v := (2 : Int32)) hx hb dX3_cell_6 (by decide) ?_
  refine lv_imul hx hb dX3_cell_7 ?_
  refine lv_iload_n hx hb dX3_cell_8 rfl (lv_at hl 2 rfl) ?_
  refine lv_iadd hx hb dX3_cell_9 ?_
  refine lv_bipush (v := (6 : Int32)) hx hb dX3_cell_10 (by decide) ?_
  refine lv_imul hx hb dX3_cell_12 ?_
  refine lv_iload_n hx hb dX3_cell_13 rfl (lv_at hl 3 rfl) ?_
  refine lv_iadd hx hb dX3_cell_14 ?_
  refine lv_bipush (v := (6 : Int32)) hx hb dX3_cell_15 (by decide) ?_
  refine lv_imul hx hb dX3_cell_17 ?_
  refine lv_iload hx hb dX3_cell_18 (lv_at hl 4 rfl) ?_
  refine lv_iadd hx hb dX3_cell_20 ?_
  exact hret _ _ _ _ _ dX3_cell_21 I hf rfl
def pm_mean (p1 : Int32) (p2 : Int64) (p3 : Int64) : Int64 :=
  ((((p1.toInt64) * p2) + ((((1000 : Int32) - p1).toInt64) * p3)) / (1000 : Int64))
theorem hdX3_mean : w6_hd yX3_mean 3 := by decide +kernel
abbrev rmX3_mean : Room := { frames := 0, cells := 0, slots := 0, locals := 0 }
set_option maxHeartbeats 4000000 in
set_option maxRecDepth 100000 in
theorem ctpm_mean (l : Launch) (D : va_G) (g : Nat → ClassId) (p1 : Int32) (p2 : Int64) (p3 : Int64) (r : Int64) (hf : pm_mean p1 p2 p3 = r) : CTl l D g yX3_mean cX3_mean 5 rmX3_mean [.int p1, .long p2, .long p3] [] [] r := by
  intro sz
  refine w6_startl RX3 (by decide) (Nat.le_of_ble_eq_true rfl) rfl ?_
  intro p e s m below meth c A ls Q hx hb hown hts F I hl hret
  have hl : lv_has ls 5 [(0, .int p1), (1, .long p2), (3, .long p3)] := hl
  unfold pm_mean at hf
  refine lv_iload_n hx hb dX3_mean_0 rfl (lv_at hl 0 rfl) ?_
  refine lv_i2l (v := (p1.toInt64)) hx hb dX3_mean_1 rfl ?_
  refine lv_lload_n hx hb dX3_mean_2 rfl (lv_at hl 1 rfl) ?_
  refine lv_lmul hx hb dX3_mean_3 ?_
  refine lv_sipush (v := (1000 : Int32)) hx hb dX3_mean_4 (by decide) ?_
  refine lv_iload_n hx hb dX3_mean_7 rfl (lv_at hl 0 rfl) ?_
  refine lv_isub hx hb dX3_mean_8 ?_
  refine lv_i2l (v := (((1000 : Int32) - p1).toInt64)) hx hb dX3_mean_9 rfl ?_
  refine lv_lload_n hx hb dX3_mean_10 rfl (lv_at hl 2 rfl) ?_
  refine lv_lmul hx hb dX3_mean_11 ?_
  refine lv_ladd hx hb dX3_mean_12 ?_
  refine lv_ldc2 hx hb hown (hts _ q1034) dX3_mean_13 ?_
  refine lv_ldiv hx hb dX3_mean_16 (by decide) ?_
  exact hret _ _ _ _ _ dX3_mean_17 I hf
def m_thrown (V : Mm) : Option (Int32 × Mm) :=
  some ((V.1 0 13), V)
theorem hdX3_thrown : w6_hd yX3_thrown 0 := by decide +kernel
abbrev rmX3_thrown : Room := { frames := 0, cells := 0, slots := 0, locals := 0 }
set_option maxHeartbeats 4000000 in
set_option maxRecDepth 100000 in
theorem ctm_thrown (l : Launch) (D : va_G) (g : Nat → ClassId) (ad : Nat → Nat) (V : Mm) (r : Int32) (V' : Mm) (hf : m_thrown V = some (r, V'))  : CTi l D g yX3_thrown cX3_thrown 1 .int rmX3_thrown [.ref (ad 0)] (mw g ad V) (mw g ad V') r := by
  intro sz
  refine w6_starti RX3 (by decide) (Nat.le_of_ble_eq_true rfl) rfl ?_
  intro p e s m below meth c A ls Q hx hb hown hts F I hl hret
  have hl : lv_has ls 1 [(0, .ref (ad 0))] := hl
  unfold m_thrown at hf
  refine lv_aload_n hx hb dX3_thrown_0 rfl (lv_at hl 0 rfl) ?_
  refine w6_get F I mo_ob rfl in_X3 13 (by decide) q777 rfl rfl dX3_thrown_1 ?_
  exact hret _ _ _ _ _ dX3_thrown_4 (w6_mv (so_e hf).2 I) (so_e hf).1 rfl
def m_get (V : Mm) (p1 : Int32) (p2 : Int32) : Option (Int32 × Mm) :=
  gd_ (ix_ (((6 : Int32) + ((50 : Int32) * p1)) + p2) 106) (some ((V.1 6 ((((6 : Int32) + ((50 : Int32) * p1)) + p2).toNatClampNeg)), V))
theorem hdX3_get : w6_hd yX3_get 2 := by decide +kernel
abbrev rmX3_get : Room := { frames := 0, cells := 0, slots := 0, locals := 0 }
set_option maxHeartbeats 4000000 in
set_option maxRecDepth 100000 in
theorem ctm_get (l : Launch) (D : va_G) (g : Nat → ClassId) (ad : Nat → Nat) (V : Mm) (p1 : Int32) (p2 : Int32) (r : Int32) (V' : Mm) (hf : m_get V p1 p2 = some (r, V'))  : CTi l D g yX3_get cX3_get 3 .int rmX3_get [.ref (ad 0), .int p1, .int p2] (mw g ad V) (mw g ad V') r := by
  intro sz
  refine w6_starti RX3 (by decide) (Nat.le_of_ble_eq_true rfl) rfl ?_
  intro p e s m below meth c A ls Q hx hb hown hts F I hl hret
  have hl : lv_has ls 3 [(0, .ref (ad 0)), (1, .int p1), (2, .int p2)] := hl
  unfold m_get at hf
  refine lv_aload_n hx hb dX3_get_0 rfl (lv_at hl 0 rfl) ?_
  refine w6_get F I mo_ob rfl in_X3 5 (by decide) q769 rfl rfl dX3_get_1 ?_
  refine lv_bipush (v := (6 : Int32)) hx hb dX3_get_4 (by decide) ?_
  refine lv_bipush (v := (50 : Int32)) hx hb dX3_get_6 (by decide) ?_
  refine lv_iload_n hx hb dX3_get_8 rfl (lv_at hl 1 rfl) ?_
  refine lv_imul hx hb dX3_get_9 ?_
  refine lv_iadd hx hb dX3_get_10 ?_
  refine lv_iload_n hx hb dX3_get_11 rfl (lv_at hl 2 rfl) ?_
  refine lv_iadd hx hb dX3_get_12 ?_
  obtain ⟨g1, hf⟩ := gd_e hf
  refine w6_iald (j := (((6 : Int32) + ((50 : Int32) * p1)) + p2).toNatClampNeg) F I (m_ar 6 106 (by decide) rfl) g1 rfl dX3_get_13 ?_
  exact hret _ _ _ _ _ dX3_get_14 (w6_mv (so_e hf).2 I) (so_e hf).1 rfl
def m_put (V : Mm) (p1 : Int32) (p2 : Int32) (p3 : Int32) : Option Mm :=
  gd_ (ix_ (((6 : Int32) + ((50 : Int32) * p1)) + p2) 106) (lt_ (mset V 6 ((((6 : Int32) + ((50 : Int32) * p1)) + p2).toNatClampNeg) p3) fun V2 => some V2)
theorem hdX3_put : w6_hd yX3_put 3 := by decide +kernel
abbrev rmX3_put : Room := { frames := 0, cells := 0, slots := 0, locals := 0 }
set_option maxHeartbeats 4000000 in
set_option maxRecDepth 100000 in
theorem ctm_put (l : Launch) (D : va_G) (g : Nat → ClassId) (ad : Nat → Nat) (V : Mm) (p1 : Int32) (p2 : Int32) (p3 : Int32) (V' : Mm) (hf : m_put V p1 p2 p3 = some V')  : CTv l D g yX3_put cX3_put 4 rmX3_put [.ref (ad 0), .int p1, .int p2, .int p3] (mw g ad V) (mw g ad V') := by
  intro sz
  refine w6_startv RX3 (by decide) (Nat.le_of_ble_eq_true rfl) rfl ?_
  intro p e s m below meth c A ls Q hx hb hown hts F I hl hret
  have hl : lv_has ls 4 [(0, .ref (ad 0)), (1, .int p1), (2, .int p2), (3, .int p3)] := hl
  unfold m_put at hf
  refine lv_aload_n hx hb dX3_put_0 rfl (lv_at hl 0 rfl) ?_
  refine w6_get F I mo_ob rfl in_X3 5 (by decide) q769 rfl rfl dX3_put_1 ?_
  refine lv_bipush (v := (6 : Int32)) hx hb dX3_put_4 (by decide) ?_
  refine lv_bipush (v := (50 : Int32)) hx hb dX3_put_6 (by decide) ?_
  refine lv_iload_n hx hb dX3_put_8 rfl (lv_at hl 1 rfl) ?_
  refine lv_imul hx hb dX3_put_9 ?_
  refine lv_iadd hx hb dX3_put_10 ?_
  refine lv_iload_n hx hb dX3_put_11 rfl (lv_at hl 2 rfl) ?_
  refine lv_iadd hx hb dX3_put_12 ?_
  refine lv_iload_n hx hb dX3_put_13 rfl (lv_at hl 3 rfl) ?_
  obtain ⟨g1, hf⟩ := gd_e hf
  obtain ⟨V2, eV2, hf⟩ := lt_e hf
  refine w6_iast (j := (((6 : Int32) + ((50 : Int32) * p1)) + p2).toNatClampNeg) msh_lc F I (m_ar 6 106 (by decide) rfl) g1 rfl dX3_put_14 eV2 (fun H locs I => ?_)
  exact hret _ _ _ _ dX3_put_15 (w6_mv (Option.some.inj hf) I)
def m_isOn (V : Mm) : Option (Int32 × Mm) :=
  if (V.1 6 1) = (1 : Int32) then (some ((1 : Int32), V)) else (some ((0 : Int32), V))
theorem hdX3_isOn : w6_hd yX3_isOn 0 := by decide +kernel
abbrev rmX3_isOn : Room := { frames := 0, cells := 0, slots := 0, locals := 0 }
set_option maxHeartbeats 4000000 in
set_option maxRecDepth 100000 in
theorem ctm_isOn (l : Launch) (D : va_G) (g : Nat → ClassId) (ad : Nat → Nat) (V : Mm) (r : Int32) (V' : Mm) (hf : m_isOn V = some (r, V'))  : CTi l D g yX3_isOn cX3_isOn 1 .boolean rmX3_isOn [.ref (ad 0)] (mw g ad V) (mw g ad V') r := by
  intro sz
  refine w6_starti RX3 (by decide) (Nat.le_of_ble_eq_true rfl) rfl ?_
  intro p e s m below meth c A ls Q hx hb hown hts F I hl hret
  have hl : lv_has ls 1 [(0, .ref (ad 0))] := hl
  unfold m_isOn at hf
  refine lv_aload_n hx hb dX3_isOn_0 rfl (lv_at hl 0 rfl) ?_
  refine w6_get F I mo_ob rfl in_X3 5 (by decide) q769 rfl rfl dX3_isOn_1 ?_
  refine lv_iconst (v := (1 : Int32)) hx hb dX3_isOn_4 (by decide) ?_
  refine w6_iald (j := 1) F I (m_ar 6 106 (by decide) rfl) (show ix_ (1 : Int32) 106 by decide) rfl dX3_isOn_5 ?_
  refine lv_iconst (v := (1 : Int32)) hx hb dX3_isOn_6 (by decide) ?_
  refine lv_icmp_ne (tgt := 14) hx hb dX3_isOn_7 (by decide) (fun c => ?_) (fun c => ?_)
  · have hf := if_n c hf
    refine lv_iconst (v := (0 : Int32)) hx hb dX3_isOn_14 (by decide) ?_
    exact hret _ _ _ _ _ dX3_isOn_15 (w6_mv (so_e hf).2 I) (so_e hf).1 rfl
  · have hf := if_p c hf
    refine lv_iconst (v := (1 : Int32)) hx hb dX3_isOn_10 (by decide) ?_
    refine lv_goto (tgt := 15) hx hb dX3_isOn_11 (by decide) ?_
    exact hret _ _ _ _ _ dX3_isOn_15 (w6_mv (so_e hf).2 I) (so_e hf).1 rfl
def m_stand_j91 (rec2 : Mm → Int32 → Option Mm) (V : Mm)  (a1 : Int32) : Option Mm :=
  lt_ (a1 + (1 : Int32)) fun v1 => rec2 V v1
def m_stand_j84 (rec2 : Mm → Int32 → Option Mm) (rec9 : Mm → Int32 → Int32 → Option Mm) (V : Mm)  (a1 : Int32) (a2 : Int32) (s0 : Int32) (s1 : Int32) : Option Mm :=
  gd_ (ix_ s1 12) (lt_ (mset V 9 s1.toNatClampNeg s0) fun V5 => lt_ (a2 + (1 : Int32)) fun v6 => rec9 V5 a1 v6)
def m_stand_j75 (rec2 : Mm → Int32 → Option Mm) (rec9 : Mm → Int32 → Int32 → Option Mm) (V : Mm)  (a1 : Int32) (a2 : Int32) (s0 : Int32) : Option Mm :=
  m_stand_j84 rec2 rec9 V a1 a2 (800 : Int32) s0
def m_stand_j55 (rec2 : Mm → Int32 → Option Mm) (rec9 : Mm → Int32 → Int32 → Option Mm) (V : Mm)  (a1 : Int32) (a2 : Int32) (s0 : Int32) (s1 : Int32) : Option Mm :=
  gd_ (ix_ s1 12) (lt_ (mset V 8 s1.toNatClampNeg s0) fun V3 => if a2 = (0 : Int32) then (m_stand_j75 rec2 rec9 V3 a1 a2 (((6 : Int32) * a1) + a2)) else (if a2 ≤ (3 : Int32) then (m_stand_j84 rec2 rec9 V3 a1 a2 (200 : Int32) (((6 : Int32) * a1) + a2)) else (m_stand_j75 rec2 rec9 V3 a1 a2 (((6 : Int32) * a1) + a2))))
def m_stand_j46 (rec2 : Mm → Int32 → Option Mm) (rec9 : Mm → Int32 → Int32 → Option Mm) (V : Mm)  (a1 : Int32) (a2 : Int32) (s0 : Int32) : Option Mm :=
  m_stand_j55 rec2 rec9 V a1 a2 (500 : Int32) s0
def m_stand_l9 (rec2 : Mm → Int32 → Option Mm) : Nat → Mm → Int32 → Int32 → Option Mm
  | 0, _, _, _ => none
  | n9 + 1, V, a1, a2 =>
  if (6 : Int32) ≤ a2 then (m_stand_j91 rec2 V a1) else (if (2 : Int32) ≤ a2 then (if a2 = (2 : Int32) then (m_stand_j46 rec2 (m_stand_l9 rec2 n9) V a1 a2 (((6 : Int32) * a1) + a2)) else (if a2 = (5 : Int32) then (m_stand_j46 rec2 (m_stand_l9 rec2 n9) V a1 a2 (((6 : Int32) * a1) + a2)) else (m_stand_j55 rec2 (m_stand_l9 rec2 n9) V a1 a2 (200 : Int32) (((6 : Int32) * a1) + a2)))) else (m_stand_j55 rec2 (m_stand_l9 rec2 n9) V a1 a2 (800 : Int32) (((6 : Int32) * a1) + a2)))
def m_stand_l2 : Nat → Mm → Int32 → Option Mm
  | 0, _, _ => none
  | n2 + 1, V, a1 =>
  if (2 : Int32) ≤ a1 then (some V) else (m_stand_l9 (m_stand_l2 n2) 200 V a1 (0 : Int32))
def m_stand (V : Mm) : Option Mm :=
  m_stand_l2 200 V (0 : Int32)
theorem hdX3_stand : w6_hd yX3_stand 0 := by decide +kernel
abbrev rmX3_stand : Room := { frames := 0, cells := 0, slots := 0, locals := 0 }
set_option maxHeartbeats 4000000 in
set_option maxRecDepth 100000 in
theorem ctm_stand (l : Launch) (D : va_G) (g : Nat → ClassId) (ad : Nat → Nat) (V : Mm) (V' : Mm) (hf : m_stand V = some V')  : CTv l D g yX3_stand cX3_stand 3 rmX3_stand [.ref (ad 0)] (mw g ad V) (mw g ad V') := by
  intro sz
  refine w6_startv RX3 (by decide) (Nat.le_of_ble_eq_true rfl) rfl ?_
  intro p e s m below meth c A ls Q hx hb hown hts F I hl hret
  have hl : lv_has ls 3 [(0, .ref (ad 0))] := hl
  have hL2 : ∀ (n2 : Nat) (V : Mm) (a1 : Int32) (H : Heap) (locs : List Loc) (ls : Array Slot), m_stand_l2 n2 V a1 = some V' → w6_I D (mw g ad V ++ []) A s H locs → lv_has ls 3 [(0, .ref (ad 0)), (1, .int a1)] → W p l e rmX3_stand s m ([.ref (ad 0)] : List Value).toArray below meth c H locs 0 0 Q (F0 m 2 ls []) := by
    intro n2
    induction n2 with
    | zero =>
      intro V a1 H locs ls hf
      rw [m_stand_l2] at hf
      cases hf
    | succ n2 ih2 =>
      have hJ91 : ∀ (V : Mm) (a1 : Int32) (H : Heap) (locs : List Loc) (ls : Array Slot), m_stand_j91 (m_stand_l2 n2) V a1 = some V' → w6_I D (mw g ad V ++ []) A s H locs → lv_has ls 3 [(0, .ref (ad 0)), (1, .int a1)] → W p l e rmX3_stand s m ([.ref (ad 0)] : List Value).toArray below meth c H locs 0 0 Q (F0 m 91 ls []) := by
        intro V a1 H locs ls hf I hl
        unfold m_stand_j91 at hf
        obtain ⟨v1, ev1, hf⟩ := lt_e hf
        refine lv_iinc (v := v1) (lv' := [(1, .int v1), (0, .ref (ad 0))]) hx hb dX3_stand_91 hl (k := 1) rfl (by rw [ev1]; rfl) (by decide) rfl (fun ls hl => ?_)
        refine lv_goto (tgt := 2) hx hb dX3_stand_94 (by decide) ?_
        exact ih2 V v1 _ _ ls hf I (lv_sub hl [1, 0] rfl)
      have hL9 : ∀ (n9 : Nat) (V : Mm) (a1 : Int32) (a2 : Int32) (H : Heap) (locs : List Loc) (ls : Array Slot), m_stand_l9 (m_stand_l2 n2) n9 V a1 a2 = some V' → w6_I D (mw g ad V ++ []) A s H locs → lv_has ls 3 [(0, .ref (ad 0)), (1, .int a1), (2, .int a2)] → W p l e rmX3_stand s m ([.ref (ad 0)] : List Value).toArray below meth c H locs 0 0 Q (F0 m 9 ls []) := by
        intro n9
        induction n9 with
        | zero =>
          intro V a1 a2 H locs ls hf
          rw [m_stand_l9] at hf
          cases hf
        | succ n9 ih9 =>
          have hJ84 : ∀ (V : Mm) (a1 : Int32) (a2 : Int32) (s0 : Int32) (s1 : Int32) (H : Heap) (locs : List Loc) (ls : Array Slot), m_stand_j84 (m_stand_l2 n2) (m_stand_l9 (m_stand_l2 n2) n9) V a1 a2 s0 s1 = some V' → w6_I D (mw g ad V ++ []) A s H locs → lv_has ls 3 [(0, .ref (ad 0)), (1, .int a1), (2, .int a2)] → W p l e rmX3_stand s m ([.ref (ad 0)] : List Value).toArray below meth c H locs 0 0 Q (F0 m 84 ls [.int s0, .int s1, .ref (ad 9)]) := by
            intro V a1 a2 s0 s1 H locs ls hf I hl
            unfold m_stand_j84 at hf
            obtain ⟨g4, hf⟩ := gd_e hf
            obtain ⟨V5, eV5, hf⟩ := lt_e hf
            refine w6_iast (j := s1.toNatClampNeg) msh_lc F I (m_ar 9 12 (by decide) rfl) g4 rfl dX3_stand_84 eV5 (fun H locs I => ?_)
            obtain ⟨v6, ev6, hf⟩ := lt_e hf
            refine lv_iinc (v := v6) (lv' := [(2, .int v6), (0, .ref (ad 0)), (1, .int a1)]) hx hb dX3_stand_85 hl (k := 2) rfl (by rw [ev6]; rfl) (by decide) rfl (fun ls hl => ?_)
            refine lv_goto (tgt := 9) hx hb dX3_stand_88 (by decide) ?_
            exact ih9 V5 a1 v6 _ _ ls hf I (lv_sub hl [1, 2, 0] rfl)
          have hJ75 : ∀ (V : Mm) (a1 : Int32) (a2 : Int32) (s0 : Int32) (H : Heap) (locs : List Loc) (ls : Array Slot), m_stand_j75 (m_stand_l2 n2) (m_stand_l9 (m_stand_l2 n2) n9) V a1 a2 s0 = some V' → w6_I D (mw g ad V ++ []) A s H locs → lv_has ls 3 [(0, .ref (ad 0)), (1, .int a1), (2, .int a2)] → W p l e rmX3_stand s m ([.ref (ad 0)] : List Value).toArray below meth c H locs 0 0 Q (F0 m 75 ls [.int s0, .ref (ad 9)]) := by
            intro V a1 a2 s0 H locs ls hf I hl
            unfold m_stand_j75 at hf
            refine lv_sipush (v := (800 : Int32)) hx hb dX3_stand_75 (by decide) ?_
            refine lv_goto (tgt := 84) hx hb dX3_stand_78 (by decide) ?_
            exact hJ84 V a1 a2 (800 : Int32) s0 _ _ ls hf I (lv_sub hl [0, 1, 2] rfl)
          have hJ55 : ∀ (V : Mm) (a1 : Int32) (a2 : Int32) (s0 : Int32) (s1 : Int32) (H : Heap) (locs : List Loc) (ls : Array Slot), m_stand_j55 (m_stand_l2 n2) (m_stand_l9 (m_stand_l2 n2) n9) V a1 a2 s0 s1 = some V' → w6_I D (mw g ad V ++ []) A s H locs → lv_has ls 3 [(0, .ref (ad 0)), (1, .int a1), (2, .int a2)] → W p l e rmX3_stand s m ([.ref (ad 0)] : List Value).toArray below meth c H locs 0 0 Q (F0 m 55 ls [.int s0, .int s1, .ref (ad 8)]) := by
            intro V a1 a2 s0 s1 H locs ls hf I hl
            unfold m_stand_j55 at hf
            obtain ⟨g2, hf⟩ := gd_e hf
            obtain ⟨V3, eV3, hf⟩ := lt_e hf
            refine w6_iast (j := s1.toNatClampNeg) msh_lc F I (m_ar 8 12 (by decide) rfl) g2 rfl dX3_stand_55 eV3 (fun H locs I => ?_)
            refine lv_aload_n hx hb dX3_stand_56 rfl (lv_at hl 0 rfl) ?_
            refine w6_get F I mo_ob rfl in_X3 8 (by decide) q772 rfl rfl dX3_stand_57 ?_
            refine lv_bipush (v := (6 : Int32)) hx hb dX3_stand_60 (by decide) ?_
            refine lv_iload_n hx hb dX3_stand_62 rfl (lv_at hl 1 rfl) ?_
            refine lv_imul hx hb dX3_stand_63 ?_
            refine lv_iload_n hx hb dX3_stand_64 rfl (lv_at hl 2 rfl) ?_
            refine lv_iadd hx hb dX3_stand_65 ?_
            refine lv_iload_n hx hb dX3_stand_66 rfl (lv_at hl 2 rfl) ?_
            refine lv_if_eq (tgt := 75) hx hb dX3_stand_67 (by decide) (fun c => ?_) (fun c => ?_)
            · have hf := if_p c hf
              exact hJ75 V3 a1 a2 (((6 : Int32) * a1) + a2) _ _ ls hf I (lv_sub hl [0, 1, 2] rfl)
            · have hf := if_n c hf
              refine lv_iload_n hx hb dX3_stand_70 rfl (lv_at hl 2 rfl) ?_
              refine lv_iconst (v := (3 : Int32)) hx hb dX3_stand_71 (by decide) ?_
              refine lv_icmp_le (tgt := 81) hx hb dX3_stand_72 (by decide) (fun c => ?_) (fun c => ?_)
              · have hf := if_p c hf
                refine lv_sipush (v := (200 : Int32)) hx hb dX3_stand_81 (by decide) ?_
                exact hJ84 V3 a1 a2 (200 : Int32) (((6 : Int32) * a1) + a2) _ _ ls hf I (lv_sub hl [0, 1, 2] rfl)
              · have hf := if_n c hf
                exact hJ75 V3 a1 a2 (((6 : Int32) * a1) + a2) _ _ ls hf I (lv_sub hl [0, 1, 2] rfl)
          have hJ46 : ∀ (V : Mm) (a1 : Int32) (a2 : Int32) (s0 : Int32) (H : Heap) (locs : List Loc) (ls : Array Slot), m_stand_j46 (m_stand_l2 n2) (m_stand_l9 (m_stand_l2 n2) n9) V a1 a2 s0 = some V' → w6_I D (mw g ad V ++ []) A s H locs → lv_has ls 3 [(0, .ref (ad 0)), (1, .int a1), (2, .int a2)] → W p l e rmX3_stand s m ([.ref (ad 0)] : List Value).toArray below meth c H locs 0 0 Q (F0 m 46 ls [.int s0, .ref (ad 8)]) := by
            intro V a1 a2 s0 H locs ls hf I hl
            unfold m_stand_j46 at hf
            refine lv_sipush (v := (500 : Int32)) hx hb dX3_stand_46 (by decide) ?_
            refine lv_goto (tgt := 55) hx hb dX3_stand_49 (by decide) ?_
            exact hJ55 V a1 a2 (500 : Int32) s0 _ _ ls hf I (lv_sub hl [0, 1, 2] rfl)
          intro V a1 a2 H locs ls hf I hl
          rw [m_stand_l9] at hf
          refine lv_iload_n hx hb dX3_stand_9 rfl (lv_at hl 2 rfl) ?_
          refine lv_bipush (v := (6 : Int32)) hx hb dX3_stand_10 (by decide) ?_
          refine lv_icmp_ge (tgt := 91) hx hb dX3_stand_12 (by decide) (fun c => ?_) (fun c => ?_)
          · have hf := if_p c hf
            exact hJ91 V a1 _ _ ls hf I (lv_sub hl [0, 1] rfl)
          · have hf := if_n c hf
            refine lv_aload_n hx hb dX3_stand_15 rfl (lv_at hl 0 rfl) ?_
            refine w6_get F I mo_ob rfl in_X3 7 (by decide) q771 rfl rfl dX3_stand_16 ?_
            refine lv_bipush (v := (6 : Int32)) hx hb dX3_stand_19 (by decide) ?_
            refine lv_iload_n hx hb dX3_stand_21 rfl (lv_at hl 1 rfl) ?_
            refine lv_imul hx hb dX3_stand_22 ?_
            refine lv_iload_n hx hb dX3_stand_23 rfl (lv_at hl 2 rfl) ?_
            refine lv_iadd hx hb dX3_stand_24 ?_
            refine lv_iload_n hx hb dX3_stand_25 rfl (lv_at hl 2 rfl) ?_
            refine lv_iconst (v := (2 : Int32)) hx hb dX3_stand_26 (by decide) ?_
            refine lv_icmp_ge (tgt := 36) hx hb dX3_stand_27 (by decide) (fun c => ?_) (fun c => ?_)
            · have hf := if_p c hf
              refine lv_iload_n hx hb dX3_stand_36 rfl (lv_at hl 2 rfl) ?_
              refine lv_iconst (v := (2 : Int32)) hx hb dX3_stand_37 (by decide) ?_
              refine lv_icmp_eq (tgt := 46) hx hb dX3_stand_38 (by decide) (fun c => ?_) (fun c => ?_)
              · have hf := if_p c hf
                exact hJ46 V a1 a2 (((6 : Int32) * a1) + a2) _ _ ls hf I (lv_sub hl [0, 1, 2] rfl)
              · have hf := if_n c hf
                refine lv_iload_n hx hb dX3_stand_41 rfl (lv_at hl 2 rfl) ?_
                refine lv_iconst (v := (5 : Int32)) hx hb dX3_stand_42 (by decide) ?_
                refine lv_icmp_ne (tgt := 52) hx hb dX3_stand_43 (by decide) (fun c => ?_) (fun c => ?_)
                · have hf := if_n c hf
                  refine lv_sipush (v := (200 : Int32)) hx hb dX3_stand_52 (by decide) ?_
                  exact hJ55 V a1 a2 (200 : Int32) (((6 : Int32) * a1) + a2) _ _ ls hf I (lv_sub hl [0, 1, 2] rfl)
                · have hf := if_p c hf
                  exact hJ46 V a1 a2 (((6 : Int32) * a1) + a2) _ _ ls hf I (lv_sub hl [0, 1, 2] rfl)
            · have hf := if_n c hf
              refine lv_sipush (v := (800 : Int32)) hx hb dX3_stand_30 (by decide) ?_
              refine lv_goto (tgt := 55) hx hb dX3_stand_33 (by decide) ?_
              exact hJ55 V a1 a2 (800 : Int32) (((6 : Int32) * a1) + a2) _ _ ls hf I (lv_sub hl [0, 1, 2] rfl)
      intro V a1 H locs ls hf I hl
      rw [m_stand_l2] at hf
      refine lv_iload_n hx hb dX3_stand_2 rfl (lv_at hl 1 rfl) ?_
      refine lv_iconst (v := (2 : Int32)) hx hb dX3_stand_3 (by decide) ?_
      refine lv_icmp_ge (tgt := 97) hx hb dX3_stand_4 (by decide) (fun c => ?_) (fun c => ?_)
      · have hf := if_p c hf
        exact hret _ _ _ _ dX3_stand_97 (w6_mv (Option.some.inj hf) I)
      · have hf := if_n c hf
        refine lv_iconst (v := (0 : Int32)) hx hb dX3_stand_7 (by decide) ?_
        refine lv_istore_n (lv' := [(2, .int (0 : Int32)), (0, .ref (ad 0)), (1, .int a1)]) hx hb dX3_stand_8 rfl hl (by decide) rfl (fun ls hl => ?_)
        exact hL9 200 V a1 (0 : Int32) _ _ ls hf I (lv_sub hl [1, 2, 0] rfl)
  unfold m_stand at hf
  refine lv_iconst (v := (0 : Int32)) hx hb dX3_stand_0 (by decide) ?_
  refine lv_istore_n (lv' := [(1, .int (0 : Int32)), (0, .ref (ad 0))]) hx hb dX3_stand_1 rfl hl (by decide) rfl (fun ls hl => ?_)
  exact hL2 200 V (0 : Int32) _ _ ls hf I (lv_sub hl [1, 0] rfl)
def m_skillOf (V : Mm) (p1 : Int32) (p2 : Int32) (p3 : Int32) : Option (Int32 × Mm) :=
  gd_ (ix_ (((((12 : Int32) * p1) + p2) * (4 : Int32)) + p3) 96) (some ((V.1 1 ((((((12 : Int32) * p1) + p2) * (4 : Int32)) + p3).toNatClampNeg)), V))
theorem hdX3_skillOf : w6_hd yX3_skillOf 3 := by decide +kernel
abbrev rmX3_skillOf : Room := { frames := 0, cells := 0, slots := 0, locals := 0 }
set_option maxHeartbeats 4000000 in
set_option maxRecDepth 100000 in
theorem ctm_skillOf (l : Launch) (D : va_G) (g : Nat → ClassId) (ad : Nat → Nat) (V : Mm) (p1 : Int32) (p2 : Int32) (p3 : Int32) (r : Int32) (V' : Mm) (hf : m_skillOf V p1 p2 p3 = some (r, V'))  : CTi l D g yX3_skillOf cX3_skillOf 4 .int rmX3_skillOf [.ref (ad 0), .int p1, .int p2, .int p3] (mw g ad V) (mw g ad V') r := by
  intro sz
  refine w6_starti RX3 (by decide) (Nat.le_of_ble_eq_true rfl) rfl ?_
  intro p e s m below meth c A ls Q hx hb hown hts F I hl hret
  have hl : lv_has ls 4 [(0, .ref (ad 0)), (1, .int p1), (2, .int p2), (3, .int p3)] := hl
  unfold m_skillOf at hf
  refine lv_aload_n hx hb dX3_skillOf_0 rfl (lv_at hl 0 rfl) ?_
  refine w6_get F I mo_ob rfl in_X3 0 (by decide) q764 rfl rfl dX3_skillOf_1 ?_
  refine lv_bipush (v := (12 : Int32)) hx hb dX3_skillOf_4 (by decide) ?_
  refine lv_iload_n hx hb dX3_skillOf_6 rfl (lv_at hl 1 rfl) ?_
  refine lv_imul hx hb dX3_skillOf_7 ?_
  refine lv_iload_n hx hb dX3_skillOf_8 rfl (lv_at hl 2 rfl) ?_
  refine lv_iadd hx hb dX3_skillOf_9 ?_
  refine lv_iconst (v := (4 : Int32)) hx hb dX3_skillOf_10 (by decide) ?_
  refine lv_imul hx hb dX3_skillOf_11 ?_
  refine lv_iload_n hx hb dX3_skillOf_12 rfl (lv_at hl 3 rfl) ?_
  refine lv_iadd hx hb dX3_skillOf_13 ?_
  obtain ⟨g1, hf⟩ := gd_e hf
  refine w6_iald (j := (((((12 : Int32) * p1) + p2) * (4 : Int32)) + p3).toNatClampNeg) F I (m_ar 1 96 (by decide) rfl) g1 rfl dX3_skillOf_14 ?_
  exact hret _ _ _ _ _ dX3_skillOf_15 (w6_mv (so_e hf).2 I) (so_e hf).1 rfl
def m_skill (V : Mm) (p1 : Int32) (p2 : Int32) (p3 : Int32) (p4 : Int32) : Option (Int32 × Mm) :=
  lt_ (mset V 0 13 (0 : Int32)) fun V1 => if (pm_isTeam p1) = (0 : Int32) then (some ((-1 : Int32), V1)) else (if (pm_isPlayer p2) = (0 : Int32) then (some ((-1 : Int32), V1)) else (if (pm_in p3 (0 : Int32) (3 : Int32)) = (0 : Int32) then (some ((-1 : Int32), V1)) else (if (pm_in p4 (0 : Int32) (100 : Int32)) = (0 : Int32) then (some ((-1 : Int32), V1)) else (bi_ (m_skillOf V1 p1 p2 p3) fun r4 V2 => gd_ (ix_ (((((12 : Int32) * p1) + p2) * (4 : Int32)) + p3) 96) (lt_ (mset V2 1 ((((((12 : Int32) * p1) + p2) * (4 : Int32)) + p3).toNatClampNeg) p4) fun V6 => some (r4, V6))))))
theorem hdX3_skill : w6_hd yX3_skill 4 := by decide +kernel
abbrev rmX3_skill : Room := { frames := 2, cells := 0, slots := 0, locals := 42 }
set_option maxHeartbeats 4000000 in
set_option maxRecDepth 100000 in
theorem ctm_skill (l : Launch) (D : va_G) (g : Nat → ClassId) (ad : Nat → Nat) (V : Mm) (p1 : Int32) (p2 : Int32) (p3 : Int32) (p4 : Int32) (r : Int32) (V' : Mm) (hf : m_skill V p1 p2 p3 p4 = some (r, V'))  : CTi l D g yX3_skill cX3_skill 6 .int rmX3_skill [.ref (ad 0), .int p1, .int p2, .int p3, .int p4] (mw g ad V) (mw g ad V') r := by
  intro sz
  refine w6_starti RX3 (by decide) (Nat.le_of_ble_eq_true rfl) rfl ?_
  intro p e s m below meth c A ls Q hx hb hown hts F I hl hret
  have hl : lv_has ls 6 [(0, .ref (ad 0)), (1, .int p1), (2, .int p2), (3, .int p3), (4, .int p4)] := hl
  unfold m_skill at hf
  refine lv_aload_n hx hb dX3_skill_0 rfl (lv_at hl 0 rfl) ?_
  refine lv_iconst (v := (0 : Int32)) hx hb dX3_skill_1 (by decide) ?_
  obtain ⟨V1, eV1, hf⟩ := lt_e hf
  refine w6_put msh_lc F I mo_ob rfl in_X3 tyX3 tyX3_ok nmX3 13 (by decide) (mo_nf 13 (by decide)) q777 rfl rfl (tyX3_ok 13 (by decide)) rfl rfl dX3_skill_2 eV1 (fun H locs I => ?_)
  refine lv_iload_n hx hb dX3_skill_5 rfl (lv_at hl 1 rfl) ?_
  refine xz_Pi F I (ctpm_isTeam l D g p1 _ rfl) (lw_S q828 q829 q50 q830) hdX3_isTeam (Nat.le_of_ble_eq_true rfl) (Nat.le_of_ble_eq_true rfl) rfl hl.1 [] rfl (Nat.le_of_ble_eq_true rfl) dX3_skill_6 ⟨Nat.le_of_ble_eq_true rfl, Nat.le_of_ble_eq_true rfl⟩ (fun H locs I => ?_)
  refine lv_if_eq (tgt := 39) hx hb dX3_skill_9 (by decide) (fun c => ?_) (fun c => ?_)
  · have hf := if_p c hf
    refine lv_iconst (v := (-1 : Int32)) hx hb dX3_skill_39 (by decide) ?_
    exact hret _ _ _ _ _ dX3_skill_40 (w6_mv (so_e hf).2 I) (so_e hf).1 rfl
  · have hf := if_n c hf
    refine lv_iload_n hx hb dX3_skill_12 rfl (lv_at hl 2 rfl) ?_
    refine xz_Pi F I (ctpm_isPlayer l D g p2 _ rfl) (lw_S q831 q832 q50 q833) hdX3_isPlayer (Nat.le_of_ble_eq_true rfl) (Nat.le_of_ble_eq_true rfl) rfl hl.1 [] rfl (Nat.le_of_ble_eq_true rfl) dX3_skill_13 ⟨Nat.le_of_ble_eq_true rfl, Nat.le_of_ble_eq_true rfl⟩ (fun H locs I => ?_)
    refine lv_if_eq (tgt := 39) hx hb dX3_skill_16 (by decide) (fun c => ?_) (fun c => ?_)
    · have hf := if_p c hf
      refine lv_iconst (v := (-1 : Int32)) hx hb dX3_skill_39 (by decide) ?_
      exact hret _ _ _ _ _ dX3_skill_40 (w6_mv (so_e hf).2 I) (so_e hf).1 rfl
    · have hf := if_n c hf
      refine lv_iload_n hx hb dX3_skill_19 rfl (lv_at hl 3 rfl) ?_
      refine lv_iconst (v := (0 : Int32)) hx hb dX3_skill_20 (by decide) ?_
      refine lv_iconst (v := (3 : Int32)) hx hb dX3_skill_21 (by decide) ?_
      refine xz_Pi F I (ctpm_in l D g p3 (0 : Int32) (3 : Int32) _ rfl) (lw_S q834 q835 q50 q836) hdX3_in (Nat.le_of_ble_eq_true rfl) (Nat.le_of_ble_eq_true rfl) rfl hl.1 [] rfl (Nat.le_of_ble_eq_true rfl) dX3_skill_22 ⟨Nat.le_of_ble_eq_true rfl, Nat.le_of_ble_eq_true rfl⟩ (fun H locs I => ?_)
      refine lv_if_eq (tgt := 39) hx hb dX3_skill_25 (by decide) (fun c => ?_) (fun c => ?_)
      · have hf := if_p c hf
        refine lv_iconst (v := (-1 : Int32)) hx hb dX3_skill_39 (by decide) ?_
        exact hret _ _ _ _ _ dX3_skill_40 (w6_mv (so_e hf).2 I) (so_e hf).1 rfl
      · have hf := if_n c hf
        refine lv_iload hx hb dX3_skill_28 (lv_at hl 4 rfl) ?_
        refine lv_iconst (v := (0 : Int32)) hx hb dX3_skill_30 (by decide) ?_
        refine lv_bipush (v := (100 : Int32)) hx hb dX3_skill_31 (by decide) ?_
        refine xz_Pi F I (ctpm_in l D g p4 (0 : Int32) (100 : Int32) _ rfl) (lw_S q834 q835 q50 q836) hdX3_in (Nat.le_of_ble_eq_true rfl) (Nat.le_of_ble_eq_true rfl) rfl hl.1 [] rfl (Nat.le_of_ble_eq_true rfl) dX3_skill_33 ⟨Nat.le_of_ble_eq_true rfl, Nat.le_of_ble_eq_true rfl⟩ (fun H locs I => ?_)
        refine lv_if_ne (tgt := 41) hx hb dX3_skill_36 (by decide) (fun c => ?_) (fun c => ?_)
        · have hf := if_n c hf
          refine lv_aload_n hx hb dX3_skill_41 rfl (lv_at hl 0 rfl) ?_
          refine lv_iload_n hx hb dX3_skill_42 rfl (lv_at hl 1 rfl) ?_
          refine lv_iload_n hx hb dX3_skill_43 rfl (lv_at hl 2 rfl) ?_
          refine lv_iload_n hx hb dX3_skill_44 rfl (lv_at hl 3 rfl) ?_
          obtain ⟨r4, V2, h3, hf⟩ := bi_e hf
          refine xz_Vi F I (ctm_skillOf l D g ad V1 p1 p2 p3 r4 V2 h3 ) (lw_V q837 q839 qs22 q50 q840) hdX3_skillOf rfl (Nat.le_of_ble_eq_true rfl) (Nat.le_of_ble_eq_true rfl) (w6_recv F I mo_ob rfl) rfl hl.1 [] rfl (Nat.le_of_ble_eq_true rfl) dX3_skill_45 ⟨Nat.le_of_ble_eq_true rfl, Nat.le_of_ble_eq_true rfl⟩ (fun H locs I => ?_)
          refine lv_istore (lv' := [(5, .int r4), (0, .ref (ad 0)), (1, .int p1), (2, .int p2), (3, .int p3), (4, .int p4)]) hx hb dX3_skill_48 hl (by decide) rfl (fun ls hl => ?_)
          refine lv_aload_n hx hb dX3_skill_50 rfl (lv_at hl 1 rfl) ?_
          refine w6_get F I mo_ob rfl in_X3 0 (by decide) q764 rfl rfl dX3_skill_51 ?_
          refine lv_bipush (v := (12 : Int32)) hx hb dX3_skill_54 (by decide) ?_
          refine lv_iload_n hx hb dX3_skill_56 rfl (lv_at hl 2 rfl) ?_
          refine lv_imul hx hb dX3_skill_57 ?_
          refine lv_iload_n hx hb dX3_skill_58 rfl (lv_at hl 3 rfl) ?_
          refine lv_iadd hx hb dX3_skill_59 ?_
          refine lv_iconst (v := (4 : Int32)) hx hb dX3_skill_60 (by decide) ?_
          refine lv_imul hx hb dX3_skill_61 ?_
          refine lv_iload_n hx hb dX3_skill_62 rfl (lv_at hl 4 rfl) ?_
          refine lv_iadd hx hb dX3_skill_63 ?_
          refine lv_iload hx hb dX3_skill_64 (lv_at hl 5 rfl) ?_
          obtain ⟨g5, hf⟩ := gd_e hf
          obtain ⟨V6, eV6, hf⟩ := lt_e hf
          refine w6_iast (j := (((((12 : Int32) * p1) + p2) * (4 : Int32)) + p3).toNatClampNeg) msh_lc F I (m_ar 1 96 (by decide) rfl) g5 rfl dX3_skill_66 eV6 (fun H locs I => ?_)
          refine lv_iload hx hb dX3_skill_67 (lv_at hl 0 rfl) ?_
          exact hret _ _ _ _ _ dX3_skill_69 (w6_mv (so_e hf).2 I) (so_e hf).1 rfl
        · have hf := if_p c hf
          refine lv_iconst (v := (-1 : Int32)) hx hb dX3_skill_39 (by decide) ?_
          exact hret _ _ _ _ _ dX3_skill_40 (w6_mv (so_e hf).2 I) (so_e hf).1 rfl
def m_libre_j24 (p1 : Int32) (p2 : Int32) (V : Mm)   : Option (Int32 × Mm) :=
  bi_ (m_isOn V) fun r4 V2 => if r4 = (0 : Int32) then (gd_ (ix_ p1 2) (lt_ ((V2.1 2 p1.toNatClampNeg)) fun v6 => gd_ (ix_ p1 2) (lt_ (mset V2 2 p1.toNatClampNeg p2) fun V8 => some (v6, V8)))) else (some ((-2 : Int32), V2))
def m_libre (V : Mm) (p1 : Int32) (p2 : Int32) : Option (Int32 × Mm) :=
  lt_ (mset V 0 13 (0 : Int32)) fun V1 => if (pm_isTeam p1) = (0 : Int32) then (some ((-2 : Int32), V1)) else (if p2 = (-1 : Int32) then (m_libre_j24 p1 p2 V1) else (if (pm_isPlayer p2) = (0 : Int32) then (some ((-2 : Int32), V1)) else (m_libre_j24 p1 p2 V1)))
theorem hdX3_libre : w6_hd yX3_libre 2 := by decide +kernel
abbrev rmX3_libre : Room := { frames := 2, cells := 0, slots := 0, locals := 42 }
set_option maxHeartbeats 4000000 in
set_option maxRecDepth 100000 in
theorem ctm_libre (l : Launch) (D : va_G) (g : Nat → ClassId) (ad : Nat → Nat) (V : Mm) (p1 : Int32) (p2 : Int32) (r : Int32) (V' : Mm) (hf : m_libre V p1 p2 = some (r, V'))  : CTi l D g yX3_libre cX3_libre 4 .int rmX3_libre [.ref (ad 0), .int p1, .int p2] (mw g ad V) (mw g ad V') r := by
  intro sz
  refine w6_starti RX3 (by decide) (Nat.le_of_ble_eq_true rfl) rfl ?_
  intro p e s m below meth c A ls Q hx hb hown hts F I hl hret
  have hl : lv_has ls 4 [(0, .ref (ad 0)), (1, .int p1), (2, .int p2)] := hl
  have hJ24 : ∀ (V : Mm)  (H : Heap) (locs : List Loc) (ls : Array Slot), m_libre_j24 p1 p2 V = some (r, V') → w6_I D (mw g ad V ++ []) A s H locs → lv_has ls 4 [(0, .ref (ad 0)), (1, .int p1), (2, .int p2)] → W p l e rmX3_libre s m ([.ref (ad 0), .int p1, .int p2] : List Value).toArray below meth c H locs 0 0 Q (F0 m 24 ls []) := by
    intro V H locs ls hf I hl
    unfold m_libre_j24 at hf
    refine lv_aload_n hx hb dX3_libre_24 rfl (lv_at hl 0 rfl) ?_
    obtain ⟨r4, V2, h3, hf⟩ := bi_e hf
    refine xz_Vi F I (ctm_isOn l D g ad V r4 V2 h3 ) (lw_V q845 q847 qs23 q50 q848) hdX3_isOn rfl (Nat.le_of_ble_eq_true rfl) (Nat.le_of_ble_eq_true rfl) (w6_recv F I mo_ob rfl) rfl hl.1 [] rfl (Nat.le_of_ble_eq_true rfl) dX3_libre_25 ⟨Nat.le_of_ble_eq_true rfl, Nat.le_of_ble_eq_true rfl⟩ (fun H locs I => ?_)
    refine lv_if_eq (tgt := 34) hx hb dX3_libre_28 (by decide) (fun c => ?_) (fun c => ?_)
    · have hf := if_p c hf
      refine lv_aload_n hx hb dX3_libre_34 rfl (lv_at hl 0 rfl) ?_
      refine w6_get F I mo_ob rfl in_X3 1 (by decide) q765 rfl rfl dX3_libre_35 ?_
      refine lv_iload_n hx hb dX3_libre_38 rfl (lv_at hl 1 rfl) ?_
      obtain ⟨g5, hf⟩ := gd_e hf
      refine w6_iald (j := p1.toNatClampNeg) F I (m_ar 2 2 (by decide) rfl) g5 rfl dX3_libre_39 ?_
      obtain ⟨v6, ev6, hf⟩ := lt_e hf
      refine w6_nmi ev6 ?_
      refine lv_istore_n (lv' := [(3, .int v6), (0, .ref (ad 0)), (1, .int p1), (2, .int p2)]) hx hb dX3_libre_40 rfl hl (by decide) rfl (fun ls hl => ?_)
      refine lv_aload_n hx hb dX3_libre_41 rfl (lv_at hl 1 rfl) ?_
      refine w6_get F I mo_ob rfl in_X3 1 (by decide) q765 rfl rfl dX3_libre_42 ?_
      refine lv_iload_n hx hb dX3_libre_45 rfl (lv_at hl 2 rfl) ?_
      refine lv_iload_n hx hb dX3_libre_46 rfl (lv_at hl 3 rfl) ?_
      obtain ⟨g7, hf⟩ := gd_e hf
      obtain ⟨V8, eV8, hf⟩ := lt_e hf
      refine w6_iast (j := p1.toNatClampNeg) msh_lc F I (m_ar 2 2 (by decide) rfl) g7 rfl dX3_libre_47 eV8 (fun H locs I => ?_)
      refine lv_iload_n hx hb dX3_libre_48 rfl (lv_at hl 0 rfl) ?_
      exact hret _ _ _ _ _ dX3_libre_49 (w6_mv (so_e hf).2 I) (so_e hf).1 rfl
    · have hf := if_n c hf
      refine lv_bipush (v := (-2 : Int32)) hx hb dX3_libre_31 (by decide) ?_
      exact hret _ _ _ _ _ dX3_libre_33 (w6_mv (so_e hf).2 I) (so_e hf).1 rfl
  unfold m_libre at hf
  refine lv_aload_n hx hb dX3_libre_0 rfl (lv_at hl 0 rfl) ?_
  refine lv_iconst (v := (0 : Int32)) hx hb dX3_libre_1 (by decide) ?_
  obtain ⟨V1, eV1, hf⟩ := lt_e hf
  refine w6_put msh_lc F I mo_ob rfl in_X3 tyX3 tyX3_ok nmX3 13 (by decide) (mo_nf 13 (by decide)) q777 rfl rfl (tyX3_ok 13 (by decide)) rfl rfl dX3_libre_2 eV1 (fun H locs I => ?_)
  refine lv_iload_n hx hb dX3_libre_5 rfl (lv_at hl 1 rfl) ?_
  refine xz_Pi F I (ctpm_isTeam l D g p1 _ rfl) (lw_S q828 q829 q50 q830) hdX3_isTeam (Nat.le_of_ble_eq_true rfl) (Nat.le_of_ble_eq_true rfl) rfl hl.1 [] rfl (Nat.le_of_ble_eq_true rfl) dX3_libre_6 ⟨Nat.le_of_ble_eq_true rfl, Nat.le_of_ble_eq_true rfl⟩ (fun H locs I => ?_)
  refine lv_if_eq (tgt := 31) hx hb dX3_libre_9 (by decide) (fun c => ?_) (fun c => ?_)
  · have hf := if_p c hf
    refine lv_bipush (v := (-2 : Int32)) hx hb dX3_libre_31 (by decide) ?_
    exact hret _ _ _ _ _ dX3_libre_33 (w6_mv (so_e hf).2 I) (so_e hf).1 rfl
  · have hf := if_n c hf
    refine lv_iload_n hx hb dX3_libre_12 rfl (lv_at hl 2 rfl) ?_
    refine lv_iconst (v := (-1 : Int32)) hx hb dX3_libre_13 (by decide) ?_
    refine lv_icmp_eq (tgt := 24) hx hb dX3_libre_14 (by decide) (fun c => ?_) (fun c => ?_)
    · have hf := if_p c hf
      exact hJ24 V1 _ _ ls hf I (lv_sub hl [0, 1, 2] rfl)
    · have hf := if_n c hf
      refine lv_iload_n hx hb dX3_libre_17 rfl (lv_at hl 2 rfl) ?_
      refine xz_Pi F I (ctpm_isPlayer l D g p2 _ rfl) (lw_S q831 q832 q50 q833) hdX3_isPlayer (Nat.le_of_ble_eq_true rfl) (Nat.le_of_ble_eq_true rfl) rfl hl.1 [] rfl (Nat.le_of_ble_eq_true rfl) dX3_libre_18 ⟨Nat.le_of_ble_eq_true rfl, Nat.le_of_ble_eq_true rfl⟩ (fun H locs I => ?_)
      refine lv_if_eq (tgt := 31) hx hb dX3_libre_21 (by decide) (fun c => ?_) (fun c => ?_)
      · have hf := if_p c hf
        refine lv_bipush (v := (-2 : Int32)) hx hb dX3_libre_31 (by decide) ?_
        exact hret _ _ _ _ _ dX3_libre_33 (w6_mv (so_e hf).2 I) (so_e hf).1 rfl
      · have hf := if_n c hf
        exact hJ24 V1 _ _ ls hf I (lv_sub hl [0, 1, 2] rfl)
def m_set_j72 (p1 : Int32) (p2 : Int32) (V : Mm)   : Option (Int32 × Mm) :=
  gd_ (ix_ p1 6) (lt_ ((V.1 3 p1.toNatClampNeg)) fun v9 => gd_ (ix_ p1 6) (lt_ (mset V 3 p1.toNatClampNeg p2) fun V11 => some (v9, V11)))
def m_set_j55 (p1 : Int32) (p2 : Int32) (V : Mm)   : Option (Int32 × Mm) :=
  if p1 = (1 : Int32) then (if (V.1 3 0) ≤ p2 then (m_set_j72 p1 p2 V) else (some ((-1 : Int32), V))) else (m_set_j72 p1 p2 V)
def m_set (V : Mm) (p1 : Int32) (p2 : Int32) : Option (Int32 × Mm) :=
  lt_ (mset V 0 13 (0 : Int32)) fun V1 => if (pm_in p1 (0 : Int32) (5 : Int32)) = (0 : Int32) then (some ((-1 : Int32), V1)) else (gd_ (ix_ p1 6) (gd_ (ix_ p1 6) (if (pm_in p2 (zsg 6 p1.toNatClampNeg) (zsg 7 p1.toNatClampNeg)) = (0 : Int32) then (some ((-1 : Int32), V1)) else (if (V1.1 6 0) = (-1 : Int32) then (if p1 = (0 : Int32) then (if (V1.1 3 1) < p2 then (some ((-1 : Int32), V1)) else (m_set_j55 p1 p2 V1)) else (m_set_j55 p1 p2 V1)) else (some ((-1 : Int32), V1))))))
theorem hdX3_set : w6_hd yX3_set 2 := by decide +kernel
abbrev rmX3_set : Room := { frames := 1, cells := 0, slots := 0, locals := 22 }
set_option maxHeartbeats 4000000 in
set_option maxRecDepth 100000 in
theorem ctm_set (l : Launch) (D : va_G) (g : Nat → ClassId) (ad : Nat → Nat) (V : Mm) (p1 : Int32) (p2 : Int32) (r : Int32) (V' : Mm) (hf : m_set V p1 p2 = some (r, V'))  : CTi l D g yX3_set cX3_set 4 .int rmX3_set [.ref (ad 0), .int p1, .int p2] (mw g ad V) (mw g ad V') r := by
  intro sz
  refine w6_starti RX3 (by decide) (Nat.le_of_ble_eq_true rfl) rfl ?_
  intro p e s m below meth c A ls Q hx hb hown hts F I hl hret
  have hl : lv_has ls 4 [(0, .ref (ad 0)), (1, .int p1), (2, .int p2)] := hl
  have hJ72 : ∀ (V : Mm)  (H : Heap) (locs : List Loc) (ls : Array Slot), m_set_j72 p1 p2 V = some (r, V') → w6_I D (mw g ad V ++ []) A s H locs → lv_has ls 4 [(0, .ref (ad 0)), (1, .int p1), (2, .int p2)] → W p l e rmX3_set s m ([.ref (ad 0), .int p1, .int p2] : List Value).toArray below meth c H locs 0 0 Q (F0 m 72 ls []) := by
    intro V H locs ls hf I hl
    unfold m_set_j72 at hf
    refine lv_aload_n hx hb dX3_set_72 rfl (lv_at hl 0 rfl) ?_
    refine w6_get F I mo_ob rfl in_X3 2 (by decide) q766 rfl rfl dX3_set_73 ?_
    refine lv_iload_n hx hb dX3_set_76 rfl (lv_at hl 1 rfl) ?_
    obtain ⟨g8, hf⟩ := gd_e hf
    refine w6_iald (j := p1.toNatClampNeg) F I (m_ar 3 6 (by decide) rfl) g8 rfl dX3_set_77 ?_
    obtain ⟨v9, ev9, hf⟩ := lt_e hf
    refine w6_nmi ev9 ?_
    refine lv_istore_n (lv' := [(3, .int v9), (0, .ref (ad 0)), (1, .int p1), (2, .int p2)]) hx hb dX3_set_78 rfl hl (by decide) rfl (fun ls hl => ?_)
    refine lv_aload_n hx hb dX3_set_79 rfl (lv_at hl 1 rfl) ?_
    refine w6_get F I mo_ob rfl in_X3 2 (by decide) q766 rfl rfl dX3_set_80 ?_
    refine lv_iload_n hx hb dX3_set_83 rfl (lv_at hl 2 rfl) ?_
    refine lv_iload_n hx hb dX3_set_84 rfl (lv_at hl 3 rfl) ?_
    obtain ⟨g10, hf⟩ := gd_e hf
    obtain ⟨V11, eV11, hf⟩ := lt_e hf
    refine w6_iast (j := p1.toNatClampNeg) msh_lc F I (m_ar 3 6 (by decide) rfl) g10 rfl dX3_set_85 eV11 (fun H locs I => ?_)
    refine lv_iload_n hx hb dX3_set_86 rfl (lv_at hl 0 rfl) ?_
    exact hret _ _ _ _ _ dX3_set_87 (w6_mv (so_e hf).2 I) (so_e hf).1 rfl
  have hJ55 : ∀ (V : Mm)  (H : Heap) (locs : List Loc) (ls : Array Slot), m_set_j55 p1 p2 V = some (r, V') → w6_I D (mw g ad V ++ []) A s H locs → lv_has ls 4 [(0, .ref (ad 0)), (1, .int p1), (2, .int p2)] → W p l e rmX3_set s m ([.ref (ad 0), .int p1, .int p2] : List Value).toArray below meth c H locs 0 0 Q (F0 m 55 ls []) := by
    intro V H locs ls hf I hl
    unfold m_set_j55 at hf
    refine lv_iload_n hx hb dX3_set_55 rfl (lv_at hl 1 rfl) ?_
    refine lv_iconst (v := (1 : Int32)) hx hb dX3_set_56 (by decide) ?_
    refine lv_icmp_ne (tgt := 72) hx hb dX3_set_57 (by decide) (fun c => ?_) (fun c => ?_)
    · have hf := if_n c hf
      exact hJ72 V _ _ ls hf I (lv_sub hl [0, 1, 2] rfl)
    · have hf := if_p c hf
      refine lv_iload_n hx hb dX3_set_60 rfl (lv_at hl 2 rfl) ?_
      refine lv_aload_n hx hb dX3_set_61 rfl (lv_at hl 0 rfl) ?_
      refine w6_get F I mo_ob rfl in_X3 2 (by decide) q766 rfl rfl dX3_set_62 ?_
      refine lv_iconst (v := (0 : Int32)) hx hb dX3_set_65 (by decide) ?_
      refine w6_iald (j := 0) F I (m_ar 3 6 (by decide) rfl) (show ix_ (0 : Int32) 6 by decide) rfl dX3_set_66 ?_
      refine lv_icmp_ge (tgt := 72) hx hb dX3_set_67 (by decide) (fun c => ?_) (fun c => ?_)
      · have hf := if_p c hf
        exact hJ72 V _ _ ls hf I (lv_sub hl [0, 1, 2] rfl)
      · have hf := if_n c hf
        refine lv_iconst (v := (-1 : Int32)) hx hb dX3_set_70 (by decide) ?_
        exact hret _ _ _ _ _ dX3_set_71 (w6_mv (so_e hf).2 I) (so_e hf).1 rfl
  unfold m_set at hf
  refine lv_aload_n hx hb dX3_set_0 rfl (lv_at hl 0 rfl) ?_
  refine lv_iconst (v := (0 : Int32)) hx hb dX3_set_1 (by decide) ?_
  obtain ⟨V1, eV1, hf⟩ := lt_e hf
  refine w6_put msh_lc F I mo_ob rfl in_X3 tyX3 tyX3_ok nmX3 13 (by decide) (mo_nf 13 (by decide)) q777 rfl rfl (tyX3_ok 13 (by decide)) rfl rfl dX3_set_2 eV1 (fun H locs I => ?_)
  refine lv_iload_n hx hb dX3_set_5 rfl (lv_at hl 1 rfl) ?_
  refine lv_iconst (v := (0 : Int32)) hx hb dX3_set_6 (by decide) ?_
  refine lv_iconst (v := (5 : Int32)) hx hb dX3_set_7 (by decide) ?_
  refine xz_Pi F I (ctpm_in l D g p1 (0 : Int32) (5 : Int32) _ rfl) (lw_S q834 q835 q50 q836) hdX3_in (Nat.le_of_ble_eq_true rfl) (Nat.le_of_ble_eq_true rfl) rfl hl.1 [] rfl (Nat.le_of_ble_eq_true rfl) dX3_set_8 ⟨Nat.le_of_ble_eq_true rfl, Nat.le_of_ble_eq_true rfl⟩ (fun H locs I => ?_)
  refine lv_if_eq (tgt := 70) hx hb dX3_set_11 (by decide) (fun c => ?_) (fun c => ?_)
  · have hf := if_p c hf
    refine lv_iconst (v := (-1 : Int32)) hx hb dX3_set_70 (by decide) ?_
    exact hret _ _ _ _ _ dX3_set_71 (w6_mv (so_e hf).2 I) (so_e hf).1 rfl
  · have hf := if_n c hf
    refine lv_iload_n hx hb dX3_set_14 rfl (lv_at hl 2 rfl) ?_
    refine w6_gets 6 (by decide) F I q853 dX3_set_15 (fun t2 h3 => ?_)
    refine lv_iload_n hx hb dX3_set_18 rfl (lv_at hl 1 rfl) ?_
    obtain ⟨g4, hf⟩ := gd_e hf
    refine w6_tld (j := p1.toNatClampNeg) F I h3 g4 rfl dX3_set_19 ?_
    refine w6_gets 7 (by decide) F I q855 dX3_set_20 (fun t5 h6 => ?_)
    refine lv_iload_n hx hb dX3_set_23 rfl (lv_at hl 1 rfl) ?_
    obtain ⟨g7, hf⟩ := gd_e hf
    refine w6_tld (j := p1.toNatClampNeg) F I h6 g7 rfl dX3_set_24 ?_
    refine xz_Pi F I (ctpm_in l D g p2 (zsg 6 p1.toNatClampNeg) (zsg 7 p1.toNatClampNeg) _ rfl) (lw_S q834 q835 q50 q836) hdX3_in (Nat.le_of_ble_eq_true rfl) (Nat.le_of_ble_eq_true rfl) rfl hl.1 [] rfl (Nat.le_of_ble_eq_true rfl) dX3_set_25 ⟨Nat.le_of_ble_eq_true rfl, Nat.le_of_ble_eq_true rfl⟩ (fun H locs I => ?_)
    refine lv_if_eq (tgt := 70) hx hb dX3_set_28 (by decide) (fun c => ?_) (fun c => ?_)
    · have hf := if_p c hf
      refine lv_iconst (v := (-1 : Int32)) hx hb dX3_set_70 (by decide) ?_
      exact hret _ _ _ _ _ dX3_set_71 (w6_mv (so_e hf).2 I) (so_e hf).1 rfl
    · have hf := if_n c hf
      refine lv_aload_n hx hb dX3_set_31 rfl (lv_at hl 0 rfl) ?_
      refine w6_get F I mo_ob rfl in_X3 5 (by decide) q769 rfl rfl dX3_set_32 ?_
      refine lv_iconst (v := (0 : Int32)) hx hb dX3_set_35 (by decide) ?_
      refine w6_iald (j := 0) F I (m_ar 6 106 (by decide) rfl) (show ix_ (0 : Int32) 106 by decide) rfl dX3_set_36 ?_
      refine lv_iconst (v := (-1 : Int32)) hx hb dX3_set_37 (by decide) ?_
      refine lv_icmp_ne (tgt := 70) hx hb dX3_set_38 (by decide) (fun c => ?_) (fun c => ?_)
      · have hf := if_n c hf
        refine lv_iconst (v := (-1 : Int32)) hx hb dX3_set_70 (by decide) ?_
        exact hret _ _ _ _ _ dX3_set_71 (w6_mv (so_e hf).2 I) (so_e hf).1 rfl
      · have hf := if_p c hf
        refine lv_iload_n hx hb dX3_set_41 rfl (lv_at hl 1 rfl) ?_
        refine lv_if_ne (tgt := 55) hx hb dX3_set_42 (by decide) (fun c => ?_) (fun c => ?_)
        · have hf := if_n c hf
          exact hJ55 V1 _ _ ls hf I (lv_sub hl [0, 1, 2] rfl)
        · have hf := if_p c hf
          refine lv_iload_n hx hb dX3_set_45 rfl (lv_at hl 2 rfl) ?_
          refine lv_aload_n hx hb dX3_set_46 rfl (lv_at hl 0 rfl) ?_
          refine w6_get F I mo_ob rfl in_X3 2 (by decide) q766 rfl rfl dX3_set_47 ?_
          refine lv_iconst (v := (1 : Int32)) hx hb dX3_set_50 (by decide) ?_
          refine w6_iald (j := 1) F I (m_ar 3 6 (by decide) rfl) (show ix_ (1 : Int32) 6 by decide) rfl dX3_set_51 ?_
          refine lv_icmp_gt (tgt := 70) hx hb dX3_set_52 (by decide) (fun c => ?_) (fun c => ?_)
          · have hf := if_p c hf
            refine lv_iconst (v := (-1 : Int32)) hx hb dX3_set_70 (by decide) ?_
            exact hret _ _ _ _ _ dX3_set_71 (w6_mv (so_e hf).2 I) (so_e hf).1 rfl
          · have hf := if_n c hf
            exact hJ55 V1 _ _ ls hf I (lv_sub hl [0, 1, 2] rfl)
def m_lineUp_l162 (p1 : Int32) (p2 : Int32) (p3 : Int32) (p4 : Int32) (p5 : Int32) (p6 : Int32) (p7 : Int32) : Nat → Mm → Int32 → Option (Int32 × Mm)
  | 0, _, _ => none
  | n162 + 1, V, a8 =>
  if (6 : Int32) ≤ a8 then (gd_ (ix_ p1 2) (lt_ (mset V 5 p1.toNatClampNeg (1 : Int32)) fun V12 => some ((1 : Int32), V12))) else (gd_ (ix_ a8 6) (gd_ (ix_ (((6 : Int32) * p1) + a8) 12) (lt_ (mset V 4 ((((6 : Int32) * p1) + a8).toNatClampNeg) (V.1 11 a8.toNatClampNeg)) fun V15 => lt_ (a8 + (1 : Int32)) fun v16 => m_lineUp_l162 p1 p2 p3 p4 p5 p6 p7 n162 V15 v16)))
def m_lineUp_j159 (p1 : Int32) (p2 : Int32) (p3 : Int32) (p4 : Int32) (p5 : Int32) (p6 : Int32) (p7 : Int32) (V : Mm)   : Option (Int32 × Mm) :=
  m_lineUp_l162 p1 p2 p3 p4 p5 p6 p7 200 V (0 : Int32)
def m_lineUp_j153 (rec80 : Mm → Int32 → Option (Int32 × Mm)) (p1 : Int32) (p2 : Int32) (p3 : Int32) (p4 : Int32) (p5 : Int32) (p6 : Int32) (p7 : Int32) (V : Mm)  (a8 : Int32) : Option (Int32 × Mm) :=
  lt_ (a8 + (1 : Int32)) fun v20 => rec80 V v20
def m_lineUp_l121 (rec80 : Mm → Int32 → Option (Int32 × Mm)) (p1 : Int32) (p2 : Int32) (p3 : Int32) (p4 : Int32) (p5 : Int32) (p6 : Int32) (p7 : Int32) : Nat → Mm → Int32 → Int32 → Option (Int32 × Mm)
  | 0, _, _, _ => none
  | n121 + 1, V, a8, a9 =>
  if a8 ≤ a9 then (m_lineUp_j153 rec80 p1 p2 p3 p4 p5 p6 p7 V a8) else (gd_ (ix_ a9 6) (gd_ (ix_ a8 6) (if (V.1 11 a9.toNatClampNeg) = (V.1 11 a8.toNatClampNeg) then (some ((0 : Int32), V)) else (lt_ (a9 + (1 : Int32)) fun v23 => m_lineUp_l121 rec80 p1 p2 p3 p4 p5 p6 p7 n121 V a8 v23))))
def m_lineUp_l80 (p1 : Int32) (p2 : Int32) (p3 : Int32) (p4 : Int32) (p5 : Int32) (p6 : Int32) (p7 : Int32) : Nat → Mm → Int32 → Option (Int32 × Mm)
  | 0, _, _ => none
  | n80 + 1, V, a8 =>
  if (6 : Int32) ≤ a8 then (m_lineUp_j159 p1 p2 p3 p4 p5 p6 p7 V) else (gd_ (ix_ a8 6) (if (pm_isPlayer (V.1 11 a8.toNatClampNeg)) = (0 : Int32) then (some ((0 : Int32), V)) else (gd_ (ix_ a8 6) (gd_ (ix_ p1 2) (if (V.1 11 a8.toNatClampNeg) = (V.1 2 p1.toNatClampNeg) then (some ((0 : Int32), V)) else (m_lineUp_l121 (m_lineUp_l80 p1 p2 p3 p4 p5 p6 p7 n80) p1 p2 p3 p4 p5 p6 p7 200 V a8 (0 : Int32)))))))
def m_lineUp (V : Mm) (p1 : Int32) (p2 : Int32) (p3 : Int32) (p4 : Int32) (p5 : Int32) (p6 : Int32) (p7 : Int32) : Option (Int32 × Mm) :=
  lt_ (mset V 0 13 (0 : Int32)) fun V1 => lt_ (mset V1 11 0 p2) fun V2 => lt_ (mset V2 11 1 p3) fun V3 => lt_ (mset V3 11 2 p4) fun V4 => lt_ (mset V4 11 3 p5) fun V5 => lt_ (mset V5 11 4 p6) fun V6 => lt_ (mset V6 11 5 p7) fun V7 => if (pm_isTeam p1) = (0 : Int32) then (some ((0 : Int32), V7)) else (bi_ (m_isOn V7) fun r10 V8 => if r10 = (0 : Int32) then (if (V8.1 6 4) = (-1 : Int32) then (m_lineUp_l80 p1 p2 p3 p4 p5 p6 p7 200 V8 (0 : Int32)) else (some ((0 : Int32), V8))) else (some ((0 : Int32), V8)))
theorem hdX3_lineUp : w6_hd yX3_lineUp 7 := by decide +kernel
abbrev rmX3_lineUp : Room := { frames := 2, cells := 0, slots := 0, locals := 42 }
set_option maxHeartbeats 4000000 in
set_option maxRecDepth 100000 in
theorem ctm_lineUp (l : Launch) (D : va_G) (g : Nat → ClassId) (ad : Nat → Nat) (V : Mm) (p1 : Int32) (p2 : Int32) (p3 : Int32) (p4 : Int32) (p5 : Int32) (p6 : Int32) (p7 : Int32) (r : Int32) (V' : Mm) (hf : m_lineUp V p1 p2 p3 p4 p5 p6 p7 = some (r, V'))  : CTi l D g yX3_lineUp cX3_lineUp 10 .boolean rmX3_lineUp [.ref (ad 0), .int p1, .int p2, .int p3, .int p4, .int p5, .int p6, .int p7] (mw g ad V) (mw g ad V') r := by
  intro sz
  refine w6_starti RX3 (by decide) (Nat.le_of_ble_eq_true rfl) rfl ?_
  intro p e s m below meth c A ls Q hx hb hown hts F I hl hret
  have hl : lv_has ls 10 [(0, .ref (ad 0)), (1, .int p1), (2, .int p2), (3, .int p3), (4, .int p4), (5, .int p5), (6, .int p6), (7, .int p7)] := hl
  have hL162 : ∀ (n162 : Nat) (V : Mm) (a8 : Int32) (H : Heap) (locs : List Loc) (ls : Array Slot), m_lineUp_l162 p1 p2 p3 p4 p5 p6 p7 n162 V a8 = some (r, V') → w6_I D (mw g ad V ++ []) A s H locs → lv_has ls 10 [(0, .ref (ad 0)), (1, .int p1), (8, .int a8)] → W p l e rmX3_lineUp s m ([.ref (ad 0), .int p1, .int p2, .int p3, .int p4, .int p5, .int p6, .int p7] : List Value).toArray below meth c H locs 0 0 Q (F0 m 162 ls []) := by
    intro n162
    induction n162 with
    | zero =>
      intro V a8 H locs ls hf
      rw [m_lineUp_l162] at hf
      cases hf
    | succ n162 ih162 =>
      intro V a8 H locs ls hf I hl
      rw [m_lineUp_l162] at hf
      refine lv_iload hx hb dX3_lineUp_162 (lv_at hl 2 rfl) ?_
      refine lv_bipush (v := (6 : Int32)) hx hb dX3_lineUp_164 (by decide) ?_
      refine lv_icmp_ge (tgt := 194) hx hb dX3_lineUp_166 (by decide) (fun c => ?_) (fun c => ?_)
      · have hf := if_p c hf
        refine lv_aload_n hx hb dX3_lineUp_194 rfl (lv_at hl 0 rfl) ?_
        refine w6_get F I mo_ob rfl in_X3 4 (by decide) q768 rfl rfl dX3_lineUp_195 ?_
        refine lv_iload_n hx hb dX3_lineUp_198 rfl (lv_at hl 1 rfl) ?_
        refine lv_iconst (v := (1 : Int32)) hx hb dX3_lineUp_199 (by decide) ?_
        obtain ⟨g11, hf⟩ := gd_e hf
        obtain ⟨V12, eV12, hf⟩ := lt_e hf
        refine w6_zast (j := p1.toNatClampNeg) msh_lc F I m_az g11 rfl rfl dX3_lineUp_200 eV12 (fun H locs I => ?_)
        refine lv_iconst (v := (1 : Int32)) hx hb dX3_lineUp_201 (by decide) ?_
        exact hret _ _ _ _ _ dX3_lineUp_202 (w6_mv (so_e hf).2 I) (so_e hf).1 rfl
      · have hf := if_n c hf
        refine lv_aload_n hx hb dX3_lineUp_169 rfl (lv_at hl 0 rfl) ?_
        refine w6_get F I mo_ob rfl in_X3 3 (by decide) q767 rfl rfl dX3_lineUp_170 ?_
        refine lv_bipush (v := (6 : Int32)) hx hb dX3_lineUp_173 (by decide) ?_
        refine lv_iload_n hx hb dX3_lineUp_175 rfl (lv_at hl 1 rfl) ?_
        refine lv_imul hx hb dX3_lineUp_176 ?_
        refine lv_iload hx hb dX3_lineUp_177 (lv_at hl 2 rfl) ?_
        refine lv_iadd hx hb dX3_lineUp_179 ?_
        refine lv_aload_n hx hb dX3_lineUp_180 rfl (lv_at hl 0 rfl) ?_
        refine w6_get F I mo_ob rfl in_X3 14 (by decide) q778 rfl rfl dX3_lineUp_181 ?_
        refine lv_iload hx hb dX3_lineUp_184 (lv_at hl 2 rfl) ?_
        obtain ⟨g13, hf⟩ := gd_e hf
        refine w6_iald (j := a8.toNatClampNeg) F I (m_ar 11 6 (by decide) rfl) g13 rfl dX3_lineUp_186 ?_
        obtain ⟨g14, hf⟩ := gd_e hf
        obtain ⟨V15, eV15, hf⟩ := lt_e hf
        refine w6_iast (j := (((6 : Int32) * p1) + a8).toNatClampNeg) msh_lc F I (m_ar 4 12 (by decide) rfl) g14 rfl dX3_lineUp_187 eV15 (fun H locs I => ?_)
        obtain ⟨v16, ev16, hf⟩ := lt_e hf
        refine lv_iinc (v := v16) (lv' := [(8, .int v16), (0, .ref (ad 0)), (1, .int p1)]) hx hb dX3_lineUp_188 hl (k := 2) rfl (by rw [ev16]; rfl) (by decide) rfl (fun ls hl => ?_)
        refine lv_goto (tgt := 162) hx hb dX3_lineUp_191 (by decide) ?_
        exact ih162 V15 v16 _ _ ls hf I (lv_sub hl [1, 2, 0] rfl)
  have hJ159 : ∀ (V : Mm)  (H : Heap) (locs : List Loc) (ls : Array Slot), m_lineUp_j159 p1 p2 p3 p4 p5 p6 p7 V = some (r, V') → w6_I D (mw g ad V ++ []) A s H locs → lv_has ls 10 [(0, .ref (ad 0)), (1, .int p1)] → W p l e rmX3_lineUp s m ([.ref (ad 0), .int p1, .int p2, .int p3, .int p4, .int p5, .int p6, .int p7] : List Value).toArray below meth c H locs 0 0 Q (F0 m 159 ls []) := by
    intro V H locs ls hf I hl
    unfold m_lineUp_j159 at hf
    refine lv_iconst (v := (0 : Int32)) hx hb dX3_lineUp_159 (by decide) ?_
    refine lv_istore (lv' := [(8, .int (0 : Int32)), (0, .ref (ad 0)), (1, .int p1)]) hx hb dX3_lineUp_160 hl (by decide) rfl (fun ls hl => ?_)
    exact hL162 200 V (0 : Int32) _ _ ls hf I (lv_sub hl [1, 2, 0] rfl)
  have hL80 : ∀ (n80 : Nat) (V : Mm) (a8 : Int32) (H : Heap) (locs : List Loc) (ls : Array Slot), m_lineUp_l80 p1 p2 p3 p4 p5 p6 p7 n80 V a8 = some (r, V') → w6_I D (mw g ad V ++ []) A s H locs → lv_has ls 10 [(0, .ref (ad 0)), (1, .int p1), (8, .int a8)] → W p l e rmX3_lineUp s m ([.ref (ad 0), .int p1, .int p2, .int p3, .int p4, .int p5, .int p6, .int p7] : List Value).toArray below meth c H locs 0 0 Q (F0 m 80 ls []) := by
    intro n80
    induction n80 with
    | zero =>
      intro V a8 H locs ls hf
      rw [m_lineUp_l80] at hf
      cases hf
    | succ n80 ih80 =>
      have hJ153 : ∀ (V : Mm) (a8 : Int32) (H : Heap) (locs : List Loc) (ls : Array Slot), m_lineUp_j153 (m_lineUp_l80 p1 p2 p3 p4 p5 p6 p7 n80) p1 p2 p3 p4 p5 p6 p7 V a8 = some (r, V') → w6_I D (mw g ad V ++ []) A s H locs → lv_has ls 10 [(0, .ref (ad 0)), (1, .int p1), (8, .int a8)] → W p l e rmX3_lineUp s m ([.ref (ad 0), .int p1, .int p2, .int p3, .int p4, .int p5, .int p6, .int p7] : List Value).toArray below meth c H locs 0 0 Q (F0 m 153 ls []) := by
        intro V a8 H locs ls hf I hl
        unfold m_lineUp_j153 at hf
        obtain ⟨v20, ev20, hf⟩ := lt_e hf
        refine lv_iinc (v := v20) (lv' := [(8, .int v20), (0, .ref (ad 0)), (1, .int p1)]) hx hb dX3_lineUp_153 hl (k := 2) rfl (by rw [ev20]; rfl) (by decide) rfl (fun ls hl => ?_)
        refine lv_goto (tgt := 80) hx hb dX3_lineUp_156 (by decide) ?_
        exact ih80 V v20 _ _ ls hf I (lv_sub hl [1, 2, 0] rfl)
      have hL121 : ∀ (n121 : Nat) (V : Mm) (a8 : Int32) (a9 : Int32) (H : Heap) (locs : List Loc) (ls : Array Slot), m_lineUp_l121 (m_lineUp_l80 p1 p2 p3 p4 p5 p6 p7 n80) p1 p2 p3 p4 p5 p6 p7 n121 V a8 a9 = some (r, V') → w6_I D (mw g ad V ++ []) A s H locs → lv_has ls 10 [(0, .ref (ad 0)), (1, .int p1), (8, .int a8), (9, .int a9)] → W p l e rmX3_lineUp s m ([.ref (ad 0), .int p1, .int p2, .int p3, .int p4, .int p5, .int p6, .int p7] : List Value).toArray below meth c H locs 0 0 Q (F0 m 121 ls []) := by
        intro n121
        induction n121 with
        | zero =>
          intro V a8 a9 H locs ls hf
          rw [m_lineUp_l121] at hf
          cases hf
        | succ n121 ih121 =>
          intro V a8 a9 H locs ls hf I hl
          rw [m_lineUp_l121] at hf
          refine lv_iload hx hb dX3_lineUp_121 (lv_at hl 3 rfl) ?_
          refine lv_iload hx hb dX3_lineUp_123 (lv_at hl 2 rfl) ?_
          refine lv_icmp_ge (tgt := 153) hx hb dX3_lineUp_125 (by decide) (fun c => ?_) (fun c => ?_)
          · have hf := if_p c hf
            exact hJ153 V a8 _ _ ls hf I (lv_sub hl [0, 1, 2] rfl)
          · have hf := if_n c hf
            refine lv_aload_n hx hb dX3_lineUp_128 rfl (lv_at hl 0 rfl) ?_
            refine w6_get F I mo_ob rfl in_X3 14 (by decide) q778 rfl rfl dX3_lineUp_129 ?_
            refine lv_iload hx hb dX3_lineUp_132 (lv_at hl 3 rfl) ?_
            obtain ⟨g21, hf⟩ := gd_e hf
            refine w6_iald (j := a9.toNatClampNeg) F I (m_ar 11 6 (by decide) rfl) g21 rfl dX3_lineUp_134 ?_
            refine lv_aload_n hx hb dX3_lineUp_135 rfl (lv_at hl 0 rfl) ?_
            refine w6_get F I mo_ob rfl in_X3 14 (by decide) q778 rfl rfl dX3_lineUp_136 ?_
            refine lv_iload hx hb dX3_lineUp_139 (lv_at hl 2 rfl) ?_
            obtain ⟨g22, hf⟩ := gd_e hf
            refine w6_iald (j := a8.toNatClampNeg) F I (m_ar 11 6 (by decide) rfl) g22 rfl dX3_lineUp_141 ?_
            refine lv_icmp_ne (tgt := 147) hx hb dX3_lineUp_142 (by decide) (fun c => ?_) (fun c => ?_)
            · have hf := if_n c hf
              obtain ⟨v23, ev23, hf⟩ := lt_e hf
              refine lv_iinc (v := v23) (lv' := [(9, .int v23), (0, .ref (ad 0)), (1, .int p1), (8, .int a8)]) hx hb dX3_lineUp_147 hl (k := 3) rfl (by rw [ev23]; rfl) (by decide) rfl (fun ls hl => ?_)
              refine lv_goto (tgt := 121) hx hb dX3_lineUp_150 (by decide) ?_
              exact ih121 V a8 v23 _ _ ls hf I (lv_sub hl [1, 2, 3, 0] rfl)
            · have hf := if_p c hf
              refine lv_iconst (v := (0 : Int32)) hx hb dX3_lineUp_145 (by decide) ?_
              exact hret _ _ _ _ _ dX3_lineUp_146 (w6_mv (so_e hf).2 I) (so_e hf).1 rfl
      intro V a8 H locs ls hf I hl
      rw [m_lineUp_l80] at hf
      refine lv_iload hx hb dX3_lineUp_80 (lv_at hl 2 rfl) ?_
      refine lv_bipush (v := (6 : Int32)) hx hb dX3_lineUp_82 (by decide) ?_
      refine lv_icmp_ge (tgt := 159) hx hb dX3_lineUp_84 (by decide) (fun c => ?_) (fun c => ?_)
      · have hf := if_p c hf
        exact hJ159 V _ _ ls hf I (lv_sub hl [0, 1] rfl)
      · have hf := if_n c hf
        refine lv_aload_n hx hb dX3_lineUp_87 rfl (lv_at hl 0 rfl) ?_
        refine w6_get F I mo_ob rfl in_X3 14 (by decide) q778 rfl rfl dX3_lineUp_88 ?_
        refine lv_iload hx hb dX3_lineUp_91 (lv_at hl 2 rfl) ?_
        obtain ⟨g17, hf⟩ := gd_e hf
        refine w6_iald (j := a8.toNatClampNeg) F I (m_ar 11 6 (by decide) rfl) g17 rfl dX3_lineUp_93 ?_
        refine xz_Pi F I (ctpm_isPlayer l D g (V.1 11 a8.toNatClampNeg) _ rfl) (lw_S q831 q832 q50 q833) hdX3_isPlayer (Nat.le_of_ble_eq_true rfl) (Nat.le_of_ble_eq_true rfl) rfl hl.1 [] rfl (Nat.le_of_ble_eq_true rfl) dX3_lineUp_94 ⟨Nat.le_of_ble_eq_true rfl, Nat.le_of_ble_eq_true rfl⟩ (fun H locs I => ?_)
        refine lv_if_eq (tgt := 116) hx hb dX3_lineUp_97 (by decide) (fun c => ?_) (fun c => ?_)
        · have hf := if_p c hf
          refine lv_iconst (v := (0 : Int32)) hx hb dX3_lineUp_116 (by decide) ?_
          exact hret _ _ _ _ _ dX3_lineUp_117 (w6_mv (so_e hf).2 I) (so_e hf).1 rfl
        · have hf := if_n c hf
          refine lv_aload_n hx hb dX3_lineUp_100 rfl (lv_at hl 0 rfl) ?_
          refine w6_get F I mo_ob rfl in_X3 14 (by decide) q778 rfl rfl dX3_lineUp_101 ?_
          refine lv_iload hx hb dX3_lineUp_104 (lv_at hl 2 rfl) ?_
          obtain ⟨g18, hf⟩ := gd_e hf
          refine w6_iald (j := a8.toNatClampNeg) F I (m_ar 11 6 (by decide) rfl) g18 rfl dX3_lineUp_106 ?_
          refine lv_aload_n hx hb dX3_lineUp_107 rfl (lv_at hl 0 rfl) ?_
          refine w6_get F I mo_ob rfl in_X3 1 (by decide) q765 rfl rfl dX3_lineUp_108 ?_
          refine lv_iload_n hx hb dX3_lineUp_111 rfl (lv_at hl 1 rfl) ?_
          obtain ⟨g19, hf⟩ := gd_e hf
          refine w6_iald (j := p1.toNatClampNeg) F I (m_ar 2 2 (by decide) rfl) g19 rfl dX3_lineUp_112 ?_
          refine lv_icmp_ne (tgt := 118) hx hb dX3_lineUp_113 (by decide) (fun c => ?_) (fun c => ?_)
          · have hf := if_n c hf
            refine lv_iconst (v := (0 : Int32)) hx hb dX3_lineUp_118 (by decide) ?_
            refine lv_istore (lv' := [(9, .int (0 : Int32)), (0, .ref (ad 0)), (1, .int p1), (8, .int a8)]) hx hb dX3_lineUp_119 hl (by decide) rfl (fun ls hl => ?_)
            exact hL121 200 V a8 (0 : Int32) _ _ ls hf I (lv_sub hl [1, 2, 3, 0] rfl)
          · have hf := if_p c hf
            refine lv_iconst (v := (0 : Int32)) hx hb dX3_lineUp_116 (by decide) ?_
            exact hret _ _ _ _ _ dX3_lineUp_117 (w6_mv (so_e hf).2 I) (so_e hf).1 rfl
  unfold m_lineUp at hf
  refine lv_aload_n hx hb dX3_lineUp_0 rfl (lv_at hl 0 rfl) ?_
  refine lv_iconst (v := (0 : Int32)) hx hb dX3_lineUp_1 (by decide) ?_
  obtain ⟨V1, eV1, hf⟩ := lt_e hf
  refine w6_put msh_lc F I mo_ob rfl in_X3 tyX3 tyX3_ok nmX3 13 (by decide) (mo_nf 13 (by decide)) q777 rfl rfl (tyX3_ok 13 (by decide)) rfl rfl dX3_lineUp_2 eV1 (fun H locs I => ?_)
  refine lv_aload_n hx hb dX3_lineUp_5 rfl (lv_at hl 0 rfl) ?_
  refine w6_get F I mo_ob rfl in_X3 14 (by decide) q778 rfl rfl dX3_lineUp_6 ?_
  refine lv_iconst (v := (0 : Int32)) hx hb dX3_lineUp_9 (by decide) ?_
  refine lv_iload_n hx hb dX3_lineUp_10 rfl (lv_at hl 2 rfl) ?_
  obtain ⟨V2, eV2, hf⟩ := lt_e hf
  refine w6_iast (j := 0) msh_lc F I (m_ar 11 6 (by decide) rfl) (show ix_ (0 : Int32) 6 by decide) rfl dX3_lineUp_11 eV2 (fun H locs I => ?_)
  refine lv_aload_n hx hb dX3_lineUp_12 rfl (lv_at hl 0 rfl) ?_
  refine w6_get F I mo_ob rfl in_X3 14 (by decide) q778 rfl rfl dX3_lineUp_13 ?_
  refine lv_iconst (v := (1 : Int32)) hx hb dX3_lineUp_16 (by decide) ?_
  refine lv_iload_n hx hb dX3_lineUp_17 rfl (lv_at hl 3 rfl) ?_
  obtain ⟨V3, eV3, hf⟩ := lt_e hf
  refine w6_iast (j := 1) msh_lc F I (m_ar 11 6 (by decide) rfl) (show ix_ (1 : Int32) 6 by decide) rfl dX3_lineUp_18 eV3 (fun H locs I => ?_)
  refine lv_aload_n hx hb dX3_lineUp_19 rfl (lv_at hl 0 rfl) ?_
  refine w6_get F I mo_ob rfl in_X3 14 (by decide) q778 rfl rfl dX3_lineUp_20 ?_
  refine lv_iconst (v := (2 : Int32)) hx hb dX3_lineUp_23 (by decide) ?_
  refine lv_iload hx hb dX3_lineUp_24 (lv_at hl 4 rfl) ?_
  obtain ⟨V4, eV4, hf⟩ := lt_e hf
  refine w6_iast (j := 2) msh_lc F I (m_ar 11 6 (by decide) rfl) (show ix_ (2 : Int32) 6 by decide) rfl dX3_lineUp_26 eV4 (fun H locs I => ?_)
  refine lv_aload_n hx hb dX3_lineUp_27 rfl (lv_at hl 0 rfl) ?_
  refine w6_get F I mo_ob rfl in_X3 14 (by decide) q778 rfl rfl dX3_lineUp_28 ?_
  refine lv_iconst (v := (3 : Int32)) hx hb dX3_lineUp_31 (by decide) ?_
  refine lv_iload hx hb dX3_lineUp_32 (lv_at hl 5 rfl) ?_
  obtain ⟨V5, eV5, hf⟩ := lt_e hf
  refine w6_iast (j := 3) msh_lc F I (m_ar 11 6 (by decide) rfl) (show ix_ (3 : Int32) 6 by decide) rfl dX3_lineUp_34 eV5 (fun H locs I => ?_)
  refine lv_aload_n hx hb dX3_lineUp_35 rfl (lv_at hl 0 rfl) ?_
  refine w6_get F I mo_ob rfl in_X3 14 (by decide) q778 rfl rfl dX3_lineUp_36 ?_
  refine lv_iconst (v := (4 : Int32)) hx hb dX3_lineUp_39 (by decide) ?_
  refine lv_iload hx hb dX3_lineUp_40 (lv_at hl 6 rfl) ?_
  obtain ⟨V6, eV6, hf⟩ := lt_e hf
  refine w6_iast (j := 4) msh_lc F I (m_ar 11 6 (by decide) rfl) (show ix_ (4 : Int32) 6 by decide) rfl dX3_lineUp_42 eV6 (fun H locs I => ?_)
  refine lv_aload_n hx hb dX3_lineUp_43 rfl (lv_at hl 0 rfl) ?_
  refine w6_get F I mo_ob rfl in_X3 14 (by decide) q778 rfl rfl dX3_lineUp_44 ?_
  refine lv_iconst (v := (5 : Int32)) hx hb dX3_lineUp_47 (by decide) ?_
  refine lv_iload hx hb dX3_lineUp_48 (lv_at hl 7 rfl) ?_
  obtain ⟨V7, eV7, hf⟩ := lt_e hf
  refine w6_iast (j := 5) msh_lc F I (m_ar 11 6 (by decide) rfl) (show ix_ (5 : Int32) 6 by decide) rfl dX3_lineUp_50 eV7 (fun H locs I => ?_)
  refine lv_iload_n hx hb dX3_lineUp_51 rfl (lv_at hl 1 rfl) ?_
  refine xz_Pi F I (ctpm_isTeam l D g p1 _ rfl) (lw_S q828 q829 q50 q830) hdX3_isTeam (Nat.le_of_ble_eq_true rfl) (Nat.le_of_ble_eq_true rfl) rfl hl.1 [] rfl (Nat.le_of_ble_eq_true rfl) dX3_lineUp_52 ⟨Nat.le_of_ble_eq_true rfl, Nat.le_of_ble_eq_true rfl⟩ (fun H locs I => ?_)
  refine lv_if_eq (tgt := 75) hx hb dX3_lineUp_55 (by decide) (fun c => ?_) (fun c => ?_)
  · have hf := if_p c hf
    refine lv_iconst (v := (0 : Int32)) hx hb dX3_lineUp_75 (by decide) ?_
    exact hret _ _ _ _ _ dX3_lineUp_76 (w6_mv (so_e hf).2 I) (so_e hf).1 rfl
  · have hf := if_n c hf
    refine lv_aload_n hx hb dX3_lineUp_58 rfl (lv_at hl 0 rfl) ?_
    obtain ⟨r10, V8, h9, hf⟩ := bi_e hf
    refine xz_Vi F I (ctm_isOn l D g ad V7 r10 V8 h9 ) (lw_V q845 q847 qs23 q50 q848) hdX3_isOn rfl (Nat.le_of_ble_eq_true rfl) (Nat.le_of_ble_eq_true rfl) (w6_recv F I mo_ob rfl) rfl hl.1 [] rfl (Nat.le_of_ble_eq_true rfl) dX3_lineUp_59 ⟨Nat.le_of_ble_eq_true rfl, Nat.le_of_ble_eq_true rfl⟩ (fun H locs I => ?_)
    refine lv_if_ne (tgt := 75) hx hb dX3_lineUp_62 (by decide) (fun c => ?_) (fun c => ?_)
    · have hf := if_n c hf
      refine lv_iconst (v := (0 : Int32)) hx hb dX3_lineUp_75 (by decide) ?_
      exact hret _ _ _ _ _ dX3_lineUp_76 (w6_mv (so_e hf).2 I) (so_e hf).1 rfl
    · have hf := if_p c hf
      refine lv_aload_n hx hb dX3_lineUp_65 rfl (lv_at hl 0 rfl) ?_
      refine w6_get F I mo_ob rfl in_X3 5 (by decide) q769 rfl rfl dX3_lineUp_66 ?_
      refine lv_iconst (v := (4 : Int32)) hx hb dX3_lineUp_69 (by decide) ?_
      refine w6_iald (j := 4) F I (m_ar 6 106 (by decide) rfl) (show ix_ (4 : Int32) 106 by decide) rfl dX3_lineUp_70 ?_
      refine lv_iconst (v := (-1 : Int32)) hx hb dX3_lineUp_71 (by decide) ?_
      refine lv_icmp_eq (tgt := 77) hx hb dX3_lineUp_72 (by decide) (fun c => ?_) (fun c => ?_)
      · have hf := if_p c hf
        refine lv_iconst (v := (0 : Int32)) hx hb dX3_lineUp_77 (by decide) ?_
        refine lv_istore (lv' := [(8, .int (0 : Int32)), (0, .ref (ad 0)), (1, .int p1), (2, .int p2), (3, .int p3), (4, .int p4), (5, .int p5), (6, .int p6), (7, .int p7)]) hx hb dX3_lineUp_78 hl (by decide) rfl (fun ls hl => ?_)
        exact hL80 200 V8 (0 : Int32) _ _ ls hf I (lv_sub hl [1, 2, 0] rfl)
      · have hf := if_n c hf
        refine lv_iconst (v := (0 : Int32)) hx hb dX3_lineUp_75 (by decide) ?_
        exact hret _ _ _ _ _ dX3_lineUp_76 (w6_mv (so_e hf).2 I) (so_e hf).1 rfl
def m_hasFree_l2 (p1 : Int32) : Nat → Mm → Int32 → Option (Int32 × Mm)
  | 0, _, _ => none
  | n2 + 1, V, a2 =>
  if (6 : Int32) ≤ a2 then (some ((0 : Int32), V)) else (gd_ (ix_ (((6 : Int32) * p1) + a2) 12) (gd_ (ix_ p1 2) (if (V.1 4 ((((6 : Int32) * p1) + a2).toNatClampNeg)) = (V.1 2 p1.toNatClampNeg) then (some ((1 : Int32), V)) else (lt_ (a2 + (1 : Int32)) fun v3 => m_hasFree_l2 p1 n2 V v3))))
def m_hasFree (V : Mm) (p1 : Int32) : Option (Int32 × Mm) :=
  m_hasFree_l2 p1 200 V (0 : Int32)
theorem hdX3_hasFree : w6_hd yX3_hasFree 1 := by decide +kernel
abbrev rmX3_hasFree : Room := { frames := 0, cells := 0, slots := 0, locals := 0 }
set_option maxHeartbeats 4000000 in
set_option maxRecDepth 100000 in
theorem ctm_hasFree (l : Launch) (D : va_G) (g : Nat → ClassId) (ad : Nat → Nat) (V : Mm) (p1 : Int32) (r : Int32) (V' : Mm) (hf : m_hasFree V p1 = some (r, V'))  : CTi l D g yX3_hasFree cX3_hasFree 3 .boolean rmX3_hasFree [.ref (ad 0), .int p1] (mw g ad V) (mw g ad V') r := by
  intro sz
  refine w6_starti RX3 (by decide) (Nat.le_of_ble_eq_true rfl) rfl ?_
  intro p e s m below meth c A ls Q hx hb hown hts F I hl hret
  have hl : lv_has ls 3 [(0, .ref (ad 0)), (1, .int p1)] := hl
  have hL2 : ∀ (n2 : Nat) (V : Mm) (a2 : Int32) (H : Heap) (locs : List Loc) (ls : Array Slot), m_hasFree_l2 p1 n2 V a2 = some (r, V') → w6_I D (mw g ad V ++ []) A s H locs → lv_has ls 3 [(0, .ref (ad 0)), (1, .int p1), (2, .int a2)] → W p l e rmX3_hasFree s m ([.ref (ad 0), .int p1] : List Value).toArray below meth c H locs 0 0 Q (F0 m 2 ls []) := by
    intro n2
    induction n2 with
    | zero =>
      intro V a2 H locs ls hf
      rw [m_hasFree_l2] at hf
      cases hf
    | succ n2 ih2 =>
      intro V a2 H locs ls hf I hl
      rw [m_hasFree_l2] at hf
      refine lv_iload_n hx hb dX3_hasFree_2 rfl (lv_at hl 2 rfl) ?_
      refine lv_bipush (v := (6 : Int32)) hx hb dX3_hasFree_3 (by decide) ?_
      refine lv_icmp_ge (tgt := 36) hx hb dX3_hasFree_5 (by decide) (fun c => ?_) (fun c => ?_)
      · have hf := if_p c hf
        refine lv_iconst (v := (0 : Int32)) hx hb dX3_hasFree_36 (by decide) ?_
        exact hret _ _ _ _ _ dX3_hasFree_37 (w6_mv (so_e hf).2 I) (so_e hf).1 rfl
      · have hf := if_n c hf
        refine lv_aload_n hx hb dX3_hasFree_8 rfl (lv_at hl 0 rfl) ?_
        refine w6_get F I mo_ob rfl in_X3 3 (by decide) q767 rfl rfl dX3_hasFree_9 ?_
        refine lv_bipush (v := (6 : Int32)) hx hb dX3_hasFree_12 (by decide) ?_
        refine lv_iload_n hx hb dX3_hasFree_14 rfl (lv_at hl 1 rfl) ?_
        refine lv_imul hx hb dX3_hasFree_15 ?_
        refine lv_iload_n hx hb dX3_hasFree_16 rfl (lv_at hl 2 rfl) ?_
        refine lv_iadd hx hb dX3_hasFree_17 ?_
        obtain ⟨g1, hf⟩ := gd_e hf
        refine w6_iald (j := (((6 : Int32) * p1) + a2).toNatClampNeg) F I (m_ar 4 12 (by decide) rfl) g1 rfl dX3_hasFree_18 ?_
        refine lv_aload_n hx hb dX3_hasFree_19 rfl (lv_at hl 0 rfl) ?_
        refine w6_get F I mo_ob rfl in_X3 1 (by decide) q765 rfl rfl dX3_hasFree_20 ?_
        refine lv_iload_n hx hb dX3_hasFree_23 rfl (lv_at hl 1 rfl) ?_
        obtain ⟨g2, hf⟩ := gd_e hf
        refine w6_iald (j := p1.toNatClampNeg) F I (m_ar 2 2 (by decide) rfl) g2 rfl dX3_hasFree_24 ?_
        refine lv_icmp_ne (tgt := 30) hx hb dX3_hasFree_25 (by decide) (fun c => ?_) (fun c => ?_)
        · have hf := if_n c hf
          obtain ⟨v3, ev3, hf⟩ := lt_e hf
          refine lv_iinc (v := v3) (lv' := [(2, .int v3), (0, .ref (ad 0)), (1, .int p1)]) hx hb dX3_hasFree_30 hl (k := 2) rfl (by rw [ev3]; rfl) (by decide) rfl (fun ls hl => ?_)
          refine lv_goto (tgt := 2) hx hb dX3_hasFree_33 (by decide) ?_
          exact ih2 V v3 _ _ ls hf I (lv_sub hl [1, 2, 0] rfl)
        · have hf := if_p c hf
          refine lv_iconst (v := (1 : Int32)) hx hb dX3_hasFree_28 (by decide) ?_
          exact hret _ _ _ _ _ dX3_hasFree_29 (w6_mv (so_e hf).2 I) (so_e hf).1 rfl
  unfold m_hasFree at hf
  refine lv_iconst (v := (0 : Int32)) hx hb dX3_hasFree_0 (by decide) ?_
  refine lv_istore_n (lv' := [(2, .int (0 : Int32)), (0, .ref (ad 0)), (1, .int p1)]) hx hb dX3_hasFree_1 rfl hl (by decide) rfl (fun ls hl => ?_)
  exact hL2 200 V (0 : Int32) _ _ ls hf I (lv_sub hl [1, 2, 0] rfl)
def m_begin_j265 (p1 : Int32) (V : Mm)   : Option (Int32 × Mm) :=
  (m_stand V).bind fun V16 => some ((V16.1 6 0), V16)
def m_begin_j252 (rec105 : Mm → Int32 → Option (Int32 × Mm)) (p1 : Int32) (V : Mm)  (a2 : Int32) : Option (Int32 × Mm) :=
  gd_ (ix_ a2 2) (lt_ (mset V 5 a2.toNatClampNeg (0 : Int32)) fun V26 => lt_ (a2 + (1 : Int32)) fun v27 => rec105 V26 v27)
def m_begin_l196 (rec105 : Mm → Int32 → Option (Int32 × Mm)) (p1 : Int32) : Nat → Mm → Int32 → Int32 → Option (Int32 × Mm)
  | 0, _, _, _ => none
  | n196 + 1, V, a2, a4 =>
  if (6 : Int32) ≤ a4 then (m_begin_j252 rec105 p1 V a2) else (gd_ (ix_ (((6 : Int32) * a2) + a4) 12) ((m_put V a2 ((8 : Int32) + a4) (V.1 4 ((((6 : Int32) * a2) + a4).toNatClampNeg))).bind fun V29 => gd_ (ix_ (((6 : Int32) * a2) + a4) 12) ((m_put V29 a2 ((14 : Int32) + (V29.1 4 ((((6 : Int32) * a2) + a4).toNatClampNeg))) (1 : Int32)).bind fun V32 => lt_ (a4 + (1 : Int32)) fun v34 => m_begin_l196 rec105 p1 n196 V32 a2 v34)))
def m_begin_j193 (rec105 : Mm → Int32 → Option (Int32 × Mm)) (p1 : Int32) (V : Mm)  (a2 : Int32) : Option (Int32 × Mm) :=
  m_begin_l196 rec105 p1 200 V a2 (0 : Int32)
def m_begin_l158 (rec105 : Mm → Int32 → Option (Int32 × Mm)) (p1 : Int32) : Nat → Mm → Int32 → Int32 → Option (Int32 × Mm)
  | 0, _, _, _ => none
  | n158 + 1, V, a2, a4 =>
  if (12 : Int32) ≤ a4 then (m_begin_j193 rec105 p1 V a2) else ((m_put V a2 ((14 : Int32) + a4) (0 : Int32)).bind fun V35 => (m_put V35 a2 ((26 : Int32) + a4) (-1 : Int32)).bind fun V37 => lt_ (a4 + (1 : Int32)) fun v39 => m_begin_l158 rec105 p1 n158 V37 a2 v39)
def m_begin_j141 (rec105 : Mm → Int32 → Option (Int32 × Mm)) (p1 : Int32) (V : Mm)  (a2 : Int32) (a3 : Int32) : Option (Int32 × Mm) :=
  (m_put V a2 (1 : Int32) a3).bind fun V21 => (m_put V21 a2 (4 : Int32) (-1 : Int32)).bind fun V23 => m_begin_l158 rec105 p1 200 V23 a2 (0 : Int32)
def m_begin_l120 (rec105 : Mm → Int32 → Option (Int32 × Mm)) (p1 : Int32) : Nat → Mm → Int32 → Int32 → Int32 → Option (Int32 × Mm)
  | 0, _, _, _, _ => none
  | n120 + 1, V, a2, a3, a4 =>
  if (14 : Int32) ≤ a4 then (m_begin_j141 rec105 p1 V a2 a3) else ((m_put V a2 a4 (0 : Int32)).bind fun V40 => lt_ (a4 + (1 : Int32)) fun v42 => m_begin_l120 rec105 p1 n120 V40 a2 a3 v42)
def m_begin_l105 (p1 : Int32) : Nat → Mm → Int32 → Option (Int32 × Mm)
  | 0, _, _ => none
  | n105 + 1, V, a2 =>
  if (2 : Int32) ≤ a2 then (m_begin_j265 p1 V) else (bi_ (m_get V a2 (1 : Int32)) fun r20 V18 => m_begin_l120 (m_begin_l105 p1 n105) p1 200 V18 a2 r20 (0 : Int32))
def m_begin (V : Mm) (p1 : Int32) : Option (Int32 × Mm) :=
  lt_ (mset V 0 13 (0 : Int32)) fun V1 => if (pm_isTeam p1) = (0 : Int32) then (some ((-1 : Int32), V1)) else (bi_ (m_isOn V1) fun r4 V2 => if r4 = (0 : Int32) then (if (V2.1 6 4) = (-1 : Int32) then (if (V2.1 5 0) = (0 : Int32) then (some ((-1 : Int32), V2)) else (if (V2.1 5 1) = (0 : Int32) then (some ((-1 : Int32), V2)) else (bi_ (m_hasFree V2 (0 : Int32)) fun r7 V5 => if r7 = (0 : Int32) then (bi_ (m_hasFree V5 (1 : Int32)) fun r10 V8 => if r10 = (0 : Int32) then (lt_ (mset V8 6 0 ((V8.1 6 0) + (1 : Int32))) fun V11 => lt_ (mset V11 6 1 (1 : Int32)) fun V12 => lt_ (mset V12 6 2 p1) fun V13 => lt_ (mset V13 6 3 (0 : Int32)) fun V14 => lt_ (mset V14 6 5 (-1 : Int32)) fun V15 => m_begin_l105 p1 200 V15 (0 : Int32)) else (some ((-1 : Int32), V8))) else (some ((-1 : Int32), V5))))) else (some ((-1 : Int32), V2))) else (some ((-1 : Int32), V2)))
theorem hdX3_begin : w6_hd yX3_begin 1 := by decide +kernel
abbrev rmX3_begin : Room := { frames := 1, cells := 0, slots := 0, locals := 23 }
set_option maxHeartbeats 4000000 in
set_option maxRecDepth 100000 in
theorem ctm_begin (l : Launch) (D : va_G) (g : Nat → ClassId) (ad : Nat → Nat) (V : Mm) (p1 : Int32) (r : Int32) (V' : Mm) (hf : m_begin V p1 = some (r, V'))  : CTi l D g yX3_begin cX3_begin 5 .int rmX3_begin [.ref (ad 0), .int p1] (mw g ad V) (mw g ad V') r := by
  intro sz
  refine w6_starti RX3 (by decide) (Nat.le_of_ble_eq_true rfl) rfl ?_
  intro p e s m below meth c A ls Q hx hb hown hts F I hl hret
  have hl : lv_has ls 5 [(0, .ref (ad 0)), (1, .int p1)] := hl
  have hJ265 : ∀ (V : Mm)  (H : Heap) (locs : List Loc) (ls : Array Slot), m_begin_j265 p1 V = some (r, V') → w6_I D (mw g ad V ++ []) A s H locs → lv_has ls 5 [(0, .ref (ad 0))] → W p l e rmX3_begin s m ([.ref (ad 0), .int p1] : List Value).toArray below meth c H locs 0 0 Q (F0 m 265 ls []) := by
    intro V H locs ls hf I hl
    unfold m_begin_j265 at hf
    refine lv_aload_n hx hb dX3_begin_265 rfl (lv_at hl 0 rfl) ?_
    obtain ⟨V16, h17, hf⟩ := bn_e hf
    refine xz_Vv F I (ctm_stand l D g ad V V16 h17 ) (lw_V q760 q762 qs21 q50 q763) hdX3_stand rfl (Nat.le_of_ble_eq_true rfl) (Nat.le_of_ble_eq_true rfl) (w6_recv F I mo_ob rfl) rfl hl.1 [] rfl (Nat.le_of_ble_eq_true rfl) dX3_begin_266 ⟨Nat.le_of_ble_eq_true rfl, Nat.le_of_ble_eq_true rfl⟩ (fun H locs I => ?_)
    refine lv_aload_n hx hb dX3_begin_269 rfl (lv_at hl 0 rfl) ?_
    refine w6_get F I mo_ob rfl in_X3 5 (by decide) q769 rfl rfl dX3_begin_270 ?_
    refine lv_iconst (v := (0 : Int32)) hx hb dX3_begin_273 (by decide) ?_
    refine w6_iald (j := 0) F I (m_ar 6 106 (by decide) rfl) (show ix_ (0 : Int32) 106 by decide) rfl dX3_begin_274 ?_
    exact hret _ _ _ _ _ dX3_begin_275 (w6_mv (so_e hf).2 I) (so_e hf).1 rfl
  have hL105 : ∀ (n105 : Nat) (V : Mm) (a2 : Int32) (H : Heap) (locs : List Loc) (ls : Array Slot), m_begin_l105 p1 n105 V a2 = some (r, V') → w6_I D (mw g ad V ++ []) A s H locs → lv_has ls 5 [(0, .ref (ad 0)), (2, .int a2)] → W p l e rmX3_begin s m ([.ref (ad 0), .int p1] : List Value).toArray below meth c H locs 0 0 Q (F0 m 105 ls []) := by
    intro n105
    induction n105 with
    | zero =>
      intro V a2 H locs ls hf
      rw [m_begin_l105] at hf
      cases hf
    | succ n105 ih105 =>
      have hJ252 : ∀ (V : Mm) (a2 : Int32) (H : Heap) (locs : List Loc) (ls : Array Slot), m_begin_j252 (m_begin_l105 p1 n105) p1 V a2 = some (r, V') → w6_I D (mw g ad V ++ []) A s H locs → lv_has ls 5 [(0, .ref (ad 0)), (2, .int a2)] → W p l e rmX3_begin s m ([.ref (ad 0), .int p1] : List Value).toArray below meth c H locs 0 0 Q (F0 m 252 ls []) := by
        intro V a2 H locs ls hf I hl
        unfold m_begin_j252 at hf
        refine lv_aload_n hx hb dX3_begin_252 rfl (lv_at hl 0 rfl) ?_
        refine w6_get F I mo_ob rfl in_X3 4 (by decide) q768 rfl rfl dX3_begin_253 ?_
        refine lv_iload_n hx hb dX3_begin_256 rfl (lv_at hl 1 rfl) ?_
        refine lv_iconst (v := (0 : Int32)) hx hb dX3_begin_257 (by decide) ?_
        obtain ⟨g25, hf⟩ := gd_e hf
        obtain ⟨V26, eV26, hf⟩ := lt_e hf
        refine w6_zast (j := a2.toNatClampNeg) msh_lc F I m_az g25 rfl rfl dX3_begin_258 eV26 (fun H locs I => ?_)
        obtain ⟨v27, ev27, hf⟩ := lt_e hf
        refine lv_iinc (v := v27) (lv' := [(2, .int v27), (0, .ref (ad 0))]) hx hb dX3_begin_259 hl (k := 1) rfl (by rw [ev27]; rfl) (by decide) rfl (fun ls hl => ?_)
        refine lv_goto (tgt := 105) hx hb dX3_begin_262 (by decide) ?_
        exact ih105 V26 v27 _ _ ls hf I (lv_sub hl [1, 0] rfl)
      have hL196 : ∀ (n196 : Nat) (V : Mm) (a2 : Int32) (a4 : Int32) (H : Heap) (locs : List Loc) (ls : Array Slot), m_begin_l196 (m_begin_l105 p1 n105) p1 n196 V a2 a4 = some (r, V') → w6_I D (mw g ad V ++ []) A s H locs → lv_has ls 5 [(0, .ref (ad 0)), (2, .int a2), (4, .int a4)] → W p l e rmX3_begin s m ([.ref (ad 0), .int p1] : List Value).toArray below meth c H locs 0 0 Q (F0 m 196 ls []) := by
        intro n196
        induction n196 with
        | zero =>
          intro V a2 a4 H locs ls hf
          rw [m_begin_l196] at hf
          cases hf
        | succ n196 ih196 =>
          intro V a2 a4 H locs ls hf I hl
          rw [m_begin_l196] at hf
          refine lv_iload hx hb dX3_begin_196 (lv_at hl 2 rfl) ?_
          refine lv_bipush (v := (6 : Int32)) hx hb dX3_begin_198 (by decide) ?_
          refine lv_icmp_ge (tgt := 252) hx hb dX3_begin_200 (by decide) (fun c => ?_) (fun c => ?_)
          · have hf := if_p c hf
            exact hJ252 V a2 _ _ ls hf I (lv_sub hl [0, 1] rfl)
          · have hf := if_n c hf
            refine lv_aload_n hx hb dX3_begin_203 rfl (lv_at hl 0 rfl) ?_
            refine lv_iload_n hx hb dX3_begin_204 rfl (lv_at hl 1 rfl) ?_
            refine lv_bipush (v := (8 : Int32)) hx hb dX3_begin_205 (by decide) ?_
            refine lv_iload hx hb dX3_begin_207 (lv_at hl 2 rfl) ?_
            refine lv_iadd hx hb dX3_begin_209 ?_
            refine lv_aload_n hx hb dX3_begin_210 rfl (lv_at hl 0 rfl) ?_
            refine w6_get F I mo_ob rfl in_X3 3 (by decide) q767 rfl rfl dX3_begin_211 ?_
            refine lv_bipush (v := (6 : Int32)) hx hb dX3_begin_214 (by decide) ?_
            refine lv_iload_n hx hb dX3_begin_216 rfl (lv_at hl 1 rfl) ?_
            refine lv_imul hx hb dX3_begin_217 ?_
            refine lv_iload hx hb dX3_begin_218 (lv_at hl 2 rfl) ?_
            refine lv_iadd hx hb dX3_begin_220 ?_
            obtain ⟨g28, hf⟩ := gd_e hf
            refine w6_iald (j := (((6 : Int32) * a2) + a4).toNatClampNeg) F I (m_ar 4 12 (by decide) rfl) g28 rfl dX3_begin_221 ?_
            obtain ⟨V29, h30, hf⟩ := bn_e hf
            refine xz_Vv F I (ctm_put l D g ad V a2 ((8 : Int32) + a4) (V.1 4 ((((6 : Int32) * a2) + a4).toNatClampNeg)) V29 h30 ) (lw_V q756 q758 qs20 q50 q759) hdX3_put rfl (Nat.le_of_ble_eq_true rfl) (Nat.le_of_ble_eq_true rfl) (w6_recv F I mo_ob rfl) rfl hl.1 [] rfl (Nat.le_of_ble_eq_true rfl) dX3_begin_222 ⟨Nat.le_of_ble_eq_true rfl, Nat.le_of_ble_eq_true rfl⟩ (fun H locs I => ?_)
            refine lv_aload_n hx hb dX3_begin_225 rfl (lv_at hl 0 rfl) ?_
            refine lv_iload_n hx hb dX3_begin_226 rfl (lv_at hl 1 rfl) ?_
            refine lv_bipush (v := (14 : Int32)) hx hb dX3_begin_227 (by decide) ?_
            refine lv_aload_n hx hb dX3_begin_229 rfl (lv_at hl 0 rfl) ?_
            refine w6_get F I mo_ob rfl in_X3 3 (by decide) q767 rfl rfl dX3_begin_230 ?_
            refine lv_bipush (v := (6 : Int32)) hx hb dX3_begin_233 (by decide) ?_
            refine lv_iload_n hx hb dX3_begin_235 rfl (lv_at hl 1 rfl) ?_
            refine lv_imul hx hb dX3_begin_236 ?_
            refine lv_iload hx hb dX3_begin_237 (lv_at hl 2 rfl) ?_
            refine lv_iadd hx hb dX3_begin_239 ?_
            obtain ⟨g31, hf⟩ := gd_e hf
            refine w6_iald (j := (((6 : Int32) * a2) + a4).toNatClampNeg) F I (m_ar 4 12 (by decide) rfl) g31 rfl dX3_begin_240 ?_
            refine lv_iadd hx hb dX3_begin_241 ?_
            refine lv_iconst (v := (1 : Int32)) hx hb dX3_begin_242 (by decide) ?_
            obtain ⟨V32, h33, hf⟩ := bn_e hf
            refine xz_Vv F I (ctm_put l D g ad V29 a2 ((14 : Int32) + (V29.1 4 ((((6 : Int32) * a2) + a4).toNatClampNeg))) (1 : Int32) V32 h33 ) (lw_V q756 q758 qs20 q50 q759) hdX3_put rfl (Nat.le_of_ble_eq_true rfl) (Nat.le_of_ble_eq_true rfl) (w6_recv F I mo_ob rfl) rfl hl.1 [] rfl (Nat.le_of_ble_eq_true rfl) dX3_begin_243 ⟨Nat.le_of_ble_eq_true rfl, Nat.le_of_ble_eq_true rfl⟩ (fun H locs I => ?_)
            obtain ⟨v34, ev34, hf⟩ := lt_e hf
            refine lv_iinc (v := v34) (lv' := [(4, .int v34), (0, .ref (ad 0)), (2, .int a2)]) hx hb dX3_begin_246 hl (k := 2) rfl (by rw [ev34]; rfl) (by decide) rfl (fun ls hl => ?_)
            refine lv_goto (tgt := 196) hx hb dX3_begin_249 (by decide) ?_
            exact ih196 V32 a2 v34 _ _ ls hf I (lv_sub hl [1, 2, 0] rfl)
      have hJ193 : ∀ (V : Mm) (a2 : Int32) (H : Heap) (locs : List Loc) (ls : Array Slot), m_begin_j193 (m_begin_l105 p1 n105) p1 V a2 = some (r, V') → w6_I D (mw g ad V ++ []) A s H locs → lv_has ls 5 [(0, .ref (ad 0)), (2, .int a2)] → W p l e rmX3_begin s m ([.ref (ad 0), .int p1] : List Value).toArray below meth c H locs 0 0 Q (F0 m 193 ls []) := by
        intro V a2 H locs ls hf I hl
        unfold m_begin_j193 at hf
        refine lv_iconst (v := (0 : Int32)) hx hb dX3_begin_193 (by decide) ?_
        refine lv_istore (lv' := [(4, .int (0 : Int32)), (0, .ref (ad 0)), (2, .int a2)]) hx hb dX3_begin_194 hl (by decide) rfl (fun ls hl => ?_)
        exact hL196 200 V a2 (0 : Int32) _ _ ls hf I (lv_sub hl [1, 2, 0] rfl)
      have hL158 : ∀ (n158 : Nat) (V : Mm) (a2 : Int32) (a4 : Int32) (H : Heap) (locs : List Loc) (ls : Array Slot), m_begin_l158 (m_begin_l105 p1 n105) p1 n158 V a2 a4 = some (r, V') → w6_I D (mw g ad V ++ []) A s H locs → lv_has ls 5 [(0, .ref (ad 0)), (2, .int a2), (4, .int a4)] → W p l e rmX3_begin s m ([.ref (ad 0), .int p1] : List Value).toArray below meth c H locs 0 0 Q (F0 m 158 ls []) := by
        intro n158
        induction n158 with
        | zero =>
          intro V a2 a4 H locs ls hf
          rw [m_begin_l158] at hf
          cases hf
        | succ n158 ih158 =>
          intro V a2 a4 H locs ls hf I hl
          rw [m_begin_l158] at hf
          refine lv_iload hx hb dX3_begin_158 (lv_at hl 2 rfl) ?_
          refine lv_bipush (v := (12 : Int32)) hx hb dX3_begin_160 (by decide) ?_
          refine lv_icmp_ge (tgt := 193) hx hb dX3_begin_162 (by decide) (fun c => ?_) (fun c => ?_)
          · have hf := if_p c hf
            exact hJ193 V a2 _ _ ls hf I (lv_sub hl [0, 1] rfl)
          · have hf := if_n c hf
            refine lv_aload_n hx hb dX3_begin_165 rfl (lv_at hl 0 rfl) ?_
            refine lv_iload_n hx hb dX3_begin_166 rfl (lv_at hl 1 rfl) ?_
            refine lv_bipush (v := (14 : Int32)) hx hb dX3_begin_167 (by decide) ?_
            refine lv_iload hx hb dX3_begin_169 (lv_at hl 2 rfl) ?_
            refine lv_iadd hx hb dX3_begin_171 ?_
            refine lv_iconst (v := (0 : Int32)) hx hb dX3_begin_172 (by decide) ?_
            obtain ⟨V35, h36, hf⟩ := bn_e hf
            refine xz_Vv F I (ctm_put l D g ad V a2 ((14 : Int32) + a4) (0 : Int32) V35 h36 ) (lw_V q756 q758 qs20 q50 q759) hdX3_put rfl (Nat.le_of_ble_eq_true rfl) (Nat.le_of_ble_eq_true rfl) (w6_recv F I mo_ob rfl) rfl hl.1 [] rfl (Nat.le_of_ble_eq_true rfl) dX3_begin_173 ⟨Nat.le_of_ble_eq_true rfl, Nat.le_of_ble_eq_true rfl⟩ (fun H locs I => ?_)
            refine lv_aload_n hx hb dX3_begin_176 rfl (lv_at hl 0 rfl) ?_
            refine lv_iload_n hx hb dX3_begin_177 rfl (lv_at hl 1 rfl) ?_
            refine lv_bipush (v := (26 : Int32)) hx hb dX3_begin_178 (by decide) ?_
            refine lv_iload hx hb dX3_begin_180 (lv_at hl 2 rfl) ?_
            refine lv_iadd hx hb dX3_begin_182 ?_
            refine lv_iconst (v := (-1 : Int32)) hx hb dX3_begin_183 (by decide) ?_
            obtain ⟨V37, h38, hf⟩ := bn_e hf
            refine xz_Vv F I (ctm_put l D g ad V35 a2 ((26 : Int32) + a4) (-1 : Int32) V37 h38 ) (lw_V q756 q758 qs20 q50 q759) hdX3_put rfl (Nat.le_of_ble_eq_true rfl) (Nat.le_of_ble_eq_true rfl) (w6_recv F I mo_ob rfl) rfl hl.1 [] rfl (Nat.le_of_ble_eq_true rfl) dX3_begin_184 ⟨Nat.le_of_ble_eq_true rfl, Nat.le_of_ble_eq_true rfl⟩ (fun H locs I => ?_)
            obtain ⟨v39, ev39, hf⟩ := lt_e hf
            refine lv_iinc (v := v39) (lv' := [(4, .int v39), (0, .ref (ad 0)), (2, .int a2)]) hx hb dX3_begin_187 hl (k := 2) rfl (by rw [ev39]; rfl) (by decide) rfl (fun ls hl => ?_)
            refine lv_goto (tgt := 158) hx hb dX3_begin_190 (by decide) ?_
            exact ih158 V37 a2 v39 _ _ ls hf I (lv_sub hl [1, 2, 0] rfl)
      have hJ141 : ∀ (V : Mm) (a2 : Int32) (a3 : Int32) (H : Heap) (locs : List Loc) (ls : Array Slot), m_begin_j141 (m_begin_l105 p1 n105) p1 V a2 a3 = some (r, V') → w6_I D (mw g ad V ++ []) A s H locs → lv_has ls 5 [(0, .ref (ad 0)), (2, .int a2), (3, .int a3)] → W p l e rmX3_begin s m ([.ref (ad 0), .int p1] : List Value).toArray below meth c H locs 0 0 Q (F0 m 141 ls []) := by
        intro V a2 a3 H locs ls hf I hl
        unfold m_begin_j141 at hf
        refine lv_aload_n hx hb dX3_begin_141 rfl (lv_at hl 0 rfl) ?_
        refine lv_iload_n hx hb dX3_begin_142 rfl (lv_at hl 1 rfl) ?_
        refine lv_iconst (v := (1 : Int32)) hx hb dX3_begin_143 (by decide) ?_
        refine lv_iload_n hx hb dX3_begin_144 rfl (lv_at hl 2 rfl) ?_
        obtain ⟨V21, h22, hf⟩ := bn_e hf
        refine xz_Vv F I (ctm_put l D g ad V a2 (1 : Int32) a3 V21 h22 ) (lw_V q756 q758 qs20 q50 q759) hdX3_put rfl (Nat.le_of_ble_eq_true rfl) (Nat.le_of_ble_eq_true rfl) (w6_recv F I mo_ob rfl) rfl hl.1 [] rfl (Nat.le_of_ble_eq_true rfl) dX3_begin_145 ⟨Nat.le_of_ble_eq_true rfl, Nat.le_of_ble_eq_true rfl⟩ (fun H locs I => ?_)
        refine lv_aload_n hx hb dX3_begin_148 rfl (lv_at hl 0 rfl) ?_
        refine lv_iload_n hx hb dX3_begin_149 rfl (lv_at hl 1 rfl) ?_
        refine lv_iconst (v := (4 : Int32)) hx hb dX3_begin_150 (by decide) ?_
        refine lv_iconst (v := (-1 : Int32)) hx hb dX3_begin_151 (by decide) ?_
        obtain ⟨V23, h24, hf⟩ := bn_e hf
        refine xz_Vv F I (ctm_put l D g ad V21 a2 (4 : Int32) (-1 : Int32) V23 h24 ) (lw_V q756 q758 qs20 q50 q759) hdX3_put rfl (Nat.le_of_ble_eq_true rfl) (Nat.le_of_ble_eq_true rfl) (w6_recv F I mo_ob rfl) rfl hl.1 [] rfl (Nat.le_of_ble_eq_true rfl) dX3_begin_152 ⟨Nat.le_of_ble_eq_true rfl, Nat.le_of_ble_eq_true rfl⟩ (fun H locs I => ?_)
        refine lv_iconst (v := (0 : Int32)) hx hb dX3_begin_155 (by decide) ?_
        refine lv_istore (lv' := [(4, .int (0 : Int32)), (0, .ref (ad 0)), (2, .int a2), (3, .int a3)]) hx hb dX3_begin_156 hl (by decide) rfl (fun ls hl => ?_)
        exact hL158 200 V23 a2 (0 : Int32) _ _ ls hf I (lv_sub hl [1, 2, 0] rfl)
      have hL120 : ∀ (n120 : Nat) (V : Mm) (a2 : Int32) (a3 : Int32) (a4 : Int32) (H : Heap) (locs : List Loc) (ls : Array Slot), m_begin_l120 (m_begin_l105 p1 n105) p1 n120 V a2 a3 a4 = some (r, V') → w6_I D (mw g ad V ++ []) A s H locs → lv_has ls 5 [(0, .ref (ad 0)), (2, .int a2), (3, .int a3), (4, .int a4)] → W p l e rmX3_begin s m ([.ref (ad 0), .int p1] : List Value).toArray below meth c H locs 0 0 Q (F0 m 120 ls []) := by
        intro n120
        induction n120 with
        | zero =>
          intro V a2 a3 a4 H locs ls hf
          rw [m_begin_l120] at hf
          cases hf
        | succ n120 ih120 =>
          intro V a2 a3 a4 H locs ls hf I hl
          rw [m_begin_l120] at hf
          refine lv_iload hx hb dX3_begin_120 (lv_at hl 3 rfl) ?_
          refine lv_bipush (v := (14 : Int32)) hx hb dX3_begin_122 (by decide) ?_
          refine lv_icmp_ge (tgt := 141) hx hb dX3_begin_124 (by decide) (fun c => ?_) (fun c => ?_)
          · have hf := if_p c hf
            exact hJ141 V a2 a3 _ _ ls hf I (lv_sub hl [0, 1, 2] rfl)
          · have hf := if_n c hf
            refine lv_aload_n hx hb dX3_begin_127 rfl (lv_at hl 0 rfl) ?_
            refine lv_iload_n hx hb dX3_begin_128 rfl (lv_at hl 1 rfl) ?_
            refine lv_iload hx hb dX3_begin_129 (lv_at hl 3 rfl) ?_
            refine lv_iconst (v := (0 : Int32)) hx hb dX3_begin_131 (by decide) ?_
            obtain ⟨V40, h41, hf⟩ := bn_e hf
            refine xz_Vv F I (ctm_put l D g ad V a2 a4 (0 : Int32) V40 h41 ) (lw_V q756 q758 qs20 q50 q759) hdX3_put rfl (Nat.le_of_ble_eq_true rfl) (Nat.le_of_ble_eq_true rfl) (w6_recv F I mo_ob rfl) rfl hl.1 [] rfl (Nat.le_of_ble_eq_true rfl) dX3_begin_132 ⟨Nat.le_of_ble_eq_true rfl, Nat.le_of_ble_eq_true rfl⟩ (fun H locs I => ?_)
            obtain ⟨v42, ev42, hf⟩ := lt_e hf
            refine lv_iinc (v := v42) (lv' := [(4, .int v42), (0, .ref (ad 0)), (2, .int a2), (3, .int a3)]) hx hb dX3_begin_135 hl (k := 3) rfl (by rw [ev42]; rfl) (by decide) rfl (fun ls hl => ?_)
            refine lv_goto (tgt := 120) hx hb dX3_begin_138 (by decide) ?_
            exact ih120 V40 a2 a3 v42 _ _ ls hf I (lv_sub hl [1, 2, 3, 0] rfl)
      intro V a2 H locs ls hf I hl
      rw [m_begin_l105] at hf
      refine lv_iload_n hx hb dX3_begin_105 rfl (lv_at hl 1 rfl) ?_
      refine lv_iconst (v := (2 : Int32)) hx hb dX3_begin_106 (by decide) ?_
      refine lv_icmp_ge (tgt := 265) hx hb dX3_begin_107 (by decide) (fun c => ?_) (fun c => ?_)
      · have hf := if_p c hf
        exact hJ265 V _ _ ls hf I (lv_sub hl [0] rfl)
      · have hf := if_n c hf
        refine lv_aload_n hx hb dX3_begin_110 rfl (lv_at hl 0 rfl) ?_
        refine lv_iload_n hx hb dX3_begin_111 rfl (lv_at hl 1 rfl) ?_
        refine lv_iconst (v := (1 : Int32)) hx hb dX3_begin_112 (by decide) ?_
        obtain ⟨r20, V18, h19, hf⟩ := bi_e hf
        refine xz_Vi F I (ctm_get l D g ad V a2 (1 : Int32) r20 V18 h19 ) (lw_V q869 q871 qs25 q50 q872) hdX3_get rfl (Nat.le_of_ble_eq_true rfl) (Nat.le_of_ble_eq_true rfl) (w6_recv F I mo_ob rfl) rfl hl.1 [] rfl (Nat.le_of_ble_eq_true rfl) dX3_begin_113 ⟨Nat.le_of_ble_eq_true rfl, Nat.le_of_ble_eq_true rfl⟩ (fun H locs I => ?_)
        refine lv_istore_n (lv' := [(3, .int r20), (0, .ref (ad 0)), (2, .int a2)]) hx hb dX3_begin_116 rfl hl (by decide) rfl (fun ls hl => ?_)
        refine lv_iconst (v := (0 : Int32)) hx hb dX3_begin_117 (by decide) ?_
        refine lv_istore (lv' := [(4, .int (0 : Int32)), (3, .int r20), (0, .ref (ad 0)), (2, .int a2)]) hx hb dX3_begin_118 hl (by decide) rfl (fun ls hl => ?_)
        exact hL120 200 V18 a2 r20 (0 : Int32) _ _ ls hf I (lv_sub hl [2, 3, 1, 0] rfl)
  unfold m_begin at hf
  refine lv_aload_n hx hb dX3_begin_0 rfl (lv_at hl 0 rfl) ?_
  refine lv_iconst (v := (0 : Int32)) hx hb dX3_begin_1 (by decide) ?_
  obtain ⟨V1, eV1, hf⟩ := lt_e hf
  refine w6_put msh_lc F I mo_ob rfl in_X3 tyX3 tyX3_ok nmX3 13 (by decide) (mo_nf 13 (by decide)) q777 rfl rfl (tyX3_ok 13 (by decide)) rfl rfl dX3_begin_2 eV1 (fun H locs I => ?_)
  refine lv_iload_n hx hb dX3_begin_5 rfl (lv_at hl 1 rfl) ?_
  refine xz_Pi F I (ctpm_isTeam l D g p1 _ rfl) (lw_S q828 q829 q50 q830) hdX3_isTeam (Nat.le_of_ble_eq_true rfl) (Nat.le_of_ble_eq_true rfl) rfl hl.1 [] rfl (Nat.le_of_ble_eq_true rfl) dX3_begin_6 ⟨Nat.le_of_ble_eq_true rfl, Nat.le_of_ble_eq_true rfl⟩ (fun H locs I => ?_)
  refine lv_if_eq (tgt := 63) hx hb dX3_begin_9 (by decide) (fun c => ?_) (fun c => ?_)
  · have hf := if_p c hf
    refine lv_iconst (v := (-1 : Int32)) hx hb dX3_begin_63 (by decide) ?_
    exact hret _ _ _ _ _ dX3_begin_64 (w6_mv (so_e hf).2 I) (so_e hf).1 rfl
  · have hf := if_n c hf
    refine lv_aload_n hx hb dX3_begin_12 rfl (lv_at hl 0 rfl) ?_
    obtain ⟨r4, V2, h3, hf⟩ := bi_e hf
    refine xz_Vi F I (ctm_isOn l D g ad V1 r4 V2 h3 ) (lw_V q845 q847 qs23 q50 q848) hdX3_isOn rfl (Nat.le_of_ble_eq_true rfl) (Nat.le_of_ble_eq_true rfl) (w6_recv F I mo_ob rfl) rfl hl.1 [] rfl (Nat.le_of_ble_eq_true rfl) dX3_begin_13 ⟨Nat.le_of_ble_eq_true rfl, Nat.le_of_ble_eq_true rfl⟩ (fun H locs I => ?_)
    refine lv_if_ne (tgt := 63) hx hb dX3_begin_16 (by decide) (fun c => ?_) (fun c => ?_)
    · have hf := if_n c hf
      refine lv_iconst (v := (-1 : Int32)) hx hb dX3_begin_63 (by decide) ?_
      exact hret _ _ _ _ _ dX3_begin_64 (w6_mv (so_e hf).2 I) (so_e hf).1 rfl
    · have hf := if_p c hf
      refine lv_aload_n hx hb dX3_begin_19 rfl (lv_at hl 0 rfl) ?_
      refine w6_get F I mo_ob rfl in_X3 5 (by decide) q769 rfl rfl dX3_begin_20 ?_
      refine lv_iconst (v := (4 : Int32)) hx hb dX3_begin_23 (by decide) ?_
      refine w6_iald (j := 4) F I (m_ar 6 106 (by decide) rfl) (show ix_ (4 : Int32) 106 by decide) rfl dX3_begin_24 ?_
      refine lv_iconst (v := (-1 : Int32)) hx hb dX3_begin_25 (by decide) ?_
      refine lv_icmp_ne (tgt := 63) hx hb dX3_begin_26 (by decide) (fun c => ?_) (fun c => ?_)
      · have hf := if_n c hf
        refine lv_iconst (v := (-1 : Int32)) hx hb dX3_begin_63 (by decide) ?_
        exact hret _ _ _ _ _ dX3_begin_64 (w6_mv (so_e hf).2 I) (so_e hf).1 rfl
      · have hf := if_p c hf
        refine lv_aload_n hx hb dX3_begin_29 rfl (lv_at hl 0 rfl) ?_
        refine w6_get F I mo_ob rfl in_X3 4 (by decide) q768 rfl rfl dX3_begin_30 ?_
        refine lv_iconst (v := (0 : Int32)) hx hb dX3_begin_33 (by decide) ?_
        refine w6_zald (j := 0) F I m_az (show ix_ (0 : Int32) 2 by decide) rfl dX3_begin_34 ?_
        refine lv_if_eq (tgt := 63) hx hb dX3_begin_35 (by decide) (fun c => ?_) (fun c => ?_)
        · have hf := if_p c hf
          refine lv_iconst (v := (-1 : Int32)) hx hb dX3_begin_63 (by decide) ?_
          exact hret _ _ _ _ _ dX3_begin_64 (w6_mv (so_e hf).2 I) (so_e hf).1 rfl
        · have hf := if_n c hf
          refine lv_aload_n hx hb dX3_begin_38 rfl (lv_at hl 0 rfl) ?_
          refine w6_get F I mo_ob rfl in_X3 4 (by decide) q768 rfl rfl dX3_begin_39 ?_
          refine lv_iconst (v := (1 : Int32)) hx hb dX3_begin_42 (by decide) ?_
          refine w6_zald (j := 1) F I m_az (show ix_ (1 : Int32) 2 by decide) rfl dX3_begin_43 ?_
          refine lv_if_eq (tgt := 63) hx hb dX3_begin_44 (by decide) (fun c => ?_) (fun c => ?_)
          · have hf := if_p c hf
            refine lv_iconst (v := (-1 : Int32)) hx hb dX3_begin_63 (by decide) ?_
            exact hret _ _ _ _ _ dX3_begin_64 (w6_mv (so_e hf).2 I) (so_e hf).1 rfl
          · have hf := if_n c hf
            refine lv_aload_n hx hb dX3_begin_47 rfl (lv_at hl 0 rfl) ?_
            refine lv_iconst (v := (0 : Int32)) hx hb dX3_begin_48 (by decide) ?_
            obtain ⟨r7, V5, h6, hf⟩ := bi_e hf
            refine xz_Vi F I (ctm_hasFree l D g ad V2 (0 : Int32) r7 V5 h6 ) (lw_V q865 q867 qs24 q50 q868) hdX3_hasFree rfl (Nat.le_of_ble_eq_true rfl) (Nat.le_of_ble_eq_true rfl) (w6_recv F I mo_ob rfl) rfl hl.1 [] rfl (Nat.le_of_ble_eq_true rfl) dX3_begin_49 ⟨Nat.le_of_ble_eq_true rfl, Nat.le_of_ble_eq_true rfl⟩ (fun H locs I => ?_)
            refine lv_if_ne (tgt := 63) hx hb dX3_begin_52 (by decide) (fun c => ?_) (fun c => ?_)
            · have hf := if_n c hf
              refine lv_iconst (v := (-1 : Int32)) hx hb dX3_begin_63 (by decide) ?_
              exact hret _ _ _ _ _ dX3_begin_64 (w6_mv (so_e hf).2 I) (so_e hf).1 rfl
            · have hf := if_p c hf
              refine lv_aload_n hx hb dX3_begin_55 rfl (lv_at hl 0 rfl) ?_
              refine lv_iconst (v := (1 : Int32)) hx hb dX3_begin_56 (by decide) ?_
              obtain ⟨r10, V8, h9, hf⟩ := bi_e hf
              refine xz_Vi F I (ctm_hasFree l D g ad V5 (1 : Int32) r10 V8 h9 ) (lw_V q865 q867 qs24 q50 q868) hdX3_hasFree rfl (Nat.le_of_ble_eq_true rfl) (Nat.le_of_ble_eq_true rfl) (w6_recv F I mo_ob rfl) rfl hl.1 [] rfl (Nat.le_of_ble_eq_true rfl) dX3_begin_57 ⟨Nat.le_of_ble_eq_true rfl, Nat.le_of_ble_eq_true rfl⟩ (fun H locs I => ?_)
              refine lv_if_eq (tgt := 65) hx hb dX3_begin_60 (by decide) (fun c => ?_) (fun c => ?_)
              · have hf := if_p c hf
                refine lv_aload_n hx hb dX3_begin_65 rfl (lv_at hl 0 rfl) ?_
                refine w6_get F I mo_ob rfl in_X3 5 (by decide) q769 rfl rfl dX3_begin_66 ?_
                refine lv_iconst (v := (0 : Int32)) hx hb dX3_begin_69 (by decide) ?_
                refine lv_dup2_11 hx hb dX3_begin_70 rfl rfl ?_
                refine w6_iald (j := 0) F I (m_ar 6 106 (by decide) rfl) (show ix_ (0 : Int32) 106 by decide) rfl dX3_begin_71 ?_
                refine lv_iconst (v := (1 : Int32)) hx hb dX3_begin_72 (by decide) ?_
                refine lv_iadd hx hb dX3_begin_73 ?_
                obtain ⟨V11, eV11, hf⟩ := lt_e hf
                refine w6_iast (j := 0) msh_lc F I (m_ar 6 106 (by decide) rfl) (show ix_ (0 : Int32) 106 by decide) rfl dX3_begin_74 eV11 (fun H locs I => ?_)
                refine lv_aload_n hx hb dX3_begin_75 rfl (lv_at hl 0 rfl) ?_
                refine w6_get F I mo_ob rfl in_X3 5 (by decide) q769 rfl rfl dX3_begin_76 ?_
                refine lv_iconst (v := (1 : Int32)) hx hb dX3_begin_79 (by decide) ?_
                refine lv_iconst (v := (1 : Int32)) hx hb dX3_begin_80 (by decide) ?_
                obtain ⟨V12, eV12, hf⟩ := lt_e hf
                refine w6_iast (j := 1) msh_lc F I (m_ar 6 106 (by decide) rfl) (show ix_ (1 : Int32) 106 by decide) rfl dX3_begin_81 eV12 (fun H locs I => ?_)
                refine lv_aload_n hx hb dX3_begin_82 rfl (lv_at hl 0 rfl) ?_
                refine w6_get F I mo_ob rfl in_X3 5 (by decide) q769 rfl rfl dX3_begin_83 ?_
                refine lv_iconst (v := (2 : Int32)) hx hb dX3_begin_86 (by decide) ?_
                refine lv_iload_n hx hb dX3_begin_87 rfl (lv_at hl 1 rfl) ?_
                obtain ⟨V13, eV13, hf⟩ := lt_e hf
                refine w6_iast (j := 2) msh_lc F I (m_ar 6 106 (by decide) rfl) (show ix_ (2 : Int32) 106 by decide) rfl dX3_begin_88 eV13 (fun H locs I => ?_)
                refine lv_aload_n hx hb dX3_begin_89 rfl (lv_at hl 0 rfl) ?_
                refine w6_get F I mo_ob rfl in_X3 5 (by decide) q769 rfl rfl dX3_begin_90 ?_
                refine lv_iconst (v := (3 : Int32)) hx hb dX3_begin_93 (by decide) ?_
                refine lv_iconst (v := (0 : Int32)) hx hb dX3_begin_94 (by decide) ?_
                obtain ⟨V14, eV14, hf⟩ := lt_e hf
                refine w6_iast (j := 3) msh_lc F I (m_ar 6 106 (by decide) rfl) (show ix_ (3 : Int32) 106 by decide) rfl dX3_begin_95 eV14 (fun H locs I => ?_)
                refine lv_aload_n hx hb dX3_begin_96 rfl (lv_at hl 0 rfl) ?_
                refine w6_get F I mo_ob rfl in_X3 5 (by decide) q769 rfl rfl dX3_begin_97 ?_
                refine lv_iconst (v := (5 : Int32)) hx hb dX3_begin_100 (by decide) ?_
                refine lv_iconst (v := (-1 : Int32)) hx hb dX3_begin_101 (by decide) ?_
                obtain ⟨V15, eV15, hf⟩ := lt_e hf
                refine w6_iast (j := 5) msh_lc F I (m_ar 6 106 (by decide) rfl) (show ix_ (5 : Int32) 106 by decide) rfl dX3_begin_102 eV15 (fun H locs I => ?_)
                refine lv_iconst (v := (0 : Int32)) hx hb dX3_begin_103 (by decide) ?_
                refine lv_istore_n (lv' := [(2, .int (0 : Int32)), (0, .ref (ad 0)), (1, .int p1)]) hx hb dX3_begin_104 rfl hl (by decide) rfl (fun ls hl => ?_)
                exact hL105 200 V15 (0 : Int32) _ _ ls hf I (lv_sub hl [1, 0] rfl)
              · have hf := if_n c hf
                refine lv_iconst (v := (-1 : Int32)) hx hb dX3_begin_63 (by decide) ?_
                exact hret _ _ _ _ _ dX3_begin_64 (w6_mv (so_e hf).2 I) (so_e hf).1 rfl
def m_turn_j41 (p1 : Int32) (V : Mm)  (a2 : Int32) : Option Mm :=
  (m_put V p1 (13 : Int32) a2).bind fun V4 => bi_ (m_get V4 p1 (6 : Int32)) fun r8 V6 => (m_put V6 p1 (6 : Int32) (r8 + (1 : Int32))).bind fun V9 => bi_ (m_get V9 p1 (4 : Int32)) fun r13 V11 => if r13 = (-1 : Int32) then (some V11) else (bi_ (m_get V11 p1 (11 : Int32)) fun r16 V14 => gd_ (ix_ p1 2) (if r16 = (V14.1 2 p1.toNatClampNeg) then (bi_ (m_get V14 p1 (4 : Int32)) fun r20 V18 => (m_put V18 p1 (11 : Int32) r20).bind fun V21 => (m_put V21 p1 (4 : Int32) (-1 : Int32)).bind fun V23 => some V23) else (some V14)))
def m_turn_l10 (p1 : Int32) : Nat → Mm → Int32 → Int32 → Option Mm
  | 0, _, _, _ => none
  | n10 + 1, V, a2, a3 =>
  if (5 : Int32) ≤ a3 then (m_turn_j41 p1 V a2) else (bi_ (m_get V p1 (((8 : Int32) + a3) + (1 : Int32))) fun r27 V25 => (m_put V25 p1 ((8 : Int32) + a3) r27).bind fun V28 => lt_ (a3 + (1 : Int32)) fun v30 => m_turn_l10 p1 n10 V28 a2 v30)
def m_turn (V : Mm) (p1 : Int32) : Option Mm :=
  bi_ (m_get V p1 (8 : Int32)) fun r3 V1 => m_turn_l10 p1 200 V1 r3 (0 : Int32)
theorem hdX3_turn : w6_hd yX3_turn 1 := by decide +kernel
abbrev rmX3_turn : Room := { frames := 1, cells := 0, slots := 0, locals := 23 }
set_option maxHeartbeats 4000000 in
set_option maxRecDepth 100000 in
theorem ctm_turn (l : Launch) (D : va_G) (g : Nat → ClassId) (ad : Nat → Nat) (V : Mm) (p1 : Int32) (V' : Mm) (hf : m_turn V p1 = some V')  : CTv l D g yX3_turn cX3_turn 4 rmX3_turn [.ref (ad 0), .int p1] (mw g ad V) (mw g ad V') := by
  intro sz
  refine w6_startv RX3 (by decide) (Nat.le_of_ble_eq_true rfl) rfl ?_
  intro p e s m below meth c A ls Q hx hb hown hts F I hl hret
  have hl : lv_has ls 4 [(0, .ref (ad 0)), (1, .int p1)] := hl
  have hJ41 : ∀ (V : Mm) (a2 : Int32) (H : Heap) (locs : List Loc) (ls : Array Slot), m_turn_j41 p1 V a2 = some V' → w6_I D (mw g ad V ++ []) A s H locs → lv_has ls 4 [(0, .ref (ad 0)), (1, .int p1), (2, .int a2)] → W p l e rmX3_turn s m ([.ref (ad 0), .int p1] : List Value).toArray below meth c H locs 0 0 Q (F0 m 41 ls []) := by
    intro V a2 H locs ls hf I hl
    unfold m_turn_j41 at hf
    refine lv_aload_n hx hb dX3_turn_41 rfl (lv_at hl 0 rfl) ?_
    refine lv_iload_n hx hb dX3_turn_42 rfl (lv_at hl 1 rfl) ?_
    refine lv_bipush (v := (13 : Int32)) hx hb dX3_turn_43 (by decide) ?_
    refine lv_iload_n hx hb dX3_turn_45 rfl (lv_at hl 2 rfl) ?_
    obtain ⟨V4, h5, hf⟩ := bn_e hf
    refine xz_Vv F I (ctm_put l D g ad V p1 (13 : Int32) a2 V4 h5 ) (lw_V q756 q758 qs20 q50 q759) hdX3_put rfl (Nat.le_of_ble_eq_true rfl) (Nat.le_of_ble_eq_true rfl) (w6_recv F I mo_ob rfl) rfl hl.1 [] rfl (Nat.le_of_ble_eq_true rfl) dX3_turn_46 ⟨Nat.le_of_ble_eq_true rfl, Nat.le_of_ble_eq_true rfl⟩ (fun H locs I => ?_)
    refine lv_aload_n hx hb dX3_turn_49 rfl (lv_at hl 0 rfl) ?_
    refine lv_iload_n hx hb dX3_turn_50 rfl (lv_at hl 1 rfl) ?_
    refine lv_bipush (v := (6 : Int32)) hx hb dX3_turn_51 (by decide) ?_
    refine lv_aload_n hx hb dX3_turn_53 rfl (lv_at hl 0 rfl) ?_
    refine lv_iload_n hx hb dX3_turn_54 rfl (lv_at hl 1 rfl) ?_
    refine lv_bipush (v := (6 : Int32)) hx hb dX3_turn_55 (by decide) ?_
    obtain ⟨r8, V6, h7, hf⟩ := bi_e hf
    refine xz_Vi F I (ctm_get l D g ad V4 p1 (6 : Int32) r8 V6 h7 ) (lw_V q869 q871 qs25 q50 q872) hdX3_get rfl (Nat.le_of_ble_eq_true rfl) (Nat.le_of_ble_eq_true rfl) (w6_recv F I mo_ob rfl) rfl hl.1 [.int (6 : Int32), .int p1, .ref (ad 0)] rfl (Nat.le_of_ble_eq_true rfl) dX3_turn_57 ⟨Nat.le_of_ble_eq_true rfl, Nat.le_of_ble_eq_true rfl⟩ (fun H locs I => ?_)
    refine lv_iconst (v := (1 : Int32)) hx hb dX3_turn_60 (by decide) ?_
    refine lv_iadd hx hb dX3_turn_61 ?_
    obtain ⟨V9, h10, hf⟩ := bn_e hf
    refine xz_Vv F I (ctm_put l D g ad V6 p1 (6 : Int32) (r8 + (1 : Int32)) V9 h10 ) (lw_V q756 q758 qs20 q50 q759) hdX3_put rfl (Nat.le_of_ble_eq_true rfl) (Nat.le_of_ble_eq_true rfl) (w6_recv F I mo_ob rfl) rfl hl.1 [] rfl (Nat.le_of_ble_eq_true rfl) dX3_turn_62 ⟨Nat.le_of_ble_eq_true rfl, Nat.le_of_ble_eq_true rfl⟩ (fun H locs I => ?_)
    refine lv_aload_n hx hb dX3_turn_65 rfl (lv_at hl 0 rfl) ?_
    refine lv_iload_n hx hb dX3_turn_66 rfl (lv_at hl 1 rfl) ?_
    refine lv_iconst (v := (4 : Int32)) hx hb dX3_turn_67 (by decide) ?_
    obtain ⟨r13, V11, h12, hf⟩ := bi_e hf
    refine xz_Vi F I (ctm_get l D g ad V9 p1 (4 : Int32) r13 V11 h12 ) (lw_V q869 q871 qs25 q50 q872) hdX3_get rfl (Nat.le_of_ble_eq_true rfl) (Nat.le_of_ble_eq_true rfl) (w6_recv F I mo_ob rfl) rfl hl.1 [] rfl (Nat.le_of_ble_eq_true rfl) dX3_turn_68 ⟨Nat.le_of_ble_eq_true rfl, Nat.le_of_ble_eq_true rfl⟩ (fun H locs I => ?_)
    refine lv_iconst (v := (-1 : Int32)) hx hb dX3_turn_71 (by decide) ?_
    refine lv_icmp_eq (tgt := 91) hx hb dX3_turn_72 (by decide) (fun c => ?_) (fun c => ?_)
    · have hf := if_p c hf
      exact hret _ _ _ _ dX3_turn_91 (w6_mv (Option.some.inj hf) I)
    · have hf := if_n c hf
      refine lv_aload_n hx hb dX3_turn_75 rfl (lv_at hl 0 rfl) ?_
      refine lv_iload_n hx hb dX3_turn_76 rfl (lv_at hl 1 rfl) ?_
      refine lv_bipush (v := (11 : Int32)) hx hb dX3_turn_77 (by decide) ?_
      obtain ⟨r16, V14, h15, hf⟩ := bi_e hf
      refine xz_Vi F I (ctm_get l D g ad V11 p1 (11 : Int32) r16 V14 h15 ) (lw_V q869 q871 qs25 q50 q872) hdX3_get rfl (Nat.le_of_ble_eq_true rfl) (Nat.le_of_ble_eq_true rfl) (w6_recv F I mo_ob rfl) rfl hl.1 [] rfl (Nat.le_of_ble_eq_true rfl) dX3_turn_79 ⟨Nat.le_of_ble_eq_true rfl, Nat.le_of_ble_eq_true rfl⟩ (fun H locs I => ?_)
      refine lv_aload_n hx hb dX3_turn_82 rfl (lv_at hl 0 rfl) ?_
      refine w6_get F I mo_ob rfl in_X3 1 (by decide) q765 rfl rfl dX3_turn_83 ?_
      refine lv_iload_n hx hb dX3_turn_86 rfl (lv_at hl 1 rfl) ?_
      obtain ⟨g17, hf⟩ := gd_e hf
      refine w6_iald (j := p1.toNatClampNeg) F I (m_ar 2 2 (by decide) rfl) g17 rfl dX3_turn_87 ?_
      refine lv_icmp_eq (tgt := 92) hx hb dX3_turn_88 (by decide) (fun c => ?_) (fun c => ?_)
      · have hf := if_p c hf
        refine lv_aload_n hx hb dX3_turn_92 rfl (lv_at hl 0 rfl) ?_
        refine lv_iload_n hx hb dX3_turn_93 rfl (lv_at hl 1 rfl) ?_
        refine lv_bipush (v := (11 : Int32)) hx hb dX3_turn_94 (by decide) ?_
        refine lv_aload_n hx hb dX3_turn_96 rfl (lv_at hl 0 rfl) ?_
        refine lv_iload_n hx hb dX3_turn_97 rfl (lv_at hl 1 rfl) ?_
        refine lv_iconst (v := (4 : Int32)) hx hb dX3_turn_98 (by decide) ?_
        obtain ⟨r20, V18, h19, hf⟩ := bi_e hf
        refine xz_Vi F I (ctm_get l D g ad V14 p1 (4 : Int32) r20 V18 h19 ) (lw_V q869 q871 qs25 q50 q872) hdX3_get rfl (Nat.le_of_ble_eq_true rfl) (Nat.le_of_ble_eq_true rfl) (w6_recv F I mo_ob rfl) rfl hl.1 [.int (11 : Int32), .int p1, .ref (ad 0)] rfl (Nat.le_of_ble_eq_true rfl) dX3_turn_99 ⟨Nat.le_of_ble_eq_true rfl, Nat.le_of_ble_eq_true rfl⟩ (fun H locs I => ?_)
        obtain ⟨V21, h22, hf⟩ := bn_e hf
        refine xz_Vv F I (ctm_put l D g ad V18 p1 (11 : Int32) r20 V21 h22 ) (lw_V q756 q758 qs20 q50 q759) hdX3_put rfl (Nat.le_of_ble_eq_true rfl) (Nat.le_of_ble_eq_true rfl) (w6_recv F I mo_ob rfl) rfl hl.1 [] rfl (Nat.le_of_ble_eq_true rfl) dX3_turn_102 ⟨Nat.le_of_ble_eq_true rfl, Nat.le_of_ble_eq_true rfl⟩ (fun H locs I => ?_)
        refine lv_aload_n hx hb dX3_turn_105 rfl (lv_at hl 0 rfl) ?_
        refine lv_iload_n hx hb dX3_turn_106 rfl (lv_at hl 1 rfl) ?_
        refine lv_iconst (v := (4 : Int32)) hx hb dX3_turn_107 (by decide) ?_
        refine lv_iconst (v := (-1 : Int32)) hx hb dX3_turn_108 (by decide) ?_
        obtain ⟨V23, h24, hf⟩ := bn_e hf
        refine xz_Vv F I (ctm_put l D g ad V21 p1 (4 : Int32) (-1 : Int32) V23 h24 ) (lw_V q756 q758 qs20 q50 q759) hdX3_put rfl (Nat.le_of_ble_eq_true rfl) (Nat.le_of_ble_eq_true rfl) (w6_recv F I mo_ob rfl) rfl hl.1 [] rfl (Nat.le_of_ble_eq_true rfl) dX3_turn_109 ⟨Nat.le_of_ble_eq_true rfl, Nat.le_of_ble_eq_true rfl⟩ (fun H locs I => ?_)
        exact hret _ _ _ _ dX3_turn_112 (w6_mv (Option.some.inj hf) I)
      · have hf := if_n c hf
        exact hret _ _ _ _ dX3_turn_91 (w6_mv (Option.some.inj hf) I)
  have hL10 : ∀ (n10 : Nat) (V : Mm) (a2 : Int32) (a3 : Int32) (H : Heap) (locs : List Loc) (ls : Array Slot), m_turn_l10 p1 n10 V a2 a3 = some V' → w6_I D (mw g ad V ++ []) A s H locs → lv_has ls 4 [(0, .ref (ad 0)), (1, .int p1), (2, .int a2), (3, .int a3)] → W p l e rmX3_turn s m ([.ref (ad 0), .int p1] : List Value).toArray below meth c H locs 0 0 Q (F0 m 10 ls []) := by
    intro n10
    induction n10 with
    | zero =>
      intro V a2 a3 H locs ls hf
      rw [m_turn_l10] at hf
      cases hf
    | succ n10 ih10 =>
      intro V a2 a3 H locs ls hf I hl
      rw [m_turn_l10] at hf
      refine lv_iload_n hx hb dX3_turn_10 rfl (lv_at hl 3 rfl) ?_
      refine lv_iconst (v := (5 : Int32)) hx hb dX3_turn_11 (by decide) ?_
      refine lv_icmp_ge (tgt := 41) hx hb dX3_turn_12 (by decide) (fun c => ?_) (fun c => ?_)
      · have hf := if_p c hf
        exact hJ41 V a2 _ _ ls hf I (lv_sub hl [0, 1, 2] rfl)
      · have hf := if_n c hf
        refine lv_aload_n hx hb dX3_turn_15 rfl (lv_at hl 0 rfl) ?_
        refine lv_iload_n hx hb dX3_turn_16 rfl (lv_at hl 1 rfl) ?_
        refine lv_bipush (v := (8 : Int32)) hx hb dX3_turn_17 (by decide) ?_
        refine lv_iload_n hx hb dX3_turn_19 rfl (lv_at hl 3 rfl) ?_
        refine lv_iadd hx hb dX3_turn_20 ?_
        refine lv_aload_n hx hb dX3_turn_21 rfl (lv_at hl 0 rfl) ?_
        refine lv_iload_n hx hb dX3_turn_22 rfl (lv_at hl 1 rfl) ?_
        refine lv_bipush (v := (8 : Int32)) hx hb dX3_turn_23 (by decide) ?_
        refine lv_iload_n hx hb dX3_turn_25 rfl (lv_at hl 3 rfl) ?_
        refine lv_iadd hx hb dX3_turn_26 ?_
        refine lv_iconst (v := (1 : Int32)) hx hb dX3_turn_27 (by decide) ?_
        refine lv_iadd hx hb dX3_turn_28 ?_
        obtain ⟨r27, V25, h26, hf⟩ := bi_e hf
        refine xz_Vi F I (ctm_get l D g ad V p1 (((8 : Int32) + a3) + (1 : Int32)) r27 V25 h26 ) (lw_V q869 q871 qs25 q50 q872) hdX3_get rfl (Nat.le_of_ble_eq_true rfl) (Nat.le_of_ble_eq_true rfl) (w6_recv F I mo_ob rfl) rfl hl.1 [.int ((8 : Int32) + a3), .int p1, .ref (ad 0)] rfl (Nat.le_of_ble_eq_true rfl) dX3_turn_29 ⟨Nat.le_of_ble_eq_true rfl, Nat.le_of_ble_eq_true rfl⟩ (fun H locs I => ?_)
        obtain ⟨V28, h29, hf⟩ := bn_e hf
        refine xz_Vv F I (ctm_put l D g ad V25 p1 ((8 : Int32) + a3) r27 V28 h29 ) (lw_V q756 q758 qs20 q50 q759) hdX3_put rfl (Nat.le_of_ble_eq_true rfl) (Nat.le_of_ble_eq_true rfl) (w6_recv F I mo_ob rfl) rfl hl.1 [] rfl (Nat.le_of_ble_eq_true rfl) dX3_turn_32 ⟨Nat.le_of_ble_eq_true rfl, Nat.le_of_ble_eq_true rfl⟩ (fun H locs I => ?_)
        obtain ⟨v30, ev30, hf⟩ := lt_e hf
        refine lv_iinc (v := v30) (lv' := [(3, .int v30), (0, .ref (ad 0)), (1, .int p1), (2, .int a2)]) hx hb dX3_turn_35 hl (k := 3) rfl (by rw [ev30]; rfl) (by decide) rfl (fun ls hl => ?_)
        refine lv_goto (tgt := 10) hx hb dX3_turn_38 (by decide) ?_
        exact ih10 V28 a2 v30 _ _ ls hf I (lv_sub hl [1, 2, 3, 0] rfl)
  unfold m_turn at hf
  refine lv_aload_n hx hb dX3_turn_0 rfl (lv_at hl 0 rfl) ?_
  refine lv_iload_n hx hb dX3_turn_1 rfl (lv_at hl 1 rfl) ?_
  refine lv_bipush (v := (8 : Int32)) hx hb dX3_turn_2 (by decide) ?_
  obtain ⟨r3, V1, h2, hf⟩ := bi_e hf
  refine xz_Vi F I (ctm_get l D g ad V p1 (8 : Int32) r3 V1 h2 ) (lw_V q869 q871 qs25 q50 q872) hdX3_get rfl (Nat.le_of_ble_eq_true rfl) (Nat.le_of_ble_eq_true rfl) (w6_recv F I mo_ob rfl) rfl hl.1 [] rfl (Nat.le_of_ble_eq_true rfl) dX3_turn_4 ⟨Nat.le_of_ble_eq_true rfl, Nat.le_of_ble_eq_true rfl⟩ (fun H locs I => ?_)
  refine lv_istore_n (lv' := [(2, .int r3), (0, .ref (ad 0)), (1, .int p1)]) hx hb dX3_turn_7 rfl hl (by decide) rfl (fun ls hl => ?_)
  refine lv_iconst (v := (0 : Int32)) hx hb dX3_turn_8 (by decide) ?_
  refine lv_istore_n (lv' := [(3, .int (0 : Int32)), (2, .int r3), (0, .ref (ad 0)), (1, .int p1)]) hx hb dX3_turn_9 rfl hl (by decide) rfl (fun ls hl => ?_)
  exact hL10 200 V1 r3 (0 : Int32) _ _ ls hf I (lv_sub hl [2, 3, 1, 0] rfl)
def m_isLastSet (V : Mm) : Option (Int32 × Mm) :=
  if (V.1 3 3) ≤ (1 : Int32) then (some ((0 : Int32), V)) else (bi_ (m_get V (0 : Int32) (1 : Int32)) fun r3 V1 => if r3 = ((V1.1 3 3) - (1 : Int32)) then (bi_ (m_get V1 (1 : Int32) (1 : Int32)) fun r6 V4 => if r6 = ((V4.1 3 3) - (1 : Int32)) then (some ((1 : Int32), V4)) else (some ((0 : Int32), V4))) else (some ((0 : Int32), V1)))
theorem hdX3_isLastSet : w6_hd yX3_isLastSet 0 := by decide +kernel
abbrev rmX3_isLastSet : Room := { frames := 1, cells := 0, slots := 0, locals := 22 }
set_option maxHeartbeats 4000000 in
set_option maxRecDepth 100000 in
theorem ctm_isLastSet (l : Launch) (D : va_G) (g : Nat → ClassId) (ad : Nat → Nat) (V : Mm) (r : Int32) (V' : Mm) (hf : m_isLastSet V = some (r, V'))  : CTi l D g yX3_isLastSet cX3_isLastSet 1 .boolean rmX3_isLastSet [.ref (ad 0)] (mw g ad V) (mw g ad V') r := by
  intro sz
  refine w6_starti RX3 (by decide) (Nat.le_of_ble_eq_true rfl) rfl ?_
  intro p e s m below meth c A ls Q hx hb hown hts F I hl hret
  have hl : lv_has ls 1 [(0, .ref (ad 0))] := hl
  unfold m_isLastSet at hf
  refine lv_aload_n hx hb dX3_isLastSet_0 rfl (lv_at hl 0 rfl) ?_
  refine w6_get F I mo_ob rfl in_X3 2 (by decide) q766 rfl rfl dX3_isLastSet_1 ?_
  refine lv_iconst (v := (3 : Int32)) hx hb dX3_isLastSet_4 (by decide) ?_
  refine w6_iald (j := 3) F I (m_ar 3 6 (by decide) rfl) (show ix_ (3 : Int32) 6 by decide) rfl dX3_isLastSet_5 ?_
  refine lv_iconst (v := (1 : Int32)) hx hb dX3_isLastSet_6 (by decide) ?_
  refine lv_icmp_le (tgt := 48) hx hb dX3_isLastSet_7 (by decide) (fun c => ?_) (fun c => ?_)
  · have hf := if_p c hf
    refine lv_iconst (v := (0 : Int32)) hx hb dX3_isLastSet_48 (by decide) ?_
    exact hret _ _ _ _ _ dX3_isLastSet_49 (w6_mv (so_e hf).2 I) (so_e hf).1 rfl
  · have hf := if_n c hf
    refine lv_aload_n hx hb dX3_isLastSet_10 rfl (lv_at hl 0 rfl) ?_
    refine lv_iconst (v := (0 : Int32)) hx hb dX3_isLastSet_11 (by decide) ?_
    refine lv_iconst (v := (1 : Int32)) hx hb dX3_isLastSet_12 (by decide) ?_
    obtain ⟨r3, V1, h2, hf⟩ := bi_e hf
    refine xz_Vi F I (ctm_get l D g ad V (0 : Int32) (1 : Int32) r3 V1 h2 ) (lw_V q869 q871 qs25 q50 q872) hdX3_get rfl (Nat.le_of_ble_eq_true rfl) (Nat.le_of_ble_eq_true rfl) (w6_recv F I mo_ob rfl) rfl hl.1 [] rfl (Nat.le_of_ble_eq_true rfl) dX3_isLastSet_13 ⟨Nat.le_of_ble_eq_true rfl, Nat.le_of_ble_eq_true rfl⟩ (fun H locs I => ?_)
    refine lv_aload_n hx hb dX3_isLastSet_16 rfl (lv_at hl 0 rfl) ?_
    refine w6_get F I mo_ob rfl in_X3 2 (by decide) q766 rfl rfl dX3_isLastSet_17 ?_
    refine lv_iconst (v := (3 : Int32)) hx hb dX3_isLastSet_20 (by decide) ?_
    refine w6_iald (j := 3) F I (m_ar 3 6 (by decide) rfl) (show ix_ (3 : Int32) 6 by decide) rfl dX3_isLastSet_21 ?_
    refine lv_iconst (v := (1 : Int32)) hx hb dX3_isLastSet_22 (by decide) ?_
    refine lv_isub hx hb dX3_isLastSet_23 ?_
    refine lv_icmp_ne (tgt := 48) hx hb dX3_isLastSet_24 (by decide) (fun c => ?_) (fun c => ?_)
    · have hf := if_n c hf
      refine lv_iconst (v := (0 : Int32)) hx hb dX3_isLastSet_48 (by decide) ?_
      exact hret _ _ _ _ _ dX3_isLastSet_49 (w6_mv (so_e hf).2 I) (so_e hf).1 rfl
    · have hf := if_p c hf
      refine lv_aload_n hx hb dX3_isLastSet_27 rfl (lv_at hl 0 rfl) ?_
      refine lv_iconst (v := (1 : Int32)) hx hb dX3_isLastSet_28 (by decide) ?_
      refine lv_iconst (v := (1 : Int32)) hx hb dX3_isLastSet_29 (by decide) ?_
      obtain ⟨r6, V4, h5, hf⟩ := bi_e hf
      refine xz_Vi F I (ctm_get l D g ad V1 (1 : Int32) (1 : Int32) r6 V4 h5 ) (lw_V q869 q871 qs25 q50 q872) hdX3_get rfl (Nat.le_of_ble_eq_true rfl) (Nat.le_of_ble_eq_true rfl) (w6_recv F I mo_ob rfl) rfl hl.1 [] rfl (Nat.le_of_ble_eq_true rfl) dX3_isLastSet_30 ⟨Nat.le_of_ble_eq_true rfl, Nat.le_of_ble_eq_true rfl⟩ (fun H locs I => ?_)
      refine lv_aload_n hx hb dX3_isLastSet_33 rfl (lv_at hl 0 rfl) ?_
      refine w6_get F I mo_ob rfl in_X3 2 (by decide) q766 rfl rfl dX3_isLastSet_34 ?_
      refine lv_iconst (v := (3 : Int32)) hx hb dX3_isLastSet_37 (by decide) ?_
      refine w6_iald (j := 3) F I (m_ar 3 6 (by decide) rfl) (show ix_ (3 : Int32) 6 by decide) rfl dX3_isLastSet_38 ?_
      refine lv_iconst (v := (1 : Int32)) hx hb dX3_isLastSet_39 (by decide) ?_
      refine lv_isub hx hb dX3_isLastSet_40 ?_
      refine lv_icmp_ne (tgt := 48) hx hb dX3_isLastSet_41 (by decide) (fun c => ?_) (fun c => ?_)
      · have hf := if_n c hf
        refine lv_iconst (v := (0 : Int32)) hx hb dX3_isLastSet_48 (by decide) ?_
        exact hret _ _ _ _ _ dX3_isLastSet_49 (w6_mv (so_e hf).2 I) (so_e hf).1 rfl
      · have hf := if_p c hf
        refine lv_iconst (v := (1 : Int32)) hx hb dX3_isLastSet_44 (by decide) ?_
        refine lv_goto (tgt := 49) hx hb dX3_isLastSet_45 (by decide) ?_
        exact hret _ _ _ _ _ dX3_isLastSet_49 (w6_mv (so_e hf).2 I) (so_e hf).1 rfl
def m_goal (V : Mm) : Option (Int32 × Mm) :=
  bi_ (m_isLastSet V) fun r3 V1 => if r3 = (0 : Int32) then (some ((V1.1 3 0), V1)) else (some ((V1.1 3 2), V1))
theorem hdX3_goal : w6_hd yX3_goal 0 := by decide +kernel
abbrev rmX3_goal : Room := { frames := 2, cells := 0, slots := 0, locals := 42 }
set_option maxHeartbeats 4000000 in
set_option maxRecDepth 100000 in
theorem ctm_goal (l : Launch) (D : va_G) (g : Nat → ClassId) (ad : Nat → Nat) (V : Mm) (r : Int32) (V' : Mm) (hf : m_goal V = some (r, V'))  : CTi l D g yX3_goal cX3_goal 1 .int rmX3_goal [.ref (ad 0)] (mw g ad V) (mw g ad V') r := by
  intro sz
  refine w6_starti RX3 (by decide) (Nat.le_of_ble_eq_true rfl) rfl ?_
  intro p e s m below meth c A ls Q hx hb hown hts F I hl hret
  have hl : lv_has ls 1 [(0, .ref (ad 0))] := hl
  unfold m_goal at hf
  refine lv_aload_n hx hb dX3_goal_0 rfl (lv_at hl 0 rfl) ?_
  obtain ⟨r3, V1, h2, hf⟩ := bi_e hf
  refine xz_Vi F I (ctm_isLastSet l D g ad V r3 V1 h2 ) (lw_V q885 q887 qs28 q50 q888) hdX3_isLastSet rfl (Nat.le_of_ble_eq_true rfl) (Nat.le_of_ble_eq_true rfl) (w6_recv F I mo_ob rfl) rfl hl.1 [] rfl (Nat.le_of_ble_eq_true rfl) dX3_goal_1 ⟨Nat.le_of_ble_eq_true rfl, Nat.le_of_ble_eq_true rfl⟩ (fun H locs I => ?_)
  refine lv_if_eq (tgt := 16) hx hb dX3_goal_4 (by decide) (fun c => ?_) (fun c => ?_)
  · have hf := if_p c hf
    refine lv_aload_n hx hb dX3_goal_16 rfl (lv_at hl 0 rfl) ?_
    refine w6_get F I mo_ob rfl in_X3 2 (by decide) q766 rfl rfl dX3_goal_17 ?_
    refine lv_iconst (v := (0 : Int32)) hx hb dX3_goal_20 (by decide) ?_
    refine w6_iald (j := 0) F I (m_ar 3 6 (by decide) rfl) (show ix_ (0 : Int32) 6 by decide) rfl dX3_goal_21 ?_
    exact hret _ _ _ _ _ dX3_goal_22 (w6_mv (so_e hf).2 I) (so_e hf).1 rfl
  · have hf := if_n c hf
    refine lv_aload_n hx hb dX3_goal_7 rfl (lv_at hl 0 rfl) ?_
    refine w6_get F I mo_ob rfl in_X3 2 (by decide) q766 rfl rfl dX3_goal_8 ?_
    refine lv_iconst (v := (2 : Int32)) hx hb dX3_goal_11 (by decide) ?_
    refine w6_iald (j := 2) F I (m_ar 3 6 (by decide) rfl) (show ix_ (2 : Int32) 6 by decide) rfl dX3_goal_12 ?_
    refine lv_goto (tgt := 22) hx hb dX3_goal_13 (by decide) ?_
    exact hret _ _ _ _ _ dX3_goal_22 (w6_mv (so_e hf).2 I) (so_e hf).1 rfl
def m_wins_j12 (p1 : Int32) (p2 : Int32) (p3 : Int32) (V : Mm)   : Option (Int32 × Mm) :=
  if p1 < (V.1 3 1) then (some ((0 : Int32), V)) else (some ((1 : Int32), V))
def m_wins (V : Mm) (p1 : Int32) (p2 : Int32) (p3 : Int32) : Option (Int32 × Mm) :=
  if p1 < p3 then (m_wins_j12 p1 p2 p3 V) else (if (2 : Int32) ≤ (p1 - p2) then (some ((1 : Int32), V)) else (m_wins_j12 p1 p2 p3 V))
theorem hdX3_wins : w6_hd yX3_wins 3 := by decide +kernel
abbrev rmX3_wins : Room := { frames := 0, cells := 0, slots := 0, locals := 0 }
set_option maxHeartbeats 4000000 in
set_option maxRecDepth 100000 in
theorem ctm_wins (l : Launch) (D : va_G) (g : Nat → ClassId) (ad : Nat → Nat) (V : Mm) (p1 : Int32) (p2 : Int32) (p3 : Int32) (r : Int32) (V' : Mm) (hf : m_wins V p1 p2 p3 = some (r, V'))  : CTi l D g yX3_wins cX3_wins 4 .boolean rmX3_wins [.ref (ad 0), .int p1, .int p2, .int p3] (mw g ad V) (mw g ad V') r := by
  intro sz
  refine w6_starti RX3 (by decide) (Nat.le_of_ble_eq_true rfl) rfl ?_
  intro p e s m below meth c A ls Q hx hb hown hts F I hl hret
  have hl : lv_has ls 4 [(0, .ref (ad 0)), (1, .int p1), (2, .int p2), (3, .int p3)] := hl
  have hJ12 : ∀ (V : Mm)  (H : Heap) (locs : List Loc) (ls : Array Slot), m_wins_j12 p1 p2 p3 V = some (r, V') → w6_I D (mw g ad V ++ []) A s H locs → lv_has ls 4 [(0, .ref (ad 0)), (1, .int p1)] → W p l e rmX3_wins s m ([.ref (ad 0), .int p1, .int p2, .int p3] : List Value).toArray below meth c H locs 0 0 Q (F0 m 12 ls []) := by
    intro V H locs ls hf I hl
    unfold m_wins_j12 at hf
    refine lv_iload_n hx hb dX3_wins_12 rfl (lv_at hl 1 rfl) ?_
    refine lv_aload_n hx hb dX3_wins_13 rfl (lv_at hl 0 rfl) ?_
    refine w6_get F I mo_ob rfl in_X3 2 (by decide) q766 rfl rfl dX3_wins_14 ?_
    refine lv_iconst (v := (1 : Int32)) hx hb dX3_wins_17 (by decide) ?_
    refine w6_iald (j := 1) F I (m_ar 3 6 (by decide) rfl) (show ix_ (1 : Int32) 6 by decide) rfl dX3_wins_18 ?_
    refine lv_icmp_lt (tgt := 26) hx hb dX3_wins_19 (by decide) (fun c => ?_) (fun c => ?_)
    · have hf := if_p c hf
      refine lv_iconst (v := (0 : Int32)) hx hb dX3_wins_26 (by decide) ?_
      exact hret _ _ _ _ _ dX3_wins_27 (w6_mv (so_e hf).2 I) (so_e hf).1 rfl
    · have hf := if_n c hf
      refine lv_iconst (v := (1 : Int32)) hx hb dX3_wins_22 (by decide) ?_
      refine lv_goto (tgt := 27) hx hb dX3_wins_23 (by decide) ?_
      exact hret _ _ _ _ _ dX3_wins_27 (w6_mv (so_e hf).2 I) (so_e hf).1 rfl
  unfold m_wins at hf
  refine lv_iload_n hx hb dX3_wins_0 rfl (lv_at hl 1 rfl) ?_
  refine lv_iload_n hx hb dX3_wins_1 rfl (lv_at hl 3 rfl) ?_
  refine lv_icmp_lt (tgt := 12) hx hb dX3_wins_2 (by decide) (fun c => ?_) (fun c => ?_)
  · have hf := if_p c hf
    exact hJ12 V _ _ ls hf I (lv_sub hl [0, 1] rfl)
  · have hf := if_n c hf
    refine lv_iload_n hx hb dX3_wins_5 rfl (lv_at hl 1 rfl) ?_
    refine lv_iload_n hx hb dX3_wins_6 rfl (lv_at hl 2 rfl) ?_
    refine lv_isub hx hb dX3_wins_7 ?_
    refine lv_iconst (v := (2 : Int32)) hx hb dX3_wins_8 (by decide) ?_
    refine lv_icmp_ge (tgt := 22) hx hb dX3_wins_9 (by decide) (fun c => ?_) (fun c => ?_)
    · have hf := if_p c hf
      refine lv_iconst (v := (1 : Int32)) hx hb dX3_wins_22 (by decide) ?_
      refine lv_goto (tgt := 27) hx hb dX3_wins_23 (by decide) ?_
      exact hret _ _ _ _ _ dX3_wins_27 (w6_mv (so_e hf).2 I) (so_e hf).1 rfl
    · have hf := if_n c hf
      exact hJ12 V _ _ ls hf I (lv_sub hl [0, 1] rfl)
def m_point_j128 (p1 : Int32) (V : Mm)  (a2 : Int32) : Option (Int32 × Mm) :=
  bi_ (m_get V p1 (0 : Int32)) fun r23 V21 => bi_ (m_get V21 ((1 : Int32) - p1) (0 : Int32)) fun r26 V24 => bi_ (m_wins V24 r23 r26 a2) fun r29 V27 => if r29 = (0 : Int32) then (some ((0 : Int32), V27)) else (lt_ (mset V27 6 1 (0 : Int32)) fun V30 => lt_ (mset V30 6 2 (-1 : Int32)) fun V31 => lt_ (mset V31 6 5 p1) fun V32 => bi_ (m_get V32 p1 (1 : Int32)) fun r35 V33 => (m_put V33 p1 (1 : Int32) (r35 + (1 : Int32))).bind fun V36 => bi_ (m_get V36 p1 (1 : Int32)) fun r40 V38 => if (V38.1 3 3) ≤ r40 then (lt_ (mset V38 6 4 p1) fun V41 => some ((2 : Int32), V41)) else (some ((1 : Int32), V38)))
def m_point (V : Mm) (p1 : Int32) : Option (Int32 × Mm) :=
  bi_ (m_goal V) fun r3 V1 => lt_ (mset V1 6 3 ((V1.1 6 3) + (1 : Int32))) fun V4 => (m_put V4 (0 : Int32) (7 : Int32) (0 : Int32)).bind fun V5 => (m_put V5 (1 : Int32) (7 : Int32) (0 : Int32)).bind fun V7 => bi_ (m_get V7 p1 (0 : Int32)) fun r11 V9 => (m_put V9 p1 (0 : Int32) (r11 + (1 : Int32))).bind fun V12 => if (V12.1 6 2) = p1 then (bi_ (m_get V12 p1 (5 : Int32)) fun r44 V42 => (m_put V42 p1 (5 : Int32) (r44 + (1 : Int32))).bind fun V45 => bi_ (m_get V45 p1 (8 : Int32)) fun r49 V47 => bi_ (m_get V47 p1 ((38 : Int32) + r49)) fun r52 V50 => (m_put V50 p1 ((38 : Int32) + r49) (r52 + (1 : Int32))).bind fun V53 => m_point_j128 p1 V53 r3) else ((m_put V12 ((1 : Int32) - p1) (5 : Int32) (0 : Int32)).bind fun V14 => (m_put V14 p1 (5 : Int32) (0 : Int32)).bind fun V16 => lt_ (mset V16 6 2 p1) fun V18 => (m_turn V18 p1).bind fun V19 => m_point_j128 p1 V19 r3)
theorem hdX3_point : w6_hd yX3_point 1 := by decide +kernel
abbrev rmX3_point : Room := { frames := 3, cells := 0, slots := 0, locals := 62 }
set_option maxHeartbeats 4000000 in
set_option maxRecDepth 100000 in
theorem ctm_point (l : Launch) (D : va_G) (g : Nat → ClassId) (ad : Nat → Nat) (V : Mm) (p1 : Int32) (r : Int32) (V' : Mm) (hf : m_point V p1 = some (r, V'))  : CTi l D g yX3_point cX3_point 4 .int rmX3_point [.ref (ad 0), .int p1] (mw g ad V) (mw g ad V') r := by
  intro sz
  refine w6_starti RX3 (by decide) (Nat.le_of_ble_eq_true rfl) rfl ?_
  intro p e s m below meth c A ls Q hx hb hown hts F I hl hret
  have hl : lv_has ls 4 [(0, .ref (ad 0)), (1, .int p1)] := hl
  have hJ128 : ∀ (V : Mm) (a2 : Int32) (H : Heap) (locs : List Loc) (ls : Array Slot), m_point_j128 p1 V a2 = some (r, V') → w6_I D (mw g ad V ++ []) A s H locs → lv_has ls 4 [(0, .ref (ad 0)), (1, .int p1), (2, .int a2)] → W p l e rmX3_point s m ([.ref (ad 0), .int p1] : List Value).toArray below meth c H locs 0 0 Q (F0 m 128 ls []) := by
    intro V a2 H locs ls hf I hl
    unfold m_point_j128 at hf
    refine lv_aload_n hx hb dX3_point_128 rfl (lv_at hl 0 rfl) ?_
    refine lv_aload_n hx hb dX3_point_129 rfl (lv_at hl 0 rfl) ?_
    refine lv_iload_n hx hb dX3_point_130 rfl (lv_at hl 1 rfl) ?_
    refine lv_iconst (v := (0 : Int32)) hx hb dX3_point_131 (by decide) ?_
    obtain ⟨r23, V21, h22, hf⟩ := bi_e hf
    refine xz_Vi F I (ctm_get l D g ad V p1 (0 : Int32) r23 V21 h22 ) (lw_V q869 q871 qs25 q50 q872) hdX3_get rfl (Nat.le_of_ble_eq_true rfl) (Nat.le_of_ble_eq_true rfl) (w6_recv F I mo_ob rfl) rfl hl.1 [.ref (ad 0)] rfl (Nat.le_of_ble_eq_true rfl) dX3_point_132 ⟨Nat.le_of_ble_eq_true rfl, Nat.le_of_ble_eq_true rfl⟩ (fun H locs I => ?_)
    refine lv_aload_n hx hb dX3_point_135 rfl (lv_at hl 0 rfl) ?_
    refine lv_iconst (v := (1 : Int32)) hx hb dX3_point_136 (by decide) ?_
    refine lv_iload_n hx hb dX3_point_137 rfl (lv_at hl 1 rfl) ?_
    refine lv_isub hx hb dX3_point_138 ?_
    refine lv_iconst (v := (0 : Int32)) hx hb dX3_point_139 (by decide) ?_
    obtain ⟨r26, V24, h25, hf⟩ := bi_e hf
    refine xz_Vi F I (ctm_get l D g ad V21 ((1 : Int32) - p1) (0 : Int32) r26 V24 h25 ) (lw_V q869 q871 qs25 q50 q872) hdX3_get rfl (Nat.le_of_ble_eq_true rfl) (Nat.le_of_ble_eq_true rfl) (w6_recv F I mo_ob rfl) rfl hl.1 [.int r23, .ref (ad 0)] rfl (Nat.le_of_ble_eq_true rfl) dX3_point_140 ⟨Nat.le_of_ble_eq_true rfl, Nat.le_of_ble_eq_true rfl⟩ (fun H locs I => ?_)
    refine lv_iload_n hx hb dX3_point_143 rfl (lv_at hl 2 rfl) ?_
    obtain ⟨r29, V27, h28, hf⟩ := bi_e hf
    refine xz_Vi F I (ctm_wins l D g ad V24 r23 r26 a2 r29 V27 h28 ) (lw_V q893 q895 qs30 q50 q896) hdX3_wins rfl (Nat.le_of_ble_eq_true rfl) (Nat.le_of_ble_eq_true rfl) (w6_recv F I mo_ob rfl) rfl hl.1 [] rfl (Nat.le_of_ble_eq_true rfl) dX3_point_144 ⟨Nat.le_of_ble_eq_true rfl, Nat.le_of_ble_eq_true rfl⟩ (fun H locs I => ?_)
    refine lv_if_ne (tgt := 152) hx hb dX3_point_147 (by decide) (fun c => ?_) (fun c => ?_)
    · have hf := if_n c hf
      refine lv_aload_n hx hb dX3_point_152 rfl (lv_at hl 0 rfl) ?_
      refine w6_get F I mo_ob rfl in_X3 5 (by decide) q769 rfl rfl dX3_point_153 ?_
      refine lv_iconst (v := (1 : Int32)) hx hb dX3_point_156 (by decide) ?_
      refine lv_iconst (v := (0 : Int32)) hx hb dX3_point_157 (by decide) ?_
      obtain ⟨V30, eV30, hf⟩ := lt_e hf
      refine w6_iast (j := 1) msh_lc F I (m_ar 6 106 (by decide) rfl) (show ix_ (1 : Int32) 106 by decide) rfl dX3_point_158 eV30 (fun H locs I => ?_)
      refine lv_aload_n hx hb dX3_point_159 rfl (lv_at hl 0 rfl) ?_
      refine w6_get F I mo_ob rfl in_X3 5 (by decide) q769 rfl rfl dX3_point_160 ?_
      refine lv_iconst (v := (2 : Int32)) hx hb dX3_point_163 (by decide) ?_
      refine lv_iconst (v := (-1 : Int32)) hx hb dX3_point_164 (by decide) ?_
      obtain ⟨V31, eV31, hf⟩ := lt_e hf
      refine w6_iast (j := 2) msh_lc F I (m_ar 6 106 (by decide) rfl) (show ix_ (2 : Int32) 106 by decide) rfl dX3_point_165 eV31 (fun H locs I => ?_)
      refine lv_aload_n hx hb dX3_point_166 rfl (lv_at hl 0 rfl) ?_
      refine w6_get F I mo_ob rfl in_X3 5 (by decide) q769 rfl rfl dX3_point_167 ?_
      refine lv_iconst (v := (5 : Int32)) hx hb dX3_point_170 (by decide) ?_
      refine lv_iload_n hx hb dX3_point_171 rfl (lv_at hl 1 rfl) ?_
      obtain ⟨V32, eV32, hf⟩ := lt_e hf
      refine w6_iast (j := 5) msh_lc F I (m_ar 6 106 (by decide) rfl) (show ix_ (5 : Int32) 106 by decide) rfl dX3_point_172 eV32 (fun H locs I => ?_)
      refine lv_aload_n hx hb dX3_point_173 rfl (lv_at hl 0 rfl) ?_
      refine lv_iload_n hx hb dX3_point_174 rfl (lv_at hl 1 rfl) ?_
      refine lv_iconst (v := (1 : Int32)) hx hb dX3_point_175 (by decide) ?_
      refine lv_aload_n hx hb dX3_point_176 rfl (lv_at hl 0 rfl) ?_
      refine lv_iload_n hx hb dX3_point_177 rfl (lv_at hl 1 rfl) ?_
      refine lv_iconst (v := (1 : Int32)) hx hb dX3_point_178 (by decide) ?_
      obtain ⟨r35, V33, h34, hf⟩ := bi_e hf
      refine xz_Vi F I (ctm_get l D g ad V32 p1 (1 : Int32) r35 V33 h34 ) (lw_V q869 q871 qs25 q50 q872) hdX3_get rfl (Nat.le_of_ble_eq_true rfl) (Nat.le_of_ble_eq_true rfl) (w6_recv F I mo_ob rfl) rfl hl.1 [.int (1 : Int32), .int p1, .ref (ad 0)] rfl (Nat.le_of_ble_eq_true rfl) dX3_point_179 ⟨Nat.le_of_ble_eq_true rfl, Nat.le_of_ble_eq_true rfl⟩ (fun H locs I => ?_)
      refine lv_iconst (v := (1 : Int32)) hx hb dX3_point_182 (by decide) ?_
      refine lv_iadd hx hb dX3_point_183 ?_
      obtain ⟨V36, h37, hf⟩ := bn_e hf
      refine xz_Vv F I (ctm_put l D g ad V33 p1 (1 : Int32) (r35 + (1 : Int32)) V36 h37 ) (lw_V q756 q758 qs20 q50 q759) hdX3_put rfl (Nat.le_of_ble_eq_true rfl) (Nat.le_of_ble_eq_true rfl) (w6_recv F I mo_ob rfl) rfl hl.1 [] rfl (Nat.le_of_ble_eq_true rfl) dX3_point_184 ⟨Nat.le_of_ble_eq_true rfl, Nat.le_of_ble_eq_true rfl⟩ (fun H locs I => ?_)
      refine lv_aload_n hx hb dX3_point_187 rfl (lv_at hl 0 rfl) ?_
      refine lv_iload_n hx hb dX3_point_188 rfl (lv_at hl 1 rfl) ?_
      refine lv_iconst (v := (1 : Int32)) hx hb dX3_point_189 (by decide) ?_
      obtain ⟨r40, V38, h39, hf⟩ := bi_e hf
      refine xz_Vi F I (ctm_get l D g ad V36 p1 (1 : Int32) r40 V38 h39 ) (lw_V q869 q871 qs25 q50 q872) hdX3_get rfl (Nat.le_of_ble_eq_true rfl) (Nat.le_of_ble_eq_true rfl) (w6_recv F I mo_ob rfl) rfl hl.1 [] rfl (Nat.le_of_ble_eq_true rfl) dX3_point_190 ⟨Nat.le_of_ble_eq_true rfl, Nat.le_of_ble_eq_true rfl⟩ (fun H locs I => ?_)
      refine lv_aload_n hx hb dX3_point_193 rfl (lv_at hl 0 rfl) ?_
      refine w6_get F I mo_ob rfl in_X3 2 (by decide) q766 rfl rfl dX3_point_194 ?_
      refine lv_iconst (v := (3 : Int32)) hx hb dX3_point_197 (by decide) ?_
      refine w6_iald (j := 3) F I (m_ar 3 6 (by decide) rfl) (show ix_ (3 : Int32) 6 by decide) rfl dX3_point_198 ?_
      refine lv_icmp_ge (tgt := 204) hx hb dX3_point_199 (by decide) (fun c => ?_) (fun c => ?_)
      · have hf := if_p c hf
        refine lv_aload_n hx hb dX3_point_204 rfl (lv_at hl 0 rfl) ?_
        refine w6_get F I mo_ob rfl in_X3 5 (by decide) q769 rfl rfl dX3_point_205 ?_
        refine lv_iconst (v := (4 : Int32)) hx hb dX3_point_208 (by decide) ?_
        refine lv_iload_n hx hb dX3_point_209 rfl (lv_at hl 1 rfl) ?_
        obtain ⟨V41, eV41, hf⟩ := lt_e hf
        refine w6_iast (j := 4) msh_lc F I (m_ar 6 106 (by decide) rfl) (show ix_ (4 : Int32) 106 by decide) rfl dX3_point_210 eV41 (fun H locs I => ?_)
        refine lv_iconst (v := (2 : Int32)) hx hb dX3_point_211 (by decide) ?_
        exact hret _ _ _ _ _ dX3_point_212 (w6_mv (so_e hf).2 I) (so_e hf).1 rfl
      · have hf := if_n c hf
        refine lv_iconst (v := (1 : Int32)) hx hb dX3_point_202 (by decide) ?_
        exact hret _ _ _ _ _ dX3_point_203 (w6_mv (so_e hf).2 I) (so_e hf).1 rfl
    · have hf := if_p c hf
      refine lv_iconst (v := (0 : Int32)) hx hb dX3_point_150 (by decide) ?_
      exact hret _ _ _ _ _ dX3_point_151 (w6_mv (so_e hf).2 I) (so_e hf).1 rfl
  unfold m_point at hf
  refine lv_aload_n hx hb dX3_point_0 rfl (lv_at hl 0 rfl) ?_
  obtain ⟨r3, V1, h2, hf⟩ := bi_e hf
  refine xz_Vi F I (ctm_goal l D g ad V r3 V1 h2 ) (lw_V q881 q883 qs27 q50 q884) hdX3_goal rfl (Nat.le_of_ble_eq_true rfl) (Nat.le_of_ble_eq_true rfl) (w6_recv F I mo_ob rfl) rfl hl.1 [] rfl (Nat.le_of_ble_eq_true rfl) dX3_point_1 ⟨Nat.le_of_ble_eq_true rfl, Nat.le_of_ble_eq_true rfl⟩ (fun H locs I => ?_)
  refine lv_istore_n (lv' := [(2, .int r3), (0, .ref (ad 0)), (1, .int p1)]) hx hb dX3_point_4 rfl hl (by decide) rfl (fun ls hl => ?_)
  refine lv_aload_n hx hb dX3_point_5 rfl (lv_at hl 1 rfl) ?_
  refine w6_get F I mo_ob rfl in_X3 5 (by decide) q769 rfl rfl dX3_point_6 ?_
  refine lv_iconst (v := (3 : Int32)) hx hb dX3_point_9 (by decide) ?_
  refine lv_dup2_11 hx hb dX3_point_10 rfl rfl ?_
  refine w6_iald (j := 3) F I (m_ar 6 106 (by decide) rfl) (show ix_ (3 : Int32) 106 by decide) rfl dX3_point_11 ?_
  refine lv_iconst (v := (1 : Int32)) hx hb dX3_point_12 (by decide) ?_
  refine lv_iadd hx hb dX3_point_13 ?_
  obtain ⟨V4, eV4, hf⟩ := lt_e hf
  refine w6_iast (j := 3) msh_lc F I (m_ar 6 106 (by decide) rfl) (show ix_ (3 : Int32) 106 by decide) rfl dX3_point_14 eV4 (fun H locs I => ?_)
  refine lv_aload_n hx hb dX3_point_15 rfl (lv_at hl 1 rfl) ?_
  refine lv_iconst (v := (0 : Int32)) hx hb dX3_point_16 (by decide) ?_
  refine lv_bipush (v := (7 : Int32)) hx hb dX3_point_17 (by decide) ?_
  refine lv_iconst (v := (0 : Int32)) hx hb dX3_point_19 (by decide) ?_
  obtain ⟨V5, h6, hf⟩ := bn_e hf
  refine xz_Vv F I (ctm_put l D g ad V4 (0 : Int32) (7 : Int32) (0 : Int32) V5 h6 ) (lw_V q756 q758 qs20 q50 q759) hdX3_put rfl (Nat.le_of_ble_eq_true rfl) (Nat.le_of_ble_eq_true rfl) (w6_recv F I mo_ob rfl) rfl hl.1 [] rfl (Nat.le_of_ble_eq_true rfl) dX3_point_20 ⟨Nat.le_of_ble_eq_true rfl, Nat.le_of_ble_eq_true rfl⟩ (fun H locs I => ?_)
  refine lv_aload_n hx hb dX3_point_23 rfl (lv_at hl 1 rfl) ?_
  refine lv_iconst (v := (1 : Int32)) hx hb dX3_point_24 (by decide) ?_
  refine lv_bipush (v := (7 : Int32)) hx hb dX3_point_25 (by decide) ?_
  refine lv_iconst (v := (0 : Int32)) hx hb dX3_point_27 (by decide) ?_
  obtain ⟨V7, h8, hf⟩ := bn_e hf
  refine xz_Vv F I (ctm_put l D g ad V5 (1 : Int32) (7 : Int32) (0 : Int32) V7 h8 ) (lw_V q756 q758 qs20 q50 q759) hdX3_put rfl (Nat.le_of_ble_eq_true rfl) (Nat.le_of_ble_eq_true rfl) (w6_recv F I mo_ob rfl) rfl hl.1 [] rfl (Nat.le_of_ble_eq_true rfl) dX3_point_28 ⟨Nat.le_of_ble_eq_true rfl, Nat.le_of_ble_eq_true rfl⟩ (fun H locs I => ?_)
  refine lv_aload_n hx hb dX3_point_31 rfl (lv_at hl 1 rfl) ?_
  refine lv_iload_n hx hb dX3_point_32 rfl (lv_at hl 2 rfl) ?_
  refine lv_iconst (v := (0 : Int32)) hx hb dX3_point_33 (by decide) ?_
  refine lv_aload_n hx hb dX3_point_34 rfl (lv_at hl 1 rfl) ?_
  refine lv_iload_n hx hb dX3_point_35 rfl (lv_at hl 2 rfl) ?_
  refine lv_iconst (v := (0 : Int32)) hx hb dX3_point_36 (by decide) ?_
  obtain ⟨r11, V9, h10, hf⟩ := bi_e hf
  refine xz_Vi F I (ctm_get l D g ad V7 p1 (0 : Int32) r11 V9 h10 ) (lw_V q869 q871 qs25 q50 q872) hdX3_get rfl (Nat.le_of_ble_eq_true rfl) (Nat.le_of_ble_eq_true rfl) (w6_recv F I mo_ob rfl) rfl hl.1 [.int (0 : Int32), .int p1, .ref (ad 0)] rfl (Nat.le_of_ble_eq_true rfl) dX3_point_37 ⟨Nat.le_of_ble_eq_true rfl, Nat.le_of_ble_eq_true rfl⟩ (fun H locs I => ?_)
  refine lv_iconst (v := (1 : Int32)) hx hb dX3_point_40 (by decide) ?_
  refine lv_iadd hx hb dX3_point_41 ?_
  obtain ⟨V12, h13, hf⟩ := bn_e hf
  refine xz_Vv F I (ctm_put l D g ad V9 p1 (0 : Int32) (r11 + (1 : Int32)) V12 h13 ) (lw_V q756 q758 qs20 q50 q759) hdX3_put rfl (Nat.le_of_ble_eq_true rfl) (Nat.le_of_ble_eq_true rfl) (w6_recv F I mo_ob rfl) rfl hl.1 [] rfl (Nat.le_of_ble_eq_true rfl) dX3_point_42 ⟨Nat.le_of_ble_eq_true rfl, Nat.le_of_ble_eq_true rfl⟩ (fun H locs I => ?_)
  refine lv_aload_n hx hb dX3_point_45 rfl (lv_at hl 1 rfl) ?_
  refine w6_get F I mo_ob rfl in_X3 5 (by decide) q769 rfl rfl dX3_point_46 ?_
  refine lv_iconst (v := (2 : Int32)) hx hb dX3_point_49 (by decide) ?_
  refine w6_iald (j := 2) F I (m_ar 6 106 (by decide) rfl) (show ix_ (2 : Int32) 106 by decide) rfl dX3_point_50 ?_
  refine lv_iload_n hx hb dX3_point_51 rfl (lv_at hl 2 rfl) ?_
  refine lv_icmp_ne (tgt := 100) hx hb dX3_point_52 (by decide) (fun c => ?_) (fun c => ?_)
  · have hf := if_n c hf
    refine lv_aload_n hx hb dX3_point_100 rfl (lv_at hl 1 rfl) ?_
    refine lv_iconst (v := (1 : Int32)) hx hb dX3_point_101 (by decide) ?_
    refine lv_iload_n hx hb dX3_point_102 rfl (lv_at hl 2 rfl) ?_
    refine lv_isub hx hb dX3_point_103 ?_
    refine lv_iconst (v := (5 : Int32)) hx hb dX3_point_104 (by decide) ?_
    refine lv_iconst (v := (0 : Int32)) hx hb dX3_point_105 (by decide) ?_
    obtain ⟨V14, h15, hf⟩ := bn_e hf
    refine xz_Vv F I (ctm_put l D g ad V12 ((1 : Int32) - p1) (5 : Int32) (0 : Int32) V14 h15 ) (lw_V q756 q758 qs20 q50 q759) hdX3_put rfl (Nat.le_of_ble_eq_true rfl) (Nat.le_of_ble_eq_true rfl) (w6_recv F I mo_ob rfl) rfl hl.1 [] rfl (Nat.le_of_ble_eq_true rfl) dX3_point_106 ⟨Nat.le_of_ble_eq_true rfl, Nat.le_of_ble_eq_true rfl⟩ (fun H locs I => ?_)
    refine lv_aload_n hx hb dX3_point_109 rfl (lv_at hl 1 rfl) ?_
    refine lv_iload_n hx hb dX3_point_110 rfl (lv_at hl 2 rfl) ?_
    refine lv_iconst (v := (5 : Int32)) hx hb dX3_point_111 (by decide) ?_
    refine lv_iconst (v := (0 : Int32)) hx hb dX3_point_112 (by decide) ?_
    obtain ⟨V16, h17, hf⟩ := bn_e hf
    refine xz_Vv F I (ctm_put l D g ad V14 p1 (5 : Int32) (0 : Int32) V16 h17 ) (lw_V q756 q758 qs20 q50 q759) hdX3_put rfl (Nat.le_of_ble_eq_true rfl) (Nat.le_of_ble_eq_true rfl) (w6_recv F I mo_ob rfl) rfl hl.1 [] rfl (Nat.le_of_ble_eq_true rfl) dX3_point_113 ⟨Nat.le_of_ble_eq_true rfl, Nat.le_of_ble_eq_true rfl⟩ (fun H locs I => ?_)
    refine lv_aload_n hx hb dX3_point_116 rfl (lv_at hl 1 rfl) ?_
    refine w6_get F I mo_ob rfl in_X3 5 (by decide) q769 rfl rfl dX3_point_117 ?_
    refine lv_iconst (v := (2 : Int32)) hx hb dX3_point_120 (by decide) ?_
    refine lv_iload_n hx hb dX3_point_121 rfl (lv_at hl 2 rfl) ?_
    obtain ⟨V18, eV18, hf⟩ := lt_e hf
    refine w6_iast (j := 2) msh_lc F I (m_ar 6 106 (by decide) rfl) (show ix_ (2 : Int32) 106 by decide) rfl dX3_point_122 eV18 (fun H locs I => ?_)
    refine lv_aload_n hx hb dX3_point_123 rfl (lv_at hl 1 rfl) ?_
    refine lv_iload_n hx hb dX3_point_124 rfl (lv_at hl 2 rfl) ?_
    obtain ⟨V19, h20, hf⟩ := bn_e hf
    refine xz_Vv F I (ctm_turn l D g ad V18 p1 V19 h20 ) (lw_V q889 q891 qs29 q50 q892) hdX3_turn rfl (Nat.le_of_ble_eq_true rfl) (Nat.le_of_ble_eq_true rfl) (w6_recv F I mo_ob rfl) rfl hl.1 [] rfl (Nat.le_of_ble_eq_true rfl) dX3_point_125 ⟨Nat.le_of_ble_eq_true rfl, Nat.le_of_ble_eq_true rfl⟩ (fun H locs I => ?_)
    exact hJ128 V19 r3 _ _ ls hf I (lv_sub hl [1, 2, 0] rfl)
  · have hf := if_p c hf
    refine lv_aload_n hx hb dX3_point_55 rfl (lv_at hl 1 rfl) ?_
    refine lv_iload_n hx hb dX3_point_56 rfl (lv_at hl 2 rfl) ?_
    refine lv_iconst (v := (5 : Int32)) hx hb dX3_point_57 (by decide) ?_
    refine lv_aload_n hx hb dX3_point_58 rfl (lv_at hl 1 rfl) ?_
    refine lv_iload_n hx hb dX3_point_59 rfl (lv_at hl 2 rfl) ?_
    refine lv_iconst (v := (5 : Int32)) hx hb dX3_point_60 (by decide) ?_
    obtain ⟨r44, V42, h43, hf⟩ := bi_e hf
    refine xz_Vi F I (ctm_get l D g ad V12 p1 (5 : Int32) r44 V42 h43 ) (lw_V q869 q871 qs25 q50 q872) hdX3_get rfl (Nat.le_of_ble_eq_true rfl) (Nat.le_of_ble_eq_true rfl) (w6_recv F I mo_ob rfl) rfl hl.1 [.int (5 : Int32), .int p1, .ref (ad 0)] rfl (Nat.le_of_ble_eq_true rfl) dX3_point_61 ⟨Nat.le_of_ble_eq_true rfl, Nat.le_of_ble_eq_true rfl⟩ (fun H locs I => ?_)
    refine lv_iconst (v := (1 : Int32)) hx hb dX3_point_64 (by decide) ?_
    refine lv_iadd hx hb dX3_point_65 ?_
    obtain ⟨V45, h46, hf⟩ := bn_e hf
    refine xz_Vv F I (ctm_put l D g ad V42 p1 (5 : Int32) (r44 + (1 : Int32)) V45 h46 ) (lw_V q756 q758 qs20 q50 q759) hdX3_put rfl (Nat.le_of_ble_eq_true rfl) (Nat.le_of_ble_eq_true rfl) (w6_recv F I mo_ob rfl) rfl hl.1 [] rfl (Nat.le_of_ble_eq_true rfl) dX3_point_66 ⟨Nat.le_of_ble_eq_true rfl, Nat.le_of_ble_eq_true rfl⟩ (fun H locs I => ?_)
    refine lv_aload_n hx hb dX3_point_69 rfl (lv_at hl 1 rfl) ?_
    refine lv_iload_n hx hb dX3_point_70 rfl (lv_at hl 2 rfl) ?_
    refine lv_bipush (v := (8 : Int32)) hx hb dX3_point_71 (by decide) ?_
    obtain ⟨r49, V47, h48, hf⟩ := bi_e hf
    refine xz_Vi F I (ctm_get l D g ad V45 p1 (8 : Int32) r49 V47 h48 ) (lw_V q869 q871 qs25 q50 q872) hdX3_get rfl (Nat.le_of_ble_eq_true rfl) (Nat.le_of_ble_eq_true rfl) (w6_recv F I mo_ob rfl) rfl hl.1 [] rfl (Nat.le_of_ble_eq_true rfl) dX3_point_73 ⟨Nat.le_of_ble_eq_true rfl, Nat.le_of_ble_eq_true rfl⟩ (fun H locs I => ?_)
    refine lv_istore_n (lv' := [(3, .int r49), (2, .int r3), (0, .ref (ad 0)), (1, .int p1)]) hx hb dX3_point_76 rfl hl (by decide) rfl (fun ls hl => ?_)
    refine lv_aload_n hx hb dX3_point_77 rfl (lv_at hl 2 rfl) ?_
    refine lv_iload_n hx hb dX3_point_78 rfl (lv_at hl 3 rfl) ?_
    refine lv_bipush (v := (38 : Int32)) hx hb dX3_point_79 (by decide) ?_
    refine lv_iload_n hx hb dX3_point_81 rfl (lv_at hl 0 rfl) ?_
    refine lv_iadd hx hb dX3_point_82 ?_
    refine lv_aload_n hx hb dX3_point_83 rfl (lv_at hl 2 rfl) ?_
    refine lv_iload_n hx hb dX3_point_84 rfl (lv_at hl 3 rfl) ?_
    refine lv_bipush (v := (38 : Int32)) hx hb dX3_point_85 (by decide) ?_
    refine lv_iload_n hx hb dX3_point_87 rfl (lv_at hl 0 rfl) ?_
    refine lv_iadd hx hb dX3_point_88 ?_
    obtain ⟨r52, V50, h51, hf⟩ := bi_e hf
    refine xz_Vi F I (ctm_get l D g ad V47 p1 ((38 : Int32) + r49) r52 V50 h51 ) (lw_V q869 q871 qs25 q50 q872) hdX3_get rfl (Nat.le_of_ble_eq_true rfl) (Nat.le_of_ble_eq_true rfl) (w6_recv F I mo_ob rfl) rfl hl.1 [.int ((38 : Int32) + r49), .int p1, .ref (ad 0)] rfl (Nat.le_of_ble_eq_true rfl) dX3_point_89 ⟨Nat.le_of_ble_eq_true rfl, Nat.le_of_ble_eq_true rfl⟩ (fun H locs I => ?_)
    refine lv_iconst (v := (1 : Int32)) hx hb dX3_point_92 (by decide) ?_
    refine lv_iadd hx hb dX3_point_93 ?_
    obtain ⟨V53, h54, hf⟩ := bn_e hf
    refine xz_Vv F I (ctm_put l D g ad V50 p1 ((38 : Int32) + r49) (r52 + (1 : Int32)) V53 h54 ) (lw_V q756 q758 qs20 q50 q759) hdX3_put rfl (Nat.le_of_ble_eq_true rfl) (Nat.le_of_ble_eq_true rfl) (w6_recv F I mo_ob rfl) rfl hl.1 [] rfl (Nat.le_of_ble_eq_true rfl) dX3_point_94 ⟨Nat.le_of_ble_eq_true rfl, Nat.le_of_ble_eq_true rfl⟩ (fun H locs I => ?_)
    refine lv_goto (tgt := 128) hx hb dX3_point_97 (by decide) ?_
    exact hJ128 V53 r3 _ _ ls hf I (lv_sub hl [2, 3, 1] rfl)
def m_rally (V : Mm) (p1 : Int32) : Option (Int32 × Mm) :=
  lt_ (mset V 0 13 (0 : Int32)) fun V1 => if (pm_isTeam p1) = (0 : Int32) then (some ((-1 : Int32), V1)) else (bi_ (m_isOn V1) fun r4 V2 => if r4 = (0 : Int32) then (some ((-1 : Int32), V2)) else (bi_ (m_point V2 p1) fun r7 V5 => some (r7, V5)))
theorem hdX3_rally : w6_hd yX3_rally 1 := by decide +kernel
abbrev rmX3_rally : Room := { frames := 4, cells := 0, slots := 0, locals := 85 }
set_option maxHeartbeats 4000000 in
set_option maxRecDepth 100000 in
theorem ctm_rally (l : Launch) (D : va_G) (g : Nat → ClassId) (ad : Nat → Nat) (V : Mm) (p1 : Int32) (r : Int32) (V' : Mm) (hf : m_rally V p1 = some (r, V'))  : CTi l D g yX3_rally cX3_rally 2 .int rmX3_rally [.ref (ad 0), .int p1] (mw g ad V) (mw g ad V') r := by
  intro sz
  refine w6_starti RX3 (by decide) (Nat.le_of_ble_eq_true rfl) rfl ?_
  intro p e s m below meth c A ls Q hx hb hown hts F I hl hret
  have hl : lv_has ls 2 [(0, .ref (ad 0)), (1, .int p1)] := hl
  unfold m_rally at hf
  refine lv_aload_n hx hb dX3_rally_0 rfl (lv_at hl 0 rfl) ?_
  refine lv_iconst (v := (0 : Int32)) hx hb dX3_rally_1 (by decide) ?_
  obtain ⟨V1, eV1, hf⟩ := lt_e hf
  refine w6_put msh_lc F I mo_ob rfl in_X3 tyX3 tyX3_ok nmX3 13 (by decide) (mo_nf 13 (by decide)) q777 rfl rfl (tyX3_ok 13 (by decide)) rfl rfl dX3_rally_2 eV1 (fun H locs I => ?_)
  refine lv_iload_n hx hb dX3_rally_5 rfl (lv_at hl 1 rfl) ?_
  refine xz_Pi F I (ctpm_isTeam l D g p1 _ rfl) (lw_S q828 q829 q50 q830) hdX3_isTeam (Nat.le_of_ble_eq_true rfl) (Nat.le_of_ble_eq_true rfl) rfl hl.1 [] rfl (Nat.le_of_ble_eq_true rfl) dX3_rally_6 ⟨Nat.le_of_ble_eq_true rfl, Nat.le_of_ble_eq_true rfl⟩ (fun H locs I => ?_)
  refine lv_if_eq (tgt := 27) hx hb dX3_rally_9 (by decide) (fun c => ?_) (fun c => ?_)
  · have hf := if_p c hf
    refine lv_iconst (v := (-1 : Int32)) hx hb dX3_rally_27 (by decide) ?_
    exact hret _ _ _ _ _ dX3_rally_28 (w6_mv (so_e hf).2 I) (so_e hf).1 rfl
  · have hf := if_n c hf
    refine lv_aload_n hx hb dX3_rally_12 rfl (lv_at hl 0 rfl) ?_
    obtain ⟨r4, V2, h3, hf⟩ := bi_e hf
    refine xz_Vi F I (ctm_isOn l D g ad V1 r4 V2 h3 ) (lw_V q845 q847 qs23 q50 q848) hdX3_isOn rfl (Nat.le_of_ble_eq_true rfl) (Nat.le_of_ble_eq_true rfl) (w6_recv F I mo_ob rfl) rfl hl.1 [] rfl (Nat.le_of_ble_eq_true rfl) dX3_rally_13 ⟨Nat.le_of_ble_eq_true rfl, Nat.le_of_ble_eq_true rfl⟩ (fun H locs I => ?_)
    refine lv_if_eq (tgt := 27) hx hb dX3_rally_16 (by decide) (fun c => ?_) (fun c => ?_)
    · have hf := if_p c hf
      refine lv_iconst (v := (-1 : Int32)) hx hb dX3_rally_27 (by decide) ?_
      exact hret _ _ _ _ _ dX3_rally_28 (w6_mv (so_e hf).2 I) (so_e hf).1 rfl
    · have hf := if_n c hf
      refine lv_aload_n hx hb dX3_rally_19 rfl (lv_at hl 0 rfl) ?_
      refine lv_iload_n hx hb dX3_rally_20 rfl (lv_at hl 1 rfl) ?_
      obtain ⟨r7, V5, h6, hf⟩ := bi_e hf
      refine xz_Vi F I (ctm_point l D g ad V2 p1 r7 V5 h6 ) (lw_V q877 q879 qs26 q50 q880) hdX3_point rfl (Nat.le_of_ble_eq_true rfl) (Nat.le_of_ble_eq_true rfl) (w6_recv F I mo_ob rfl) rfl hl.1 [] rfl (Nat.le_of_ble_eq_true rfl) dX3_rally_21 ⟨Nat.le_of_ble_eq_true rfl, Nat.le_of_ble_eq_true rfl⟩ (fun H locs I => ?_)
      refine lv_goto (tgt := 28) hx hb dX3_rally_24 (by decide) ?_
      exact hret _ _ _ _ _ dX3_rally_28 (w6_mv (so_e hf).2 I) (so_e hf).1 rfl
def m_placeOf_l2 (p1 : Int32) (p2 : Int32) : Nat → Mm → Int32 → Option (Int32 × Mm)
  | 0, _, _ => none
  | n2 + 1, V, a3 =>
  if (6 : Int32) ≤ a3 then (some ((-1 : Int32), V)) else (bi_ (m_get V p1 ((8 : Int32) + a3)) fun r3 V1 => if r3 = p2 then (some (a3, V1)) else (lt_ (a3 + (1 : Int32)) fun v4 => m_placeOf_l2 p1 p2 n2 V1 v4))
def m_placeOf (V : Mm) (p1 : Int32) (p2 : Int32) : Option (Int32 × Mm) :=
  m_placeOf_l2 p1 p2 200 V (0 : Int32)
theorem hdX3_placeOf : w6_hd yX3_placeOf 2 := by decide +kernel
abbrev rmX3_placeOf : Room := { frames := 1, cells := 0, slots := 0, locals := 22 }
set_option maxHeartbeats 4000000 in
set_option maxRecDepth 100000 in
theorem ctm_placeOf (l : Launch) (D : va_G) (g : Nat → ClassId) (ad : Nat → Nat) (V : Mm) (p1 : Int32) (p2 : Int32) (r : Int32) (V' : Mm) (hf : m_placeOf V p1 p2 = some (r, V'))  : CTi l D g yX3_placeOf cX3_placeOf 4 .int rmX3_placeOf [.ref (ad 0), .int p1, .int p2] (mw g ad V) (mw g ad V') r := by
  intro sz
  refine w6_starti RX3 (by decide) (Nat.le_of_ble_eq_true rfl) rfl ?_
  intro p e s m below meth c A ls Q hx hb hown hts F I hl hret
  have hl : lv_has ls 4 [(0, .ref (ad 0)), (1, .int p1), (2, .int p2)] := hl
  have hL2 : ∀ (n2 : Nat) (V : Mm) (a3 : Int32) (H : Heap) (locs : List Loc) (ls : Array Slot), m_placeOf_l2 p1 p2 n2 V a3 = some (r, V') → w6_I D (mw g ad V ++ []) A s H locs → lv_has ls 4 [(0, .ref (ad 0)), (1, .int p1), (2, .int p2), (3, .int a3)] → W p l e rmX3_placeOf s m ([.ref (ad 0), .int p1, .int p2] : List Value).toArray below meth c H locs 0 0 Q (F0 m 2 ls []) := by
    intro n2
    induction n2 with
    | zero =>
      intro V a3 H locs ls hf
      rw [m_placeOf_l2] at hf
      cases hf
    | succ n2 ih2 =>
      intro V a3 H locs ls hf I hl
      rw [m_placeOf_l2] at hf
      refine lv_iload_n hx hb dX3_placeOf_2 rfl (lv_at hl 3 rfl) ?_
      refine lv_bipush (v := (6 : Int32)) hx hb dX3_placeOf_3 (by decide) ?_
      refine lv_icmp_ge (tgt := 29) hx hb dX3_placeOf_5 (by decide) (fun c => ?_) (fun c => ?_)
      · have hf := if_p c hf
        refine lv_iconst (v := (-1 : Int32)) hx hb dX3_placeOf_29 (by decide) ?_
        exact hret _ _ _ _ _ dX3_placeOf_30 (w6_mv (so_e hf).2 I) (so_e hf).1 rfl
      · have hf := if_n c hf
        refine lv_aload_n hx hb dX3_placeOf_8 rfl (lv_at hl 0 rfl) ?_
        refine lv_iload_n hx hb dX3_placeOf_9 rfl (lv_at hl 1 rfl) ?_
        refine lv_bipush (v := (8 : Int32)) hx hb dX3_placeOf_10 (by decide) ?_
        refine lv_iload_n hx hb dX3_placeOf_12 rfl (lv_at hl 3 rfl) ?_
        refine lv_iadd hx hb dX3_placeOf_13 ?_
        obtain ⟨r3, V1, h2, hf⟩ := bi_e hf
        refine xz_Vi F I (ctm_get l D g ad V p1 ((8 : Int32) + a3) r3 V1 h2 ) (lw_V q869 q871 qs25 q50 q872) hdX3_get rfl (Nat.le_of_ble_eq_true rfl) (Nat.le_of_ble_eq_true rfl) (w6_recv F I mo_ob rfl) rfl hl.1 [] rfl (Nat.le_of_ble_eq_true rfl) dX3_placeOf_14 ⟨Nat.le_of_ble_eq_true rfl, Nat.le_of_ble_eq_true rfl⟩ (fun H locs I => ?_)
        refine lv_iload_n hx hb dX3_placeOf_17 rfl (lv_at hl 2 rfl) ?_
        refine lv_icmp_ne (tgt := 23) hx hb dX3_placeOf_18 (by decide) (fun c => ?_) (fun c => ?_)
        · have hf := if_n c hf
          obtain ⟨v4, ev4, hf⟩ := lt_e hf
          refine lv_iinc (v := v4) (lv' := [(3, .int v4), (0, .ref (ad 0)), (1, .int p1), (2, .int p2)]) hx hb dX3_placeOf_23 hl (k := 3) rfl (by rw [ev4]; rfl) (by decide) rfl (fun ls hl => ?_)
          refine lv_goto (tgt := 2) hx hb dX3_placeOf_26 (by decide) ?_
          exact ih2 V1 v4 _ _ ls hf I (lv_sub hl [1, 2, 3, 0] rfl)
        · have hf := if_p c hf
          refine lv_iload_n hx hb dX3_placeOf_21 rfl (lv_at hl 3 rfl) ?_
          exact hret _ _ _ _ _ dX3_placeOf_22 (w6_mv (so_e hf).2 I) (so_e hf).1 rfl
  unfold m_placeOf at hf
  refine lv_iconst (v := (0 : Int32)) hx hb dX3_placeOf_0 (by decide) ?_
  refine lv_istore_n (lv' := [(3, .int (0 : Int32)), (0, .ref (ad 0)), (1, .int p1), (2, .int p2)]) hx hb dX3_placeOf_1 rfl hl (by decide) rfl (fun ls hl => ?_)
  exact hL2 200 V (0 : Int32) _ _ ls hf I (lv_sub hl [1, 2, 3, 0] rfl)
def m_mayNot_j136 (p1 : Int32) (p2 : Int32) (p3 : Int32) (V : Mm)  (a4 : Int32) (a5 : Int32) : Option (Int32 × Mm) :=
  if a4 = (3 : Int32) then (if a5 = (2 : Int32) then (bi_ (m_get V p1 ((26 : Int32) + p2)) fun r26 V24 => if r26 = p3 then (some ((0 : Int32), V24)) else (some ((6 : Int32), V24))) else (some ((6 : Int32), V))) else (some ((6 : Int32), V))
def m_mayNot (V : Mm) (p1 : Int32) (p2 : Int32) (p3 : Int32) : Option (Int32 × Mm) :=
  bi_ (m_isOn V) fun r3 V1 => if r3 = (0 : Int32) then (some ((1 : Int32), V1)) else (if (pm_isPlayer p2) = (0 : Int32) then (some ((2 : Int32), V1)) else (if (pm_isPlayer p3) = (0 : Int32) then (some ((2 : Int32), V1)) else (if p2 = p3 then (some ((2 : Int32), V1)) else (bi_ (m_placeOf V1 p1 p2) fun r6 V4 => if r6 = (-1 : Int32) then (some ((3 : Int32), V4)) else (gd_ (ix_ p1 2) (if p2 = (V4.1 2 p1.toNatClampNeg) then (some ((3 : Int32), V4)) else (bi_ (m_placeOf V4 p1 p3) fun r10 V8 => if r10 = (-1 : Int32) then (gd_ (ix_ p1 2) (if p3 = (V8.1 2 p1.toNatClampNeg) then (some ((4 : Int32), V8)) else (bi_ (m_get V8 p1 (4 : Int32)) fun r14 V12 => if r14 = p3 then (some ((4 : Int32), V12)) else (bi_ (m_get V12 p1 (2 : Int32)) fun r17 V15 => if r17 < (V15.1 3 4) then (bi_ (m_get V15 p1 ((14 : Int32) + p2)) fun r20 V18 => bi_ (m_get V18 p1 ((14 : Int32) + p3)) fun r23 V21 => if r20 = (1 : Int32) then (if r23 = (0 : Int32) then (some ((0 : Int32), V21)) else (m_mayNot_j136 p1 p2 p3 V21 r20 r23)) else (m_mayNot_j136 p1 p2 p3 V21 r20 r23)) else (some ((5 : Int32), V15)))))) else (some ((4 : Int32), V8)))))))))
theorem hdX3_mayNot : w6_hd yX3_mayNot 3 := by decide +kernel
abbrev rmX3_mayNot : Room := { frames := 2, cells := 0, slots := 0, locals := 45 }
set_option maxHeartbeats 4000000 in
set_option maxRecDepth 100000 in
theorem ctm_mayNot (l : Launch) (D : va_G) (g : Nat → ClassId) (ad : Nat → Nat) (V : Mm) (p1 : Int32) (p2 : Int32) (p3 : Int32) (r : Int32) (V' : Mm) (hf : m_mayNot V p1 p2 p3 = some (r, V'))  : CTi l D g yX3_mayNot cX3_mayNot 6 .int rmX3_mayNot [.ref (ad 0), .int p1, .int p2, .int p3] (mw g ad V) (mw g ad V') r := by
  intro sz
  refine w6_starti RX3 (by decide) (Nat.le_of_ble_eq_true rfl) rfl ?_
  intro p e s m below meth c A ls Q hx hb hown hts F I hl hret
  have hl : lv_has ls 6 [(0, .ref (ad 0)), (1, .int p1), (2, .int p2), (3, .int p3)] := hl
  have hJ136 : ∀ (V : Mm) (a4 : Int32) (a5 : Int32) (H : Heap) (locs : List Loc) (ls : Array Slot), m_mayNot_j136 p1 p2 p3 V a4 a5 = some (r, V') → w6_I D (mw g ad V ++ []) A s H locs → lv_has ls 6 [(0, .ref (ad 0)), (1, .int p1), (2, .int p2), (3, .int p3), (4, .int a4), (5, .int a5)] → W p l e rmX3_mayNot s m ([.ref (ad 0), .int p1, .int p2, .int p3] : List Value).toArray below meth c H locs 0 0 Q (F0 m 136 ls []) := by
    intro V a4 a5 H locs ls hf I hl
    unfold m_mayNot_j136 at hf
    refine lv_iload hx hb dX3_mayNot_136 (lv_at hl 4 rfl) ?_
    refine lv_iconst (v := (3 : Int32)) hx hb dX3_mayNot_138 (by decide) ?_
    refine lv_icmp_ne (tgt := 165) hx hb dX3_mayNot_139 (by decide) (fun c => ?_) (fun c => ?_)
    · have hf := if_n c hf
      refine lv_bipush (v := (6 : Int32)) hx hb dX3_mayNot_165 (by decide) ?_
      exact hret _ _ _ _ _ dX3_mayNot_167 (w6_mv (so_e hf).2 I) (so_e hf).1 rfl
    · have hf := if_p c hf
      refine lv_iload hx hb dX3_mayNot_142 (lv_at hl 5 rfl) ?_
      refine lv_iconst (v := (2 : Int32)) hx hb dX3_mayNot_144 (by decide) ?_
      refine lv_icmp_ne (tgt := 165) hx hb dX3_mayNot_145 (by decide) (fun c => ?_) (fun c => ?_)
      · have hf := if_n c hf
        refine lv_bipush (v := (6 : Int32)) hx hb dX3_mayNot_165 (by decide) ?_
        exact hret _ _ _ _ _ dX3_mayNot_167 (w6_mv (so_e hf).2 I) (so_e hf).1 rfl
      · have hf := if_p c hf
        refine lv_aload_n hx hb dX3_mayNot_148 rfl (lv_at hl 0 rfl) ?_
        refine lv_iload_n hx hb dX3_mayNot_149 rfl (lv_at hl 1 rfl) ?_
        refine lv_bipush (v := (26 : Int32)) hx hb dX3_mayNot_150 (by decide) ?_
        refine lv_iload_n hx hb dX3_mayNot_152 rfl (lv_at hl 2 rfl) ?_
        refine lv_iadd hx hb dX3_mayNot_153 ?_
        obtain ⟨r26, V24, h25, hf⟩ := bi_e hf
        refine xz_Vi F I (ctm_get l D g ad V p1 ((26 : Int32) + p2) r26 V24 h25 ) (lw_V q869 q871 qs25 q50 q872) hdX3_get rfl (Nat.le_of_ble_eq_true rfl) (Nat.le_of_ble_eq_true rfl) (w6_recv F I mo_ob rfl) rfl hl.1 [] rfl (Nat.le_of_ble_eq_true rfl) dX3_mayNot_154 ⟨Nat.le_of_ble_eq_true rfl, Nat.le_of_ble_eq_true rfl⟩ (fun H locs I => ?_)
        refine lv_iload_n hx hb dX3_mayNot_157 rfl (lv_at hl 3 rfl) ?_
        refine lv_icmp_ne (tgt := 165) hx hb dX3_mayNot_158 (by decide) (fun c => ?_) (fun c => ?_)
        · have hf := if_n c hf
          refine lv_bipush (v := (6 : Int32)) hx hb dX3_mayNot_165 (by decide) ?_
          exact hret _ _ _ _ _ dX3_mayNot_167 (w6_mv (so_e hf).2 I) (so_e hf).1 rfl
        · have hf := if_p c hf
          refine lv_iconst (v := (0 : Int32)) hx hb dX3_mayNot_161 (by decide) ?_
          refine lv_goto (tgt := 167) hx hb dX3_mayNot_162 (by decide) ?_
          exact hret _ _ _ _ _ dX3_mayNot_167 (w6_mv (so_e hf).2 I) (so_e hf).1 rfl
  unfold m_mayNot at hf
  refine lv_aload_n hx hb dX3_mayNot_0 rfl (lv_at hl 0 rfl) ?_
  obtain ⟨r3, V1, h2, hf⟩ := bi_e hf
  refine xz_Vi F I (ctm_isOn l D g ad V r3 V1 h2 ) (lw_V q845 q847 qs23 q50 q848) hdX3_isOn rfl (Nat.le_of_ble_eq_true rfl) (Nat.le_of_ble_eq_true rfl) (w6_recv F I mo_ob rfl) rfl hl.1 [] rfl (Nat.le_of_ble_eq_true rfl) dX3_mayNot_1 ⟨Nat.le_of_ble_eq_true rfl, Nat.le_of_ble_eq_true rfl⟩ (fun H locs I => ?_)
  refine lv_if_ne (tgt := 9) hx hb dX3_mayNot_4 (by decide) (fun c => ?_) (fun c => ?_)
  · have hf := if_n c hf
    refine lv_iload_n hx hb dX3_mayNot_9 rfl (lv_at hl 2 rfl) ?_
    refine xz_Pi F I (ctpm_isPlayer l D g p2 _ rfl) (lw_S q831 q832 q50 q833) hdX3_isPlayer (Nat.le_of_ble_eq_true rfl) (Nat.le_of_ble_eq_true rfl) rfl hl.1 [] rfl (Nat.le_of_ble_eq_true rfl) dX3_mayNot_10 ⟨Nat.le_of_ble_eq_true rfl, Nat.le_of_ble_eq_true rfl⟩ (fun H locs I => ?_)
    refine lv_if_eq (tgt := 28) hx hb dX3_mayNot_13 (by decide) (fun c => ?_) (fun c => ?_)
    · have hf := if_p c hf
      refine lv_iconst (v := (2 : Int32)) hx hb dX3_mayNot_28 (by decide) ?_
      exact hret _ _ _ _ _ dX3_mayNot_29 (w6_mv (so_e hf).2 I) (so_e hf).1 rfl
    · have hf := if_n c hf
      refine lv_iload_n hx hb dX3_mayNot_16 rfl (lv_at hl 3 rfl) ?_
      refine xz_Pi F I (ctpm_isPlayer l D g p3 _ rfl) (lw_S q831 q832 q50 q833) hdX3_isPlayer (Nat.le_of_ble_eq_true rfl) (Nat.le_of_ble_eq_true rfl) rfl hl.1 [] rfl (Nat.le_of_ble_eq_true rfl) dX3_mayNot_17 ⟨Nat.le_of_ble_eq_true rfl, Nat.le_of_ble_eq_true rfl⟩ (fun H locs I => ?_)
      refine lv_if_eq (tgt := 28) hx hb dX3_mayNot_20 (by decide) (fun c => ?_) (fun c => ?_)
      · have hf := if_p c hf
        refine lv_iconst (v := (2 : Int32)) hx hb dX3_mayNot_28 (by decide) ?_
        exact hret _ _ _ _ _ dX3_mayNot_29 (w6_mv (so_e hf).2 I) (so_e hf).1 rfl
      · have hf := if_n c hf
        refine lv_iload_n hx hb dX3_mayNot_23 rfl (lv_at hl 2 rfl) ?_
        refine lv_iload_n hx hb dX3_mayNot_24 rfl (lv_at hl 3 rfl) ?_
        refine lv_icmp_ne (tgt := 30) hx hb dX3_mayNot_25 (by decide) (fun c => ?_) (fun c => ?_)
        · have hf := if_n c hf
          refine lv_aload_n hx hb dX3_mayNot_30 rfl (lv_at hl 0 rfl) ?_
          refine lv_iload_n hx hb dX3_mayNot_31 rfl (lv_at hl 1 rfl) ?_
          refine lv_iload_n hx hb dX3_mayNot_32 rfl (lv_at hl 2 rfl) ?_
          obtain ⟨r6, V4, h5, hf⟩ := bi_e hf
          refine xz_Vi F I (ctm_placeOf l D g ad V1 p1 p2 r6 V4 h5 ) (lw_V q905 q907 qs32 q50 q908) hdX3_placeOf rfl (Nat.le_of_ble_eq_true rfl) (Nat.le_of_ble_eq_true rfl) (w6_recv F I mo_ob rfl) rfl hl.1 [] rfl (Nat.le_of_ble_eq_true rfl) dX3_mayNot_33 ⟨Nat.le_of_ble_eq_true rfl, Nat.le_of_ble_eq_true rfl⟩ (fun H locs I => ?_)
          refine lv_iconst (v := (-1 : Int32)) hx hb dX3_mayNot_36 (by decide) ?_
          refine lv_icmp_eq (tgt := 50) hx hb dX3_mayNot_37 (by decide) (fun c => ?_) (fun c => ?_)
          · have hf := if_p c hf
            refine lv_iconst (v := (3 : Int32)) hx hb dX3_mayNot_50 (by decide) ?_
            exact hret _ _ _ _ _ dX3_mayNot_51 (w6_mv (so_e hf).2 I) (so_e hf).1 rfl
          · have hf := if_n c hf
            refine lv_iload_n hx hb dX3_mayNot_40 rfl (lv_at hl 2 rfl) ?_
            refine lv_aload_n hx hb dX3_mayNot_41 rfl (lv_at hl 0 rfl) ?_
            refine w6_get F I mo_ob rfl in_X3 1 (by decide) q765 rfl rfl dX3_mayNot_42 ?_
            refine lv_iload_n hx hb dX3_mayNot_45 rfl (lv_at hl 1 rfl) ?_
            obtain ⟨g7, hf⟩ := gd_e hf
            refine w6_iald (j := p1.toNatClampNeg) F I (m_ar 2 2 (by decide) rfl) g7 rfl dX3_mayNot_46 ?_
            refine lv_icmp_ne (tgt := 52) hx hb dX3_mayNot_47 (by decide) (fun c => ?_) (fun c => ?_)
            · have hf := if_n c hf
              refine lv_aload_n hx hb dX3_mayNot_52 rfl (lv_at hl 0 rfl) ?_
              refine lv_iload_n hx hb dX3_mayNot_53 rfl (lv_at hl 1 rfl) ?_
              refine lv_iload_n hx hb dX3_mayNot_54 rfl (lv_at hl 3 rfl) ?_
              obtain ⟨r10, V8, h9, hf⟩ := bi_e hf
              refine xz_Vi F I (ctm_placeOf l D g ad V4 p1 p3 r10 V8 h9 ) (lw_V q905 q907 qs32 q50 q908) hdX3_placeOf rfl (Nat.le_of_ble_eq_true rfl) (Nat.le_of_ble_eq_true rfl) (w6_recv F I mo_ob rfl) rfl hl.1 [] rfl (Nat.le_of_ble_eq_true rfl) dX3_mayNot_55 ⟨Nat.le_of_ble_eq_true rfl, Nat.le_of_ble_eq_true rfl⟩ (fun H locs I => ?_)
              refine lv_iconst (v := (-1 : Int32)) hx hb dX3_mayNot_58 (by decide) ?_
              refine lv_icmp_ne (tgt := 82) hx hb dX3_mayNot_59 (by decide) (fun c => ?_) (fun c => ?_)
              · have hf := if_n c hf
                refine lv_iconst (v := (4 : Int32)) hx hb dX3_mayNot_82 (by decide) ?_
                exact hret _ _ _ _ _ dX3_mayNot_83 (w6_mv (so_e hf).2 I) (so_e hf).1 rfl
              · have hf := if_p c hf
                refine lv_iload_n hx hb dX3_mayNot_62 rfl (lv_at hl 3 rfl) ?_
                refine lv_aload_n hx hb dX3_mayNot_63 rfl (lv_at hl 0 rfl) ?_
                refine w6_get F I mo_ob rfl in_X3 1 (by decide) q765 rfl rfl dX3_mayNot_64 ?_
                refine lv_iload_n hx hb dX3_mayNot_67 rfl (lv_at hl 1 rfl) ?_
                obtain ⟨g11, hf⟩ := gd_e hf
                refine w6_iald (j := p1.toNatClampNeg) F I (m_ar 2 2 (by decide) rfl) g11 rfl dX3_mayNot_68 ?_
                refine lv_icmp_eq (tgt := 82) hx hb dX3_mayNot_69 (by decide) (fun c => ?_) (fun c => ?_)
                · have hf := if_p c hf
                  refine lv_iconst (v := (4 : Int32)) hx hb dX3_mayNot_82 (by decide) ?_
                  exact hret _ _ _ _ _ dX3_mayNot_83 (w6_mv (so_e hf).2 I) (so_e hf).1 rfl
                · have hf := if_n c hf
                  refine lv_aload_n hx hb dX3_mayNot_72 rfl (lv_at hl 0 rfl) ?_
                  refine lv_iload_n hx hb dX3_mayNot_73 rfl (lv_at hl 1 rfl) ?_
                  refine lv_iconst (v := (4 : Int32)) hx hb dX3_mayNot_74 (by decide) ?_
                  obtain ⟨r14, V12, h13, hf⟩ := bi_e hf
                  refine xz_Vi F I (ctm_get l D g ad V8 p1 (4 : Int32) r14 V12 h13 ) (lw_V q869 q871 qs25 q50 q872) hdX3_get rfl (Nat.le_of_ble_eq_true rfl) (Nat.le_of_ble_eq_true rfl) (w6_recv F I mo_ob rfl) rfl hl.1 [] rfl (Nat.le_of_ble_eq_true rfl) dX3_mayNot_75 ⟨Nat.le_of_ble_eq_true rfl, Nat.le_of_ble_eq_true rfl⟩ (fun H locs I => ?_)
                  refine lv_iload_n hx hb dX3_mayNot_78 rfl (lv_at hl 3 rfl) ?_
                  refine lv_icmp_ne (tgt := 84) hx hb dX3_mayNot_79 (by decide) (fun c => ?_) (fun c => ?_)
                  · have hf := if_n c hf
                    refine lv_aload_n hx hb dX3_mayNot_84 rfl (lv_at hl 0 rfl) ?_
                    refine lv_iload_n hx hb dX3_mayNot_85 rfl (lv_at hl 1 rfl) ?_
                    refine lv_iconst (v := (2 : Int32)) hx hb dX3_mayNot_86 (by decide) ?_
                    obtain ⟨r17, V15, h16, hf⟩ := bi_e hf
                    refine xz_Vi F I (ctm_get l D g ad V12 p1 (2 : Int32) r17 V15 h16 ) (lw_V q869 q871 qs25 q50 q872) hdX3_get rfl (Nat.le_of_ble_eq_true rfl) (Nat.le_of_ble_eq_true rfl) (w6_recv F I mo_ob rfl) rfl hl.1 [] rfl (Nat.le_of_ble_eq_true rfl) dX3_mayNot_87 ⟨Nat.le_of_ble_eq_true rfl, Nat.le_of_ble_eq_true rfl⟩ (fun H locs I => ?_)
                    refine lv_aload_n hx hb dX3_mayNot_90 rfl (lv_at hl 0 rfl) ?_
                    refine w6_get F I mo_ob rfl in_X3 2 (by decide) q766 rfl rfl dX3_mayNot_91 ?_
                    refine lv_iconst (v := (4 : Int32)) hx hb dX3_mayNot_94 (by decide) ?_
                    refine w6_iald (j := 4) F I (m_ar 3 6 (by decide) rfl) (show ix_ (4 : Int32) 6 by decide) rfl dX3_mayNot_95 ?_
                    refine lv_icmp_lt (tgt := 101) hx hb dX3_mayNot_96 (by decide) (fun c => ?_) (fun c => ?_)
                    · have hf := if_p c hf
                      refine lv_aload_n hx hb dX3_mayNot_101 rfl (lv_at hl 0 rfl) ?_
                      refine lv_iload_n hx hb dX3_mayNot_102 rfl (lv_at hl 1 rfl) ?_
                      refine lv_bipush (v := (14 : Int32)) hx hb dX3_mayNot_103 (by decide) ?_
                      refine lv_iload_n hx hb dX3_mayNot_105 rfl (lv_at hl 2 rfl) ?_
                      refine lv_iadd hx hb dX3_mayNot_106 ?_
                      obtain ⟨r20, V18, h19, hf⟩ := bi_e hf
                      refine xz_Vi F I (ctm_get l D g ad V15 p1 ((14 : Int32) + p2) r20 V18 h19 ) (lw_V q869 q871 qs25 q50 q872) hdX3_get rfl (Nat.le_of_ble_eq_true rfl) (Nat.le_of_ble_eq_true rfl) (w6_recv F I mo_ob rfl) rfl hl.1 [] rfl (Nat.le_of_ble_eq_true rfl) dX3_mayNot_107 ⟨Nat.le_of_ble_eq_true rfl, Nat.le_of_ble_eq_true rfl⟩ (fun H locs I => ?_)
                      refine lv_istore (lv' := [(4, .int r20), (0, .ref (ad 0)), (1, .int p1), (2, .int p2), (3, .int p3)]) hx hb dX3_mayNot_110 hl (by decide) rfl (fun ls hl => ?_)
                      refine lv_aload_n hx hb dX3_mayNot_112 rfl (lv_at hl 1 rfl) ?_
                      refine lv_iload_n hx hb dX3_mayNot_113 rfl (lv_at hl 2 rfl) ?_
                      refine lv_bipush (v := (14 : Int32)) hx hb dX3_mayNot_114 (by decide) ?_
                      refine lv_iload_n hx hb dX3_mayNot_116 rfl (lv_at hl 4 rfl) ?_
                      refine lv_iadd hx hb dX3_mayNot_117 ?_
                      obtain ⟨r23, V21, h22, hf⟩ := bi_e hf
                      refine xz_Vi F I (ctm_get l D g ad V18 p1 ((14 : Int32) + p3) r23 V21 h22 ) (lw_V q869 q871 qs25 q50 q872) hdX3_get rfl (Nat.le_of_ble_eq_true rfl) (Nat.le_of_ble_eq_true rfl) (w6_recv F I mo_ob rfl) rfl hl.1 [] rfl (Nat.le_of_ble_eq_true rfl) dX3_mayNot_118 ⟨Nat.le_of_ble_eq_true rfl, Nat.le_of_ble_eq_true rfl⟩ (fun H locs I => ?_)
                      refine lv_istore (lv' := [(5, .int r23), (4, .int r20), (0, .ref (ad 0)), (1, .int p1), (2, .int p2), (3, .int p3)]) hx hb dX3_mayNot_121 hl (by decide) rfl (fun ls hl => ?_)
                      refine lv_iload hx hb dX3_mayNot_123 (lv_at hl 1 rfl) ?_
                      refine lv_iconst (v := (1 : Int32)) hx hb dX3_mayNot_125 (by decide) ?_
                      refine lv_icmp_ne (tgt := 136) hx hb dX3_mayNot_126 (by decide) (fun c => ?_) (fun c => ?_)
                      · have hf := if_n c hf
                        exact hJ136 V21 r20 r23 _ _ ls hf I (lv_sub hl [2, 3, 4, 5, 1, 0] rfl)
                      · have hf := if_p c hf
                        refine lv_iload hx hb dX3_mayNot_129 (lv_at hl 0 rfl) ?_
                        refine lv_if_ne (tgt := 136) hx hb dX3_mayNot_131 (by decide) (fun c => ?_) (fun c => ?_)
                        · have hf := if_n c hf
                          exact hJ136 V21 r20 r23 _ _ ls hf I (lv_sub hl [2, 3, 4, 5, 1, 0] rfl)
                        · have hf := if_p c hf
                          refine lv_iconst (v := (0 : Int32)) hx hb dX3_mayNot_134 (by decide) ?_
                          exact hret _ _ _ _ _ dX3_mayNot_135 (w6_mv (so_e hf).2 I) (so_e hf).1 rfl
                    · have hf := if_n c hf
                      refine lv_iconst (v := (5 : Int32)) hx hb dX3_mayNot_99 (by decide) ?_
                      exact hret _ _ _ _ _ dX3_mayNot_100 (w6_mv (so_e hf).2 I) (so_e hf).1 rfl
                  · have hf := if_p c hf
                    refine lv_iconst (v := (4 : Int32)) hx hb dX3_mayNot_82 (by decide) ?_
                    exact hret _ _ _ _ _ dX3_mayNot_83 (w6_mv (so_e hf).2 I) (so_e hf).1 rfl
            · have hf := if_p c hf
              refine lv_iconst (v := (3 : Int32)) hx hb dX3_mayNot_50 (by decide) ?_
              exact hret _ _ _ _ _ dX3_mayNot_51 (w6_mv (so_e hf).2 I) (so_e hf).1 rfl
        · have hf := if_p c hf
          refine lv_iconst (v := (2 : Int32)) hx hb dX3_mayNot_28 (by decide) ?_
          exact hret _ _ _ _ _ dX3_mayNot_29 (w6_mv (so_e hf).2 I) (so_e hf).1 rfl
  · have hf := if_p c hf
    refine lv_iconst (v := (1 : Int32)) hx hb dX3_mayNot_7 (by decide) ?_
    exact hret _ _ _ _ _ dX3_mayNot_8 (w6_mv (so_e hf).2 I) (so_e hf).1 rfl
def m_may (V : Mm) (p1 : Int32) (p2 : Int32) (p3 : Int32) : Option (Int32 × Mm) :=
  lt_ (mset V 0 13 (0 : Int32)) fun V1 => if (pm_isTeam p1) = (0 : Int32) then (some ((-1 : Int32), V1)) else (bi_ (m_mayNot V1 p1 p2 p3) fun r4 V2 => some (r4, V2))
theorem hdX3_may : w6_hd yX3_may 3 := by decide +kernel
abbrev rmX3_may : Room := { frames := 3, cells := 0, slots := 0, locals := 70 }
set_option maxHeartbeats 4000000 in
set_option maxRecDepth 100000 in
theorem ctm_may (l : Launch) (D : va_G) (g : Nat → ClassId) (ad : Nat → Nat) (V : Mm) (p1 : Int32) (p2 : Int32) (p3 : Int32) (r : Int32) (V' : Mm) (hf : m_may V p1 p2 p3 = some (r, V'))  : CTi l D g yX3_may cX3_may 4 .int rmX3_may [.ref (ad 0), .int p1, .int p2, .int p3] (mw g ad V) (mw g ad V') r := by
  intro sz
  refine w6_starti RX3 (by decide) (Nat.le_of_ble_eq_true rfl) rfl ?_
  intro p e s m below meth c A ls Q hx hb hown hts F I hl hret
  have hl : lv_has ls 4 [(0, .ref (ad 0)), (1, .int p1), (2, .int p2), (3, .int p3)] := hl
  unfold m_may at hf
  refine lv_aload_n hx hb dX3_may_0 rfl (lv_at hl 0 rfl) ?_
  refine lv_iconst (v := (0 : Int32)) hx hb dX3_may_1 (by decide) ?_
  obtain ⟨V1, eV1, hf⟩ := lt_e hf
  refine w6_put msh_lc F I mo_ob rfl in_X3 tyX3 tyX3_ok nmX3 13 (by decide) (mo_nf 13 (by decide)) q777 rfl rfl (tyX3_ok 13 (by decide)) rfl rfl dX3_may_2 eV1 (fun H locs I => ?_)
  refine lv_iload_n hx hb dX3_may_5 rfl (lv_at hl 1 rfl) ?_
  refine xz_Pi F I (ctpm_isTeam l D g p1 _ rfl) (lw_S q828 q829 q50 q830) hdX3_isTeam (Nat.le_of_ble_eq_true rfl) (Nat.le_of_ble_eq_true rfl) rfl hl.1 [] rfl (Nat.le_of_ble_eq_true rfl) dX3_may_6 ⟨Nat.le_of_ble_eq_true rfl, Nat.le_of_ble_eq_true rfl⟩ (fun H locs I => ?_)
  refine lv_if_eq (tgt := 22) hx hb dX3_may_9 (by decide) (fun c => ?_) (fun c => ?_)
  · have hf := if_p c hf
    refine lv_iconst (v := (-1 : Int32)) hx hb dX3_may_22 (by decide) ?_
    exact hret _ _ _ _ _ dX3_may_23 (w6_mv (so_e hf).2 I) (so_e hf).1 rfl
  · have hf := if_n c hf
    refine lv_aload_n hx hb dX3_may_12 rfl (lv_at hl 0 rfl) ?_
    refine lv_iload_n hx hb dX3_may_13 rfl (lv_at hl 1 rfl) ?_
    refine lv_iload_n hx hb dX3_may_14 rfl (lv_at hl 2 rfl) ?_
    refine lv_iload_n hx hb dX3_may_15 rfl (lv_at hl 3 rfl) ?_
    obtain ⟨r4, V2, h3, hf⟩ := bi_e hf
    refine xz_Vi F I (ctm_mayNot l D g ad V1 p1 p2 p3 r4 V2 h3 ) (lw_V q901 q903 qs31 q50 q904) hdX3_mayNot rfl (Nat.le_of_ble_eq_true rfl) (Nat.le_of_ble_eq_true rfl) (w6_recv F I mo_ob rfl) rfl hl.1 [] rfl (Nat.le_of_ble_eq_true rfl) dX3_may_16 ⟨Nat.le_of_ble_eq_true rfl, Nat.le_of_ble_eq_true rfl⟩ (fun H locs I => ?_)
    refine lv_goto (tgt := 23) hx hb dX3_may_19 (by decide) ?_
    exact hret _ _ _ _ _ dX3_may_23 (w6_mv (so_e hf).2 I) (so_e hf).1 rfl
def m_doChange_j74 (p1 : Int32) (p2 : Int32) (p3 : Int32) (V : Mm)  (a4 : Int32) (s0 : Int32) (s1 : Int32) (s2 : Int32) : Option (Int32 × Mm) :=
  (m_put V s2 s1 s0).bind fun V11 => (m_put V11 p1 ((26 : Int32) + p2) p3).bind fun V13 => (m_put V13 p1 ((26 : Int32) + p3) p2).bind fun V15 => bi_ (m_get V15 p1 (2 : Int32)) fun r19 V17 => (m_put V17 p1 (2 : Int32) (r19 + (1 : Int32))).bind fun V20 => some (a4, V20)
def m_doChange_j55 (p1 : Int32) (p2 : Int32) (p3 : Int32) (V : Mm)  (a4 : Int32) (a5 : Int32) (s0 : Int32) (s1 : Int32) (s2 : Int32) : Option (Int32 × Mm) :=
  (m_put V s2 s1 s0).bind fun V9 => if a5 = (0 : Int32) then (m_doChange_j74 p1 p2 p3 V9 a4 (3 : Int32) ((14 : Int32) + p3) p1) else (m_doChange_j74 p1 p2 p3 V9 a4 (4 : Int32) ((14 : Int32) + p3) p1)
def m_doChange_j26 (p1 : Int32) (p2 : Int32) (p3 : Int32) (V : Mm)  (a4 : Int32) (s0 : Int32) : Option (Int32 × Mm) :=
  (m_put V p1 ((8 : Int32) + a4) p3).bind fun V7 => if s0 = (0 : Int32) then (m_doChange_j55 p1 p2 p3 V7 a4 s0 (2 : Int32) ((14 : Int32) + p2) p1) else (m_doChange_j55 p1 p2 p3 V7 a4 s0 (4 : Int32) ((14 : Int32) + p2) p1)
def m_doChange (V : Mm) (p1 : Int32) (p2 : Int32) (p3 : Int32) : Option (Int32 × Mm) :=
  bi_ (m_placeOf V p1 p2) fun r3 V1 => bi_ (m_get V1 p1 ((14 : Int32) + p2)) fun r6 V4 => if r6 = (3 : Int32) then (m_doChange_j26 p1 p2 p3 V4 r3 (1 : Int32)) else (m_doChange_j26 p1 p2 p3 V4 r3 (0 : Int32))
theorem hdX3_doChange : w6_hd yX3_doChange 3 := by decide +kernel
abbrev rmX3_doChange : Room := { frames := 2, cells := 0, slots := 0, locals := 45 }
set_option maxHeartbeats 4000000 in
set_option maxRecDepth 100000 in
theorem ctm_doChange (l : Launch) (D : va_G) (g : Nat → ClassId) (ad : Nat → Nat) (V : Mm) (p1 : Int32) (p2 : Int32) (p3 : Int32) (r : Int32) (V' : Mm) (hf : m_doChange V p1 p2 p3 = some (r, V'))  : CTi l D g yX3_doChange cX3_doChange 6 .int rmX3_doChange [.ref (ad 0), .int p1, .int p2, .int p3] (mw g ad V) (mw g ad V') r := by
  intro sz
  refine w6_starti RX3 (by decide) (Nat.le_of_ble_eq_true rfl) rfl ?_
  intro p e s m below meth c A ls Q hx hb hown hts F I hl hret
  have hl : lv_has ls 6 [(0, .ref (ad 0)), (1, .int p1), (2, .int p2), (3, .int p3)] := hl
  have hJ74 : ∀ (V : Mm) (a4 : Int32) (s0 : Int32) (s1 : Int32) (s2 : Int32) (H : Heap) (locs : List Loc) (ls : Array Slot), m_doChange_j74 p1 p2 p3 V a4 s0 s1 s2 = some (r, V') → w6_I D (mw g ad V ++ []) A s H locs → lv_has ls 6 [(0, .ref (ad 0)), (1, .int p1), (2, .int p2), (3, .int p3), (4, .int a4)] → W p l e rmX3_doChange s m ([.ref (ad 0), .int p1, .int p2, .int p3] : List Value).toArray below meth c H locs 0 0 Q (F0 m 74 ls [.int s0, .int s1, .int s2, .ref (ad 0)]) := by
    intro V a4 s0 s1 s2 H locs ls hf I hl
    unfold m_doChange_j74 at hf
    obtain ⟨V11, h12, hf⟩ := bn_e hf
    refine xz_Vv F I (ctm_put l D g ad V s2 s1 s0 V11 h12 ) (lw_V q756 q758 qs20 q50 q759) hdX3_put rfl (Nat.le_of_ble_eq_true rfl) (Nat.le_of_ble_eq_true rfl) (w6_recv F I mo_ob rfl) rfl hl.1 [] rfl (Nat.le_of_ble_eq_true rfl) dX3_doChange_74 ⟨Nat.le_of_ble_eq_true rfl, Nat.le_of_ble_eq_true rfl⟩ (fun H locs I => ?_)
    refine lv_aload_n hx hb dX3_doChange_77 rfl (lv_at hl 0 rfl) ?_
    refine lv_iload_n hx hb dX3_doChange_78 rfl (lv_at hl 1 rfl) ?_
    refine lv_bipush (v := (26 : Int32)) hx hb dX3_doChange_79 (by decide) ?_
    refine lv_iload_n hx hb dX3_doChange_81 rfl (lv_at hl 2 rfl) ?_
    refine lv_iadd hx hb dX3_doChange_82 ?_
    refine lv_iload_n hx hb dX3_doChange_83 rfl (lv_at hl 3 rfl) ?_
    obtain ⟨V13, h14, hf⟩ := bn_e hf
    refine xz_Vv F I (ctm_put l D g ad V11 p1 ((26 : Int32) + p2) p3 V13 h14 ) (lw_V q756 q758 qs20 q50 q759) hdX3_put rfl (Nat.le_of_ble_eq_true rfl) (Nat.le_of_ble_eq_true rfl) (w6_recv F I mo_ob rfl) rfl hl.1 [] rfl (Nat.le_of_ble_eq_true rfl) dX3_doChange_84 ⟨Nat.le_of_ble_eq_true rfl, Nat.le_of_ble_eq_true rfl⟩ (fun H locs I => ?_)
    refine lv_aload_n hx hb dX3_doChange_87 rfl (lv_at hl 0 rfl) ?_
    refine lv_iload_n hx hb dX3_doChange_88 rfl (lv_at hl 1 rfl) ?_
    refine lv_bipush (v := (26 : Int32)) hx hb dX3_doChange_89 (by decide) ?_
    refine lv_iload_n hx hb dX3_doChange_91 rfl (lv_at hl 3 rfl) ?_
    refine lv_iadd hx hb dX3_doChange_92 ?_
    refine lv_iload_n hx hb dX3_doChange_93 rfl (lv_at hl 2 rfl) ?_
    obtain ⟨V15, h16, hf⟩ := bn_e hf
    refine xz_Vv F I (ctm_put l D g ad V13 p1 ((26 : Int32) + p3) p2 V15 h16 ) (lw_V q756 q758 qs20 q50 q759) hdX3_put rfl (Nat.le_of_ble_eq_true rfl) (Nat.le_of_ble_eq_true rfl) (w6_recv F I mo_ob rfl) rfl hl.1 [] rfl (Nat.le_of_ble_eq_true rfl) dX3_doChange_94 ⟨Nat.le_of_ble_eq_true rfl, Nat.le_of_ble_eq_true rfl⟩ (fun H locs I => ?_)
    refine lv_aload_n hx hb dX3_doChange_97 rfl (lv_at hl 0 rfl) ?_
    refine lv_iload_n hx hb dX3_doChange_98 rfl (lv_at hl 1 rfl) ?_
    refine lv_iconst (v := (2 : Int32)) hx hb dX3_doChange_99 (by decide) ?_
    refine lv_aload_n hx hb dX3_doChange_100 rfl (lv_at hl 0 rfl) ?_
    refine lv_iload_n hx hb dX3_doChange_101 rfl (lv_at hl 1 rfl) ?_
    refine lv_iconst (v := (2 : Int32)) hx hb dX3_doChange_102 (by decide) ?_
    obtain ⟨r19, V17, h18, hf⟩ := bi_e hf
    refine xz_Vi F I (ctm_get l D g ad V15 p1 (2 : Int32) r19 V17 h18 ) (lw_V q869 q871 qs25 q50 q872) hdX3_get rfl (Nat.le_of_ble_eq_true rfl) (Nat.le_of_ble_eq_true rfl) (w6_recv F I mo_ob rfl) rfl hl.1 [.int (2 : Int32), .int p1, .ref (ad 0)] rfl (Nat.le_of_ble_eq_true rfl) dX3_doChange_103 ⟨Nat.le_of_ble_eq_true rfl, Nat.le_of_ble_eq_true rfl⟩ (fun H locs I => ?_)
    refine lv_iconst (v := (1 : Int32)) hx hb dX3_doChange_106 (by decide) ?_
    refine lv_iadd hx hb dX3_doChange_107 ?_
    obtain ⟨V20, h21, hf⟩ := bn_e hf
    refine xz_Vv F I (ctm_put l D g ad V17 p1 (2 : Int32) (r19 + (1 : Int32)) V20 h21 ) (lw_V q756 q758 qs20 q50 q759) hdX3_put rfl (Nat.le_of_ble_eq_true rfl) (Nat.le_of_ble_eq_true rfl) (w6_recv F I mo_ob rfl) rfl hl.1 [] rfl (Nat.le_of_ble_eq_true rfl) dX3_doChange_108 ⟨Nat.le_of_ble_eq_true rfl, Nat.le_of_ble_eq_true rfl⟩ (fun H locs I => ?_)
    refine lv_iload hx hb dX3_doChange_111 (lv_at hl 4 rfl) ?_
    exact hret _ _ _ _ _ dX3_doChange_113 (w6_mv (so_e hf).2 I) (so_e hf).1 rfl
  have hJ55 : ∀ (V : Mm) (a4 : Int32) (a5 : Int32) (s0 : Int32) (s1 : Int32) (s2 : Int32) (H : Heap) (locs : List Loc) (ls : Array Slot), m_doChange_j55 p1 p2 p3 V a4 a5 s0 s1 s2 = some (r, V') → w6_I D (mw g ad V ++ []) A s H locs → lv_has ls 6 [(0, .ref (ad 0)), (1, .int p1), (2, .int p2), (3, .int p3), (4, .int a4), (5, .int a5)] → W p l e rmX3_doChange s m ([.ref (ad 0), .int p1, .int p2, .int p3] : List Value).toArray below meth c H locs 0 0 Q (F0 m 55 ls [.int s0, .int s1, .int s2, .ref (ad 0)]) := by
    intro V a4 a5 s0 s1 s2 H locs ls hf I hl
    unfold m_doChange_j55 at hf
    obtain ⟨V9, h10, hf⟩ := bn_e hf
    refine xz_Vv F I (ctm_put l D g ad V s2 s1 s0 V9 h10 ) (lw_V q756 q758 qs20 q50 q759) hdX3_put rfl (Nat.le_of_ble_eq_true rfl) (Nat.le_of_ble_eq_true rfl) (w6_recv F I mo_ob rfl) rfl hl.1 [] rfl (Nat.le_of_ble_eq_true rfl) dX3_doChange_55 ⟨Nat.le_of_ble_eq_true rfl, Nat.le_of_ble_eq_true rfl⟩ (fun H locs I => ?_)
    refine lv_aload_n hx hb dX3_doChange_58 rfl (lv_at hl 0 rfl) ?_
    refine lv_iload_n hx hb dX3_doChange_59 rfl (lv_at hl 1 rfl) ?_
    refine lv_bipush (v := (14 : Int32)) hx hb dX3_doChange_60 (by decide) ?_
    refine lv_iload_n hx hb dX3_doChange_62 rfl (lv_at hl 3 rfl) ?_
    refine lv_iadd hx hb dX3_doChange_63 ?_
    refine lv_iload hx hb dX3_doChange_64 (lv_at hl 5 rfl) ?_
    refine lv_if_eq (tgt := 73) hx hb dX3_doChange_66 (by decide) (fun c => ?_) (fun c => ?_)
    · have hf := if_p c hf
      refine lv_iconst (v := (3 : Int32)) hx hb dX3_doChange_73 (by decide) ?_
      exact hJ74 V9 a4 (3 : Int32) ((14 : Int32) + p3) p1 _ _ ls hf I (lv_sub hl [0, 1, 2, 3, 4] rfl)
    · have hf := if_n c hf
      refine lv_iconst (v := (4 : Int32)) hx hb dX3_doChange_69 (by decide) ?_
      refine lv_goto (tgt := 74) hx hb dX3_doChange_70 (by decide) ?_
      exact hJ74 V9 a4 (4 : Int32) ((14 : Int32) + p3) p1 _ _ ls hf I (lv_sub hl [0, 1, 2, 3, 4] rfl)
  have hJ26 : ∀ (V : Mm) (a4 : Int32) (s0 : Int32) (H : Heap) (locs : List Loc) (ls : Array Slot), m_doChange_j26 p1 p2 p3 V a4 s0 = some (r, V') → w6_I D (mw g ad V ++ []) A s H locs → lv_has ls 6 [(0, .ref (ad 0)), (1, .int p1), (2, .int p2), (3, .int p3), (4, .int a4)] → W p l e rmX3_doChange s m ([.ref (ad 0), .int p1, .int p2, .int p3] : List Value).toArray below meth c H locs 0 0 Q (F0 m 26 ls [.int s0]) := by
    intro V a4 s0 H locs ls hf I hl
    unfold m_doChange_j26 at hf
    refine lv_istore (lv' := [(5, .int s0), (0, .ref (ad 0)), (1, .int p1), (2, .int p2), (3, .int p3), (4, .int a4)]) hx hb dX3_doChange_26 hl (by decide) rfl (fun ls hl => ?_)
    refine lv_aload_n hx hb dX3_doChange_28 rfl (lv_at hl 1 rfl) ?_
    refine lv_iload_n hx hb dX3_doChange_29 rfl (lv_at hl 2 rfl) ?_
    refine lv_bipush (v := (8 : Int32)) hx hb dX3_doChange_30 (by decide) ?_
    refine lv_iload hx hb dX3_doChange_32 (lv_at hl 5 rfl) ?_
    refine lv_iadd hx hb dX3_doChange_34 ?_
    refine lv_iload_n hx hb dX3_doChange_35 rfl (lv_at hl 4 rfl) ?_
    obtain ⟨V7, h8, hf⟩ := bn_e hf
    refine xz_Vv F I (ctm_put l D g ad V p1 ((8 : Int32) + a4) p3 V7 h8 ) (lw_V q756 q758 qs20 q50 q759) hdX3_put rfl (Nat.le_of_ble_eq_true rfl) (Nat.le_of_ble_eq_true rfl) (w6_recv F I mo_ob rfl) rfl hl.1 [] rfl (Nat.le_of_ble_eq_true rfl) dX3_doChange_36 ⟨Nat.le_of_ble_eq_true rfl, Nat.le_of_ble_eq_true rfl⟩ (fun H locs I => ?_)
    refine lv_aload_n hx hb dX3_doChange_39 rfl (lv_at hl 1 rfl) ?_
    refine lv_iload_n hx hb dX3_doChange_40 rfl (lv_at hl 2 rfl) ?_
    refine lv_bipush (v := (14 : Int32)) hx hb dX3_doChange_41 (by decide) ?_
    refine lv_iload_n hx hb dX3_doChange_43 rfl (lv_at hl 3 rfl) ?_
    refine lv_iadd hx hb dX3_doChange_44 ?_
    refine lv_iload hx hb dX3_doChange_45 (lv_at hl 0 rfl) ?_
    refine lv_if_eq (tgt := 54) hx hb dX3_doChange_47 (by decide) (fun c => ?_) (fun c => ?_)
    · have hf := if_p c hf
      refine lv_iconst (v := (2 : Int32)) hx hb dX3_doChange_54 (by decide) ?_
      exact hJ55 V7 a4 s0 (2 : Int32) ((14 : Int32) + p2) p1 _ _ ls hf I (lv_sub hl [1, 2, 3, 4, 5, 0] rfl)
    · have hf := if_n c hf
      refine lv_iconst (v := (4 : Int32)) hx hb dX3_doChange_50 (by decide) ?_
      refine lv_goto (tgt := 55) hx hb dX3_doChange_51 (by decide) ?_
      exact hJ55 V7 a4 s0 (4 : Int32) ((14 : Int32) + p2) p1 _ _ ls hf I (lv_sub hl [1, 2, 3, 4, 5, 0] rfl)
  unfold m_doChange at hf
  refine lv_aload_n hx hb dX3_doChange_0 rfl (lv_at hl 0 rfl) ?_
  refine lv_iload_n hx hb dX3_doChange_1 rfl (lv_at hl 1 rfl) ?_
  refine lv_iload_n hx hb dX3_doChange_2 rfl (lv_at hl 2 rfl) ?_
  obtain ⟨r3, V1, h2, hf⟩ := bi_e hf
  refine xz_Vi F I (ctm_placeOf l D g ad V p1 p2 r3 V1 h2 ) (lw_V q905 q907 qs32 q50 q908) hdX3_placeOf rfl (Nat.le_of_ble_eq_true rfl) (Nat.le_of_ble_eq_true rfl) (w6_recv F I mo_ob rfl) rfl hl.1 [] rfl (Nat.le_of_ble_eq_true rfl) dX3_doChange_3 ⟨Nat.le_of_ble_eq_true rfl, Nat.le_of_ble_eq_true rfl⟩ (fun H locs I => ?_)
  refine lv_istore (lv' := [(4, .int r3), (0, .ref (ad 0)), (1, .int p1), (2, .int p2), (3, .int p3)]) hx hb dX3_doChange_6 hl (by decide) rfl (fun ls hl => ?_)
  refine lv_aload_n hx hb dX3_doChange_8 rfl (lv_at hl 1 rfl) ?_
  refine lv_iload_n hx hb dX3_doChange_9 rfl (lv_at hl 2 rfl) ?_
  refine lv_bipush (v := (14 : Int32)) hx hb dX3_doChange_10 (by decide) ?_
  refine lv_iload_n hx hb dX3_doChange_12 rfl (lv_at hl 3 rfl) ?_
  refine lv_iadd hx hb dX3_doChange_13 ?_
  obtain ⟨r6, V4, h5, hf⟩ := bi_e hf
  refine xz_Vi F I (ctm_get l D g ad V1 p1 ((14 : Int32) + p2) r6 V4 h5 ) (lw_V q869 q871 qs25 q50 q872) hdX3_get rfl (Nat.le_of_ble_eq_true rfl) (Nat.le_of_ble_eq_true rfl) (w6_recv F I mo_ob rfl) rfl hl.1 [] rfl (Nat.le_of_ble_eq_true rfl) dX3_doChange_14 ⟨Nat.le_of_ble_eq_true rfl, Nat.le_of_ble_eq_true rfl⟩ (fun H locs I => ?_)
  refine lv_iconst (v := (3 : Int32)) hx hb dX3_doChange_17 (by decide) ?_
  refine lv_icmp_ne (tgt := 25) hx hb dX3_doChange_18 (by decide) (fun c => ?_) (fun c => ?_)
  · have hf := if_n c hf
    refine lv_iconst (v := (0 : Int32)) hx hb dX3_doChange_25 (by decide) ?_
    exact hJ26 V4 r3 (0 : Int32) _ _ ls hf I (lv_sub hl [1, 2, 3, 4, 0] rfl)
  · have hf := if_p c hf
    refine lv_iconst (v := (1 : Int32)) hx hb dX3_doChange_21 (by decide) ?_
    refine lv_goto (tgt := 26) hx hb dX3_doChange_22 (by decide) ?_
    exact hJ26 V4 r3 (1 : Int32) _ _ ls hf I (lv_sub hl [1, 2, 3, 4, 0] rfl)
def m_change (V : Mm) (p1 : Int32) (p2 : Int32) (p3 : Int32) : Option (Int32 × Mm) :=
  lt_ (mset V 0 13 (0 : Int32)) fun V1 => if (pm_isTeam p1) = (0 : Int32) then (some ((-1 : Int32), V1)) else (bi_ (m_mayNot V1 p1 p2 p3) fun r4 V2 => if r4 = (0 : Int32) then (bi_ (m_doChange V2 p1 p2 p3) fun r7 V5 => some (r7, V5)) else (some ((-1 : Int32), V2)))
theorem hdX3_change : w6_hd yX3_change 3 := by decide +kernel
abbrev rmX3_change : Room := { frames := 3, cells := 0, slots := 0, locals := 70 }
set_option maxHeartbeats 4000000 in
set_option maxRecDepth 100000 in
theorem ctm_change (l : Launch) (D : va_G) (g : Nat → ClassId) (ad : Nat → Nat) (V : Mm) (p1 : Int32) (p2 : Int32) (p3 : Int32) (r : Int32) (V' : Mm) (hf : m_change V p1 p2 p3 = some (r, V'))  : CTi l D g yX3_change cX3_change 4 .int rmX3_change [.ref (ad 0), .int p1, .int p2, .int p3] (mw g ad V) (mw g ad V') r := by
  intro sz
  refine w6_starti RX3 (by decide) (Nat.le_of_ble_eq_true rfl) rfl ?_
  intro p e s m below meth c A ls Q hx hb hown hts F I hl hret
  have hl : lv_has ls 4 [(0, .ref (ad 0)), (1, .int p1), (2, .int p2), (3, .int p3)] := hl
  unfold m_change at hf
  refine lv_aload_n hx hb dX3_change_0 rfl (lv_at hl 0 rfl) ?_
  refine lv_iconst (v := (0 : Int32)) hx hb dX3_change_1 (by decide) ?_
  obtain ⟨V1, eV1, hf⟩ := lt_e hf
  refine w6_put msh_lc F I mo_ob rfl in_X3 tyX3 tyX3_ok nmX3 13 (by decide) (mo_nf 13 (by decide)) q777 rfl rfl (tyX3_ok 13 (by decide)) rfl rfl dX3_change_2 eV1 (fun H locs I => ?_)
  refine lv_iload_n hx hb dX3_change_5 rfl (lv_at hl 1 rfl) ?_
  refine xz_Pi F I (ctpm_isTeam l D g p1 _ rfl) (lw_S q828 q829 q50 q830) hdX3_isTeam (Nat.le_of_ble_eq_true rfl) (Nat.le_of_ble_eq_true rfl) rfl hl.1 [] rfl (Nat.le_of_ble_eq_true rfl) dX3_change_6 ⟨Nat.le_of_ble_eq_true rfl, Nat.le_of_ble_eq_true rfl⟩ (fun H locs I => ?_)
  refine lv_if_eq (tgt := 32) hx hb dX3_change_9 (by decide) (fun c => ?_) (fun c => ?_)
  · have hf := if_p c hf
    refine lv_iconst (v := (-1 : Int32)) hx hb dX3_change_32 (by decide) ?_
    exact hret _ _ _ _ _ dX3_change_33 (w6_mv (so_e hf).2 I) (so_e hf).1 rfl
  · have hf := if_n c hf
    refine lv_aload_n hx hb dX3_change_12 rfl (lv_at hl 0 rfl) ?_
    refine lv_iload_n hx hb dX3_change_13 rfl (lv_at hl 1 rfl) ?_
    refine lv_iload_n hx hb dX3_change_14 rfl (lv_at hl 2 rfl) ?_
    refine lv_iload_n hx hb dX3_change_15 rfl (lv_at hl 3 rfl) ?_
    obtain ⟨r4, V2, h3, hf⟩ := bi_e hf
    refine xz_Vi F I (ctm_mayNot l D g ad V1 p1 p2 p3 r4 V2 h3 ) (lw_V q901 q903 qs31 q50 q904) hdX3_mayNot rfl (Nat.le_of_ble_eq_true rfl) (Nat.le_of_ble_eq_true rfl) (w6_recv F I mo_ob rfl) rfl hl.1 [] rfl (Nat.le_of_ble_eq_true rfl) dX3_change_16 ⟨Nat.le_of_ble_eq_true rfl, Nat.le_of_ble_eq_true rfl⟩ (fun H locs I => ?_)
    refine lv_if_ne (tgt := 32) hx hb dX3_change_19 (by decide) (fun c => ?_) (fun c => ?_)
    · have hf := if_n c hf
      refine lv_iconst (v := (-1 : Int32)) hx hb dX3_change_32 (by decide) ?_
      exact hret _ _ _ _ _ dX3_change_33 (w6_mv (so_e hf).2 I) (so_e hf).1 rfl
    · have hf := if_p c hf
      refine lv_aload_n hx hb dX3_change_22 rfl (lv_at hl 0 rfl) ?_
      refine lv_iload_n hx hb dX3_change_23 rfl (lv_at hl 1 rfl) ?_
      refine lv_iload_n hx hb dX3_change_24 rfl (lv_at hl 2 rfl) ?_
      refine lv_iload_n hx hb dX3_change_25 rfl (lv_at hl 3 rfl) ?_
      obtain ⟨r7, V5, h6, hf⟩ := bi_e hf
      refine xz_Vi F I (ctm_doChange l D g ad V2 p1 p2 p3 r7 V5 h6 ) (lw_V q913 q915 qs33 q50 q916) hdX3_doChange rfl (Nat.le_of_ble_eq_true rfl) (Nat.le_of_ble_eq_true rfl) (w6_recv F I mo_ob rfl) rfl hl.1 [] rfl (Nat.le_of_ble_eq_true rfl) dX3_change_26 ⟨Nat.le_of_ble_eq_true rfl, Nat.le_of_ble_eq_true rfl⟩ (fun H locs I => ?_)
      refine lv_goto (tgt := 33) hx hb dX3_change_29 (by decide) ?_
      exact hret _ _ _ _ _ dX3_change_33 (w6_mv (so_e hf).2 I) (so_e hf).1 rfl
def m_doFree_j144 (p1 : Int32) (p2 : Int32) (V : Mm)  (a3 : Int32) : Option (Int32 × Mm) :=
  (m_put V p1 (7 : Int32) (1 : Int32)).bind fun V19 => some (a3, V19)
def m_doFree_j122 (p1 : Int32) (p2 : Int32) (V : Mm)  (a3 : Int32) : Option (Int32 × Mm) :=
  gd_ (ix_ p1 2) ((m_put V p1 ((8 : Int32) + a3) (V.1 2 p1.toNatClampNeg)).bind fun V15 => (m_put V15 p1 (4 : Int32) p2).bind fun V17 => m_doFree_j144 p1 p2 V17 a3)
def m_doFree (V : Mm) (p1 : Int32) (p2 : Int32) : Option (Int32 × Mm) :=
  bi_ (m_isOn V) fun r3 V1 => if r3 = (0 : Int32) then (some ((-1 : Int32), V1)) else (gd_ (ix_ p1 2) (if (V1.1 2 p1.toNatClampNeg) = (-1 : Int32) then (some ((-1 : Int32), V1)) else (bi_ (m_get V1 p1 (7 : Int32)) fun r7 V5 => if r7 = (1 : Int32) then (some ((-1 : Int32), V5)) else (if p2 = (-1 : Int32) then (bi_ (m_get V5 p1 (4 : Int32)) fun r23 V21 => if r23 = (-1 : Int32) then (some ((-1 : Int32), V21)) else (gd_ (ix_ p1 2) (bi_ (m_placeOf V21 p1 (V21.1 2 p1.toNatClampNeg)) fun r27 V25 => bi_ (m_get V25 p1 (4 : Int32)) fun r30 V28 => (m_put V28 p1 ((8 : Int32) + r27) r30).bind fun V31 => (m_put V31 p1 (4 : Int32) (-1 : Int32)).bind fun V33 => m_doFree_j144 p1 p2 V33 r27))) else (if (pm_isPlayer p2) = (0 : Int32) then (some ((-1 : Int32), V5)) else (bi_ (m_get V5 p1 (4 : Int32)) fun r10 V8 => if r10 = (-1 : Int32) then (bi_ (m_placeOf V8 p1 p2) fun r13 V11 => if r13 = (4 : Int32) then (m_doFree_j122 p1 p2 V11 r13) else (if r13 = (5 : Int32) then (m_doFree_j122 p1 p2 V11 r13) else (some ((-1 : Int32), V11)))) else (some ((-1 : Int32), V8))))))))
theorem hdX3_doFree : w6_hd yX3_doFree 2 := by decide +kernel
abbrev rmX3_doFree : Room := { frames := 2, cells := 0, slots := 0, locals := 45 }
set_option maxHeartbeats 4000000 in
set_option maxRecDepth 100000 in
theorem ctm_doFree (l : Launch) (D : va_G) (g : Nat → ClassId) (ad : Nat → Nat) (V : Mm) (p1 : Int32) (p2 : Int32) (r : Int32) (V' : Mm) (hf : m_doFree V p1 p2 = some (r, V'))  : CTi l D g yX3_doFree cX3_doFree 4 .int rmX3_doFree [.ref (ad 0), .int p1, .int p2] (mw g ad V) (mw g ad V') r := by
  intro sz
  refine w6_starti RX3 (by decide) (Nat.le_of_ble_eq_true rfl) rfl ?_
  intro p e s m below meth c A ls Q hx hb hown hts F I hl hret
  have hl : lv_has ls 4 [(0, .ref (ad 0)), (1, .int p1), (2, .int p2)] := hl
  have hJ144 : ∀ (V : Mm) (a3 : Int32) (H : Heap) (locs : List Loc) (ls : Array Slot), m_doFree_j144 p1 p2 V a3 = some (r, V') → w6_I D (mw g ad V ++ []) A s H locs → lv_has ls 4 [(0, .ref (ad 0)), (1, .int p1), (3, .int a3)] → W p l e rmX3_doFree s m ([.ref (ad 0), .int p1, .int p2] : List Value).toArray below meth c H locs 0 0 Q (F0 m 144 ls []) := by
    intro V a3 H locs ls hf I hl
    unfold m_doFree_j144 at hf
    refine lv_aload_n hx hb dX3_doFree_144 rfl (lv_at hl 0 rfl) ?_
    refine lv_iload_n hx hb dX3_doFree_145 rfl (lv_at hl 1 rfl) ?_
    refine lv_bipush (v := (7 : Int32)) hx hb dX3_doFree_146 (by decide) ?_
    refine lv_iconst (v := (1 : Int32)) hx hb dX3_doFree_148 (by decide) ?_
    obtain ⟨V19, h20, hf⟩ := bn_e hf
    refine xz_Vv F I (ctm_put l D g ad V p1 (7 : Int32) (1 : Int32) V19 h20 ) (lw_V q756 q758 qs20 q50 q759) hdX3_put rfl (Nat.le_of_ble_eq_true rfl) (Nat.le_of_ble_eq_true rfl) (w6_recv F I mo_ob rfl) rfl hl.1 [] rfl (Nat.le_of_ble_eq_true rfl) dX3_doFree_149 ⟨Nat.le_of_ble_eq_true rfl, Nat.le_of_ble_eq_true rfl⟩ (fun H locs I => ?_)
    refine lv_iload_n hx hb dX3_doFree_152 rfl (lv_at hl 2 rfl) ?_
    exact hret _ _ _ _ _ dX3_doFree_153 (w6_mv (so_e hf).2 I) (so_e hf).1 rfl
  have hJ122 : ∀ (V : Mm) (a3 : Int32) (H : Heap) (locs : List Loc) (ls : Array Slot), m_doFree_j122 p1 p2 V a3 = some (r, V') → w6_I D (mw g ad V ++ []) A s H locs → lv_has ls 4 [(0, .ref (ad 0)), (1, .int p1), (2, .int p2), (3, .int a3)] → W p l e rmX3_doFree s m ([.ref (ad 0), .int p1, .int p2] : List Value).toArray below meth c H locs 0 0 Q (F0 m 122 ls []) := by
    intro V a3 H locs ls hf I hl
    unfold m_doFree_j122 at hf
    refine lv_aload_n hx hb dX3_doFree_122 rfl (lv_at hl 0 rfl) ?_
    refine lv_iload_n hx hb dX3_doFree_123 rfl (lv_at hl 1 rfl) ?_
    refine lv_bipush (v := (8 : Int32)) hx hb dX3_doFree_124 (by decide) ?_
    refine lv_iload_n hx hb dX3_doFree_126 rfl (lv_at hl 3 rfl) ?_
    refine lv_iadd hx hb dX3_doFree_127 ?_
    refine lv_aload_n hx hb dX3_doFree_128 rfl (lv_at hl 0 rfl) ?_
    refine w6_get F I mo_ob rfl in_X3 1 (by decide) q765 rfl rfl dX3_doFree_129 ?_
    refine lv_iload_n hx hb dX3_doFree_132 rfl (lv_at hl 1 rfl) ?_
    obtain ⟨g14, hf⟩ := gd_e hf
    refine w6_iald (j := p1.toNatClampNeg) F I (m_ar 2 2 (by decide) rfl) g14 rfl dX3_doFree_133 ?_
    obtain ⟨V15, h16, hf⟩ := bn_e hf
    refine xz_Vv F I (ctm_put l D g ad V p1 ((8 : Int32) + a3) (V.1 2 p1.toNatClampNeg) V15 h16 ) (lw_V q756 q758 qs20 q50 q759) hdX3_put rfl (Nat.le_of_ble_eq_true rfl) (Nat.le_of_ble_eq_true rfl) (w6_recv F I mo_ob rfl) rfl hl.1 [] rfl (Nat.le_of_ble_eq_true rfl) dX3_doFree_134 ⟨Nat.le_of_ble_eq_true rfl, Nat.le_of_ble_eq_true rfl⟩ (fun H locs I => ?_)
    refine lv_aload_n hx hb dX3_doFree_137 rfl (lv_at hl 0 rfl) ?_
    refine lv_iload_n hx hb dX3_doFree_138 rfl (lv_at hl 1 rfl) ?_
    refine lv_iconst (v := (4 : Int32)) hx hb dX3_doFree_139 (by decide) ?_
    refine lv_iload_n hx hb dX3_doFree_140 rfl (lv_at hl 2 rfl) ?_
    obtain ⟨V17, h18, hf⟩ := bn_e hf
    refine xz_Vv F I (ctm_put l D g ad V15 p1 (4 : Int32) p2 V17 h18 ) (lw_V q756 q758 qs20 q50 q759) hdX3_put rfl (Nat.le_of_ble_eq_true rfl) (Nat.le_of_ble_eq_true rfl) (w6_recv F I mo_ob rfl) rfl hl.1 [] rfl (Nat.le_of_ble_eq_true rfl) dX3_doFree_141 ⟨Nat.le_of_ble_eq_true rfl, Nat.le_of_ble_eq_true rfl⟩ (fun H locs I => ?_)
    exact hJ144 V17 a3 _ _ ls hf I (lv_sub hl [0, 1, 3] rfl)
  unfold m_doFree at hf
  refine lv_aload_n hx hb dX3_doFree_0 rfl (lv_at hl 0 rfl) ?_
  obtain ⟨r3, V1, h2, hf⟩ := bi_e hf
  refine xz_Vi F I (ctm_isOn l D g ad V r3 V1 h2 ) (lw_V q845 q847 qs23 q50 q848) hdX3_isOn rfl (Nat.le_of_ble_eq_true rfl) (Nat.le_of_ble_eq_true rfl) (w6_recv F I mo_ob rfl) rfl hl.1 [] rfl (Nat.le_of_ble_eq_true rfl) dX3_doFree_1 ⟨Nat.le_of_ble_eq_true rfl, Nat.le_of_ble_eq_true rfl⟩ (fun H locs I => ?_)
  refine lv_if_eq (tgt := 28) hx hb dX3_doFree_4 (by decide) (fun c => ?_) (fun c => ?_)
  · have hf := if_p c hf
    refine lv_iconst (v := (-1 : Int32)) hx hb dX3_doFree_28 (by decide) ?_
    exact hret _ _ _ _ _ dX3_doFree_29 (w6_mv (so_e hf).2 I) (so_e hf).1 rfl
  · have hf := if_n c hf
    refine lv_aload_n hx hb dX3_doFree_7 rfl (lv_at hl 0 rfl) ?_
    refine w6_get F I mo_ob rfl in_X3 1 (by decide) q765 rfl rfl dX3_doFree_8 ?_
    refine lv_iload_n hx hb dX3_doFree_11 rfl (lv_at hl 1 rfl) ?_
    obtain ⟨g4, hf⟩ := gd_e hf
    refine w6_iald (j := p1.toNatClampNeg) F I (m_ar 2 2 (by decide) rfl) g4 rfl dX3_doFree_12 ?_
    refine lv_iconst (v := (-1 : Int32)) hx hb dX3_doFree_13 (by decide) ?_
    refine lv_icmp_eq (tgt := 28) hx hb dX3_doFree_14 (by decide) (fun c => ?_) (fun c => ?_)
    · have hf := if_p c hf
      refine lv_iconst (v := (-1 : Int32)) hx hb dX3_doFree_28 (by decide) ?_
      exact hret _ _ _ _ _ dX3_doFree_29 (w6_mv (so_e hf).2 I) (so_e hf).1 rfl
    · have hf := if_n c hf
      refine lv_aload_n hx hb dX3_doFree_17 rfl (lv_at hl 0 rfl) ?_
      refine lv_iload_n hx hb dX3_doFree_18 rfl (lv_at hl 1 rfl) ?_
      refine lv_bipush (v := (7 : Int32)) hx hb dX3_doFree_19 (by decide) ?_
      obtain ⟨r7, V5, h6, hf⟩ := bi_e hf
      refine xz_Vi F I (ctm_get l D g ad V1 p1 (7 : Int32) r7 V5 h6 ) (lw_V q869 q871 qs25 q50 q872) hdX3_get rfl (Nat.le_of_ble_eq_true rfl) (Nat.le_of_ble_eq_true rfl) (w6_recv F I mo_ob rfl) rfl hl.1 [] rfl (Nat.le_of_ble_eq_true rfl) dX3_doFree_21 ⟨Nat.le_of_ble_eq_true rfl, Nat.le_of_ble_eq_true rfl⟩ (fun H locs I => ?_)
      refine lv_iconst (v := (1 : Int32)) hx hb dX3_doFree_24 (by decide) ?_
      refine lv_icmp_ne (tgt := 30) hx hb dX3_doFree_25 (by decide) (fun c => ?_) (fun c => ?_)
      · have hf := if_n c hf
        refine lv_iload_n hx hb dX3_doFree_30 rfl (lv_at hl 2 rfl) ?_
        refine lv_iconst (v := (-1 : Int32)) hx hb dX3_doFree_31 (by decide) ?_
        refine lv_icmp_ne (tgt := 84) hx hb dX3_doFree_32 (by decide) (fun c => ?_) (fun c => ?_)
        · have hf := if_n c hf
          refine lv_iload_n hx hb dX3_doFree_84 rfl (lv_at hl 2 rfl) ?_
          refine xz_Pi F I (ctpm_isPlayer l D g p2 _ rfl) (lw_S q831 q832 q50 q833) hdX3_isPlayer (Nat.le_of_ble_eq_true rfl) (Nat.le_of_ble_eq_true rfl) rfl hl.1 [] rfl (Nat.le_of_ble_eq_true rfl) dX3_doFree_85 ⟨Nat.le_of_ble_eq_true rfl, Nat.le_of_ble_eq_true rfl⟩ (fun H locs I => ?_)
          refine lv_if_eq (tgt := 101) hx hb dX3_doFree_88 (by decide) (fun c => ?_) (fun c => ?_)
          · have hf := if_p c hf
            refine lv_iconst (v := (-1 : Int32)) hx hb dX3_doFree_101 (by decide) ?_
            exact hret _ _ _ _ _ dX3_doFree_102 (w6_mv (so_e hf).2 I) (so_e hf).1 rfl
          · have hf := if_n c hf
            refine lv_aload_n hx hb dX3_doFree_91 rfl (lv_at hl 0 rfl) ?_
            refine lv_iload_n hx hb dX3_doFree_92 rfl (lv_at hl 1 rfl) ?_
            refine lv_iconst (v := (4 : Int32)) hx hb dX3_doFree_93 (by decide) ?_
            obtain ⟨r10, V8, h9, hf⟩ := bi_e hf
            refine xz_Vi F I (ctm_get l D g ad V5 p1 (4 : Int32) r10 V8 h9 ) (lw_V q869 q871 qs25 q50 q872) hdX3_get rfl (Nat.le_of_ble_eq_true rfl) (Nat.le_of_ble_eq_true rfl) (w6_recv F I mo_ob rfl) rfl hl.1 [] rfl (Nat.le_of_ble_eq_true rfl) dX3_doFree_94 ⟨Nat.le_of_ble_eq_true rfl, Nat.le_of_ble_eq_true rfl⟩ (fun H locs I => ?_)
            refine lv_iconst (v := (-1 : Int32)) hx hb dX3_doFree_97 (by decide) ?_
            refine lv_icmp_eq (tgt := 103) hx hb dX3_doFree_98 (by decide) (fun c => ?_) (fun c => ?_)
            · have hf := if_p c hf
              refine lv_aload_n hx hb dX3_doFree_103 rfl (lv_at hl 0 rfl) ?_
              refine lv_iload_n hx hb dX3_doFree_104 rfl (lv_at hl 1 rfl) ?_
              refine lv_iload_n hx hb dX3_doFree_105 rfl (lv_at hl 2 rfl) ?_
              obtain ⟨r13, V11, h12, hf⟩ := bi_e hf
              refine xz_Vi F I (ctm_placeOf l D g ad V8 p1 p2 r13 V11 h12 ) (lw_V q905 q907 qs32 q50 q908) hdX3_placeOf rfl (Nat.le_of_ble_eq_true rfl) (Nat.le_of_ble_eq_true rfl) (w6_recv F I mo_ob rfl) rfl hl.1 [] rfl (Nat.le_of_ble_eq_true rfl) dX3_doFree_106 ⟨Nat.le_of_ble_eq_true rfl, Nat.le_of_ble_eq_true rfl⟩ (fun H locs I => ?_)
              refine lv_istore_n (lv' := [(3, .int r13), (0, .ref (ad 0)), (1, .int p1), (2, .int p2)]) hx hb dX3_doFree_109 rfl hl (by decide) rfl (fun ls hl => ?_)
              refine lv_iload_n hx hb dX3_doFree_110 rfl (lv_at hl 0 rfl) ?_
              refine lv_iconst (v := (4 : Int32)) hx hb dX3_doFree_111 (by decide) ?_
              refine lv_icmp_eq (tgt := 122) hx hb dX3_doFree_112 (by decide) (fun c => ?_) (fun c => ?_)
              · have hf := if_p c hf
                exact hJ122 V11 r13 _ _ ls hf I (lv_sub hl [1, 2, 3, 0] rfl)
              · have hf := if_n c hf
                refine lv_iload_n hx hb dX3_doFree_115 rfl (lv_at hl 0 rfl) ?_
                refine lv_iconst (v := (5 : Int32)) hx hb dX3_doFree_116 (by decide) ?_
                refine lv_icmp_eq (tgt := 122) hx hb dX3_doFree_117 (by decide) (fun c => ?_) (fun c => ?_)
                · have hf := if_p c hf
                  exact hJ122 V11 r13 _ _ ls hf I (lv_sub hl [1, 2, 3, 0] rfl)
                · have hf := if_n c hf
                  refine lv_iconst (v := (-1 : Int32)) hx hb dX3_doFree_120 (by decide) ?_
                  exact hret _ _ _ _ _ dX3_doFree_121 (w6_mv (so_e hf).2 I) (so_e hf).1 rfl
            · have hf := if_n c hf
              refine lv_iconst (v := (-1 : Int32)) hx hb dX3_doFree_101 (by decide) ?_
              exact hret _ _ _ _ _ dX3_doFree_102 (w6_mv (so_e hf).2 I) (so_e hf).1 rfl
        · have hf := if_p c hf
          refine lv_aload_n hx hb dX3_doFree_35 rfl (lv_at hl 0 rfl) ?_
          refine lv_iload_n hx hb dX3_doFree_36 rfl (lv_at hl 1 rfl) ?_
          refine lv_iconst (v := (4 : Int32)) hx hb dX3_doFree_37 (by decide) ?_
          obtain ⟨r23, V21, h22, hf⟩ := bi_e hf
          refine xz_Vi F I (ctm_get l D g ad V5 p1 (4 : Int32) r23 V21 h22 ) (lw_V q869 q871 qs25 q50 q872) hdX3_get rfl (Nat.le_of_ble_eq_true rfl) (Nat.le_of_ble_eq_true rfl) (w6_recv F I mo_ob rfl) rfl hl.1 [] rfl (Nat.le_of_ble_eq_true rfl) dX3_doFree_38 ⟨Nat.le_of_ble_eq_true rfl, Nat.le_of_ble_eq_true rfl⟩ (fun H locs I => ?_)
          refine lv_iconst (v := (-1 : Int32)) hx hb dX3_doFree_41 (by decide) ?_
          refine lv_icmp_ne (tgt := 47) hx hb dX3_doFree_42 (by decide) (fun c => ?_) (fun c => ?_)
          · have hf := if_n c hf
            refine lv_aload_n hx hb dX3_doFree_47 rfl (lv_at hl 0 rfl) ?_
            refine lv_iload_n hx hb dX3_doFree_48 rfl (lv_at hl 1 rfl) ?_
            refine lv_aload_n hx hb dX3_doFree_49 rfl (lv_at hl 0 rfl) ?_
            refine w6_get F I mo_ob rfl in_X3 1 (by decide) q765 rfl rfl dX3_doFree_50 ?_
            refine lv_iload_n hx hb dX3_doFree_53 rfl (lv_at hl 1 rfl) ?_
            obtain ⟨g24, hf⟩ := gd_e hf
            refine w6_iald (j := p1.toNatClampNeg) F I (m_ar 2 2 (by decide) rfl) g24 rfl dX3_doFree_54 ?_
            obtain ⟨r27, V25, h26, hf⟩ := bi_e hf
            refine xz_Vi F I (ctm_placeOf l D g ad V21 p1 (V21.1 2 p1.toNatClampNeg) r27 V25 h26 ) (lw_V q905 q907 qs32 q50 q908) hdX3_placeOf rfl (Nat.le_of_ble_eq_true rfl) (Nat.le_of_ble_eq_true rfl) (w6_recv F I mo_ob rfl) rfl hl.1 [] rfl (Nat.le_of_ble_eq_true rfl) dX3_doFree_55 ⟨Nat.le_of_ble_eq_true rfl, Nat.le_of_ble_eq_true rfl⟩ (fun H locs I => ?_)
            refine lv_istore_n (lv' := [(3, .int r27), (0, .ref (ad 0)), (1, .int p1), (2, .int p2)]) hx hb dX3_doFree_58 rfl hl (by decide) rfl (fun ls hl => ?_)
            refine lv_aload_n hx hb dX3_doFree_59 rfl (lv_at hl 1 rfl) ?_
            refine lv_iload_n hx hb dX3_doFree_60 rfl (lv_at hl 2 rfl) ?_
            refine lv_bipush (v := (8 : Int32)) hx hb dX3_doFree_61 (by decide) ?_
            refine lv_iload_n hx hb dX3_doFree_63 rfl (lv_at hl 0 rfl) ?_
            refine lv_iadd hx hb dX3_doFree_64 ?_
            refine lv_aload_n hx hb dX3_doFree_65 rfl (lv_at hl 1 rfl) ?_
            refine lv_iload_n hx hb dX3_doFree_66 rfl (lv_at hl 2 rfl) ?_
            refine lv_iconst (v := (4 : Int32)) hx hb dX3_doFree_67 (by decide) ?_
            obtain ⟨r30, V28, h29, hf⟩ := bi_e hf
            refine xz_Vi F I (ctm_get l D g ad V25 p1 (4 : Int32) r30 V28 h29 ) (lw_V q869 q871 qs25 q50 q872) hdX3_get rfl (Nat.le_of_ble_eq_true rfl) (Nat.le_of_ble_eq_true rfl) (w6_recv F I mo_ob rfl) rfl hl.1 [.int ((8 : Int32) + r27), .int p1, .ref (ad 0)] rfl (Nat.le_of_ble_eq_true rfl) dX3_doFree_68 ⟨Nat.le_of_ble_eq_true rfl, Nat.le_of_ble_eq_true rfl⟩ (fun H locs I => ?_)
            obtain ⟨V31, h32, hf⟩ := bn_e hf
            refine xz_Vv F I (ctm_put l D g ad V28 p1 ((8 : Int32) + r27) r30 V31 h32 ) (lw_V q756 q758 qs20 q50 q759) hdX3_put rfl (Nat.le_of_ble_eq_true rfl) (Nat.le_of_ble_eq_true rfl) (w6_recv F I mo_ob rfl) rfl hl.1 [] rfl (Nat.le_of_ble_eq_true rfl) dX3_doFree_71 ⟨Nat.le_of_ble_eq_true rfl, Nat.le_of_ble_eq_true rfl⟩ (fun H locs I => ?_)
            refine lv_aload_n hx hb dX3_doFree_74 rfl (lv_at hl 1 rfl) ?_
            refine lv_iload_n hx hb dX3_doFree_75 rfl (lv_at hl 2 rfl) ?_
            refine lv_iconst (v := (4 : Int32)) hx hb dX3_doFree_76 (by decide) ?_
            refine lv_iconst (v := (-1 : Int32)) hx hb dX3_doFree_77 (by decide) ?_
            obtain ⟨V33, h34, hf⟩ := bn_e hf
            refine xz_Vv F I (ctm_put l D g ad V31 p1 (4 : Int32) (-1 : Int32) V33 h34 ) (lw_V q756 q758 qs20 q50 q759) hdX3_put rfl (Nat.le_of_ble_eq_true rfl) (Nat.le_of_ble_eq_true rfl) (w6_recv F I mo_ob rfl) rfl hl.1 [] rfl (Nat.le_of_ble_eq_true rfl) dX3_doFree_78 ⟨Nat.le_of_ble_eq_true rfl, Nat.le_of_ble_eq_true rfl⟩ (fun H locs I => ?_)
            refine lv_goto (tgt := 144) hx hb dX3_doFree_81 (by decide) ?_
            exact hJ144 V33 r27 _ _ ls hf I (lv_sub hl [1, 2, 0] rfl)
          · have hf := if_p c hf
            refine lv_iconst (v := (-1 : Int32)) hx hb dX3_doFree_45 (by decide) ?_
            exact hret _ _ _ _ _ dX3_doFree_46 (w6_mv (so_e hf).2 I) (so_e hf).1 rfl
      · have hf := if_p c hf
        refine lv_iconst (v := (-1 : Int32)) hx hb dX3_doFree_28 (by decide) ?_
        exact hret _ _ _ _ _ dX3_doFree_29 (w6_mv (so_e hf).2 I) (so_e hf).1 rfl
def m_free (V : Mm) (p1 : Int32) (p2 : Int32) : Option (Int32 × Mm) :=
  lt_ (mset V 0 13 (0 : Int32)) fun V1 => if (pm_isTeam p1) = (0 : Int32) then (some ((-1 : Int32), V1)) else (bi_ (m_doFree V1 p1 p2) fun r4 V2 => some (r4, V2))
theorem hdX3_free : w6_hd yX3_free 2 := by decide +kernel
abbrev rmX3_free : Room := { frames := 3, cells := 0, slots := 0, locals := 68 }
set_option maxHeartbeats 4000000 in
set_option maxRecDepth 100000 in
theorem ctm_free (l : Launch) (D : va_G) (g : Nat → ClassId) (ad : Nat → Nat) (V : Mm) (p1 : Int32) (p2 : Int32) (r : Int32) (V' : Mm) (hf : m_free V p1 p2 = some (r, V'))  : CTi l D g yX3_free cX3_free 3 .int rmX3_free [.ref (ad 0), .int p1, .int p2] (mw g ad V) (mw g ad V') r := by
  intro sz
  refine w6_starti RX3 (by decide) (Nat.le_of_ble_eq_true rfl) rfl ?_
  intro p e s m below meth c A ls Q hx hb hown hts F I hl hret
  have hl : lv_has ls 3 [(0, .ref (ad 0)), (1, .int p1), (2, .int p2)] := hl
  unfold m_free at hf
  refine lv_aload_n hx hb dX3_free_0 rfl (lv_at hl 0 rfl) ?_
  refine lv_iconst (v := (0 : Int32)) hx hb dX3_free_1 (by decide) ?_
  obtain ⟨V1, eV1, hf⟩ := lt_e hf
  refine w6_put msh_lc F I mo_ob rfl in_X3 tyX3 tyX3_ok nmX3 13 (by decide) (mo_nf 13 (by decide)) q777 rfl rfl (tyX3_ok 13 (by decide)) rfl rfl dX3_free_2 eV1 (fun H locs I => ?_)
  refine lv_iload_n hx hb dX3_free_5 rfl (lv_at hl 1 rfl) ?_
  refine xz_Pi F I (ctpm_isTeam l D g p1 _ rfl) (lw_S q828 q829 q50 q830) hdX3_isTeam (Nat.le_of_ble_eq_true rfl) (Nat.le_of_ble_eq_true rfl) rfl hl.1 [] rfl (Nat.le_of_ble_eq_true rfl) dX3_free_6 ⟨Nat.le_of_ble_eq_true rfl, Nat.le_of_ble_eq_true rfl⟩ (fun H locs I => ?_)
  refine lv_if_eq (tgt := 21) hx hb dX3_free_9 (by decide) (fun c => ?_) (fun c => ?_)
  · have hf := if_p c hf
    refine lv_iconst (v := (-1 : Int32)) hx hb dX3_free_21 (by decide) ?_
    exact hret _ _ _ _ _ dX3_free_22 (w6_mv (so_e hf).2 I) (so_e hf).1 rfl
  · have hf := if_n c hf
    refine lv_aload_n hx hb dX3_free_12 rfl (lv_at hl 0 rfl) ?_
    refine lv_iload_n hx hb dX3_free_13 rfl (lv_at hl 1 rfl) ?_
    refine lv_iload_n hx hb dX3_free_14 rfl (lv_at hl 2 rfl) ?_
    obtain ⟨r4, V2, h3, hf⟩ := bi_e hf
    refine xz_Vi F I (ctm_doFree l D g ad V1 p1 p2 r4 V2 h3 ) (lw_V q921 q923 qs34 q50 q924) hdX3_doFree rfl (Nat.le_of_ble_eq_true rfl) (Nat.le_of_ble_eq_true rfl) (w6_recv F I mo_ob rfl) rfl hl.1 [] rfl (Nat.le_of_ble_eq_true rfl) dX3_free_15 ⟨Nat.le_of_ble_eq_true rfl, Nat.le_of_ble_eq_true rfl⟩ (fun H locs I => ?_)
    refine lv_goto (tgt := 22) hx hb dX3_free_18 (by decide) ?_
    exact hret _ _ _ _ _ dX3_free_22 (w6_mv (so_e hf).2 I) (so_e hf).1 rfl
def m_doPause (V : Mm) (p1 : Int32) : Option (Int32 × Mm) :=
  bi_ (m_isOn V) fun r3 V1 => if r3 = (0 : Int32) then (some ((-1 : Int32), V1)) else (bi_ (m_get V1 p1 (3 : Int32)) fun r6 V4 => if r6 < (V4.1 3 5) then (bi_ (m_get V4 p1 (3 : Int32)) fun r9 V7 => (m_put V7 p1 (3 : Int32) (r9 + (1 : Int32))).bind fun V10 => bi_ (m_get V10 p1 (3 : Int32)) fun r14 V12 => some (r14, V12)) else (some ((-1 : Int32), V4)))
theorem hdX3_doPause : w6_hd yX3_doPause 1 := by decide +kernel
abbrev rmX3_doPause : Room := { frames := 1, cells := 0, slots := 0, locals := 23 }
set_option maxHeartbeats 4000000 in
set_option maxRecDepth 100000 in
theorem ctm_doPause (l : Launch) (D : va_G) (g : Nat → ClassId) (ad : Nat → Nat) (V : Mm) (p1 : Int32) (r : Int32) (V' : Mm) (hf : m_doPause V p1 = some (r, V'))  : CTi l D g yX3_doPause cX3_doPause 2 .int rmX3_doPause [.ref (ad 0), .int p1] (mw g ad V) (mw g ad V') r := by
  intro sz
  refine w6_starti RX3 (by decide) (Nat.le_of_ble_eq_true rfl) rfl ?_
  intro p e s m below meth c A ls Q hx hb hown hts F I hl hret
  have hl : lv_has ls 2 [(0, .ref (ad 0)), (1, .int p1)] := hl
  unfold m_doPause at hf
  refine lv_aload_n hx hb dX3_doPause_0 rfl (lv_at hl 0 rfl) ?_
  obtain ⟨r3, V1, h2, hf⟩ := bi_e hf
  refine xz_Vi F I (ctm_isOn l D g ad V r3 V1 h2 ) (lw_V q845 q847 qs23 q50 q848) hdX3_isOn rfl (Nat.le_of_ble_eq_true rfl) (Nat.le_of_ble_eq_true rfl) (w6_recv F I mo_ob rfl) rfl hl.1 [] rfl (Nat.le_of_ble_eq_true rfl) dX3_doPause_1 ⟨Nat.le_of_ble_eq_true rfl, Nat.le_of_ble_eq_true rfl⟩ (fun H locs I => ?_)
  refine lv_if_eq (tgt := 22) hx hb dX3_doPause_4 (by decide) (fun c => ?_) (fun c => ?_)
  · have hf := if_p c hf
    refine lv_iconst (v := (-1 : Int32)) hx hb dX3_doPause_22 (by decide) ?_
    exact hret _ _ _ _ _ dX3_doPause_23 (w6_mv (so_e hf).2 I) (so_e hf).1 rfl
  · have hf := if_n c hf
    refine lv_aload_n hx hb dX3_doPause_7 rfl (lv_at hl 0 rfl) ?_
    refine lv_iload_n hx hb dX3_doPause_8 rfl (lv_at hl 1 rfl) ?_
    refine lv_iconst (v := (3 : Int32)) hx hb dX3_doPause_9 (by decide) ?_
    obtain ⟨r6, V4, h5, hf⟩ := bi_e hf
    refine xz_Vi F I (ctm_get l D g ad V1 p1 (3 : Int32) r6 V4 h5 ) (lw_V q869 q871 qs25 q50 q872) hdX3_get rfl (Nat.le_of_ble_eq_true rfl) (Nat.le_of_ble_eq_true rfl) (w6_recv F I mo_ob rfl) rfl hl.1 [] rfl (Nat.le_of_ble_eq_true rfl) dX3_doPause_10 ⟨Nat.le_of_ble_eq_true rfl, Nat.le_of_ble_eq_true rfl⟩ (fun H locs I => ?_)
    refine lv_aload_n hx hb dX3_doPause_13 rfl (lv_at hl 0 rfl) ?_
    refine w6_get F I mo_ob rfl in_X3 2 (by decide) q766 rfl rfl dX3_doPause_14 ?_
    refine lv_iconst (v := (5 : Int32)) hx hb dX3_doPause_17 (by decide) ?_
    refine w6_iald (j := 5) F I (m_ar 3 6 (by decide) rfl) (show ix_ (5 : Int32) 6 by decide) rfl dX3_doPause_18 ?_
    refine lv_icmp_lt (tgt := 24) hx hb dX3_doPause_19 (by decide) (fun c => ?_) (fun c => ?_)
    · have hf := if_p c hf
      refine lv_aload_n hx hb dX3_doPause_24 rfl (lv_at hl 0 rfl) ?_
      refine lv_iload_n hx hb dX3_doPause_25 rfl (lv_at hl 1 rfl) ?_
      refine lv_iconst (v := (3 : Int32)) hx hb dX3_doPause_26 (by decide) ?_
      refine lv_aload_n hx hb dX3_doPause_27 rfl (lv_at hl 0 rfl) ?_
      refine lv_iload_n hx hb dX3_doPause_28 rfl (lv_at hl 1 rfl) ?_
      refine lv_iconst (v := (3 : Int32)) hx hb dX3_doPause_29 (by decide) ?_
      obtain ⟨r9, V7, h8, hf⟩ := bi_e hf
      refine xz_Vi F I (ctm_get l D g ad V4 p1 (3 : Int32) r9 V7 h8 ) (lw_V q869 q871 qs25 q50 q872) hdX3_get rfl (Nat.le_of_ble_eq_true rfl) (Nat.le_of_ble_eq_true rfl) (w6_recv F I mo_ob rfl) rfl hl.1 [.int (3 : Int32), .int p1, .ref (ad 0)] rfl (Nat.le_of_ble_eq_true rfl) dX3_doPause_30 ⟨Nat.le_of_ble_eq_true rfl, Nat.le_of_ble_eq_true rfl⟩ (fun H locs I => ?_)
      refine lv_iconst (v := (1 : Int32)) hx hb dX3_doPause_33 (by decide) ?_
      refine lv_iadd hx hb dX3_doPause_34 ?_
      obtain ⟨V10, h11, hf⟩ := bn_e hf
      refine xz_Vv F I (ctm_put l D g ad V7 p1 (3 : Int32) (r9 + (1 : Int32)) V10 h11 ) (lw_V q756 q758 qs20 q50 q759) hdX3_put rfl (Nat.le_of_ble_eq_true rfl) (Nat.le_of_ble_eq_true rfl) (w6_recv F I mo_ob rfl) rfl hl.1 [] rfl (Nat.le_of_ble_eq_true rfl) dX3_doPause_35 ⟨Nat.le_of_ble_eq_true rfl, Nat.le_of_ble_eq_true rfl⟩ (fun H locs I => ?_)
      refine lv_aload_n hx hb dX3_doPause_38 rfl (lv_at hl 0 rfl) ?_
      refine lv_iload_n hx hb dX3_doPause_39 rfl (lv_at hl 1 rfl) ?_
      refine lv_iconst (v := (3 : Int32)) hx hb dX3_doPause_40 (by decide) ?_
      obtain ⟨r14, V12, h13, hf⟩ := bi_e hf
      refine xz_Vi F I (ctm_get l D g ad V10 p1 (3 : Int32) r14 V12 h13 ) (lw_V q869 q871 qs25 q50 q872) hdX3_get rfl (Nat.le_of_ble_eq_true rfl) (Nat.le_of_ble_eq_true rfl) (w6_recv F I mo_ob rfl) rfl hl.1 [] rfl (Nat.le_of_ble_eq_true rfl) dX3_doPause_41 ⟨Nat.le_of_ble_eq_true rfl, Nat.le_of_ble_eq_true rfl⟩ (fun H locs I => ?_)
      exact hret _ _ _ _ _ dX3_doPause_44 (w6_mv (so_e hf).2 I) (so_e hf).1 rfl
    · have hf := if_n c hf
      refine lv_iconst (v := (-1 : Int32)) hx hb dX3_doPause_22 (by decide) ?_
      exact hret _ _ _ _ _ dX3_doPause_23 (w6_mv (so_e hf).2 I) (so_e hf).1 rfl
def m_pause (V : Mm) (p1 : Int32) : Option (Int32 × Mm) :=
  lt_ (mset V 0 13 (0 : Int32)) fun V1 => if (pm_isTeam p1) = (0 : Int32) then (some ((-1 : Int32), V1)) else (bi_ (m_doPause V1 p1) fun r4 V2 => some (r4, V2))
theorem hdX3_pause : w6_hd yX3_pause 1 := by decide +kernel
abbrev rmX3_pause : Room := { frames := 2, cells := 0, slots := 0, locals := 44 }
set_option maxHeartbeats 4000000 in
set_option maxRecDepth 100000 in
theorem ctm_pause (l : Launch) (D : va_G) (g : Nat → ClassId) (ad : Nat → Nat) (V : Mm) (p1 : Int32) (r : Int32) (V' : Mm) (hf : m_pause V p1 = some (r, V'))  : CTi l D g yX3_pause cX3_pause 2 .int rmX3_pause [.ref (ad 0), .int p1] (mw g ad V) (mw g ad V') r := by
  intro sz
  refine w6_starti RX3 (by decide) (Nat.le_of_ble_eq_true rfl) rfl ?_
  intro p e s m below meth c A ls Q hx hb hown hts F I hl hret
  have hl : lv_has ls 2 [(0, .ref (ad 0)), (1, .int p1)] := hl
  unfold m_pause at hf
  refine lv_aload_n hx hb dX3_pause_0 rfl (lv_at hl 0 rfl) ?_
  refine lv_iconst (v := (0 : Int32)) hx hb dX3_pause_1 (by decide) ?_
  obtain ⟨V1, eV1, hf⟩ := lt_e hf
  refine w6_put msh_lc F I mo_ob rfl in_X3 tyX3 tyX3_ok nmX3 13 (by decide) (mo_nf 13 (by decide)) q777 rfl rfl (tyX3_ok 13 (by decide)) rfl rfl dX3_pause_2 eV1 (fun H locs I => ?_)
  refine lv_iload_n hx hb dX3_pause_5 rfl (lv_at hl 1 rfl) ?_
  refine xz_Pi F I (ctpm_isTeam l D g p1 _ rfl) (lw_S q828 q829 q50 q830) hdX3_isTeam (Nat.le_of_ble_eq_true rfl) (Nat.le_of_ble_eq_true rfl) rfl hl.1 [] rfl (Nat.le_of_ble_eq_true rfl) dX3_pause_6 ⟨Nat.le_of_ble_eq_true rfl, Nat.le_of_ble_eq_true rfl⟩ (fun H locs I => ?_)
  refine lv_if_eq (tgt := 20) hx hb dX3_pause_9 (by decide) (fun c => ?_) (fun c => ?_)
  · have hf := if_p c hf
    refine lv_iconst (v := (-1 : Int32)) hx hb dX3_pause_20 (by decide) ?_
    exact hret _ _ _ _ _ dX3_pause_21 (w6_mv (so_e hf).2 I) (so_e hf).1 rfl
  · have hf := if_n c hf
    refine lv_aload_n hx hb dX3_pause_12 rfl (lv_at hl 0 rfl) ?_
    refine lv_iload_n hx hb dX3_pause_13 rfl (lv_at hl 1 rfl) ?_
    obtain ⟨r4, V2, h3, hf⟩ := bi_e hf
    refine xz_Vi F I (ctm_doPause l D g ad V1 p1 r4 V2 h3 ) (lw_V q929 q931 qs35 q50 q932) hdX3_doPause rfl (Nat.le_of_ble_eq_true rfl) (Nat.le_of_ble_eq_true rfl) (w6_recv F I mo_ob rfl) rfl hl.1 [] rfl (Nat.le_of_ble_eq_true rfl) dX3_pause_14 ⟨Nat.le_of_ble_eq_true rfl, Nat.le_of_ble_eq_true rfl⟩ (fun H locs I => ?_)
    refine lv_goto (tgt := 21) hx hb dX3_pause_17 (by decide) ?_
    exact hret _ _ _ _ _ dX3_pause_21 (w6_mv (so_e hf).2 I) (so_e hf).1 rfl
def m_wrong (V : Mm) (p1 : Int32) : Option (Int32 × Mm) :=
  lt_ (mset V 0 13 (0 : Int32)) fun V1 => bi_ (m_isOn V1) fun r4 V2 => if r4 = (0 : Int32) then (some ((-1 : Int32), V2)) else (lt_ ((V2.1 6 2)) fun v5 => bi_ (m_get V2 v5 (5 : Int32)) fun r8 V6 => if (pm_in p1 (0 : Int32) r8) = (0 : Int32) then (some ((-1 : Int32), V6)) else (bi_ (m_get V6 v5 (0 : Int32)) fun r11 V9 => (m_put V9 v5 (0 : Int32) (r11 - p1)).bind fun V12 => bi_ (m_point V12 ((1 : Int32) - v5)) fun r16 V14 => some (r16, V14)))
theorem hdX3_wrong : w6_hd yX3_wrong 1 := by decide +kernel
abbrev rmX3_wrong : Room := { frames := 4, cells := 0, slots := 0, locals := 85 }
set_option maxHeartbeats 4000000 in
set_option maxRecDepth 100000 in
theorem ctm_wrong (l : Launch) (D : va_G) (g : Nat → ClassId) (ad : Nat → Nat) (V : Mm) (p1 : Int32) (r : Int32) (V' : Mm) (hf : m_wrong V p1 = some (r, V'))  : CTi l D g yX3_wrong cX3_wrong 3 .int rmX3_wrong [.ref (ad 0), .int p1] (mw g ad V) (mw g ad V') r := by
  intro sz
  refine w6_starti RX3 (by decide) (Nat.le_of_ble_eq_true rfl) rfl ?_
  intro p e s m below meth c A ls Q hx hb hown hts F I hl hret
  have hl : lv_has ls 3 [(0, .ref (ad 0)), (1, .int p1)] := hl
  unfold m_wrong at hf
  refine lv_aload_n hx hb dX3_wrong_0 rfl (lv_at hl 0 rfl) ?_
  refine lv_iconst (v := (0 : Int32)) hx hb dX3_wrong_1 (by decide) ?_
  obtain ⟨V1, eV1, hf⟩ := lt_e hf
  refine w6_put msh_lc F I mo_ob rfl in_X3 tyX3 tyX3_ok nmX3 13 (by decide) (mo_nf 13 (by decide)) q777 rfl rfl (tyX3_ok 13 (by decide)) rfl rfl dX3_wrong_2 eV1 (fun H locs I => ?_)
  refine lv_aload_n hx hb dX3_wrong_5 rfl (lv_at hl 0 rfl) ?_
  obtain ⟨r4, V2, h3, hf⟩ := bi_e hf
  refine xz_Vi F I (ctm_isOn l D g ad V1 r4 V2 h3 ) (lw_V q845 q847 qs23 q50 q848) hdX3_isOn rfl (Nat.le_of_ble_eq_true rfl) (Nat.le_of_ble_eq_true rfl) (w6_recv F I mo_ob rfl) rfl hl.1 [] rfl (Nat.le_of_ble_eq_true rfl) dX3_wrong_6 ⟨Nat.le_of_ble_eq_true rfl, Nat.le_of_ble_eq_true rfl⟩ (fun H locs I => ?_)
  refine lv_if_ne (tgt := 14) hx hb dX3_wrong_9 (by decide) (fun c => ?_) (fun c => ?_)
  · have hf := if_n c hf
    refine lv_aload_n hx hb dX3_wrong_14 rfl (lv_at hl 0 rfl) ?_
    refine w6_get F I mo_ob rfl in_X3 5 (by decide) q769 rfl rfl dX3_wrong_15 ?_
    refine lv_iconst (v := (2 : Int32)) hx hb dX3_wrong_18 (by decide) ?_
    refine w6_iald (j := 2) F I (m_ar 6 106 (by decide) rfl) (show ix_ (2 : Int32) 106 by decide) rfl dX3_wrong_19 ?_
    obtain ⟨v5, ev5, hf⟩ := lt_e hf
    refine w6_nmi ev5 ?_
    refine lv_istore_n (lv' := [(2, .int v5), (0, .ref (ad 0)), (1, .int p1)]) hx hb dX3_wrong_20 rfl hl (by decide) rfl (fun ls hl => ?_)
    refine lv_iload_n hx hb dX3_wrong_21 rfl (lv_at hl 2 rfl) ?_
    refine lv_iconst (v := (0 : Int32)) hx hb dX3_wrong_22 (by decide) ?_
    refine lv_aload_n hx hb dX3_wrong_23 rfl (lv_at hl 1 rfl) ?_
    refine lv_iload_n hx hb dX3_wrong_24 rfl (lv_at hl 0 rfl) ?_
    refine lv_iconst (v := (5 : Int32)) hx hb dX3_wrong_25 (by decide) ?_
    obtain ⟨r8, V6, h7, hf⟩ := bi_e hf
    refine xz_Vi F I (ctm_get l D g ad V2 v5 (5 : Int32) r8 V6 h7 ) (lw_V q869 q871 qs25 q50 q872) hdX3_get rfl (Nat.le_of_ble_eq_true rfl) (Nat.le_of_ble_eq_true rfl) (w6_recv F I mo_ob rfl) rfl hl.1 [.int (0 : Int32), .int p1] rfl (Nat.le_of_ble_eq_true rfl) dX3_wrong_26 ⟨Nat.le_of_ble_eq_true rfl, Nat.le_of_ble_eq_true rfl⟩ (fun H locs I => ?_)
    refine xz_Pi F I (ctpm_in l D g p1 (0 : Int32) r8 _ rfl) (lw_S q834 q835 q50 q836) hdX3_in (Nat.le_of_ble_eq_true rfl) (Nat.le_of_ble_eq_true rfl) rfl hl.1 [] rfl (Nat.le_of_ble_eq_true rfl) dX3_wrong_29 ⟨Nat.le_of_ble_eq_true rfl, Nat.le_of_ble_eq_true rfl⟩ (fun H locs I => ?_)
    refine lv_if_ne (tgt := 37) hx hb dX3_wrong_32 (by decide) (fun c => ?_) (fun c => ?_)
    · have hf := if_n c hf
      refine lv_aload_n hx hb dX3_wrong_37 rfl (lv_at hl 1 rfl) ?_
      refine lv_iload_n hx hb dX3_wrong_38 rfl (lv_at hl 0 rfl) ?_
      refine lv_iconst (v := (0 : Int32)) hx hb dX3_wrong_39 (by decide) ?_
      refine lv_aload_n hx hb dX3_wrong_40 rfl (lv_at hl 1 rfl) ?_
      refine lv_iload_n hx hb dX3_wrong_41 rfl (lv_at hl 0 rfl) ?_
      refine lv_iconst (v := (0 : Int32)) hx hb dX3_wrong_42 (by decide) ?_
      obtain ⟨r11, V9, h10, hf⟩ := bi_e hf
      refine xz_Vi F I (ctm_get l D g ad V6 v5 (0 : Int32) r11 V9 h10 ) (lw_V q869 q871 qs25 q50 q872) hdX3_get rfl (Nat.le_of_ble_eq_true rfl) (Nat.le_of_ble_eq_true rfl) (w6_recv F I mo_ob rfl) rfl hl.1 [.int (0 : Int32), .int v5, .ref (ad 0)] rfl (Nat.le_of_ble_eq_true rfl) dX3_wrong_43 ⟨Nat.le_of_ble_eq_true rfl, Nat.le_of_ble_eq_true rfl⟩ (fun H locs I => ?_)
      refine lv_iload_n hx hb dX3_wrong_46 rfl (lv_at hl 2 rfl) ?_
      refine lv_isub hx hb dX3_wrong_47 ?_
      obtain ⟨V12, h13, hf⟩ := bn_e hf
      refine xz_Vv F I (ctm_put l D g ad V9 v5 (0 : Int32) (r11 - p1) V12 h13 ) (lw_V q756 q758 qs20 q50 q759) hdX3_put rfl (Nat.le_of_ble_eq_true rfl) (Nat.le_of_ble_eq_true rfl) (w6_recv F I mo_ob rfl) rfl hl.1 [] rfl (Nat.le_of_ble_eq_true rfl) dX3_wrong_48 ⟨Nat.le_of_ble_eq_true rfl, Nat.le_of_ble_eq_true rfl⟩ (fun H locs I => ?_)
      refine lv_aload_n hx hb dX3_wrong_51 rfl (lv_at hl 1 rfl) ?_
      refine lv_iconst (v := (1 : Int32)) hx hb dX3_wrong_52 (by decide) ?_
      refine lv_iload_n hx hb dX3_wrong_53 rfl (lv_at hl 0 rfl) ?_
      refine lv_isub hx hb dX3_wrong_54 ?_
      obtain ⟨r16, V14, h15, hf⟩ := bi_e hf
      refine xz_Vi F I (ctm_point l D g ad V12 ((1 : Int32) - v5) r16 V14 h15 ) (lw_V q877 q879 qs26 q50 q880) hdX3_point rfl (Nat.le_of_ble_eq_true rfl) (Nat.le_of_ble_eq_true rfl) (w6_recv F I mo_ob rfl) rfl hl.1 [] rfl (Nat.le_of_ble_eq_true rfl) dX3_wrong_55 ⟨Nat.le_of_ble_eq_true rfl, Nat.le_of_ble_eq_true rfl⟩ (fun H locs I => ?_)
      exact hret _ _ _ _ _ dX3_wrong_58 (w6_mv (so_e hf).2 I) (so_e hf).1 rfl
    · have hf := if_p c hf
      refine lv_iconst (v := (-1 : Int32)) hx hb dX3_wrong_35 (by decide) ?_
      exact hret _ _ _ _ _ dX3_wrong_36 (w6_mv (so_e hf).2 I) (so_e hf).1 rfl
  · have hf := if_p c hf
    refine lv_iconst (v := (-1 : Int32)) hx hb dX3_wrong_12 (by decide) ?_
    exact hret _ _ _ _ _ dX3_wrong_13 (w6_mv (so_e hf).2 I) (so_e hf).1 rfl
def m_at (V : Mm) (p1 : Int32) (p2 : Int32) : Option (Int32 × Mm) :=
  lt_ (mset V 0 13 (0 : Int32)) fun V1 => if (pm_isTeam p1) = (0 : Int32) then (some ((-1 : Int32), V1)) else (if (pm_in p2 (0 : Int32) (5 : Int32)) = (0 : Int32) then (some ((-1 : Int32), V1)) else (if (V1.1 6 0) = (-1 : Int32) then (some ((-1 : Int32), V1)) else (bi_ (m_get V1 p1 ((8 : Int32) + p2)) fun r4 V2 => some (r4, V2))))
theorem hdX3_at : w6_hd yX3_at 2 := by decide +kernel
abbrev rmX3_at : Room := { frames := 1, cells := 0, slots := 0, locals := 22 }
set_option maxHeartbeats 4000000 in
set_option maxRecDepth 100000 in
theorem ctm_at (l : Launch) (D : va_G) (g : Nat → ClassId) (ad : Nat → Nat) (V : Mm) (p1 : Int32) (p2 : Int32) (r : Int32) (V' : Mm) (hf : m_at V p1 p2 = some (r, V'))  : CTi l D g yX3_at cX3_at 3 .int rmX3_at [.ref (ad 0), .int p1, .int p2] (mw g ad V) (mw g ad V') r := by
  intro sz
  refine w6_starti RX3 (by decide) (Nat.le_of_ble_eq_true rfl) rfl ?_
  intro p e s m below meth c A ls Q hx hb hown hts F I hl hret
  have hl : lv_has ls 3 [(0, .ref (ad 0)), (1, .int p1), (2, .int p2)] := hl
  unfold m_at at hf
  refine lv_aload_n hx hb dX3_at_0 rfl (lv_at hl 0 rfl) ?_
  refine lv_iconst (v := (0 : Int32)) hx hb dX3_at_1 (by decide) ?_
  obtain ⟨V1, eV1, hf⟩ := lt_e hf
  refine w6_put msh_lc F I mo_ob rfl in_X3 tyX3 tyX3_ok nmX3 13 (by decide) (mo_nf 13 (by decide)) q777 rfl rfl (tyX3_ok 13 (by decide)) rfl rfl dX3_at_2 eV1 (fun H locs I => ?_)
  refine lv_iload_n hx hb dX3_at_5 rfl (lv_at hl 1 rfl) ?_
  refine xz_Pi F I (ctpm_isTeam l D g p1 _ rfl) (lw_S q828 q829 q50 q830) hdX3_isTeam (Nat.le_of_ble_eq_true rfl) (Nat.le_of_ble_eq_true rfl) rfl hl.1 [] rfl (Nat.le_of_ble_eq_true rfl) dX3_at_6 ⟨Nat.le_of_ble_eq_true rfl, Nat.le_of_ble_eq_true rfl⟩ (fun H locs I => ?_)
  refine lv_if_eq (tgt := 43) hx hb dX3_at_9 (by decide) (fun c => ?_) (fun c => ?_)
  · have hf := if_p c hf
    refine lv_iconst (v := (-1 : Int32)) hx hb dX3_at_43 (by decide) ?_
    exact hret _ _ _ _ _ dX3_at_44 (w6_mv (so_e hf).2 I) (so_e hf).1 rfl
  · have hf := if_n c hf
    refine lv_iload_n hx hb dX3_at_12 rfl (lv_at hl 2 rfl) ?_
    refine lv_iconst (v := (0 : Int32)) hx hb dX3_at_13 (by decide) ?_
    refine lv_iconst (v := (5 : Int32)) hx hb dX3_at_14 (by decide) ?_
    refine xz_Pi F I (ctpm_in l D g p2 (0 : Int32) (5 : Int32) _ rfl) (lw_S q834 q835 q50 q836) hdX3_in (Nat.le_of_ble_eq_true rfl) (Nat.le_of_ble_eq_true rfl) rfl hl.1 [] rfl (Nat.le_of_ble_eq_true rfl) dX3_at_15 ⟨Nat.le_of_ble_eq_true rfl, Nat.le_of_ble_eq_true rfl⟩ (fun H locs I => ?_)
    refine lv_if_eq (tgt := 43) hx hb dX3_at_18 (by decide) (fun c => ?_) (fun c => ?_)
    · have hf := if_p c hf
      refine lv_iconst (v := (-1 : Int32)) hx hb dX3_at_43 (by decide) ?_
      exact hret _ _ _ _ _ dX3_at_44 (w6_mv (so_e hf).2 I) (so_e hf).1 rfl
    · have hf := if_n c hf
      refine lv_aload_n hx hb dX3_at_21 rfl (lv_at hl 0 rfl) ?_
      refine w6_get F I mo_ob rfl in_X3 5 (by decide) q769 rfl rfl dX3_at_22 ?_
      refine lv_iconst (v := (0 : Int32)) hx hb dX3_at_25 (by decide) ?_
      refine w6_iald (j := 0) F I (m_ar 6 106 (by decide) rfl) (show ix_ (0 : Int32) 106 by decide) rfl dX3_at_26 ?_
      refine lv_iconst (v := (-1 : Int32)) hx hb dX3_at_27 (by decide) ?_
      refine lv_icmp_eq (tgt := 43) hx hb dX3_at_28 (by decide) (fun c => ?_) (fun c => ?_)
      · have hf := if_p c hf
        refine lv_iconst (v := (-1 : Int32)) hx hb dX3_at_43 (by decide) ?_
        exact hret _ _ _ _ _ dX3_at_44 (w6_mv (so_e hf).2 I) (so_e hf).1 rfl
      · have hf := if_n c hf
        refine lv_aload_n hx hb dX3_at_31 rfl (lv_at hl 0 rfl) ?_
        refine lv_iload_n hx hb dX3_at_32 rfl (lv_at hl 1 rfl) ?_
        refine lv_bipush (v := (8 : Int32)) hx hb dX3_at_33 (by decide) ?_
        refine lv_iload_n hx hb dX3_at_35 rfl (lv_at hl 2 rfl) ?_
        refine lv_iadd hx hb dX3_at_36 ?_
        obtain ⟨r4, V2, h3, hf⟩ := bi_e hf
        refine xz_Vi F I (ctm_get l D g ad V1 p1 ((8 : Int32) + p2) r4 V2 h3 ) (lw_V q869 q871 qs25 q50 q872) hdX3_get rfl (Nat.le_of_ble_eq_true rfl) (Nat.le_of_ble_eq_true rfl) (w6_recv F I mo_ob rfl) rfl hl.1 [] rfl (Nat.le_of_ble_eq_true rfl) dX3_at_37 ⟨Nat.le_of_ble_eq_true rfl, Nat.le_of_ble_eq_true rfl⟩ (fun H locs I => ?_)
        refine lv_goto (tgt := 44) hx hb dX3_at_40 (by decide) ?_
        exact hret _ _ _ _ _ dX3_at_44 (w6_mv (so_e hf).2 I) (so_e hf).1 rfl
def m_of (V : Mm) (p1 : Int32) (p2 : Int32) : Option (Int32 × Mm) :=
  lt_ (mset V 0 13 (0 : Int32)) fun V1 => if (pm_isTeam p1) = (0 : Int32) then (some ((-1 : Int32), V1)) else (if (pm_in p2 (0 : Int32) (6 : Int32)) = (0 : Int32) then (some ((-1 : Int32), V1)) else (bi_ (m_get V1 p1 p2) fun r4 V2 => some (r4, V2)))
theorem hdX3_of : w6_hd yX3_of 2 := by decide +kernel
abbrev rmX3_of : Room := { frames := 1, cells := 0, slots := 0, locals := 22 }
set_option maxHeartbeats 4000000 in
set_option maxRecDepth 100000 in
theorem ctm_of (l : Launch) (D : va_G) (g : Nat → ClassId) (ad : Nat → Nat) (V : Mm) (p1 : Int32) (p2 : Int32) (r : Int32) (V' : Mm) (hf : m_of V p1 p2 = some (r, V'))  : CTi l D g yX3_of cX3_of 3 .int rmX3_of [.ref (ad 0), .int p1, .int p2] (mw g ad V) (mw g ad V') r := by
  intro sz
  refine w6_starti RX3 (by decide) (Nat.le_of_ble_eq_true rfl) rfl ?_
  intro p e s m below meth c A ls Q hx hb hown hts F I hl hret
  have hl : lv_has ls 3 [(0, .ref (ad 0)), (1, .int p1), (2, .int p2)] := hl
  unfold m_of at hf
  refine lv_aload_n hx hb dX3_of_0 rfl (lv_at hl 0 rfl) ?_
  refine lv_iconst (v := (0 : Int32)) hx hb dX3_of_1 (by decide) ?_
  obtain ⟨V1, eV1, hf⟩ := lt_e hf
  refine w6_put msh_lc F I mo_ob rfl in_X3 tyX3 tyX3_ok nmX3 13 (by decide) (mo_nf 13 (by decide)) q777 rfl rfl (tyX3_ok 13 (by decide)) rfl rfl dX3_of_2 eV1 (fun H locs I => ?_)
  refine lv_iload_n hx hb dX3_of_5 rfl (lv_at hl 1 rfl) ?_
  refine xz_Pi F I (ctpm_isTeam l D g p1 _ rfl) (lw_S q828 q829 q50 q830) hdX3_isTeam (Nat.le_of_ble_eq_true rfl) (Nat.le_of_ble_eq_true rfl) rfl hl.1 [] rfl (Nat.le_of_ble_eq_true rfl) dX3_of_6 ⟨Nat.le_of_ble_eq_true rfl, Nat.le_of_ble_eq_true rfl⟩ (fun H locs I => ?_)
  refine lv_if_eq (tgt := 31) hx hb dX3_of_9 (by decide) (fun c => ?_) (fun c => ?_)
  · have hf := if_p c hf
    refine lv_iconst (v := (-1 : Int32)) hx hb dX3_of_31 (by decide) ?_
    exact hret _ _ _ _ _ dX3_of_32 (w6_mv (so_e hf).2 I) (so_e hf).1 rfl
  · have hf := if_n c hf
    refine lv_iload_n hx hb dX3_of_12 rfl (lv_at hl 2 rfl) ?_
    refine lv_iconst (v := (0 : Int32)) hx hb dX3_of_13 (by decide) ?_
    refine lv_bipush (v := (6 : Int32)) hx hb dX3_of_14 (by decide) ?_
    refine xz_Pi F I (ctpm_in l D g p2 (0 : Int32) (6 : Int32) _ rfl) (lw_S q834 q835 q50 q836) hdX3_in (Nat.le_of_ble_eq_true rfl) (Nat.le_of_ble_eq_true rfl) rfl hl.1 [] rfl (Nat.le_of_ble_eq_true rfl) dX3_of_16 ⟨Nat.le_of_ble_eq_true rfl, Nat.le_of_ble_eq_true rfl⟩ (fun H locs I => ?_)
    refine lv_if_eq (tgt := 31) hx hb dX3_of_19 (by decide) (fun c => ?_) (fun c => ?_)
    · have hf := if_p c hf
      refine lv_iconst (v := (-1 : Int32)) hx hb dX3_of_31 (by decide) ?_
      exact hret _ _ _ _ _ dX3_of_32 (w6_mv (so_e hf).2 I) (so_e hf).1 rfl
    · have hf := if_n c hf
      refine lv_aload_n hx hb dX3_of_22 rfl (lv_at hl 0 rfl) ?_
      refine lv_iload_n hx hb dX3_of_23 rfl (lv_at hl 1 rfl) ?_
      refine lv_iload_n hx hb dX3_of_24 rfl (lv_at hl 2 rfl) ?_
      obtain ⟨r4, V2, h3, hf⟩ := bi_e hf
      refine xz_Vi F I (ctm_get l D g ad V1 p1 p2 r4 V2 h3 ) (lw_V q869 q871 qs25 q50 q872) hdX3_get rfl (Nat.le_of_ble_eq_true rfl) (Nat.le_of_ble_eq_true rfl) (w6_recv F I mo_ob rfl) rfl hl.1 [] rfl (Nat.le_of_ble_eq_true rfl) dX3_of_25 ⟨Nat.le_of_ble_eq_true rfl, Nat.le_of_ble_eq_true rfl⟩ (fun H locs I => ?_)
      refine lv_goto (tgt := 32) hx hb dX3_of_28 (by decide) ?_
      exact hret _ _ _ _ _ dX3_of_32 (w6_mv (so_e hf).2 I) (so_e hf).1 rfl
def m_count (V : Mm) (p1 : Int32) : Option (Int32 × Mm) :=
  lt_ (mset V 0 13 (0 : Int32)) fun V1 => if p1.toInt = 0 then (some ((V1.1 6 0), V1)) else (if p1.toInt = 1 then (some ((V1.1 6 1), V1)) else (if p1.toInt = 2 then (some ((V1.1 6 2), V1)) else (if p1.toInt = 3 then (some ((V1.1 6 3), V1)) else (if p1.toInt = 4 then (some ((V1.1 6 4), V1)) else (if p1.toInt = 5 then (some ((V1.1 0 12), V1)) else (if p1.toInt = 6 then (some ((V1.1 0 10), V1)) else (if p1.toInt = 7 then (some ((V1.1 6 5), V1)) else (some ((-1 : Int32), V1)))))))))
theorem hdX3_count : w6_hd yX3_count 1 := by decide +kernel
abbrev rmX3_count : Room := { frames := 0, cells := 0, slots := 0, locals := 0 }
set_option maxHeartbeats 4000000 in
set_option maxRecDepth 100000 in
theorem ctm_count (l : Launch) (D : va_G) (g : Nat → ClassId) (ad : Nat → Nat) (V : Mm) (p1 : Int32) (r : Int32) (V' : Mm) (hf : m_count V p1 = some (r, V'))  : CTi l D g yX3_count cX3_count 2 .int rmX3_count [.ref (ad 0), .int p1] (mw g ad V) (mw g ad V') r := by
  intro sz
  refine w6_starti RX3 (by decide) (Nat.le_of_ble_eq_true rfl) rfl ?_
  intro p e s m below meth c A ls Q hx hb hown hts F I hl hret
  have hl : lv_has ls 2 [(0, .ref (ad 0)), (1, .int p1)] := hl
  unfold m_count at hf
  refine lv_aload_n hx hb dX3_count_0 rfl (lv_at hl 0 rfl) ?_
  refine lv_iconst (v := (0 : Int32)) hx hb dX3_count_1 (by decide) ?_
  obtain ⟨V1, eV1, hf⟩ := lt_e hf
  refine w6_put msh_lc F I mo_ob rfl in_X3 tyX3 tyX3_ok nmX3 13 (by decide) (mo_nf 13 (by decide)) q777 rfl rfl (tyX3_ok 13 (by decide)) rfl rfl dX3_count_2 eV1 (fun H locs I => ?_)
  refine lv_iload_n hx hb dX3_count_5 rfl (lv_at hl 1 rfl) ?_
  by_cases c0 : p1.toInt = 0
  · have hf := if_p c0 hf
    refine lv_tableIn (off := 46) (tgt := 52) hx hb dX3_count_6 (by omega) (by omega) (by rw [c0]; rfl) (by decide) ?_
    refine lv_aload_n hx hb dX3_count_52 rfl (lv_at hl 0 rfl) ?_
    refine w6_get F I mo_ob rfl in_X3 5 (by decide) q769 rfl rfl dX3_count_53 ?_
    refine lv_iconst (v := (0 : Int32)) hx hb dX3_count_56 (by decide) ?_
    refine w6_iald (j := 0) F I (m_ar 6 106 (by decide) rfl) (show ix_ (0 : Int32) 106 by decide) rfl dX3_count_57 ?_
    exact hret _ _ _ _ _ dX3_count_58 (w6_mv (so_e hf).2 I) (so_e hf).1 rfl
  · have hf := if_n c0 hf
    by_cases c1 : p1.toInt = 1
    · have hf := if_p c1 hf
      refine lv_tableIn (off := 53) (tgt := 59) hx hb dX3_count_6 (by omega) (by omega) (by rw [c1]; rfl) (by decide) ?_
      refine lv_aload_n hx hb dX3_count_59 rfl (lv_at hl 0 rfl) ?_
      refine w6_get F I mo_ob rfl in_X3 5 (by decide) q769 rfl rfl dX3_count_60 ?_
      refine lv_iconst (v := (1 : Int32)) hx hb dX3_count_63 (by decide) ?_
      refine w6_iald (j := 1) F I (m_ar 6 106 (by decide) rfl) (show ix_ (1 : Int32) 106 by decide) rfl dX3_count_64 ?_
      exact hret _ _ _ _ _ dX3_count_65 (w6_mv (so_e hf).2 I) (so_e hf).1 rfl
    · have hf := if_n c1 hf
      by_cases c2 : p1.toInt = 2
      · have hf := if_p c2 hf
        refine lv_tableIn (off := 60) (tgt := 66) hx hb dX3_count_6 (by omega) (by omega) (by rw [c2]; rfl) (by decide) ?_
        refine lv_aload_n hx hb dX3_count_66 rfl (lv_at hl 0 rfl) ?_
        refine w6_get F I mo_ob rfl in_X3 5 (by decide) q769 rfl rfl dX3_count_67 ?_
        refine lv_iconst (v := (2 : Int32)) hx hb dX3_count_70 (by decide) ?_
        refine w6_iald (j := 2) F I (m_ar 6 106 (by decide) rfl) (show ix_ (2 : Int32) 106 by decide) rfl dX3_count_71 ?_
        exact hret _ _ _ _ _ dX3_count_72 (w6_mv (so_e hf).2 I) (so_e hf).1 rfl
      · have hf := if_n c2 hf
        by_cases c3 : p1.toInt = 3
        · have hf := if_p c3 hf
          refine lv_tableIn (off := 67) (tgt := 73) hx hb dX3_count_6 (by omega) (by omega) (by rw [c3]; rfl) (by decide) ?_
          refine lv_aload_n hx hb dX3_count_73 rfl (lv_at hl 0 rfl) ?_
          refine w6_get F I mo_ob rfl in_X3 5 (by decide) q769 rfl rfl dX3_count_74 ?_
          refine lv_iconst (v := (3 : Int32)) hx hb dX3_count_77 (by decide) ?_
          refine w6_iald (j := 3) F I (m_ar 6 106 (by decide) rfl) (show ix_ (3 : Int32) 106 by decide) rfl dX3_count_78 ?_
          exact hret _ _ _ _ _ dX3_count_79 (w6_mv (so_e hf).2 I) (so_e hf).1 rfl
        · have hf := if_n c3 hf
          by_cases c4 : p1.toInt = 4
          · have hf := if_p c4 hf
            refine lv_tableIn (off := 74) (tgt := 80) hx hb dX3_count_6 (by omega) (by omega) (by rw [c4]; rfl) (by decide) ?_
            refine lv_aload_n hx hb dX3_count_80 rfl (lv_at hl 0 rfl) ?_
            refine w6_get F I mo_ob rfl in_X3 5 (by decide) q769 rfl rfl dX3_count_81 ?_
            refine lv_iconst (v := (4 : Int32)) hx hb dX3_count_84 (by decide) ?_
            refine w6_iald (j := 4) F I (m_ar 6 106 (by decide) rfl) (show ix_ (4 : Int32) 106 by decide) rfl dX3_count_85 ?_
            exact hret _ _ _ _ _ dX3_count_86 (w6_mv (so_e hf).2 I) (so_e hf).1 rfl
          · have hf := if_n c4 hf
            by_cases c5 : p1.toInt = 5
            · have hf := if_p c5 hf
              refine lv_tableIn (off := 81) (tgt := 87) hx hb dX3_count_6 (by omega) (by omega) (by rw [c5]; rfl) (by decide) ?_
              refine lv_aload_n hx hb dX3_count_87 rfl (lv_at hl 0 rfl) ?_
              refine w6_get F I mo_ob rfl in_X3 12 (by decide) q776 rfl rfl dX3_count_88 ?_
              exact hret _ _ _ _ _ dX3_count_91 (w6_mv (so_e hf).2 I) (so_e hf).1 rfl
            · have hf := if_n c5 hf
              by_cases c6 : p1.toInt = 6
              · have hf := if_p c6 hf
                refine lv_tableIn (off := 86) (tgt := 92) hx hb dX3_count_6 (by omega) (by omega) (by rw [c6]; rfl) (by decide) ?_
                refine lv_aload_n hx hb dX3_count_92 rfl (lv_at hl 0 rfl) ?_
                refine w6_get F I mo_ob rfl in_X3 10 (by decide) q774 rfl rfl dX3_count_93 ?_
                exact hret _ _ _ _ _ dX3_count_96 (w6_mv (so_e hf).2 I) (so_e hf).1 rfl
              · have hf := if_n c6 hf
                by_cases c7 : p1.toInt = 7
                · have hf := if_p c7 hf
                  refine lv_tableIn (off := 91) (tgt := 97) hx hb dX3_count_6 (by omega) (by omega) (by rw [c7]; rfl) (by decide) ?_
                  refine lv_aload_n hx hb dX3_count_97 rfl (lv_at hl 0 rfl) ?_
                  refine w6_get F I mo_ob rfl in_X3 5 (by decide) q769 rfl rfl dX3_count_98 ?_
                  refine lv_iconst (v := (5 : Int32)) hx hb dX3_count_101 (by decide) ?_
                  refine w6_iald (j := 5) F I (m_ar 6 106 (by decide) rfl) (show ix_ (5 : Int32) 106 by decide) rfl dX3_count_102 ?_
                  exact hret _ _ _ _ _ dX3_count_103 (w6_mv (so_e hf).2 I) (so_e hf).1 rfl
                · have hf := if_n c7 hf
                  refine lv_tableOut (tgt := 104) hx hb dX3_count_6 (by omega) (by decide) ?_
                  refine lv_iconst (v := (-1 : Int32)) hx hb dX3_count_104 (by decide) ?_
                  exact hret _ _ _ _ _ dX3_count_105 (w6_mv (so_e hf).2 I) (so_e hf).1 rfl
def m_served (V : Mm) (p1 : Int32) (p2 : Int32) : Option (Int32 × Mm) :=
  lt_ (mset V 0 13 (0 : Int32)) fun V1 => if (pm_isTeam p1) = (0 : Int32) then (some ((-1 : Int32), V1)) else (if (pm_isPlayer p2) = (0 : Int32) then (some ((-1 : Int32), V1)) else (bi_ (m_get V1 p1 ((38 : Int32) + p2)) fun r4 V2 => some (r4, V2)))
theorem hdX3_served : w6_hd yX3_served 2 := by decide +kernel
abbrev rmX3_served : Room := { frames := 2, cells := 0, slots := 0, locals := 42 }
set_option maxHeartbeats 4000000 in
set_option maxRecDepth 100000 in
theorem ctm_served (l : Launch) (D : va_G) (g : Nat → ClassId) (ad : Nat → Nat) (V : Mm) (p1 : Int32) (p2 : Int32) (r : Int32) (V' : Mm) (hf : m_served V p1 p2 = some (r, V'))  : CTi l D g yX3_served cX3_served 3 .int rmX3_served [.ref (ad 0), .int p1, .int p2] (mw g ad V) (mw g ad V') r := by
  intro sz
  refine w6_starti RX3 (by decide) (Nat.le_of_ble_eq_true rfl) rfl ?_
  intro p e s m below meth c A ls Q hx hb hown hts F I hl hret
  have hl : lv_has ls 3 [(0, .ref (ad 0)), (1, .int p1), (2, .int p2)] := hl
  unfold m_served at hf
  refine lv_aload_n hx hb dX3_served_0 rfl (lv_at hl 0 rfl) ?_
  refine lv_iconst (v := (0 : Int32)) hx hb dX3_served_1 (by decide) ?_
  obtain ⟨V1, eV1, hf⟩ := lt_e hf
  refine w6_put msh_lc F I mo_ob rfl in_X3 tyX3 tyX3_ok nmX3 13 (by decide) (mo_nf 13 (by decide)) q777 rfl rfl (tyX3_ok 13 (by decide)) rfl rfl dX3_served_2 eV1 (fun H locs I => ?_)
  refine lv_iload_n hx hb dX3_served_5 rfl (lv_at hl 1 rfl) ?_
  refine xz_Pi F I (ctpm_isTeam l D g p1 _ rfl) (lw_S q828 q829 q50 q830) hdX3_isTeam (Nat.le_of_ble_eq_true rfl) (Nat.le_of_ble_eq_true rfl) rfl hl.1 [] rfl (Nat.le_of_ble_eq_true rfl) dX3_served_6 ⟨Nat.le_of_ble_eq_true rfl, Nat.le_of_ble_eq_true rfl⟩ (fun H locs I => ?_)
  refine lv_if_eq (tgt := 31) hx hb dX3_served_9 (by decide) (fun c => ?_) (fun c => ?_)
  · have hf := if_p c hf
    refine lv_iconst (v := (-1 : Int32)) hx hb dX3_served_31 (by decide) ?_
    exact hret _ _ _ _ _ dX3_served_32 (w6_mv (so_e hf).2 I) (so_e hf).1 rfl
  · have hf := if_n c hf
    refine lv_iload_n hx hb dX3_served_12 rfl (lv_at hl 2 rfl) ?_
    refine xz_Pi F I (ctpm_isPlayer l D g p2 _ rfl) (lw_S q831 q832 q50 q833) hdX3_isPlayer (Nat.le_of_ble_eq_true rfl) (Nat.le_of_ble_eq_true rfl) rfl hl.1 [] rfl (Nat.le_of_ble_eq_true rfl) dX3_served_13 ⟨Nat.le_of_ble_eq_true rfl, Nat.le_of_ble_eq_true rfl⟩ (fun H locs I => ?_)
    refine lv_if_eq (tgt := 31) hx hb dX3_served_16 (by decide) (fun c => ?_) (fun c => ?_)
    · have hf := if_p c hf
      refine lv_iconst (v := (-1 : Int32)) hx hb dX3_served_31 (by decide) ?_
      exact hret _ _ _ _ _ dX3_served_32 (w6_mv (so_e hf).2 I) (so_e hf).1 rfl
    · have hf := if_n c hf
      refine lv_aload_n hx hb dX3_served_19 rfl (lv_at hl 0 rfl) ?_
      refine lv_iload_n hx hb dX3_served_20 rfl (lv_at hl 1 rfl) ?_
      refine lv_bipush (v := (38 : Int32)) hx hb dX3_served_21 (by decide) ?_
      refine lv_iload_n hx hb dX3_served_23 rfl (lv_at hl 2 rfl) ?_
      refine lv_iadd hx hb dX3_served_24 ?_
      obtain ⟨r4, V2, h3, hf⟩ := bi_e hf
      refine xz_Vi F I (ctm_get l D g ad V1 p1 ((38 : Int32) + p2) r4 V2 h3 ) (lw_V q869 q871 qs25 q50 q872) hdX3_get rfl (Nat.le_of_ble_eq_true rfl) (Nat.le_of_ble_eq_true rfl) (w6_recv F I mo_ob rfl) rfl hl.1 [] rfl (Nat.le_of_ble_eq_true rfl) dX3_served_25 ⟨Nat.le_of_ble_eq_true rfl, Nat.le_of_ble_eq_true rfl⟩ (fun H locs I => ?_)
      refine lv_goto (tgt := 32) hx hb dX3_served_28 (by decide) ?_
      exact hret _ _ _ _ _ dX3_served_32 (w6_mv (so_e hf).2 I) (so_e hf).1 rfl
def m_feet (V : Mm) (p1 : Int32) (p2 : Int32) (p3 : Int32) (p4 : Int32) : Option (Int32 × Mm) :=
  lt_ (mset V 0 13 (0 : Int32)) fun V1 => if (pm_isTeam p1) = (0 : Int32) then (some ((0 : Int32), V1)) else (if (pm_in p2 (0 : Int32) (5 : Int32)) = (0 : Int32) then (some ((0 : Int32), V1)) else (if (pm_in p3 (0 : Int32) (999 : Int32)) = (0 : Int32) then (some ((0 : Int32), V1)) else (if (pm_in p4 (0 : Int32) (999 : Int32)) = (0 : Int32) then (some ((0 : Int32), V1)) else (bi_ (m_isOn V1) fun r4 V2 => if r4 = (0 : Int32) then (some ((0 : Int32), V2)) else (gd_ (ix_ (((6 : Int32) * p1) + p2) 12) (lt_ (mset V2 8 ((((6 : Int32) * p1) + p2).toNatClampNeg) p3) fun V6 => gd_ (ix_ (((6 : Int32) * p1) + p2) 12) (lt_ (mset V6 9 ((((6 : Int32) * p1) + p2).toNatClampNeg) p4) fun V8 => some ((1 : Int32), V8))))))))
theorem hdX3_feet : w6_hd yX3_feet 4 := by decide +kernel
abbrev rmX3_feet : Room := { frames := 1, cells := 0, slots := 0, locals := 22 }
set_option maxHeartbeats 4000000 in
set_option maxRecDepth 100000 in
theorem ctm_feet (l : Launch) (D : va_G) (g : Nat → ClassId) (ad : Nat → Nat) (V : Mm) (p1 : Int32) (p2 : Int32) (p3 : Int32) (p4 : Int32) (r : Int32) (V' : Mm) (hf : m_feet V p1 p2 p3 p4 = some (r, V'))  : CTi l D g yX3_feet cX3_feet 5 .boolean rmX3_feet [.ref (ad 0), .int p1, .int p2, .int p3, .int p4] (mw g ad V) (mw g ad V') r := by
  intro sz
  refine w6_starti RX3 (by decide) (Nat.le_of_ble_eq_true rfl) rfl ?_
  intro p e s m below meth c A ls Q hx hb hown hts F I hl hret
  have hl : lv_has ls 5 [(0, .ref (ad 0)), (1, .int p1), (2, .int p2), (3, .int p3), (4, .int p4)] := hl
  unfold m_feet at hf
  refine lv_aload_n hx hb dX3_feet_0 rfl (lv_at hl 0 rfl) ?_
  refine lv_iconst (v := (0 : Int32)) hx hb dX3_feet_1 (by decide) ?_
  obtain ⟨V1, eV1, hf⟩ := lt_e hf
  refine w6_put msh_lc F I mo_ob rfl in_X3 tyX3 tyX3_ok nmX3 13 (by decide) (mo_nf 13 (by decide)) q777 rfl rfl (tyX3_ok 13 (by decide)) rfl rfl dX3_feet_2 eV1 (fun H locs I => ?_)
  refine lv_iload_n hx hb dX3_feet_5 rfl (lv_at hl 1 rfl) ?_
  refine xz_Pi F I (ctpm_isTeam l D g p1 _ rfl) (lw_S q828 q829 q50 q830) hdX3_isTeam (Nat.le_of_ble_eq_true rfl) (Nat.le_of_ble_eq_true rfl) rfl hl.1 [] rfl (Nat.le_of_ble_eq_true rfl) dX3_feet_6 ⟨Nat.le_of_ble_eq_true rfl, Nat.le_of_ble_eq_true rfl⟩ (fun H locs I => ?_)
  refine lv_if_eq (tgt := 51) hx hb dX3_feet_9 (by decide) (fun c => ?_) (fun c => ?_)
  · have hf := if_p c hf
    refine lv_iconst (v := (0 : Int32)) hx hb dX3_feet_51 (by decide) ?_
    exact hret _ _ _ _ _ dX3_feet_52 (w6_mv (so_e hf).2 I) (so_e hf).1 rfl
  · have hf := if_n c hf
    refine lv_iload_n hx hb dX3_feet_12 rfl (lv_at hl 2 rfl) ?_
    refine lv_iconst (v := (0 : Int32)) hx hb dX3_feet_13 (by decide) ?_
    refine lv_iconst (v := (5 : Int32)) hx hb dX3_feet_14 (by decide) ?_
    refine xz_Pi F I (ctpm_in l D g p2 (0 : Int32) (5 : Int32) _ rfl) (lw_S q834 q835 q50 q836) hdX3_in (Nat.le_of_ble_eq_true rfl) (Nat.le_of_ble_eq_true rfl) rfl hl.1 [] rfl (Nat.le_of_ble_eq_true rfl) dX3_feet_15 ⟨Nat.le_of_ble_eq_true rfl, Nat.le_of_ble_eq_true rfl⟩ (fun H locs I => ?_)
    refine lv_if_eq (tgt := 51) hx hb dX3_feet_18 (by decide) (fun c => ?_) (fun c => ?_)
    · have hf := if_p c hf
      refine lv_iconst (v := (0 : Int32)) hx hb dX3_feet_51 (by decide) ?_
      exact hret _ _ _ _ _ dX3_feet_52 (w6_mv (so_e hf).2 I) (so_e hf).1 rfl
    · have hf := if_n c hf
      refine lv_iload_n hx hb dX3_feet_21 rfl (lv_at hl 3 rfl) ?_
      refine lv_iconst (v := (0 : Int32)) hx hb dX3_feet_22 (by decide) ?_
      refine lv_sipush (v := (999 : Int32)) hx hb dX3_feet_23 (by decide) ?_
      refine xz_Pi F I (ctpm_in l D g p3 (0 : Int32) (999 : Int32) _ rfl) (lw_S q834 q835 q50 q836) hdX3_in (Nat.le_of_ble_eq_true rfl) (Nat.le_of_ble_eq_true rfl) rfl hl.1 [] rfl (Nat.le_of_ble_eq_true rfl) dX3_feet_26 ⟨Nat.le_of_ble_eq_true rfl, Nat.le_of_ble_eq_true rfl⟩ (fun H locs I => ?_)
      refine lv_if_eq (tgt := 51) hx hb dX3_feet_29 (by decide) (fun c => ?_) (fun c => ?_)
      · have hf := if_p c hf
        refine lv_iconst (v := (0 : Int32)) hx hb dX3_feet_51 (by decide) ?_
        exact hret _ _ _ _ _ dX3_feet_52 (w6_mv (so_e hf).2 I) (so_e hf).1 rfl
      · have hf := if_n c hf
        refine lv_iload hx hb dX3_feet_32 (lv_at hl 4 rfl) ?_
        refine lv_iconst (v := (0 : Int32)) hx hb dX3_feet_34 (by decide) ?_
        refine lv_sipush (v := (999 : Int32)) hx hb dX3_feet_35 (by decide) ?_
        refine xz_Pi F I (ctpm_in l D g p4 (0 : Int32) (999 : Int32) _ rfl) (lw_S q834 q835 q50 q836) hdX3_in (Nat.le_of_ble_eq_true rfl) (Nat.le_of_ble_eq_true rfl) rfl hl.1 [] rfl (Nat.le_of_ble_eq_true rfl) dX3_feet_38 ⟨Nat.le_of_ble_eq_true rfl, Nat.le_of_ble_eq_true rfl⟩ (fun H locs I => ?_)
        refine lv_if_eq (tgt := 51) hx hb dX3_feet_41 (by decide) (fun c => ?_) (fun c => ?_)
        · have hf := if_p c hf
          refine lv_iconst (v := (0 : Int32)) hx hb dX3_feet_51 (by decide) ?_
          exact hret _ _ _ _ _ dX3_feet_52 (w6_mv (so_e hf).2 I) (so_e hf).1 rfl
        · have hf := if_n c hf
          refine lv_aload_n hx hb dX3_feet_44 rfl (lv_at hl 0 rfl) ?_
          obtain ⟨r4, V2, h3, hf⟩ := bi_e hf
          refine xz_Vi F I (ctm_isOn l D g ad V1 r4 V2 h3 ) (lw_V q845 q847 qs23 q50 q848) hdX3_isOn rfl (Nat.le_of_ble_eq_true rfl) (Nat.le_of_ble_eq_true rfl) (w6_recv F I mo_ob rfl) rfl hl.1 [] rfl (Nat.le_of_ble_eq_true rfl) dX3_feet_45 ⟨Nat.le_of_ble_eq_true rfl, Nat.le_of_ble_eq_true rfl⟩ (fun H locs I => ?_)
          refine lv_if_ne (tgt := 53) hx hb dX3_feet_48 (by decide) (fun c => ?_) (fun c => ?_)
          · have hf := if_n c hf
            refine lv_aload_n hx hb dX3_feet_53 rfl (lv_at hl 0 rfl) ?_
            refine w6_get F I mo_ob rfl in_X3 7 (by decide) q771 rfl rfl dX3_feet_54 ?_
            refine lv_bipush (v := (6 : Int32)) hx hb dX3_feet_57 (by decide) ?_
            refine lv_iload_n hx hb dX3_feet_59 rfl (lv_at hl 1 rfl) ?_
            refine lv_imul hx hb dX3_feet_60 ?_
            refine lv_iload_n hx hb dX3_feet_61 rfl (lv_at hl 2 rfl) ?_
            refine lv_iadd hx hb dX3_feet_62 ?_
            refine lv_iload_n hx hb dX3_feet_63 rfl (lv_at hl 3 rfl) ?_
            obtain ⟨g5, hf⟩ := gd_e hf
            obtain ⟨V6, eV6, hf⟩ := lt_e hf
            refine w6_iast (j := (((6 : Int32) * p1) + p2).toNatClampNeg) msh_lc F I (m_ar 8 12 (by decide) rfl) g5 rfl dX3_feet_64 eV6 (fun H locs I => ?_)
            refine lv_aload_n hx hb dX3_feet_65 rfl (lv_at hl 0 rfl) ?_
            refine w6_get F I mo_ob rfl in_X3 8 (by decide) q772 rfl rfl dX3_feet_66 ?_
            refine lv_bipush (v := (6 : Int32)) hx hb dX3_feet_69 (by decide) ?_
            refine lv_iload_n hx hb dX3_feet_71 rfl (lv_at hl 1 rfl) ?_
            refine lv_imul hx hb dX3_feet_72 ?_
            refine lv_iload_n hx hb dX3_feet_73 rfl (lv_at hl 2 rfl) ?_
            refine lv_iadd hx hb dX3_feet_74 ?_
            refine lv_iload hx hb dX3_feet_75 (lv_at hl 4 rfl) ?_
            obtain ⟨g7, hf⟩ := gd_e hf
            obtain ⟨V8, eV8, hf⟩ := lt_e hf
            refine w6_iast (j := (((6 : Int32) * p1) + p2).toNatClampNeg) msh_lc F I (m_ar 9 12 (by decide) rfl) g7 rfl dX3_feet_77 eV8 (fun H locs I => ?_)
            refine lv_iconst (v := (1 : Int32)) hx hb dX3_feet_78 (by decide) ?_
            exact hret _ _ _ _ _ dX3_feet_79 (w6_mv (so_e hf).2 I) (so_e hf).1 rfl
          · have hf := if_p c hf
            refine lv_iconst (v := (0 : Int32)) hx hb dX3_feet_51 (by decide) ?_
            exact hret _ _ _ _ _ dX3_feet_52 (w6_mv (so_e hf).2 I) (so_e hf).1 rfl
def m_overlap_j96 (rec23 : Mm → Int32 → Option (Int32 × Mm)) (p1 : Int32) (V : Mm)  (a2 : Int32) : Option (Int32 × Mm) :=
  lt_ (a2 + (1 : Int32)) fun v16 => rec23 V v16
def m_overlap_j50 (rec23 : Mm → Int32 → Option (Int32 × Mm)) (p1 : Int32) (V : Mm)  (a2 : Int32) : Option (Int32 × Mm) :=
  if (3 : Int32) ≤ a2 then (gd_ (ix_ a2 7) (gd_ (ix_ (((6 : Int32) * p1) + (zsg 9 a2.toNatClampNeg)) 12) (gd_ (ix_ a2 7) (gd_ (ix_ (((6 : Int32) * p1) + (zsg 8 a2.toNatClampNeg)) 12) (if (V.1 8 ((((6 : Int32) * p1) + (zsg 9 a2.toNatClampNeg)).toNatClampNeg)) < (V.1 8 ((((6 : Int32) * p1) + (zsg 8 a2.toNatClampNeg)).toNatClampNeg)) then (m_overlap_j96 rec23 p1 V a2) else (some (a2, V))))))) else (gd_ (ix_ a2 7) (gd_ (ix_ (((6 : Int32) * p1) + (zsg 9 a2.toNatClampNeg)) 12) (gd_ (ix_ a2 7) (gd_ (ix_ (((6 : Int32) * p1) + (zsg 8 a2.toNatClampNeg)) 12) (if (V.1 9 ((((6 : Int32) * p1) + (zsg 9 a2.toNatClampNeg)).toNatClampNeg)) < (V.1 9 ((((6 : Int32) * p1) + (zsg 8 a2.toNatClampNeg)).toNatClampNeg)) then (m_overlap_j96 rec23 p1 V a2) else (some (a2, V)))))))
def m_overlap_l23 (p1 : Int32) : Nat → Mm → Int32 → Option (Int32 × Mm)
  | 0, _, _ => none
  | n23 + 1, V, a2 =>
  if (7 : Int32) ≤ a2 then (some ((-2 : Int32), V)) else (gd_ (ix_ a2 7) (if (zsg 8 a2.toNatClampNeg) = (0 : Int32) then (if (V.1 6 2) = p1 then (m_overlap_j96 (m_overlap_l23 p1 n23) p1 V a2) else (m_overlap_j50 (m_overlap_l23 p1 n23) p1 V a2)) else (m_overlap_j50 (m_overlap_l23 p1 n23) p1 V a2)))
def m_overlap (V : Mm) (p1 : Int32) : Option (Int32 × Mm) :=
  lt_ (mset V 0 13 (0 : Int32)) fun V1 => if (pm_isTeam p1) = (0 : Int32) then (some ((-1 : Int32), V1)) else (bi_ (m_isOn V1) fun r4 V2 => if r4 = (0 : Int32) then (some ((-1 : Int32), V2)) else (m_overlap_l23 p1 200 V2 (0 : Int32)))
theorem hdX3_overlap : w6_hd yX3_overlap 1 := by decide +kernel
abbrev rmX3_overlap : Room := { frames := 1, cells := 0, slots := 0, locals := 20 }
set_option maxHeartbeats 4000000 in
set_option maxRecDepth 100000 in
theorem ctm_overlap (l : Launch) (D : va_G) (g : Nat → ClassId) (ad : Nat → Nat) (V : Mm) (p1 : Int32) (r : Int32) (V' : Mm) (hf : m_overlap V p1 = some (r, V'))  : CTi l D g yX3_overlap cX3_overlap 4 .int rmX3_overlap [.ref (ad 0), .int p1] (mw g ad V) (mw g ad V') r := by
  intro sz
  refine w6_starti RX3 (by decide) (Nat.le_of_ble_eq_true rfl) rfl ?_
  intro p e s m below meth c A ls Q hx hb hown hts F I hl hret
  have hl : lv_has ls 4 [(0, .ref (ad 0)), (1, .int p1)] := hl
  have hL23 : ∀ (n23 : Nat) (V : Mm) (a2 : Int32) (H : Heap) (locs : List Loc) (ls : Array Slot), m_overlap_l23 p1 n23 V a2 = some (r, V') → w6_I D (mw g ad V ++ []) A s H locs → lv_has ls 4 [(0, .ref (ad 0)), (1, .int p1), (2, .int a2)] → W p l e rmX3_overlap s m ([.ref (ad 0), .int p1] : List Value).toArray below meth c H locs 0 0 Q (F0 m 23 ls []) := by
    intro n23
    induction n23 with
    | zero =>
      intro V a2 H locs ls hf
      rw [m_overlap_l23] at hf
      cases hf
    | succ n23 ih23 =>
      have hJ96 : ∀ (V : Mm) (a2 : Int32) (H : Heap) (locs : List Loc) (ls : Array Slot), m_overlap_j96 (m_overlap_l23 p1 n23) p1 V a2 = some (r, V') → w6_I D (mw g ad V ++ []) A s H locs → lv_has ls 4 [(0, .ref (ad 0)), (1, .int p1), (2, .int a2)] → W p l e rmX3_overlap s m ([.ref (ad 0), .int p1] : List Value).toArray below meth c H locs 0 0 Q (F0 m 96 ls []) := by
        intro V a2 H locs ls hf I hl
        unfold m_overlap_j96 at hf
        obtain ⟨v16, ev16, hf⟩ := lt_e hf
        refine lv_iinc (v := v16) (lv' := [(2, .int v16), (0, .ref (ad 0)), (1, .int p1)]) hx hb dX3_overlap_96 hl (k := 2) rfl (by rw [ev16]; rfl) (by decide) rfl (fun ls hl => ?_)
        refine lv_goto (tgt := 23) hx hb dX3_overlap_99 (by decide) ?_
        exact ih23 V v16 _ _ ls hf I (lv_sub hl [1, 2, 0] rfl)
      have hJ50 : ∀ (V : Mm) (a2 : Int32) (H : Heap) (locs : List Loc) (ls : Array Slot), m_overlap_j50 (m_overlap_l23 p1 n23) p1 V a2 = some (r, V') → w6_I D (mw g ad V ++ []) A s H locs → lv_has ls 4 [(0, .ref (ad 0)), (1, .int p1), (2, .int a2)] → W p l e rmX3_overlap s m ([.ref (ad 0), .int p1] : List Value).toArray below meth c H locs 0 0 Q (F0 m 50 ls []) := by
        intro V a2 H locs ls hf I hl
        unfold m_overlap_j50 at hf
        refine lv_iload_n hx hb dX3_overlap_50 rfl (lv_at hl 2 rfl) ?_
        refine lv_iconst (v := (3 : Int32)) hx hb dX3_overlap_51 (by decide) ?_
        refine lv_icmp_ge (tgt := 62) hx hb dX3_overlap_52 (by decide) (fun c => ?_) (fun c => ?_)
        · have hf := if_p c hf
          refine lv_aload_n hx hb dX3_overlap_62 rfl (lv_at hl 0 rfl) ?_
          refine w6_get F I mo_ob rfl in_X3 7 (by decide) q771 rfl rfl dX3_overlap_63 ?_
          refine lv_astore_n (lv' := [(3, .ref (ad 8)), (0, .ref (ad 0)), (1, .int p1), (2, .int a2)]) hx hb dX3_overlap_66 rfl hl (by decide) rfl (fun ls hl => ?_)
          refine lv_aload_n hx hb dX3_overlap_67 rfl (lv_at hl 0 rfl) ?_
          refine lv_bipush (v := (6 : Int32)) hx hb dX3_overlap_68 (by decide) ?_
          refine lv_iload_n hx hb dX3_overlap_70 rfl (lv_at hl 2 rfl) ?_
          refine lv_imul hx hb dX3_overlap_71 ?_
          refine w6_gets 9 (by decide) F I q963 dX3_overlap_72 (fun t8 h9 => ?_)
          refine lv_iload_n hx hb dX3_overlap_75 rfl (lv_at hl 3 rfl) ?_
          obtain ⟨g10, hf⟩ := gd_e hf
          refine w6_tld (j := a2.toNatClampNeg) F I h9 g10 rfl dX3_overlap_76 ?_
          refine lv_iadd hx hb dX3_overlap_77 ?_
          obtain ⟨g11, hf⟩ := gd_e hf
          refine w6_iald (j := (((6 : Int32) * p1) + (zsg 9 a2.toNatClampNeg)).toNatClampNeg) F I (m_ar 8 12 (by decide) rfl) g11 rfl dX3_overlap_78 ?_
          refine lv_aload_n hx hb dX3_overlap_79 rfl (lv_at hl 0 rfl) ?_
          refine lv_bipush (v := (6 : Int32)) hx hb dX3_overlap_80 (by decide) ?_
          refine lv_iload_n hx hb dX3_overlap_82 rfl (lv_at hl 2 rfl) ?_
          refine lv_imul hx hb dX3_overlap_83 ?_
          refine w6_gets 8 (by decide) F I q961 dX3_overlap_84 (fun t12 h13 => ?_)
          refine lv_iload_n hx hb dX3_overlap_87 rfl (lv_at hl 3 rfl) ?_
          obtain ⟨g14, hf⟩ := gd_e hf
          refine w6_tld (j := a2.toNatClampNeg) F I h13 g14 rfl dX3_overlap_88 ?_
          refine lv_iadd hx hb dX3_overlap_89 ?_
          obtain ⟨g15, hf⟩ := gd_e hf
          refine w6_iald (j := (((6 : Int32) * p1) + (zsg 8 a2.toNatClampNeg)).toNatClampNeg) F I (m_ar 8 12 (by decide) rfl) g15 rfl dX3_overlap_90 ?_
          refine lv_icmp_lt (tgt := 96) hx hb dX3_overlap_91 (by decide) (fun c => ?_) (fun c => ?_)
          · have hf := if_p c hf
            exact hJ96 V a2 _ _ ls hf I (lv_sub hl [1, 2, 3] rfl)
          · have hf := if_n c hf
            refine lv_iload_n hx hb dX3_overlap_94 rfl (lv_at hl 3 rfl) ?_
            exact hret _ _ _ _ _ dX3_overlap_95 (w6_mv (so_e hf).2 I) (so_e hf).1 rfl
        · have hf := if_n c hf
          refine lv_aload_n hx hb dX3_overlap_55 rfl (lv_at hl 0 rfl) ?_
          refine w6_get F I mo_ob rfl in_X3 8 (by decide) q772 rfl rfl dX3_overlap_56 ?_
          refine lv_goto (tgt := 66) hx hb dX3_overlap_59 (by decide) ?_
          refine lv_astore_n (lv' := [(3, .ref (ad 9)), (0, .ref (ad 0)), (1, .int p1), (2, .int a2)]) hx hb dX3_overlap_66 rfl hl (by decide) rfl (fun ls hl => ?_)
          refine lv_aload_n hx hb dX3_overlap_67 rfl (lv_at hl 0 rfl) ?_
          refine lv_bipush (v := (6 : Int32)) hx hb dX3_overlap_68 (by decide) ?_
          refine lv_iload_n hx hb dX3_overlap_70 rfl (lv_at hl 2 rfl) ?_
          refine lv_imul hx hb dX3_overlap_71 ?_
          refine w6_gets 9 (by decide) F I q963 dX3_overlap_72 (fun t17 h18 => ?_)
          refine lv_iload_n hx hb dX3_overlap_75 rfl (lv_at hl 3 rfl) ?_
          obtain ⟨g19, hf⟩ := gd_e hf
          refine w6_tld (j := a2.toNatClampNeg) F I h18 g19 rfl dX3_overlap_76 ?_
          refine lv_iadd hx hb dX3_overlap_77 ?_
          obtain ⟨g20, hf⟩ := gd_e hf
          refine w6_iald (j := (((6 : Int32) * p1) + (zsg 9 a2.toNatClampNeg)).toNatClampNeg) F I (m_ar 9 12 (by decide) rfl) g20 rfl dX3_overlap_78 ?_
          refine lv_aload_n hx hb dX3_overlap_79 rfl (lv_at hl 0 rfl) ?_
          refine lv_bipush (v := (6 : Int32)) hx hb dX3_overlap_80 (by decide) ?_
          refine lv_iload_n hx hb dX3_overlap_82 rfl (lv_at hl 2 rfl) ?_
          refine lv_imul hx hb dX3_overlap_83 ?_
          refine w6_gets 8 (by decide) F I q961 dX3_overlap_84 (fun t21 h22 => ?_)
          refine lv_iload_n hx hb dX3_overlap_87 rfl (lv_at hl 3 rfl) ?_
          obtain ⟨g23, hf⟩ := gd_e hf
          refine w6_tld (j := a2.toNatClampNeg) F I h22 g23 rfl dX3_overlap_88 ?_
          refine lv_iadd hx hb dX3_overlap_89 ?_
          obtain ⟨g24, hf⟩ := gd_e hf
          refine w6_iald (j := (((6 : Int32) * p1) + (zsg 8 a2.toNatClampNeg)).toNatClampNeg) F I (m_ar 9 12 (by decide) rfl) g24 rfl dX3_overlap_90 ?_
          refine lv_icmp_lt (tgt := 96) hx hb dX3_overlap_91 (by decide) (fun c => ?_) (fun c => ?_)
          · have hf := if_p c hf
            exact hJ96 V a2 _ _ ls hf I (lv_sub hl [1, 2, 3] rfl)
          · have hf := if_n c hf
            refine lv_iload_n hx hb dX3_overlap_94 rfl (lv_at hl 3 rfl) ?_
            exact hret _ _ _ _ _ dX3_overlap_95 (w6_mv (so_e hf).2 I) (so_e hf).1 rfl
      intro V a2 H locs ls hf I hl
      rw [m_overlap_l23] at hf
      refine lv_iload_n hx hb dX3_overlap_23 rfl (lv_at hl 2 rfl) ?_
      refine lv_bipush (v := (7 : Int32)) hx hb dX3_overlap_24 (by decide) ?_
      refine lv_icmp_ge (tgt := 102) hx hb dX3_overlap_26 (by decide) (fun c => ?_) (fun c => ?_)
      · have hf := if_p c hf
        refine lv_bipush (v := (-2 : Int32)) hx hb dX3_overlap_102 (by decide) ?_
        exact hret _ _ _ _ _ dX3_overlap_104 (w6_mv (so_e hf).2 I) (so_e hf).1 rfl
      · have hf := if_n c hf
        refine w6_gets 8 (by decide) F I q961 dX3_overlap_29 (fun t5 h6 => ?_)
        refine lv_iload_n hx hb dX3_overlap_32 rfl (lv_at hl 2 rfl) ?_
        obtain ⟨g7, hf⟩ := gd_e hf
        refine w6_tld (j := a2.toNatClampNeg) F I h6 g7 rfl dX3_overlap_33 ?_
        refine lv_if_ne (tgt := 50) hx hb dX3_overlap_34 (by decide) (fun c => ?_) (fun c => ?_)
        · have hf := if_n c hf
          exact hJ50 V a2 _ _ ls hf I (lv_sub hl [0, 1, 2] rfl)
        · have hf := if_p c hf
          refine lv_aload_n hx hb dX3_overlap_37 rfl (lv_at hl 0 rfl) ?_
          refine w6_get F I mo_ob rfl in_X3 5 (by decide) q769 rfl rfl dX3_overlap_38 ?_
          refine lv_iconst (v := (2 : Int32)) hx hb dX3_overlap_41 (by decide) ?_
          refine w6_iald (j := 2) F I (m_ar 6 106 (by decide) rfl) (show ix_ (2 : Int32) 106 by decide) rfl dX3_overlap_42 ?_
          refine lv_iload_n hx hb dX3_overlap_43 rfl (lv_at hl 1 rfl) ?_
          refine lv_icmp_ne (tgt := 50) hx hb dX3_overlap_44 (by decide) (fun c => ?_) (fun c => ?_)
          · have hf := if_n c hf
            exact hJ50 V a2 _ _ ls hf I (lv_sub hl [0, 1, 2] rfl)
          · have hf := if_p c hf
            refine lv_goto (tgt := 96) hx hb dX3_overlap_47 (by decide) ?_
            exact hJ96 V a2 _ _ ls hf I (lv_sub hl [0, 1, 2] rfl)
  unfold m_overlap at hf
  refine lv_aload_n hx hb dX3_overlap_0 rfl (lv_at hl 0 rfl) ?_
  refine lv_iconst (v := (0 : Int32)) hx hb dX3_overlap_1 (by decide) ?_
  obtain ⟨V1, eV1, hf⟩ := lt_e hf
  refine w6_put msh_lc F I mo_ob rfl in_X3 tyX3 tyX3_ok nmX3 13 (by decide) (mo_nf 13 (by decide)) q777 rfl rfl (tyX3_ok 13 (by decide)) rfl rfl dX3_overlap_2 eV1 (fun H locs I => ?_)
  refine lv_iload_n hx hb dX3_overlap_5 rfl (lv_at hl 1 rfl) ?_
  refine xz_Pi F I (ctpm_isTeam l D g p1 _ rfl) (lw_S q828 q829 q50 q830) hdX3_isTeam (Nat.le_of_ble_eq_true rfl) (Nat.le_of_ble_eq_true rfl) rfl hl.1 [] rfl (Nat.le_of_ble_eq_true rfl) dX3_overlap_6 ⟨Nat.le_of_ble_eq_true rfl, Nat.le_of_ble_eq_true rfl⟩ (fun H locs I => ?_)
  refine lv_if_eq (tgt := 19) hx hb dX3_overlap_9 (by decide) (fun c => ?_) (fun c => ?_)
  · have hf := if_p c hf
    refine lv_iconst (v := (-1 : Int32)) hx hb dX3_overlap_19 (by decide) ?_
    exact hret _ _ _ _ _ dX3_overlap_20 (w6_mv (so_e hf).2 I) (so_e hf).1 rfl
  · have hf := if_n c hf
    refine lv_aload_n hx hb dX3_overlap_12 rfl (lv_at hl 0 rfl) ?_
    obtain ⟨r4, V2, h3, hf⟩ := bi_e hf
    refine xz_Vi F I (ctm_isOn l D g ad V1 r4 V2 h3 ) (lw_V q845 q847 qs23 q50 q848) hdX3_isOn rfl (Nat.le_of_ble_eq_true rfl) (Nat.le_of_ble_eq_true rfl) (w6_recv F I mo_ob rfl) rfl hl.1 [] rfl (Nat.le_of_ble_eq_true rfl) dX3_overlap_13 ⟨Nat.le_of_ble_eq_true rfl, Nat.le_of_ble_eq_true rfl⟩ (fun H locs I => ?_)
    refine lv_if_ne (tgt := 21) hx hb dX3_overlap_16 (by decide) (fun c => ?_) (fun c => ?_)
    · have hf := if_n c hf
      refine lv_iconst (v := (0 : Int32)) hx hb dX3_overlap_21 (by decide) ?_
      refine lv_istore_n (lv' := [(2, .int (0 : Int32)), (0, .ref (ad 0)), (1, .int p1)]) hx hb dX3_overlap_22 rfl hl (by decide) rfl (fun ls hl => ?_)
      exact hL23 200 V2 (0 : Int32) _ _ ls hf I (lv_sub hl [1, 2, 0] rfl)
    · have hf := if_p c hf
      refine lv_iconst (v := (-1 : Int32)) hx hb dX3_overlap_19 (by decide) ?_
      exact hret _ _ _ _ _ dX3_overlap_20 (w6_mv (so_e hf).2 I) (so_e hf).1 rfl
